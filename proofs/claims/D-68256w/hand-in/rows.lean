section
-- ===== PART A: goes FIRST, ahead of the names: the tables' words, and 'selects' of the private methods out of them =====
/-- a private method of a class that the tables say can be made, by its rows of tables_1 -/
def lw_okq (q : MethodName × Nat) : Prop := (q.1.cls ≠ "java/lang/invoke/MethodHandle" ∧ q.1.cls ≠ "java/lang/invoke/VarHandle") ∧ Cond.instantiable q.1.cls q.2 ∈ tables_1 ∧ Cond.privateMethod q.1 ∈ tables_1 ∧ Cond.instanceMethod q.1 ∈ tables_1
theorem lw_p0 : lw_okq (⟨"ProcRing$Ring", "put", "(II)V"⟩, 13) := ⟨⟨by decide +kernel, by decide +kernel⟩, List.mem_of_getElem? (i := 13) (by decide +kernel), List.mem_of_getElem? (i := 87) (by decide +kernel), List.mem_of_getElem? (i := 88) (by decide +kernel)⟩
theorem lw_p1 : lw_okq (⟨"ProcRing$Ring", "take", "(II)V"⟩, 13) := ⟨⟨by decide +kernel, by decide +kernel⟩, List.mem_of_getElem? (i := 13) (by decide +kernel), List.mem_of_getElem? (i := 99) (by decide +kernel), List.mem_of_getElem? (i := 100) (by decide +kernel)⟩
theorem lw_p2 : lw_okq (⟨"ProcRing$Ring", "leave", "(II)I"⟩, 13) := ⟨⟨by decide +kernel, by decide +kernel⟩, List.mem_of_getElem? (i := 13) (by decide +kernel), List.mem_of_getElem? (i := 123) (by decide +kernel), List.mem_of_getElem? (i := 124) (by decide +kernel)⟩
theorem lw_p3 : lw_okq (⟨"ProcRing$Ring", "wake", "(II)I"⟩, 13) := ⟨⟨by decide +kernel, by decide +kernel⟩, List.mem_of_getElem? (i := 13) (by decide +kernel), List.mem_of_getElem? (i := 127) (by decide +kernel), List.mem_of_getElem? (i := 128) (by decide +kernel)⟩
theorem lw_p4 : lw_okq (⟨"ProcRing$Ring", "reap", "(I)I"⟩, 13) := ⟨⟨by decide +kernel, by decide +kernel⟩, List.mem_of_getElem? (i := 13) (by decide +kernel), List.mem_of_getElem? (i := 139) (by decide +kernel), List.mem_of_getElem? (i := 140) (by decide +kernel)⟩
theorem lw_p5 : lw_okq (⟨"ProcRing$Ring", "waitFor", "(III)I"⟩, 13) := ⟨⟨by decide +kernel, by decide +kernel⟩, List.mem_of_getElem? (i := 13) (by decide +kernel), List.mem_of_getElem? (i := 143) (by decide +kernel), List.mem_of_getElem? (i := 144) (by decide +kernel)⟩
theorem lw_p6 : lw_okq (⟨"ProcRing$Ring", "until", "(I)I"⟩, 13) := ⟨⟨by decide +kernel, by decide +kernel⟩, List.mem_of_getElem? (i := 13) (by decide +kernel), List.mem_of_getElem? (i := 167) (by decide +kernel), List.mem_of_getElem? (i := 168) (by decide +kernel)⟩
theorem lw_p7 : lw_okq (⟨"ProcRingModel", "add", "(II)I"⟩, 16) := ⟨⟨by decide +kernel, by decide +kernel⟩, List.mem_of_getElem? (i := 224) (by decide +kernel), List.mem_of_getElem? (i := 283) (by decide +kernel), List.mem_of_getElem? (i := 284) (by decide +kernel)⟩
theorem lw_p8 : lw_okq (⟨"ProcRingModel", "running", "(I)I"⟩, 16) := ⟨⟨by decide +kernel, by decide +kernel⟩, List.mem_of_getElem? (i := 224) (by decide +kernel), List.mem_of_getElem? (i := 291) (by decide +kernel), List.mem_of_getElem? (i := 292) (by decide +kernel)⟩
theorem lw_p9 : lw_okq (⟨"ProcRingModel", "ofPlace", "(I)I"⟩, 16) := ⟨⟨by decide +kernel, by decide +kernel⟩, List.mem_of_getElem? (i := 224) (by decide +kernel), List.mem_of_getElem? (i := 295) (by decide +kernel), List.mem_of_getElem? (i := 296) (by decide +kernel)⟩
theorem lw_p10 : lw_okq (⟨"ProcRingModel", "state", "(I)I"⟩, 16) := ⟨⟨by decide +kernel, by decide +kernel⟩, List.mem_of_getElem? (i := 224) (by decide +kernel), List.mem_of_getElem? (i := 299) (by decide +kernel), List.mem_of_getElem? (i := 300) (by decide +kernel)⟩
theorem lw_p11 : lw_okq (⟨"ProcRingModel", "endedChild", "(I)I"⟩, 16) := ⟨⟨by decide +kernel, by decide +kernel⟩, List.mem_of_getElem? (i := 224) (by decide +kernel), List.mem_of_getElem? (i := 303) (by decide +kernel), List.mem_of_getElem? (i := 304) (by decide +kernel)⟩
theorem lw_p12 : lw_okq (⟨"ProcRingModel", "vacant", "()I"⟩, 16) := ⟨⟨by decide +kernel, by decide +kernel⟩, List.mem_of_getElem? (i := 224) (by decide +kernel), List.mem_of_getElem? (i := 311) (by decide +kernel), List.mem_of_getElem? (i := 312) (by decide +kernel)⟩
theorem lw_p13 : lw_okq (⟨"ProcRingModel", "waitsFor", "(III)I"⟩, 16) := ⟨⟨by decide +kernel, by decide +kernel⟩, List.mem_of_getElem? (i := 224) (by decide +kernel), List.mem_of_getElem? (i := 323) (by decide +kernel), List.mem_of_getElem? (i := 324) (by decide +kernel)⟩
theorem lw_p14 : lw_okq (⟨"ProcRingModel", "remove", "(I)V"⟩, 16) := ⟨⟨by decide +kernel, by decide +kernel⟩, List.mem_of_getElem? (i := 224) (by decide +kernel), List.mem_of_getElem? (i := 327) (by decide +kernel), List.mem_of_getElem? (i := 328) (by decide +kernel)⟩
theorem lw_p15 : lw_okq (⟨"ProcRingModel", "ofNumber", "(I)I"⟩, 16) := ⟨⟨by decide +kernel, by decide +kernel⟩, List.mem_of_getElem? (i := 224) (by decide +kernel), List.mem_of_getElem? (i := 360) (by decide +kernel), List.mem_of_getElem? (i := 361) (by decide +kernel)⟩
def lw_privs_1 : List (MethodName × Nat) := [(⟨"ProcRing$Ring", "put", "(II)V"⟩, 13), (⟨"ProcRing$Ring", "take", "(II)V"⟩, 13), (⟨"ProcRing$Ring", "leave", "(II)I"⟩, 13), (⟨"ProcRing$Ring", "wake", "(II)I"⟩, 13), (⟨"ProcRing$Ring", "reap", "(I)I"⟩, 13), (⟨"ProcRing$Ring", "waitFor", "(III)I"⟩, 13), (⟨"ProcRing$Ring", "until", "(I)I"⟩, 13), (⟨"ProcRingModel", "add", "(II)I"⟩, 16), (⟨"ProcRingModel", "running", "(I)I"⟩, 16), (⟨"ProcRingModel", "ofPlace", "(I)I"⟩, 16), (⟨"ProcRingModel", "state", "(I)I"⟩, 16), (⟨"ProcRingModel", "endedChild", "(I)I"⟩, 16), (⟨"ProcRingModel", "vacant", "()I"⟩, 16), (⟨"ProcRingModel", "waitsFor", "(III)I"⟩, 16), (⟨"ProcRingModel", "remove", "(I)V"⟩, 16), (⟨"ProcRingModel", "ofNumber", "(I)I"⟩, 16)]
theorem lw_r1 : ∀ q ∈ lw_privs_1, lw_okq q := List.forall_mem_cons.mpr ⟨lw_p0, List.forall_mem_cons.mpr ⟨lw_p1, List.forall_mem_cons.mpr ⟨lw_p2, List.forall_mem_cons.mpr ⟨lw_p3, List.forall_mem_cons.mpr ⟨lw_p4, List.forall_mem_cons.mpr ⟨lw_p5, List.forall_mem_cons.mpr ⟨lw_p6, List.forall_mem_cons.mpr ⟨lw_p7, List.forall_mem_cons.mpr ⟨lw_p8, List.forall_mem_cons.mpr ⟨lw_p9, List.forall_mem_cons.mpr ⟨lw_p10, List.forall_mem_cons.mpr ⟨lw_p11, List.forall_mem_cons.mpr ⟨lw_p12, List.forall_mem_cons.mpr ⟨lw_p13, List.forall_mem_cons.mpr ⟨lw_p14, List.forall_mem_cons.mpr ⟨lw_p15, fun _ h => absurd h List.not_mem_nil⟩⟩⟩⟩⟩⟩⟩⟩⟩⟩⟩⟩⟩⟩⟩⟩
def lw_privs : List (MethodName × Nat) := lw_privs_1
def lw_tbl : List Cond := k2_sels lw_privs ++ tables_1
theorem lw_privs_ok : ∀ q ∈ lw_privs, lw_okq q := lw_r1
def R_law : String := "ProcRingLaw"
def R_Ring : String := "ProcRing$Ring"
def F_Ring : u_T := fun k => match k with
  | 0 => ("ProcRing$Ring", "numbers", "[I", true)
  | 1 => ("ProcRing$Ring", "states", "[I", true)
  | 2 => ("ProcRing$Ring", "parents", "[I", true)
  | 3 => ("ProcRing$Ring", "killed", "[Z", true)
  | 4 => ("ProcRing$Ring", "statuses", "[I", true)
  | 5 => ("ProcRing$Ring", "waits", "[I", true)
  | 6 => ("ProcRing$Ring", "waited", "[I", true)
  | 7 => ("ProcRing$Ring", "on", "[I", true)
  | 8 => ("ProcRing$Ring", "processors", "I", true)
  | 9 => ("ProcRing$Ring", "last", "I", false)
  | 10 => ("ProcRing$Ring", "next", "I", false)
  | 11 => ("ProcRing$Ring", "ticks", "I", false)
  | _ => ("ProcRing$Ring", "status", "I", false)
def t_Ring : Nat → FieldType := fun k => match k with
  | 0 => .array .int
  | 1 => .array .int
  | 2 => .array .int
  | 3 => .array .boolean
  | 4 => .array .int
  | 5 => .array .int
  | 6 => .array .int
  | 7 => .array .int
  | 8 => .int
  | 9 => .int
  | 10 => .int
  | 11 => .int
  | _ => .int
theorem n_Ring : ∀ a, a < 13 → ∀ b, b < 13 → a ≠ b → (F_Ring a).2.1 ≠ (F_Ring b).2.1 := by decide +kernel
theorem t_Ring_ok : ∀ k, k < 13 → parseFieldDescriptor (F_Ring k).2.2.1 = some (t_Ring k) := by decide +kernel
def R_Proc : String := "ProcRing"
def F_Proc : u_T := fun k => match k with
  | _ => ("ProcRing", "ring", "LProcRing$Ring;", true)
def t_Proc : Nat → FieldType := fun k => match k with
  | _ => .object "ProcRing$Ring"
theorem n_Proc : ∀ a, a < 1 → ∀ b, b < 1 → a ≠ b → (F_Proc a).2.1 ≠ (F_Proc b).2.1 := by decide +kernel
theorem t_Proc_ok : ∀ k, k < 1 → parseFieldDescriptor (F_Proc k).2.2.1 = some (t_Proc k) := by decide +kernel
def R_Mod : String := "ProcRingModel"
def F_Mod : u_T := fun k => match k with
  | 0 => ("ProcRingModel", "thrown", "I", false)
  | 1 => ("ProcRingModel", "processors", "I", true)
  | 2 => ("ProcRingModel", "many", "I", false)
  | 3 => ("ProcRingModel", "ticks", "I", false)
  | 4 => ("ProcRingModel", "latest", "I", false)
  | 5 => ("ProcRingModel", "taken", "I", false)
  | 6 => ("ProcRingModel", "status", "I", false)
  | 7 => ("ProcRingModel", "number", "[I", true)
  | 8 => ("ProcRingModel", "place", "[I", true)
  | 9 => ("ProcRingModel", "parent", "[I", true)
  | 10 => ("ProcRingModel", "ended", "[Z", true)
  | 11 => ("ProcRingModel", "result", "[I", true)
  | 12 => ("ProcRingModel", "killed", "[Z", true)
  | 13 => ("ProcRingModel", "on", "[I", true)
  | 14 => ("ProcRingModel", "waits", "[I", true)
  | _ => ("ProcRingModel", "which", "[I", true)
def t_Mod : Nat → FieldType := fun k => match k with
  | 0 => .int
  | 1 => .int
  | 2 => .int
  | 3 => .int
  | 4 => .int
  | 5 => .int
  | 6 => .int
  | 7 => .array .int
  | 8 => .array .int
  | 9 => .array .int
  | 10 => .array .boolean
  | 11 => .array .int
  | 12 => .array .boolean
  | 13 => .array .int
  | 14 => .array .int
  | _ => .array .int
theorem n_Mod : ∀ a, a < 16 → ∀ b, b < 16 → a ≠ b → (F_Mod a).2.1 ≠ (F_Mod b).2.1 := by decide +kernel
theorem t_Mod_ok : ∀ k, k < 16 → parseFieldDescriptor (F_Mod k).2.2.1 = some (t_Mod k) := by decide +kernel
abbrev classes : List vw_C := [(R_Ring, F_Ring, 13), (R_Proc, F_Proc, 1), (R_Mod, F_Mod, 16)]
/-- the words that stay when tables warm: all but the nest links -/
def gw : List Cond := lw_tbl.filter goodWord
theorem gw_mem {w : Cond} (h : w ∈ lw_tbl) (hg : goodWord w = true) : w ∈ gw := List.mem_filter.mpr ⟨h, hg⟩
theorem gw_lw {w : Cond} (h : w ∈ gw) : w ∈ lw_tbl := (List.mem_filter.mp h).1
theorem gw_good {w : Cond} (h : w ∈ gw) : (w.onTables && w.keeps) = true ∨ ∃ ty, w = .arrayClass ty := good_of_word (List.mem_filter.mp h).2
theorem i_Ring : ∀ w ∈ u_ws R_Ring F_Ring 13, w ∈ gw := by decide +kernel
theorem i_Proc : ∀ w ∈ u_ws R_Proc F_Proc 1, w ∈ gw := by decide +kernel
theorem i_Mod : ∀ w ∈ u_ws R_Mod F_Mod 16, w ∈ gw := by decide +kernel
abbrev b_Proc_init : ByteArray := prog_1_method_1_code
def y_Proc_init : MethodName := ⟨R_Proc, "<init>", "(I)V"⟩
abbrev b_Proc_first : ByteArray := prog_1_method_2_code
def y_Proc_first : MethodName := ⟨R_Proc, "first", "()Z"⟩
abbrev b_Proc_pick : ByteArray := prog_1_method_3_code
def y_Proc_pick : MethodName := ⟨R_Proc, "pick", "(I)I"⟩
abbrev b_Proc_fork : ByteArray := prog_1_method_4_code
def y_Proc_fork : MethodName := ⟨R_Proc, "fork", "(I)I"⟩
abbrev b_Proc_exit : ByteArray := prog_1_method_5_code
def y_Proc_exit : MethodName := ⟨R_Proc, "exit", "(II)I"⟩
abbrev b_Proc_await : ByteArray := prog_1_method_6_code
def y_Proc_await : MethodName := ⟨R_Proc, "await", "(I)I"⟩
abbrev b_Proc_status : ByteArray := prog_1_method_7_code
def y_Proc_status : MethodName := ⟨R_Proc, "status", "()I"⟩
abbrev b_Proc_block : ByteArray := prog_1_method_8_code
def y_Proc_block : MethodName := ⟨R_Proc, "block", "(II)I"⟩
abbrev b_Proc_sleep : ByteArray := prog_1_method_9_code
def y_Proc_sleep : MethodName := ⟨R_Proc, "sleep", "(II)I"⟩
abbrev b_Proc_wake : ByteArray := prog_1_method_10_code
def y_Proc_wake : MethodName := ⟨R_Proc, "wake", "(I)I"⟩
abbrev b_Proc_rest : ByteArray := prog_1_method_11_code
def y_Proc_rest : MethodName := ⟨R_Proc, "rest", "(I)I"⟩
abbrev b_Proc_tick : ByteArray := prog_1_method_12_code
def y_Proc_tick : MethodName := ⟨R_Proc, "tick", "()I"⟩
abbrev b_Proc_kill : ByteArray := prog_1_method_13_code
def y_Proc_kill : MethodName := ⟨R_Proc, "kill", "(I)Z"⟩
abbrev b_Proc_about : ByteArray := prog_1_method_14_code
def y_Proc_about : MethodName := ⟨R_Proc, "about", "(II)I"⟩
abbrev b_Proc_count : ByteArray := prog_1_method_15_code
def y_Proc_count : MethodName := ⟨R_Proc, "count", "(I)I"⟩
abbrev b_Mod_init : ByteArray := prog_4_method_1_code
def y_Mod_init : MethodName := ⟨R_Mod, "<init>", "(I)V"⟩
abbrev b_Mod_ofPlace : ByteArray := prog_4_method_3_code
def y_Mod_ofPlace : MethodName := ⟨R_Mod, "ofPlace", "(I)I"⟩
abbrev b_Mod_ofNumber : ByteArray := prog_4_method_4_code
def y_Mod_ofNumber : MethodName := ⟨R_Mod, "ofNumber", "(I)I"⟩
abbrev b_Mod_running : ByteArray := prog_4_method_5_code
def y_Mod_running : MethodName := ⟨R_Mod, "running", "(I)I"⟩
abbrev b_Mod_vacant : ByteArray := prog_4_method_6_code
def y_Mod_vacant : MethodName := ⟨R_Mod, "vacant", "()I"⟩
abbrev b_Mod_endedChild : ByteArray := prog_4_method_7_code
def y_Mod_endedChild : MethodName := ⟨R_Mod, "endedChild", "(I)I"⟩
abbrev b_Mod_state : ByteArray := prog_4_method_8_code
def y_Mod_state : MethodName := ⟨R_Mod, "state", "(I)I"⟩
abbrev b_Mod_add : ByteArray := prog_4_method_9_code
def y_Mod_add : MethodName := ⟨R_Mod, "add", "(II)I"⟩
abbrev b_Mod_remove : ByteArray := prog_4_method_10_code
def y_Mod_remove : MethodName := ⟨R_Mod, "remove", "(I)V"⟩
abbrev b_Mod_first : ByteArray := prog_4_method_11_code
def y_Mod_first : MethodName := ⟨R_Mod, "first", "()Z"⟩
abbrev b_Mod_pick : ByteArray := prog_4_method_12_code
def y_Mod_pick : MethodName := ⟨R_Mod, "pick", "(I)I"⟩
abbrev b_Mod_fork : ByteArray := prog_4_method_13_code
def y_Mod_fork : MethodName := ⟨R_Mod, "fork", "(I)I"⟩
abbrev b_Mod_exit : ByteArray := prog_4_method_14_code
def y_Mod_exit : MethodName := ⟨R_Mod, "exit", "(II)I"⟩
abbrev b_Mod_await : ByteArray := prog_4_method_15_code
def y_Mod_await : MethodName := ⟨R_Mod, "await", "(I)I"⟩
abbrev b_Mod_status : ByteArray := prog_4_method_16_code
def y_Mod_status : MethodName := ⟨R_Mod, "status", "()I"⟩
abbrev b_Mod_waitsFor : ByteArray := prog_4_method_17_code
def y_Mod_waitsFor : MethodName := ⟨R_Mod, "waitsFor", "(III)I"⟩
abbrev b_Mod_block : ByteArray := prog_4_method_18_code
def y_Mod_block : MethodName := ⟨R_Mod, "block", "(II)I"⟩
abbrev b_Mod_sleep : ByteArray := prog_4_method_19_code
def y_Mod_sleep : MethodName := ⟨R_Mod, "sleep", "(II)I"⟩
abbrev b_Mod_wake : ByteArray := prog_4_method_20_code
def y_Mod_wake : MethodName := ⟨R_Mod, "wake", "(I)I"⟩
abbrev b_Mod_rest : ByteArray := prog_4_method_21_code
def y_Mod_rest : MethodName := ⟨R_Mod, "rest", "(I)I"⟩
abbrev b_Mod_tick : ByteArray := prog_4_method_22_code
def y_Mod_tick : MethodName := ⟨R_Mod, "tick", "()I"⟩
abbrev b_Mod_kill : ByteArray := prog_4_method_23_code
def y_Mod_kill : MethodName := ⟨R_Mod, "kill", "(I)Z"⟩
abbrev b_Mod_about : ByteArray := prog_4_method_24_code
def y_Mod_about : MethodName := ⟨R_Mod, "about", "(II)I"⟩
abbrev b_Mod_count : ByteArray := prog_4_method_25_code
def y_Mod_count : MethodName := ⟨R_Mod, "count", "(I)I"⟩
abbrev b_Ring_init : ByteArray := prog_2_method_1_code
def y_Ring_init : MethodName := ⟨R_Ring, "<init>", "(I)V"⟩
abbrev b_Ring_clear : ByteArray := prog_2_method_2_code
def y_Ring_clear : MethodName := ⟨R_Ring, "clear", "()V"⟩
abbrev b_Ring_isEmpty : ByteArray := prog_2_method_3_code
def y_Ring_isEmpty : MethodName := ⟨R_Ring, "isEmpty", "()Z"⟩
abbrev b_Ring_put : ByteArray := prog_2_method_4_code
def y_Ring_put : MethodName := ⟨R_Ring, "put", "(II)V"⟩
abbrev b_Ring_first : ByteArray := prog_2_method_5_code
def y_Ring_first : MethodName := ⟨R_Ring, "first", "()V"⟩
abbrev b_Ring_at : ByteArray := prog_2_method_6_code
def y_Ring_at : MethodName := ⟨R_Ring, "at", "(I)I"⟩
abbrev b_Ring_pick : ByteArray := prog_2_method_7_code
def y_Ring_pick : MethodName := ⟨R_Ring, "pick", "(I)I"⟩
abbrev b_Ring_take : ByteArray := prog_2_method_8_code
def y_Ring_take : MethodName := ⟨R_Ring, "take", "(II)V"⟩
abbrev b_Ring_leave : ByteArray := prog_2_method_9_code
def y_Ring_leave : MethodName := ⟨R_Ring, "leave", "(II)I"⟩
abbrev b_Ring_waitFor : ByteArray := prog_2_method_10_code
def y_Ring_waitFor : MethodName := ⟨R_Ring, "waitFor", "(III)I"⟩
abbrev b_Ring_block : ByteArray := prog_2_method_11_code
def y_Ring_block : MethodName := ⟨R_Ring, "block", "(II)I"⟩
abbrev b_Ring_sleep : ByteArray := prog_2_method_12_code
def y_Ring_sleep : MethodName := ⟨R_Ring, "sleep", "(II)I"⟩
abbrev b_Ring_until : ByteArray := prog_2_method_13_code
def y_Ring_until : MethodName := ⟨R_Ring, "until", "(I)I"⟩
abbrev b_Ring_rest : ByteArray := prog_2_method_14_code
def y_Ring_rest : MethodName := ⟨R_Ring, "rest", "(I)I"⟩
abbrev b_Ring_wake2 : ByteArray := prog_2_method_15_code
def y_Ring_wake2 : MethodName := ⟨R_Ring, "wake", "(II)I"⟩
abbrev b_Ring_wake1 : ByteArray := prog_2_method_16_code
def y_Ring_wake1 : MethodName := ⟨R_Ring, "wake", "(I)I"⟩
abbrev b_Ring_tick : ByteArray := prog_2_method_17_code
def y_Ring_tick : MethodName := ⟨R_Ring, "tick", "()I"⟩
abbrev b_Ring_fork : ByteArray := prog_2_method_18_code
def y_Ring_fork : MethodName := ⟨R_Ring, "fork", "(I)I"⟩
abbrev b_Ring_exit : ByteArray := prog_2_method_19_code
def y_Ring_exit : MethodName := ⟨R_Ring, "exit", "(II)I"⟩
abbrev b_Ring_await : ByteArray := prog_2_method_20_code
def y_Ring_await : MethodName := ⟨R_Ring, "await", "(I)I"⟩
abbrev b_Ring_reap : ByteArray := prog_2_method_21_code
def y_Ring_reap : MethodName := ⟨R_Ring, "reap", "(I)I"⟩
abbrev b_Ring_kill : ByteArray := prog_2_method_22_code
def y_Ring_kill : MethodName := ⟨R_Ring, "kill", "(I)Z"⟩
abbrev b_Ring_processorOf : ByteArray := prog_2_method_23_code
def y_Ring_processorOf : MethodName := ⟨R_Ring, "processorOf", "(I)I"⟩
abbrev b_Ring_count : ByteArray := prog_2_method_24_code
def y_Ring_count : MethodName := ⟨R_Ring, "count", "(I)I"⟩
abbrev b_Law_cell : ByteArray := method_2_code
def y_Law_cell : MethodName := ⟨R_law, "cell", "([II)I"⟩
end
section
theorem k_ini_Law : (Cond.initialized R_law) ∈ gw := gw_mem (List.mem_of_getElem? (i := 16) (by decide +kernel)) rfl
theorem k_ini_Proc : (Cond.initialized R_Proc) ∈ gw := gw_mem (List.mem_of_getElem? (i := 17) (by decide +kernel)) rfl
theorem k_ini_Ring : (Cond.initialized R_Ring) ∈ gw := gw_mem (List.mem_of_getElem? (i := 18) (by decide +kernel)) rfl
theorem k_ini_Mod : (Cond.initialized R_Mod) ∈ gw := gw_mem (List.mem_of_getElem? (i := 19) (by decide +kernel)) rfl
theorem k_cl_Law_7 : (Cond.classLink R_law 7 R_Proc) ∈ gw := gw_mem (List.mem_of_getElem? (i := 20) (by decide +kernel)) rfl
theorem k_mk_Proc : (Cond.instantiable R_Proc 1) ∈ gw := gw_mem (List.mem_of_getElem? (i := 21) (by decide +kernel)) rfl
theorem k_ml_Law_15 : (Cond.methodLink R_law 15 y_Proc_init) ∈ gw := gw_mem (List.mem_of_getElem? (i := 22) (by decide +kernel)) rfl
theorem k_im_Proc_init : (Cond.instanceMethod y_Proc_init) ∈ gw := gw_mem (List.mem_of_getElem? (i := 23) (by decide +kernel)) rfl
theorem k_co_Proc_init : (Cond.code y_Proc_init b_Proc_init 2 none) ∈ gw := gw_mem (List.mem_of_getElem? (i := 24) rfl) rfl
theorem k_ml_Proc_1 : (Cond.methodLink R_Proc 1 objectInit) ∈ gw := gw_mem (List.mem_of_getElem? (i := 25) (by decide +kernel)) rfl
theorem k_im_Object_init : (Cond.instanceMethod objectInit) ∈ gw := gw_mem (List.mem_of_getElem? (i := 26) (by decide +kernel)) rfl
theorem k_co_Object_init : (Cond.code objectInit ⟨#[0xb1]⟩ 1 none) ∈ gw := gw_mem (List.mem_of_getElem? (i := 27) rfl) rfl
theorem k_cl_Proc_7 : (Cond.classLink R_Proc 7 R_Ring) ∈ gw := gw_mem (List.mem_of_getElem? (i := 28) (by decide +kernel)) rfl
theorem k_mk_Ring : (Cond.instantiable R_Ring 13) ∈ gw := gw_mem (List.mem_of_getElem? (i := 29) (by decide +kernel)) rfl
theorem k_ml_Proc_9 : (Cond.methodLink R_Proc 9 y_Ring_init) ∈ gw := gw_mem (List.mem_of_getElem? (i := 30) (by decide +kernel)) rfl
theorem k_im_Ring_init : (Cond.instanceMethod y_Ring_init) ∈ gw := gw_mem (List.mem_of_getElem? (i := 31) (by decide +kernel)) rfl
theorem k_co_Ring_init : (Cond.code y_Ring_init b_Ring_init 2 none) ∈ gw := gw_mem (List.mem_of_getElem? (i := 32) rfl) rfl
theorem k_ml_Ring_3 : (Cond.methodLink R_Ring 3 objectInit) ∈ gw := gw_mem (List.mem_of_getElem? (i := 33) (by decide +kernel)) rfl
theorem k_ml_Ring_41 : (Cond.methodLink R_Ring 41 y_Ring_clear) ∈ gw := gw_mem (List.mem_of_getElem? (i := 34) (by decide +kernel)) rfl
theorem k_im_Ring_clear : (Cond.instanceMethod y_Ring_clear) ∈ gw := gw_mem (List.mem_of_getElem? (i := 35) (by decide +kernel)) rfl
theorem k_se_Ring_clear : (Cond.selects R_Ring y_Ring_clear y_Ring_clear) ∈ gw := gw_mem (List.mem_of_getElem? (i := 36) (by decide +kernel)) rfl
theorem k_co_Ring_clear : (Cond.code y_Ring_clear b_Ring_clear 2 none) ∈ gw := gw_mem (List.mem_of_getElem? (i := 37) rfl) rfl
theorem k_fl_Ring_11 : (Cond.fieldLink R_Ring 11 R_Ring "numbers" "[I") ∈ gw := gw_mem (List.mem_of_getElem? (i := 38) (by decide +kernel)) rfl
theorem k_fn_67 : (Cond.fieldLinkNest R_Proc 67 R_Ring "numbers" "[I" R_Proc) ∈ lw_tbl := List.mem_of_getElem? (i := 39) (by decide +kernel)
theorem k_fl_Ring_15 : (Cond.fieldLink R_Ring 15 R_Ring "states" "[I") ∈ gw := gw_mem (List.mem_of_getElem? (i := 40) (by decide +kernel)) rfl
theorem k_fn_63 : (Cond.fieldLinkNest R_Proc 63 R_Ring "states" "[I" R_Proc) ∈ lw_tbl := List.mem_of_getElem? (i := 41) (by decide +kernel)
theorem k_fl_Ring_18 : (Cond.fieldLink R_Ring 18 R_Ring "parents" "[I") ∈ gw := gw_mem (List.mem_of_getElem? (i := 42) (by decide +kernel)) rfl
theorem k_fn_70 : (Cond.fieldLinkNest R_Proc 70 R_Ring "parents" "[I" R_Proc) ∈ lw_tbl := List.mem_of_getElem? (i := 43) (by decide +kernel)
theorem k_fl_Ring_21 : (Cond.fieldLink R_Ring 21 R_Ring "killed" "[Z") ∈ gw := gw_mem (List.mem_of_getElem? (i := 44) (by decide +kernel)) rfl
theorem k_fn_73 : (Cond.fieldLinkNest R_Proc 73 R_Ring "killed" "[Z" R_Proc) ∈ lw_tbl := List.mem_of_getElem? (i := 45) (by decide +kernel)
theorem k_fl_Ring_25 : (Cond.fieldLink R_Ring 25 R_Ring "statuses" "[I") ∈ gw := gw_mem (List.mem_of_getElem? (i := 46) (by decide +kernel)) rfl
theorem k_fn_77 : (Cond.fieldLinkNest R_Proc 77 R_Ring "statuses" "[I" R_Proc) ∈ lw_tbl := List.mem_of_getElem? (i := 47) (by decide +kernel)
theorem k_fl_Ring_28 : (Cond.fieldLink R_Ring 28 R_Ring "waits" "[I") ∈ gw := gw_mem (List.mem_of_getElem? (i := 48) (by decide +kernel)) rfl
theorem k_fl_Ring_31 : (Cond.fieldLink R_Ring 31 R_Ring "waited" "[I") ∈ gw := gw_mem (List.mem_of_getElem? (i := 49) (by decide +kernel)) rfl
theorem k_fl_Ring_34 : (Cond.fieldLink R_Ring 34 R_Ring "on" "[I") ∈ gw := gw_mem (List.mem_of_getElem? (i := 50) (by decide +kernel)) rfl
theorem k_fl_Ring_37 : (Cond.fieldLink R_Ring 37 R_Ring "processors" "I") ∈ gw := gw_mem (List.mem_of_getElem? (i := 51) (by decide +kernel)) rfl
theorem k_fl_Ring_50 : (Cond.fieldLink R_Ring 50 R_Ring "last" "I") ∈ gw := gw_mem (List.mem_of_getElem? (i := 52) (by decide +kernel)) rfl
theorem k_fl_Ring_44 : (Cond.fieldLink R_Ring 44 R_Ring "next" "I") ∈ gw := gw_mem (List.mem_of_getElem? (i := 53) (by decide +kernel)) rfl
theorem k_fl_Ring_47 : (Cond.fieldLink R_Ring 47 R_Ring "ticks" "I") ∈ gw := gw_mem (List.mem_of_getElem? (i := 54) (by decide +kernel)) rfl
theorem k_fn_39 : (Cond.fieldLinkNest R_Proc 39 R_Ring "status" "I" R_Proc) ∈ lw_tbl := List.mem_of_getElem? (i := 55) (by decide +kernel)
theorem k_fl_Ring_84 : (Cond.fieldLink R_Ring 84 R_Ring "status" "I") ∈ gw := gw_mem (List.mem_of_getElem? (i := 56) (by decide +kernel)) rfl
theorem k_ac_int : (Cond.arrayClass .int) ∈ gw := gw_mem (List.mem_of_getElem? (i := 84) (by decide +kernel)) rfl
theorem k_ac_boolean : (Cond.arrayClass .boolean) ∈ gw := gw_mem (List.mem_of_getElem? (i := 85) (by decide +kernel)) rfl
theorem k_fl_Proc_12 : (Cond.fieldLink R_Proc 12 R_Proc "ring" "LProcRing$Ring;") ∈ gw := gw_mem (List.mem_of_getElem? (i := 86) (by decide +kernel)) rfl
theorem k_ml_Law_21 : (Cond.methodLink R_law 21 y_Proc_first) ∈ gw := gw_mem (List.mem_of_getElem? (i := 90) (by decide +kernel)) rfl
theorem k_im_Proc_first : (Cond.instanceMethod y_Proc_first) ∈ gw := gw_mem (List.mem_of_getElem? (i := 91) (by decide +kernel)) rfl
theorem k_se_Proc_first : (Cond.selects R_Proc y_Proc_first y_Proc_first) ∈ gw := gw_mem (List.mem_of_getElem? (i := 92) (by decide +kernel)) rfl
theorem k_co_Proc_first : (Cond.code y_Proc_first b_Proc_first 1 (some .boolean)) ∈ gw := gw_mem (List.mem_of_getElem? (i := 93) rfl) rfl
theorem k_ml_Proc_18 : (Cond.methodLink R_Proc 18 y_Ring_isEmpty) ∈ gw := gw_mem (List.mem_of_getElem? (i := 94) (by decide +kernel)) rfl
theorem k_im_Ring_isEmpty : (Cond.instanceMethod y_Ring_isEmpty) ∈ gw := gw_mem (List.mem_of_getElem? (i := 95) (by decide +kernel)) rfl
theorem k_se_Ring_isEmpty : (Cond.selects R_Ring y_Ring_isEmpty y_Ring_isEmpty) ∈ gw := gw_mem (List.mem_of_getElem? (i := 96) (by decide +kernel)) rfl
theorem k_co_Ring_isEmpty : (Cond.code y_Ring_isEmpty b_Ring_isEmpty 1 (some .boolean)) ∈ gw := gw_mem (List.mem_of_getElem? (i := 97) rfl) rfl
theorem k_ml_Proc_22 : (Cond.methodLink R_Proc 22 y_Ring_first) ∈ gw := gw_mem (List.mem_of_getElem? (i := 98) (by decide +kernel)) rfl
theorem k_im_Ring_first : (Cond.instanceMethod y_Ring_first) ∈ gw := gw_mem (List.mem_of_getElem? (i := 99) (by decide +kernel)) rfl
theorem k_se_Ring_first : (Cond.selects R_Ring y_Ring_first y_Ring_first) ∈ gw := gw_mem (List.mem_of_getElem? (i := 100) (by decide +kernel)) rfl
theorem k_co_Ring_first : (Cond.code y_Ring_first b_Ring_first 1 none) ∈ gw := gw_mem (List.mem_of_getElem? (i := 101) rfl) rfl
theorem k_ml_Ring_53 : (Cond.methodLink R_Ring 53 y_Ring_put) ∈ gw := gw_mem (List.mem_of_getElem? (i := 102) (by decide +kernel)) rfl
theorem k_im_Ring_put : (Cond.instanceMethod y_Ring_put) ∈ gw := gw_mem (List.mem_of_getElem? (i := 104) (by decide +kernel)) rfl
theorem k_co_Ring_put : (Cond.code y_Ring_put b_Ring_put 3 none) ∈ gw := gw_mem (List.mem_of_getElem? (i := 105) rfl) rfl
theorem k_ml_Law_26 : (Cond.methodLink R_law 26 y_Proc_pick) ∈ gw := gw_mem (List.mem_of_getElem? (i := 106) (by decide +kernel)) rfl
theorem k_im_Proc_pick : (Cond.instanceMethod y_Proc_pick) ∈ gw := gw_mem (List.mem_of_getElem? (i := 107) (by decide +kernel)) rfl
theorem k_se_Proc_pick : (Cond.selects R_Proc y_Proc_pick y_Proc_pick) ∈ gw := gw_mem (List.mem_of_getElem? (i := 108) (by decide +kernel)) rfl
theorem k_co_Proc_pick : (Cond.code y_Proc_pick b_Proc_pick 2 (some .int)) ∈ gw := gw_mem (List.mem_of_getElem? (i := 109) rfl) rfl
theorem k_ml_Proc_25 : (Cond.methodLink R_Proc 25 y_Ring_pick) ∈ gw := gw_mem (List.mem_of_getElem? (i := 110) (by decide +kernel)) rfl
theorem k_im_Ring_pick : (Cond.instanceMethod y_Ring_pick) ∈ gw := gw_mem (List.mem_of_getElem? (i := 111) (by decide +kernel)) rfl
theorem k_se_Ring_pick : (Cond.selects R_Ring y_Ring_pick y_Ring_pick) ∈ gw := gw_mem (List.mem_of_getElem? (i := 112) (by decide +kernel)) rfl
theorem k_co_Ring_pick : (Cond.code y_Ring_pick b_Ring_pick 4 (some .int)) ∈ gw := gw_mem (List.mem_of_getElem? (i := 113) rfl) rfl
theorem k_ml_Ring_57 : (Cond.methodLink R_Ring 57 y_Ring_take) ∈ gw := gw_mem (List.mem_of_getElem? (i := 114) (by decide +kernel)) rfl
theorem k_im_Ring_take : (Cond.instanceMethod y_Ring_take) ∈ gw := gw_mem (List.mem_of_getElem? (i := 116) (by decide +kernel)) rfl
theorem k_co_Ring_take : (Cond.code y_Ring_take b_Ring_take 3 none) ∈ gw := gw_mem (List.mem_of_getElem? (i := 117) rfl) rfl
theorem k_ml_Law_31 : (Cond.methodLink R_law 31 y_Proc_fork) ∈ gw := gw_mem (List.mem_of_getElem? (i := 118) (by decide +kernel)) rfl
theorem k_im_Proc_fork : (Cond.instanceMethod y_Proc_fork) ∈ gw := gw_mem (List.mem_of_getElem? (i := 119) (by decide +kernel)) rfl
theorem k_se_Proc_fork : (Cond.selects R_Proc y_Proc_fork y_Proc_fork) ∈ gw := gw_mem (List.mem_of_getElem? (i := 120) (by decide +kernel)) rfl
theorem k_co_Proc_fork : (Cond.code y_Proc_fork b_Proc_fork 2 (some .int)) ∈ gw := gw_mem (List.mem_of_getElem? (i := 121) rfl) rfl
theorem k_ml_Proc_29 : (Cond.methodLink R_Proc 29 y_Ring_fork) ∈ gw := gw_mem (List.mem_of_getElem? (i := 122) (by decide +kernel)) rfl
theorem k_im_Ring_fork : (Cond.instanceMethod y_Ring_fork) ∈ gw := gw_mem (List.mem_of_getElem? (i := 123) (by decide +kernel)) rfl
theorem k_se_Ring_fork : (Cond.selects R_Ring y_Ring_fork y_Ring_fork) ∈ gw := gw_mem (List.mem_of_getElem? (i := 124) (by decide +kernel)) rfl
theorem k_co_Ring_fork : (Cond.code y_Ring_fork b_Ring_fork 4 (some .int)) ∈ gw := gw_mem (List.mem_of_getElem? (i := 125) rfl) rfl
theorem k_ml_Ring_60 : (Cond.methodLink R_Ring 60 y_Ring_at) ∈ gw := gw_mem (List.mem_of_getElem? (i := 126) (by decide +kernel)) rfl
theorem k_im_Ring_at : (Cond.instanceMethod y_Ring_at) ∈ gw := gw_mem (List.mem_of_getElem? (i := 127) (by decide +kernel)) rfl
theorem k_se_Ring_at : (Cond.selects R_Ring y_Ring_at y_Ring_at) ∈ gw := gw_mem (List.mem_of_getElem? (i := 128) (by decide +kernel)) rfl
theorem k_co_Ring_at : (Cond.code y_Ring_at b_Ring_at 2 (some .int)) ∈ gw := gw_mem (List.mem_of_getElem? (i := 129) rfl) rfl
theorem k_ml_Law_35 : (Cond.methodLink R_law 35 y_Proc_exit) ∈ gw := gw_mem (List.mem_of_getElem? (i := 130) (by decide +kernel)) rfl
theorem k_im_Proc_exit : (Cond.instanceMethod y_Proc_exit) ∈ gw := gw_mem (List.mem_of_getElem? (i := 131) (by decide +kernel)) rfl
theorem k_se_Proc_exit : (Cond.selects R_Proc y_Proc_exit y_Proc_exit) ∈ gw := gw_mem (List.mem_of_getElem? (i := 132) (by decide +kernel)) rfl
theorem k_co_Proc_exit : (Cond.code y_Proc_exit b_Proc_exit 3 (some .int)) ∈ gw := gw_mem (List.mem_of_getElem? (i := 133) rfl) rfl
theorem k_ml_Proc_32 : (Cond.methodLink R_Proc 32 y_Ring_exit) ∈ gw := gw_mem (List.mem_of_getElem? (i := 134) (by decide +kernel)) rfl
theorem k_im_Ring_exit : (Cond.instanceMethod y_Ring_exit) ∈ gw := gw_mem (List.mem_of_getElem? (i := 135) (by decide +kernel)) rfl
theorem k_se_Ring_exit : (Cond.selects R_Ring y_Ring_exit y_Ring_exit) ∈ gw := gw_mem (List.mem_of_getElem? (i := 136) (by decide +kernel)) rfl
theorem k_co_Ring_exit : (Cond.code y_Ring_exit b_Ring_exit 6 (some .int)) ∈ gw := gw_mem (List.mem_of_getElem? (i := 137) rfl) rfl
theorem k_ml_Ring_64 : (Cond.methodLink R_Ring 64 y_Ring_leave) ∈ gw := gw_mem (List.mem_of_getElem? (i := 138) (by decide +kernel)) rfl
theorem k_im_Ring_leave : (Cond.instanceMethod y_Ring_leave) ∈ gw := gw_mem (List.mem_of_getElem? (i := 140) (by decide +kernel)) rfl
theorem k_co_Ring_leave : (Cond.code y_Ring_leave b_Ring_leave 4 (some .int)) ∈ gw := gw_mem (List.mem_of_getElem? (i := 141) rfl) rfl
theorem k_ml_Ring_78 : (Cond.methodLink R_Ring 78 y_Ring_wake2) ∈ gw := gw_mem (List.mem_of_getElem? (i := 142) (by decide +kernel)) rfl
theorem k_im_Ring_wake2 : (Cond.instanceMethod y_Ring_wake2) ∈ gw := gw_mem (List.mem_of_getElem? (i := 144) (by decide +kernel)) rfl
theorem k_co_Ring_wake2 : (Cond.code y_Ring_wake2 b_Ring_wake2 6 (some .int)) ∈ gw := gw_mem (List.mem_of_getElem? (i := 145) rfl) rfl
theorem k_ml_Law_40 : (Cond.methodLink R_law 40 y_Proc_await) ∈ gw := gw_mem (List.mem_of_getElem? (i := 146) (by decide +kernel)) rfl
theorem k_im_Proc_await : (Cond.instanceMethod y_Proc_await) ∈ gw := gw_mem (List.mem_of_getElem? (i := 147) (by decide +kernel)) rfl
theorem k_se_Proc_await : (Cond.selects R_Proc y_Proc_await y_Proc_await) ∈ gw := gw_mem (List.mem_of_getElem? (i := 148) (by decide +kernel)) rfl
theorem k_co_Proc_await : (Cond.code y_Proc_await b_Proc_await 2 (some .int)) ∈ gw := gw_mem (List.mem_of_getElem? (i := 149) rfl) rfl
theorem k_ml_Proc_36 : (Cond.methodLink R_Proc 36 y_Ring_await) ∈ gw := gw_mem (List.mem_of_getElem? (i := 150) (by decide +kernel)) rfl
theorem k_im_Ring_await : (Cond.instanceMethod y_Ring_await) ∈ gw := gw_mem (List.mem_of_getElem? (i := 151) (by decide +kernel)) rfl
theorem k_se_Ring_await : (Cond.selects R_Ring y_Ring_await y_Ring_await) ∈ gw := gw_mem (List.mem_of_getElem? (i := 152) (by decide +kernel)) rfl
theorem k_co_Ring_await : (Cond.code y_Ring_await b_Ring_await 6 (some .int)) ∈ gw := gw_mem (List.mem_of_getElem? (i := 153) rfl) rfl
theorem k_ml_Ring_87 : (Cond.methodLink R_Ring 87 y_Ring_reap) ∈ gw := gw_mem (List.mem_of_getElem? (i := 154) (by decide +kernel)) rfl
theorem k_im_Ring_reap : (Cond.instanceMethod y_Ring_reap) ∈ gw := gw_mem (List.mem_of_getElem? (i := 156) (by decide +kernel)) rfl
theorem k_co_Ring_reap : (Cond.code y_Ring_reap b_Ring_reap 2 (some .int)) ∈ gw := gw_mem (List.mem_of_getElem? (i := 157) rfl) rfl
theorem k_ml_Ring_68 : (Cond.methodLink R_Ring 68 y_Ring_waitFor) ∈ gw := gw_mem (List.mem_of_getElem? (i := 158) (by decide +kernel)) rfl
theorem k_im_Ring_waitFor : (Cond.instanceMethod y_Ring_waitFor) ∈ gw := gw_mem (List.mem_of_getElem? (i := 160) (by decide +kernel)) rfl
theorem k_co_Ring_waitFor : (Cond.code y_Ring_waitFor b_Ring_waitFor 5 (some .int)) ∈ gw := gw_mem (List.mem_of_getElem? (i := 161) rfl) rfl
theorem k_ml_Law_44 : (Cond.methodLink R_law 44 y_Proc_status) ∈ gw := gw_mem (List.mem_of_getElem? (i := 162) (by decide +kernel)) rfl
theorem k_im_Proc_status : (Cond.instanceMethod y_Proc_status) ∈ gw := gw_mem (List.mem_of_getElem? (i := 163) (by decide +kernel)) rfl
theorem k_se_Proc_status : (Cond.selects R_Proc y_Proc_status y_Proc_status) ∈ gw := gw_mem (List.mem_of_getElem? (i := 164) (by decide +kernel)) rfl
theorem k_co_Proc_status : (Cond.code y_Proc_status b_Proc_status 1 (some .int)) ∈ gw := gw_mem (List.mem_of_getElem? (i := 165) rfl) rfl
theorem k_ml_Law_49 : (Cond.methodLink R_law 49 y_Proc_block) ∈ gw := gw_mem (List.mem_of_getElem? (i := 166) (by decide +kernel)) rfl
theorem k_im_Proc_block : (Cond.instanceMethod y_Proc_block) ∈ gw := gw_mem (List.mem_of_getElem? (i := 167) (by decide +kernel)) rfl
theorem k_se_Proc_block : (Cond.selects R_Proc y_Proc_block y_Proc_block) ∈ gw := gw_mem (List.mem_of_getElem? (i := 168) (by decide +kernel)) rfl
theorem k_co_Proc_block : (Cond.code y_Proc_block b_Proc_block 3 (some .int)) ∈ gw := gw_mem (List.mem_of_getElem? (i := 169) rfl) rfl
theorem k_ml_Proc_43 : (Cond.methodLink R_Proc 43 y_Ring_block) ∈ gw := gw_mem (List.mem_of_getElem? (i := 170) (by decide +kernel)) rfl
theorem k_im_Ring_block : (Cond.instanceMethod y_Ring_block) ∈ gw := gw_mem (List.mem_of_getElem? (i := 171) (by decide +kernel)) rfl
theorem k_se_Ring_block : (Cond.selects R_Ring y_Ring_block y_Ring_block) ∈ gw := gw_mem (List.mem_of_getElem? (i := 172) (by decide +kernel)) rfl
theorem k_co_Ring_block : (Cond.code y_Ring_block b_Ring_block 3 (some .int)) ∈ gw := gw_mem (List.mem_of_getElem? (i := 173) rfl) rfl
theorem k_ml_Law_53 : (Cond.methodLink R_law 53 y_Proc_sleep) ∈ gw := gw_mem (List.mem_of_getElem? (i := 174) (by decide +kernel)) rfl
theorem k_im_Proc_sleep : (Cond.instanceMethod y_Proc_sleep) ∈ gw := gw_mem (List.mem_of_getElem? (i := 175) (by decide +kernel)) rfl
theorem k_se_Proc_sleep : (Cond.selects R_Proc y_Proc_sleep y_Proc_sleep) ∈ gw := gw_mem (List.mem_of_getElem? (i := 176) (by decide +kernel)) rfl
theorem k_co_Proc_sleep : (Cond.code y_Proc_sleep b_Proc_sleep 3 (some .int)) ∈ gw := gw_mem (List.mem_of_getElem? (i := 177) rfl) rfl
theorem k_ml_Proc_46 : (Cond.methodLink R_Proc 46 y_Ring_sleep) ∈ gw := gw_mem (List.mem_of_getElem? (i := 178) (by decide +kernel)) rfl
theorem k_im_Ring_sleep : (Cond.instanceMethod y_Ring_sleep) ∈ gw := gw_mem (List.mem_of_getElem? (i := 179) (by decide +kernel)) rfl
theorem k_se_Ring_sleep : (Cond.selects R_Ring y_Ring_sleep y_Ring_sleep) ∈ gw := gw_mem (List.mem_of_getElem? (i := 180) (by decide +kernel)) rfl
theorem k_co_Ring_sleep : (Cond.code y_Ring_sleep b_Ring_sleep 3 (some .int)) ∈ gw := gw_mem (List.mem_of_getElem? (i := 181) rfl) rfl
theorem k_ml_Ring_72 : (Cond.methodLink R_Ring 72 y_Ring_until) ∈ gw := gw_mem (List.mem_of_getElem? (i := 182) (by decide +kernel)) rfl
theorem k_im_Ring_until : (Cond.instanceMethod y_Ring_until) ∈ gw := gw_mem (List.mem_of_getElem? (i := 184) (by decide +kernel)) rfl
theorem k_co_Ring_until : (Cond.code y_Ring_until b_Ring_until 2 (some .int)) ∈ gw := gw_mem (List.mem_of_getElem? (i := 185) rfl) rfl
theorem k_kc_Ring_77 : (Cond.constant R_Ring 77 2147483647) ∈ gw := gw_mem (List.mem_of_getElem? (i := 186) (by decide +kernel)) rfl
theorem k_ml_Law_57 : (Cond.methodLink R_law 57 y_Proc_wake) ∈ gw := gw_mem (List.mem_of_getElem? (i := 187) (by decide +kernel)) rfl
theorem k_im_Proc_wake : (Cond.instanceMethod y_Proc_wake) ∈ gw := gw_mem (List.mem_of_getElem? (i := 188) (by decide +kernel)) rfl
theorem k_se_Proc_wake : (Cond.selects R_Proc y_Proc_wake y_Proc_wake) ∈ gw := gw_mem (List.mem_of_getElem? (i := 189) (by decide +kernel)) rfl
theorem k_co_Proc_wake : (Cond.code y_Proc_wake b_Proc_wake 2 (some .int)) ∈ gw := gw_mem (List.mem_of_getElem? (i := 190) rfl) rfl
theorem k_ml_Proc_49 : (Cond.methodLink R_Proc 49 y_Ring_wake1) ∈ gw := gw_mem (List.mem_of_getElem? (i := 191) (by decide +kernel)) rfl
theorem k_im_Ring_wake1 : (Cond.instanceMethod y_Ring_wake1) ∈ gw := gw_mem (List.mem_of_getElem? (i := 192) (by decide +kernel)) rfl
theorem k_se_Ring_wake1 : (Cond.selects R_Ring y_Ring_wake1 y_Ring_wake1) ∈ gw := gw_mem (List.mem_of_getElem? (i := 193) (by decide +kernel)) rfl
theorem k_co_Ring_wake1 : (Cond.code y_Ring_wake1 b_Ring_wake1 2 (some .int)) ∈ gw := gw_mem (List.mem_of_getElem? (i := 194) rfl) rfl
theorem k_ml_Law_61 : (Cond.methodLink R_law 61 y_Proc_rest) ∈ gw := gw_mem (List.mem_of_getElem? (i := 195) (by decide +kernel)) rfl
theorem k_im_Proc_rest : (Cond.instanceMethod y_Proc_rest) ∈ gw := gw_mem (List.mem_of_getElem? (i := 196) (by decide +kernel)) rfl
theorem k_se_Proc_rest : (Cond.selects R_Proc y_Proc_rest y_Proc_rest) ∈ gw := gw_mem (List.mem_of_getElem? (i := 197) (by decide +kernel)) rfl
theorem k_co_Proc_rest : (Cond.code y_Proc_rest b_Proc_rest 2 (some .int)) ∈ gw := gw_mem (List.mem_of_getElem? (i := 198) rfl) rfl
theorem k_ml_Proc_52 : (Cond.methodLink R_Proc 52 y_Ring_rest) ∈ gw := gw_mem (List.mem_of_getElem? (i := 199) (by decide +kernel)) rfl
theorem k_im_Ring_rest : (Cond.instanceMethod y_Ring_rest) ∈ gw := gw_mem (List.mem_of_getElem? (i := 200) (by decide +kernel)) rfl
theorem k_se_Ring_rest : (Cond.selects R_Ring y_Ring_rest y_Ring_rest) ∈ gw := gw_mem (List.mem_of_getElem? (i := 201) (by decide +kernel)) rfl
theorem k_co_Ring_rest : (Cond.code y_Ring_rest b_Ring_rest 2 (some .int)) ∈ gw := gw_mem (List.mem_of_getElem? (i := 202) rfl) rfl
theorem k_ml_Law_65 : (Cond.methodLink R_law 65 y_Proc_tick) ∈ gw := gw_mem (List.mem_of_getElem? (i := 203) (by decide +kernel)) rfl
theorem k_im_Proc_tick : (Cond.instanceMethod y_Proc_tick) ∈ gw := gw_mem (List.mem_of_getElem? (i := 204) (by decide +kernel)) rfl
theorem k_se_Proc_tick : (Cond.selects R_Proc y_Proc_tick y_Proc_tick) ∈ gw := gw_mem (List.mem_of_getElem? (i := 205) (by decide +kernel)) rfl
theorem k_co_Proc_tick : (Cond.code y_Proc_tick b_Proc_tick 1 (some .int)) ∈ gw := gw_mem (List.mem_of_getElem? (i := 206) rfl) rfl
theorem k_ml_Proc_55 : (Cond.methodLink R_Proc 55 y_Ring_tick) ∈ gw := gw_mem (List.mem_of_getElem? (i := 207) (by decide +kernel)) rfl
theorem k_im_Ring_tick : (Cond.instanceMethod y_Ring_tick) ∈ gw := gw_mem (List.mem_of_getElem? (i := 208) (by decide +kernel)) rfl
theorem k_se_Ring_tick : (Cond.selects R_Ring y_Ring_tick y_Ring_tick) ∈ gw := gw_mem (List.mem_of_getElem? (i := 209) (by decide +kernel)) rfl
theorem k_co_Ring_tick : (Cond.code y_Ring_tick b_Ring_tick 2 (some .int)) ∈ gw := gw_mem (List.mem_of_getElem? (i := 210) rfl) rfl
theorem k_ml_Ring_81 : (Cond.methodLink R_Ring 81 y_Ring_rest) ∈ gw := gw_mem (List.mem_of_getElem? (i := 211) (by decide +kernel)) rfl
theorem k_ml_Law_69 : (Cond.methodLink R_law 69 y_Proc_kill) ∈ gw := gw_mem (List.mem_of_getElem? (i := 212) (by decide +kernel)) rfl
theorem k_im_Proc_kill : (Cond.instanceMethod y_Proc_kill) ∈ gw := gw_mem (List.mem_of_getElem? (i := 213) (by decide +kernel)) rfl
theorem k_se_Proc_kill : (Cond.selects R_Proc y_Proc_kill y_Proc_kill) ∈ gw := gw_mem (List.mem_of_getElem? (i := 214) (by decide +kernel)) rfl
theorem k_co_Proc_kill : (Cond.code y_Proc_kill b_Proc_kill 2 (some .boolean)) ∈ gw := gw_mem (List.mem_of_getElem? (i := 215) rfl) rfl
theorem k_ml_Proc_59 : (Cond.methodLink R_Proc 59 y_Ring_kill) ∈ gw := gw_mem (List.mem_of_getElem? (i := 216) (by decide +kernel)) rfl
theorem k_im_Ring_kill : (Cond.instanceMethod y_Ring_kill) ∈ gw := gw_mem (List.mem_of_getElem? (i := 217) (by decide +kernel)) rfl
theorem k_se_Ring_kill : (Cond.selects R_Ring y_Ring_kill y_Ring_kill) ∈ gw := gw_mem (List.mem_of_getElem? (i := 218) (by decide +kernel)) rfl
theorem k_co_Ring_kill : (Cond.code y_Ring_kill b_Ring_kill 3 (some .boolean)) ∈ gw := gw_mem (List.mem_of_getElem? (i := 219) rfl) rfl
theorem k_ml_Law_74 : (Cond.methodLink R_law 74 y_Proc_about) ∈ gw := gw_mem (List.mem_of_getElem? (i := 220) (by decide +kernel)) rfl
theorem k_im_Proc_about : (Cond.instanceMethod y_Proc_about) ∈ gw := gw_mem (List.mem_of_getElem? (i := 221) (by decide +kernel)) rfl
theorem k_se_Proc_about : (Cond.selects R_Proc y_Proc_about y_Proc_about) ∈ gw := gw_mem (List.mem_of_getElem? (i := 222) (by decide +kernel)) rfl
theorem k_co_Proc_about : (Cond.code y_Proc_about b_Proc_about 4 (some .int)) ∈ gw := gw_mem (List.mem_of_getElem? (i := 223) rfl) rfl
theorem k_ml_Proc_80 : (Cond.methodLink R_Proc 80 y_Ring_processorOf) ∈ gw := gw_mem (List.mem_of_getElem? (i := 224) (by decide +kernel)) rfl
theorem k_im_Ring_processorOf : (Cond.instanceMethod y_Ring_processorOf) ∈ gw := gw_mem (List.mem_of_getElem? (i := 225) (by decide +kernel)) rfl
theorem k_se_Ring_processorOf : (Cond.selects R_Ring y_Ring_processorOf y_Ring_processorOf) ∈ gw := gw_mem (List.mem_of_getElem? (i := 226) (by decide +kernel)) rfl
theorem k_co_Ring_processorOf : (Cond.code y_Ring_processorOf b_Ring_processorOf 4 (some .int)) ∈ gw := gw_mem (List.mem_of_getElem? (i := 227) rfl) rfl
theorem k_ml_Law_78 : (Cond.methodLink R_law 78 y_Proc_count) ∈ gw := gw_mem (List.mem_of_getElem? (i := 228) (by decide +kernel)) rfl
theorem k_im_Proc_count : (Cond.instanceMethod y_Proc_count) ∈ gw := gw_mem (List.mem_of_getElem? (i := 229) (by decide +kernel)) rfl
theorem k_se_Proc_count : (Cond.selects R_Proc y_Proc_count y_Proc_count) ∈ gw := gw_mem (List.mem_of_getElem? (i := 230) (by decide +kernel)) rfl
theorem k_co_Proc_count : (Cond.code y_Proc_count b_Proc_count 2 (some .int)) ∈ gw := gw_mem (List.mem_of_getElem? (i := 231) rfl) rfl
theorem k_ml_Proc_83 : (Cond.methodLink R_Proc 83 y_Ring_count) ∈ gw := gw_mem (List.mem_of_getElem? (i := 232) (by decide +kernel)) rfl
theorem k_im_Ring_count : (Cond.instanceMethod y_Ring_count) ∈ gw := gw_mem (List.mem_of_getElem? (i := 233) (by decide +kernel)) rfl
theorem k_se_Ring_count : (Cond.selects R_Ring y_Ring_count y_Ring_count) ∈ gw := gw_mem (List.mem_of_getElem? (i := 234) (by decide +kernel)) rfl
theorem k_co_Ring_count : (Cond.code y_Ring_count b_Ring_count 4 (some .int)) ∈ gw := gw_mem (List.mem_of_getElem? (i := 235) rfl) rfl
theorem k_ml_Law_9 : (Cond.methodLink R_law 9 y_Law_cell) ∈ gw := gw_mem (List.mem_of_getElem? (i := 236) (by decide +kernel)) rfl
theorem k_st_Law_cell : (Cond.static y_Law_cell) ∈ gw := gw_mem (List.mem_of_getElem? (i := 237) (by decide +kernel)) rfl
theorem k_co_Law_cell : (Cond.code y_Law_cell b_Law_cell 2 (some .int)) ∈ gw := gw_mem (List.mem_of_getElem? (i := 238) rfl) rfl
theorem k_cl_Law_18 : (Cond.classLink R_law 18 R_Mod) ∈ gw := gw_mem (List.mem_of_getElem? (i := 239) (by decide +kernel)) rfl
theorem k_mk_Mod : (Cond.instantiable R_Mod 16) ∈ gw := gw_mem (List.mem_of_getElem? (i := 240) (by decide +kernel)) rfl
theorem k_ml_Law_20 : (Cond.methodLink R_law 20 y_Mod_init) ∈ gw := gw_mem (List.mem_of_getElem? (i := 241) (by decide +kernel)) rfl
theorem k_im_Mod_init : (Cond.instanceMethod y_Mod_init) ∈ gw := gw_mem (List.mem_of_getElem? (i := 242) (by decide +kernel)) rfl
theorem k_co_Mod_init : (Cond.code y_Mod_init b_Mod_init 2 none) ∈ gw := gw_mem (List.mem_of_getElem? (i := 243) rfl) rfl
theorem k_ml_Mod_1 : (Cond.methodLink R_Mod 1 objectInit) ∈ gw := gw_mem (List.mem_of_getElem? (i := 244) (by decide +kernel)) rfl
theorem k_fl_Mod_42 : (Cond.fieldLink R_Mod 42 R_Mod "thrown" "I") ∈ gw := gw_mem (List.mem_of_getElem? (i := 245) (by decide +kernel)) rfl
theorem k_fl_Mod_38 : (Cond.fieldLink R_Mod 38 R_Mod "processors" "I") ∈ gw := gw_mem (List.mem_of_getElem? (i := 246) (by decide +kernel)) rfl
theorem k_fl_Mod_45 : (Cond.fieldLink R_Mod 45 R_Mod "many" "I") ∈ gw := gw_mem (List.mem_of_getElem? (i := 247) (by decide +kernel)) rfl
theorem k_fl_Mod_55 : (Cond.fieldLink R_Mod 55 R_Mod "ticks" "I") ∈ gw := gw_mem (List.mem_of_getElem? (i := 248) (by decide +kernel)) rfl
theorem k_fl_Mod_58 : (Cond.fieldLink R_Mod 58 R_Mod "latest" "I") ∈ gw := gw_mem (List.mem_of_getElem? (i := 249) (by decide +kernel)) rfl
theorem k_fl_Mod_61 : (Cond.fieldLink R_Mod 61 R_Mod "taken" "I") ∈ gw := gw_mem (List.mem_of_getElem? (i := 250) (by decide +kernel)) rfl
theorem k_fl_Mod_78 : (Cond.fieldLink R_Mod 78 R_Mod "status" "I") ∈ gw := gw_mem (List.mem_of_getElem? (i := 251) (by decide +kernel)) rfl
theorem k_fl_Mod_7 : (Cond.fieldLink R_Mod 7 R_Mod "number" "[I") ∈ gw := gw_mem (List.mem_of_getElem? (i := 252) (by decide +kernel)) rfl
theorem k_fl_Mod_13 : (Cond.fieldLink R_Mod 13 R_Mod "place" "[I") ∈ gw := gw_mem (List.mem_of_getElem? (i := 253) (by decide +kernel)) rfl
theorem k_fl_Mod_16 : (Cond.fieldLink R_Mod 16 R_Mod "parent" "[I") ∈ gw := gw_mem (List.mem_of_getElem? (i := 254) (by decide +kernel)) rfl
theorem k_fl_Mod_19 : (Cond.fieldLink R_Mod 19 R_Mod "ended" "[Z") ∈ gw := gw_mem (List.mem_of_getElem? (i := 255) (by decide +kernel)) rfl
theorem k_fl_Mod_23 : (Cond.fieldLink R_Mod 23 R_Mod "result" "[I") ∈ gw := gw_mem (List.mem_of_getElem? (i := 256) (by decide +kernel)) rfl
theorem k_fl_Mod_26 : (Cond.fieldLink R_Mod 26 R_Mod "killed" "[Z") ∈ gw := gw_mem (List.mem_of_getElem? (i := 257) (by decide +kernel)) rfl
theorem k_fl_Mod_29 : (Cond.fieldLink R_Mod 29 R_Mod "on" "[I") ∈ gw := gw_mem (List.mem_of_getElem? (i := 258) (by decide +kernel)) rfl
theorem k_fl_Mod_32 : (Cond.fieldLink R_Mod 32 R_Mod "waits" "[I") ∈ gw := gw_mem (List.mem_of_getElem? (i := 259) (by decide +kernel)) rfl
theorem k_fl_Mod_35 : (Cond.fieldLink R_Mod 35 R_Mod "which" "[I") ∈ gw := gw_mem (List.mem_of_getElem? (i := 260) (by decide +kernel)) rfl
theorem k_ml_Law_25 : (Cond.methodLink R_law 25 y_Mod_first) ∈ gw := gw_mem (List.mem_of_getElem? (i := 294) (by decide +kernel)) rfl
theorem k_im_Mod_first : (Cond.instanceMethod y_Mod_first) ∈ gw := gw_mem (List.mem_of_getElem? (i := 295) (by decide +kernel)) rfl
theorem k_se_Mod_first : (Cond.selects R_Mod y_Mod_first y_Mod_first) ∈ gw := gw_mem (List.mem_of_getElem? (i := 296) (by decide +kernel)) rfl
theorem k_co_Mod_first : (Cond.code y_Mod_first b_Mod_first 2 (some .boolean)) ∈ gw := gw_mem (List.mem_of_getElem? (i := 297) rfl) rfl
theorem k_ml_Mod_64 : (Cond.methodLink R_Mod 64 y_Mod_add) ∈ gw := gw_mem (List.mem_of_getElem? (i := 298) (by decide +kernel)) rfl
theorem k_im_Mod_add : (Cond.instanceMethod y_Mod_add) ∈ gw := gw_mem (List.mem_of_getElem? (i := 300) (by decide +kernel)) rfl
theorem k_co_Mod_add : (Cond.code y_Mod_add b_Mod_add 3 (some .int)) ∈ gw := gw_mem (List.mem_of_getElem? (i := 301) rfl) rfl
theorem k_ml_Law_30 : (Cond.methodLink R_law 30 y_Mod_pick) ∈ gw := gw_mem (List.mem_of_getElem? (i := 302) (by decide +kernel)) rfl
theorem k_im_Mod_pick : (Cond.instanceMethod y_Mod_pick) ∈ gw := gw_mem (List.mem_of_getElem? (i := 303) (by decide +kernel)) rfl
theorem k_se_Mod_pick : (Cond.selects R_Mod y_Mod_pick y_Mod_pick) ∈ gw := gw_mem (List.mem_of_getElem? (i := 304) (by decide +kernel)) rfl
theorem k_co_Mod_pick : (Cond.code y_Mod_pick b_Mod_pick 5 (some .int)) ∈ gw := gw_mem (List.mem_of_getElem? (i := 305) rfl) rfl
theorem k_ml_Mod_68 : (Cond.methodLink R_Mod 68 y_Mod_running) ∈ gw := gw_mem (List.mem_of_getElem? (i := 306) (by decide +kernel)) rfl
theorem k_im_Mod_running : (Cond.instanceMethod y_Mod_running) ∈ gw := gw_mem (List.mem_of_getElem? (i := 308) (by decide +kernel)) rfl
theorem k_co_Mod_running : (Cond.code y_Mod_running b_Mod_running 4 (some .int)) ∈ gw := gw_mem (List.mem_of_getElem? (i := 309) rfl) rfl
theorem k_ml_Mod_48 : (Cond.methodLink R_Mod 48 y_Mod_ofPlace) ∈ gw := gw_mem (List.mem_of_getElem? (i := 310) (by decide +kernel)) rfl
theorem k_im_Mod_ofPlace : (Cond.instanceMethod y_Mod_ofPlace) ∈ gw := gw_mem (List.mem_of_getElem? (i := 312) (by decide +kernel)) rfl
theorem k_co_Mod_ofPlace : (Cond.code y_Mod_ofPlace b_Mod_ofPlace 4 (some .int)) ∈ gw := gw_mem (List.mem_of_getElem? (i := 313) rfl) rfl
theorem k_ml_Mod_71 : (Cond.methodLink R_Mod 71 y_Mod_state) ∈ gw := gw_mem (List.mem_of_getElem? (i := 314) (by decide +kernel)) rfl
theorem k_im_Mod_state : (Cond.instanceMethod y_Mod_state) ∈ gw := gw_mem (List.mem_of_getElem? (i := 316) (by decide +kernel)) rfl
theorem k_co_Mod_state : (Cond.code y_Mod_state b_Mod_state 3 (some .int)) ∈ gw := gw_mem (List.mem_of_getElem? (i := 317) rfl) rfl
theorem k_ml_Mod_52 : (Cond.methodLink R_Mod 52 y_Mod_endedChild) ∈ gw := gw_mem (List.mem_of_getElem? (i := 318) (by decide +kernel)) rfl
theorem k_im_Mod_endedChild : (Cond.instanceMethod y_Mod_endedChild) ∈ gw := gw_mem (List.mem_of_getElem? (i := 320) (by decide +kernel)) rfl
theorem k_co_Mod_endedChild : (Cond.code y_Mod_endedChild b_Mod_endedChild 4 (some .int)) ∈ gw := gw_mem (List.mem_of_getElem? (i := 321) rfl) rfl
theorem k_ml_Law_34 : (Cond.methodLink R_law 34 y_Mod_fork) ∈ gw := gw_mem (List.mem_of_getElem? (i := 322) (by decide +kernel)) rfl
theorem k_im_Mod_fork : (Cond.instanceMethod y_Mod_fork) ∈ gw := gw_mem (List.mem_of_getElem? (i := 323) (by decide +kernel)) rfl
theorem k_se_Mod_fork : (Cond.selects R_Mod y_Mod_fork y_Mod_fork) ∈ gw := gw_mem (List.mem_of_getElem? (i := 324) (by decide +kernel)) rfl
theorem k_co_Mod_fork : (Cond.code y_Mod_fork b_Mod_fork 4 (some .int)) ∈ gw := gw_mem (List.mem_of_getElem? (i := 325) rfl) rfl
theorem k_ml_Mod_74 : (Cond.methodLink R_Mod 74 y_Mod_vacant) ∈ gw := gw_mem (List.mem_of_getElem? (i := 326) (by decide +kernel)) rfl
theorem k_im_Mod_vacant : (Cond.instanceMethod y_Mod_vacant) ∈ gw := gw_mem (List.mem_of_getElem? (i := 328) (by decide +kernel)) rfl
theorem k_co_Mod_vacant : (Cond.code y_Mod_vacant b_Mod_vacant 2 (some .int)) ∈ gw := gw_mem (List.mem_of_getElem? (i := 329) rfl) rfl
theorem k_ml_Law_39 : (Cond.methodLink R_law 39 y_Mod_exit) ∈ gw := gw_mem (List.mem_of_getElem? (i := 330) (by decide +kernel)) rfl
theorem k_im_Mod_exit : (Cond.instanceMethod y_Mod_exit) ∈ gw := gw_mem (List.mem_of_getElem? (i := 331) (by decide +kernel)) rfl
theorem k_se_Mod_exit : (Cond.selects R_Mod y_Mod_exit y_Mod_exit) ∈ gw := gw_mem (List.mem_of_getElem? (i := 332) (by decide +kernel)) rfl
theorem k_co_Mod_exit : (Cond.code y_Mod_exit b_Mod_exit 6 (some .int)) ∈ gw := gw_mem (List.mem_of_getElem? (i := 333) rfl) rfl
theorem k_ml_Law_43 : (Cond.methodLink R_law 43 y_Mod_await) ∈ gw := gw_mem (List.mem_of_getElem? (i := 334) (by decide +kernel)) rfl
theorem k_im_Mod_await : (Cond.instanceMethod y_Mod_await) ∈ gw := gw_mem (List.mem_of_getElem? (i := 335) (by decide +kernel)) rfl
theorem k_se_Mod_await : (Cond.selects R_Mod y_Mod_await y_Mod_await) ∈ gw := gw_mem (List.mem_of_getElem? (i := 336) (by decide +kernel)) rfl
theorem k_co_Mod_await : (Cond.code y_Mod_await b_Mod_await 6 (some .int)) ∈ gw := gw_mem (List.mem_of_getElem? (i := 337) rfl) rfl
theorem k_ml_Mod_81 : (Cond.methodLink R_Mod 81 y_Mod_waitsFor) ∈ gw := gw_mem (List.mem_of_getElem? (i := 338) (by decide +kernel)) rfl
theorem k_im_Mod_waitsFor : (Cond.instanceMethod y_Mod_waitsFor) ∈ gw := gw_mem (List.mem_of_getElem? (i := 340) (by decide +kernel)) rfl
theorem k_co_Mod_waitsFor : (Cond.code y_Mod_waitsFor b_Mod_waitsFor 4 (some .int)) ∈ gw := gw_mem (List.mem_of_getElem? (i := 341) rfl) rfl
theorem k_ml_Mod_85 : (Cond.methodLink R_Mod 85 y_Mod_remove) ∈ gw := gw_mem (List.mem_of_getElem? (i := 342) (by decide +kernel)) rfl
theorem k_im_Mod_remove : (Cond.instanceMethod y_Mod_remove) ∈ gw := gw_mem (List.mem_of_getElem? (i := 344) (by decide +kernel)) rfl
theorem k_co_Mod_remove : (Cond.code y_Mod_remove b_Mod_remove 3 none) ∈ gw := gw_mem (List.mem_of_getElem? (i := 345) rfl) rfl
theorem k_ml_Law_48 : (Cond.methodLink R_law 48 y_Mod_status) ∈ gw := gw_mem (List.mem_of_getElem? (i := 346) (by decide +kernel)) rfl
theorem k_im_Mod_status : (Cond.instanceMethod y_Mod_status) ∈ gw := gw_mem (List.mem_of_getElem? (i := 347) (by decide +kernel)) rfl
theorem k_se_Mod_status : (Cond.selects R_Mod y_Mod_status y_Mod_status) ∈ gw := gw_mem (List.mem_of_getElem? (i := 348) (by decide +kernel)) rfl
theorem k_co_Mod_status : (Cond.code y_Mod_status b_Mod_status 1 (some .int)) ∈ gw := gw_mem (List.mem_of_getElem? (i := 349) rfl) rfl
theorem k_ml_Law_52 : (Cond.methodLink R_law 52 y_Mod_block) ∈ gw := gw_mem (List.mem_of_getElem? (i := 350) (by decide +kernel)) rfl
theorem k_im_Mod_block : (Cond.instanceMethod y_Mod_block) ∈ gw := gw_mem (List.mem_of_getElem? (i := 351) (by decide +kernel)) rfl
theorem k_se_Mod_block : (Cond.selects R_Mod y_Mod_block y_Mod_block) ∈ gw := gw_mem (List.mem_of_getElem? (i := 352) (by decide +kernel)) rfl
theorem k_co_Mod_block : (Cond.code y_Mod_block b_Mod_block 4 (some .int)) ∈ gw := gw_mem (List.mem_of_getElem? (i := 353) rfl) rfl
theorem k_ml_Law_56 : (Cond.methodLink R_law 56 y_Mod_sleep) ∈ gw := gw_mem (List.mem_of_getElem? (i := 354) (by decide +kernel)) rfl
theorem k_im_Mod_sleep : (Cond.instanceMethod y_Mod_sleep) ∈ gw := gw_mem (List.mem_of_getElem? (i := 355) (by decide +kernel)) rfl
theorem k_se_Mod_sleep : (Cond.selects R_Mod y_Mod_sleep y_Mod_sleep) ∈ gw := gw_mem (List.mem_of_getElem? (i := 356) (by decide +kernel)) rfl
theorem k_co_Mod_sleep : (Cond.code y_Mod_sleep b_Mod_sleep 4 (some .int)) ∈ gw := gw_mem (List.mem_of_getElem? (i := 357) rfl) rfl
theorem k_kc_Mod_89 : (Cond.constant R_Mod 89 2147483647) ∈ gw := gw_mem (List.mem_of_getElem? (i := 358) (by decide +kernel)) rfl
theorem k_ml_Law_60 : (Cond.methodLink R_law 60 y_Mod_wake) ∈ gw := gw_mem (List.mem_of_getElem? (i := 359) (by decide +kernel)) rfl
theorem k_im_Mod_wake : (Cond.instanceMethod y_Mod_wake) ∈ gw := gw_mem (List.mem_of_getElem? (i := 360) (by decide +kernel)) rfl
theorem k_se_Mod_wake : (Cond.selects R_Mod y_Mod_wake y_Mod_wake) ∈ gw := gw_mem (List.mem_of_getElem? (i := 361) (by decide +kernel)) rfl
theorem k_co_Mod_wake : (Cond.code y_Mod_wake b_Mod_wake 4 (some .int)) ∈ gw := gw_mem (List.mem_of_getElem? (i := 362) rfl) rfl
theorem k_ml_Law_64 : (Cond.methodLink R_law 64 y_Mod_rest) ∈ gw := gw_mem (List.mem_of_getElem? (i := 363) (by decide +kernel)) rfl
theorem k_im_Mod_rest : (Cond.instanceMethod y_Mod_rest) ∈ gw := gw_mem (List.mem_of_getElem? (i := 364) (by decide +kernel)) rfl
theorem k_se_Mod_rest : (Cond.selects R_Mod y_Mod_rest y_Mod_rest) ∈ gw := gw_mem (List.mem_of_getElem? (i := 365) (by decide +kernel)) rfl
theorem k_co_Mod_rest : (Cond.code y_Mod_rest b_Mod_rest 3 (some .int)) ∈ gw := gw_mem (List.mem_of_getElem? (i := 366) rfl) rfl
theorem k_ml_Law_68 : (Cond.methodLink R_law 68 y_Mod_tick) ∈ gw := gw_mem (List.mem_of_getElem? (i := 367) (by decide +kernel)) rfl
theorem k_im_Mod_tick : (Cond.instanceMethod y_Mod_tick) ∈ gw := gw_mem (List.mem_of_getElem? (i := 368) (by decide +kernel)) rfl
theorem k_se_Mod_tick : (Cond.selects R_Mod y_Mod_tick y_Mod_tick) ∈ gw := gw_mem (List.mem_of_getElem? (i := 369) (by decide +kernel)) rfl
theorem k_co_Mod_tick : (Cond.code y_Mod_tick b_Mod_tick 2 (some .int)) ∈ gw := gw_mem (List.mem_of_getElem? (i := 370) rfl) rfl
theorem k_ml_Law_73 : (Cond.methodLink R_law 73 y_Mod_kill) ∈ gw := gw_mem (List.mem_of_getElem? (i := 371) (by decide +kernel)) rfl
theorem k_im_Mod_kill : (Cond.instanceMethod y_Mod_kill) ∈ gw := gw_mem (List.mem_of_getElem? (i := 372) (by decide +kernel)) rfl
theorem k_se_Mod_kill : (Cond.selects R_Mod y_Mod_kill y_Mod_kill) ∈ gw := gw_mem (List.mem_of_getElem? (i := 373) (by decide +kernel)) rfl
theorem k_co_Mod_kill : (Cond.code y_Mod_kill b_Mod_kill 3 (some .boolean)) ∈ gw := gw_mem (List.mem_of_getElem? (i := 374) rfl) rfl
theorem k_ml_Mod_90 : (Cond.methodLink R_Mod 90 y_Mod_ofNumber) ∈ gw := gw_mem (List.mem_of_getElem? (i := 375) (by decide +kernel)) rfl
theorem k_im_Mod_ofNumber : (Cond.instanceMethod y_Mod_ofNumber) ∈ gw := gw_mem (List.mem_of_getElem? (i := 377) (by decide +kernel)) rfl
theorem k_co_Mod_ofNumber : (Cond.code y_Mod_ofNumber b_Mod_ofNumber 4 (some .int)) ∈ gw := gw_mem (List.mem_of_getElem? (i := 378) rfl) rfl
theorem k_ml_Law_77 : (Cond.methodLink R_law 77 y_Mod_about) ∈ gw := gw_mem (List.mem_of_getElem? (i := 379) (by decide +kernel)) rfl
theorem k_im_Mod_about : (Cond.instanceMethod y_Mod_about) ∈ gw := gw_mem (List.mem_of_getElem? (i := 380) (by decide +kernel)) rfl
theorem k_se_Mod_about : (Cond.selects R_Mod y_Mod_about y_Mod_about) ∈ gw := gw_mem (List.mem_of_getElem? (i := 381) (by decide +kernel)) rfl
theorem k_co_Mod_about : (Cond.code y_Mod_about b_Mod_about 4 (some .int)) ∈ gw := gw_mem (List.mem_of_getElem? (i := 382) rfl) rfl
theorem k_ml_Law_81 : (Cond.methodLink R_law 81 y_Mod_count) ∈ gw := gw_mem (List.mem_of_getElem? (i := 383) (by decide +kernel)) rfl
theorem k_im_Mod_count : (Cond.instanceMethod y_Mod_count) ∈ gw := gw_mem (List.mem_of_getElem? (i := 384) (by decide +kernel)) rfl
theorem k_se_Mod_count : (Cond.selects R_Mod y_Mod_count y_Mod_count) ∈ gw := gw_mem (List.mem_of_getElem? (i := 385) (by decide +kernel)) rfl
theorem k_co_Mod_count : (Cond.code y_Mod_count b_Mod_count 4 (some .int)) ∈ gw := gw_mem (List.mem_of_getElem? (i := 386) rfl) rfl
theorem k_se_Ring_put : (Cond.selects R_Ring y_Ring_put y_Ring_put) ∈ gw := gw_mem (List.mem_of_getElem? (i := 0) (by decide +kernel)) rfl
theorem k_se_Ring_take : (Cond.selects R_Ring y_Ring_take y_Ring_take) ∈ gw := gw_mem (List.mem_of_getElem? (i := 1) (by decide +kernel)) rfl
theorem k_se_Ring_leave : (Cond.selects R_Ring y_Ring_leave y_Ring_leave) ∈ gw := gw_mem (List.mem_of_getElem? (i := 2) (by decide +kernel)) rfl
theorem k_se_Ring_wake2 : (Cond.selects R_Ring y_Ring_wake2 y_Ring_wake2) ∈ gw := gw_mem (List.mem_of_getElem? (i := 3) (by decide +kernel)) rfl
theorem k_se_Ring_reap : (Cond.selects R_Ring y_Ring_reap y_Ring_reap) ∈ gw := gw_mem (List.mem_of_getElem? (i := 4) (by decide +kernel)) rfl
theorem k_se_Ring_waitFor : (Cond.selects R_Ring y_Ring_waitFor y_Ring_waitFor) ∈ gw := gw_mem (List.mem_of_getElem? (i := 5) (by decide +kernel)) rfl
theorem k_se_Ring_until : (Cond.selects R_Ring y_Ring_until y_Ring_until) ∈ gw := gw_mem (List.mem_of_getElem? (i := 6) (by decide +kernel)) rfl
theorem k_se_Mod_add : (Cond.selects R_Mod y_Mod_add y_Mod_add) ∈ gw := gw_mem (List.mem_of_getElem? (i := 7) (by decide +kernel)) rfl
theorem k_se_Mod_running : (Cond.selects R_Mod y_Mod_running y_Mod_running) ∈ gw := gw_mem (List.mem_of_getElem? (i := 8) (by decide +kernel)) rfl
theorem k_se_Mod_ofPlace : (Cond.selects R_Mod y_Mod_ofPlace y_Mod_ofPlace) ∈ gw := gw_mem (List.mem_of_getElem? (i := 9) (by decide +kernel)) rfl
theorem k_se_Mod_state : (Cond.selects R_Mod y_Mod_state y_Mod_state) ∈ gw := gw_mem (List.mem_of_getElem? (i := 10) (by decide +kernel)) rfl
theorem k_se_Mod_endedChild : (Cond.selects R_Mod y_Mod_endedChild y_Mod_endedChild) ∈ gw := gw_mem (List.mem_of_getElem? (i := 11) (by decide +kernel)) rfl
theorem k_se_Mod_vacant : (Cond.selects R_Mod y_Mod_vacant y_Mod_vacant) ∈ gw := gw_mem (List.mem_of_getElem? (i := 12) (by decide +kernel)) rfl
theorem k_se_Mod_waitsFor : (Cond.selects R_Mod y_Mod_waitsFor y_Mod_waitsFor) ∈ gw := gw_mem (List.mem_of_getElem? (i := 13) (by decide +kernel)) rfl
theorem k_se_Mod_remove : (Cond.selects R_Mod y_Mod_remove y_Mod_remove) ∈ gw := gw_mem (List.mem_of_getElem? (i := 14) (by decide +kernel)) rfl
theorem k_se_Mod_ofNumber : (Cond.selects R_Mod y_Mod_ofNumber y_Mod_ofNumber) ∈ gw := gw_mem (List.mem_of_getElem? (i := 15) (by decide +kernel)) rfl
end
section
theorem d_Ring_init_0 : decode b_Ring_init 0 = .ok (.aload_n 0, 1) := by decide +kernel
theorem d_Ring_init_1 : decode b_Ring_init 1 = .ok (.invokespecial 3, 3) := by decide +kernel
theorem d_Ring_init_4 : decode b_Ring_init 4 = .ok (.aload_n 0, 1) := by decide +kernel
theorem d_Ring_init_5 : decode b_Ring_init 5 = .ok (.bipush 15, 2) := by decide +kernel
theorem d_Ring_init_7 : decode b_Ring_init 7 = .ok (.newarray .int, 2) := by decide +kernel
theorem d_Ring_init_9 : decode b_Ring_init 9 = .ok (.putfield 11, 3) := by decide +kernel
theorem d_Ring_init_12 : decode b_Ring_init 12 = .ok (.aload_n 0, 1) := by decide +kernel
theorem d_Ring_init_13 : decode b_Ring_init 13 = .ok (.bipush 15, 2) := by decide +kernel
theorem d_Ring_init_15 : decode b_Ring_init 15 = .ok (.newarray .int, 2) := by decide +kernel
theorem d_Ring_init_17 : decode b_Ring_init 17 = .ok (.putfield 15, 3) := by decide +kernel
theorem d_Ring_init_20 : decode b_Ring_init 20 = .ok (.aload_n 0, 1) := by decide +kernel
theorem d_Ring_init_21 : decode b_Ring_init 21 = .ok (.bipush 15, 2) := by decide +kernel
theorem d_Ring_init_23 : decode b_Ring_init 23 = .ok (.newarray .int, 2) := by decide +kernel
theorem d_Ring_init_25 : decode b_Ring_init 25 = .ok (.putfield 18, 3) := by decide +kernel
theorem d_Ring_init_28 : decode b_Ring_init 28 = .ok (.aload_n 0, 1) := by decide +kernel
theorem d_Ring_init_29 : decode b_Ring_init 29 = .ok (.bipush 15, 2) := by decide +kernel
theorem d_Ring_init_31 : decode b_Ring_init 31 = .ok (.newarray .boolean, 2) := by decide +kernel
theorem d_Ring_init_33 : decode b_Ring_init 33 = .ok (.putfield 21, 3) := by decide +kernel
theorem d_Ring_init_36 : decode b_Ring_init 36 = .ok (.aload_n 0, 1) := by decide +kernel
theorem d_Ring_init_37 : decode b_Ring_init 37 = .ok (.bipush 15, 2) := by decide +kernel
theorem d_Ring_init_39 : decode b_Ring_init 39 = .ok (.newarray .int, 2) := by decide +kernel
theorem d_Ring_init_41 : decode b_Ring_init 41 = .ok (.putfield 25, 3) := by decide +kernel
theorem d_Ring_init_44 : decode b_Ring_init 44 = .ok (.aload_n 0, 1) := by decide +kernel
theorem d_Ring_init_45 : decode b_Ring_init 45 = .ok (.bipush 15, 2) := by decide +kernel
theorem d_Ring_init_47 : decode b_Ring_init 47 = .ok (.newarray .int, 2) := by decide +kernel
theorem d_Ring_init_49 : decode b_Ring_init 49 = .ok (.putfield 28, 3) := by decide +kernel
theorem d_Ring_init_52 : decode b_Ring_init 52 = .ok (.aload_n 0, 1) := by decide +kernel
theorem d_Ring_init_53 : decode b_Ring_init 53 = .ok (.bipush 15, 2) := by decide +kernel
theorem d_Ring_init_55 : decode b_Ring_init 55 = .ok (.newarray .int, 2) := by decide +kernel
theorem d_Ring_init_57 : decode b_Ring_init 57 = .ok (.putfield 31, 3) := by decide +kernel
theorem d_Ring_init_60 : decode b_Ring_init 60 = .ok (.aload_n 0, 1) := by decide +kernel
theorem d_Ring_init_61 : decode b_Ring_init 61 = .ok (.iconst 4, 1) := by decide +kernel
theorem d_Ring_init_62 : decode b_Ring_init 62 = .ok (.newarray .int, 2) := by decide +kernel
theorem d_Ring_init_64 : decode b_Ring_init 64 = .ok (.putfield 34, 3) := by decide +kernel
theorem d_Ring_init_67 : decode b_Ring_init 67 = .ok (.aload_n 0, 1) := by decide +kernel
theorem d_Ring_init_68 : decode b_Ring_init 68 = .ok (.iload_n 1, 1) := by decide +kernel
theorem d_Ring_init_69 : decode b_Ring_init 69 = .ok (.putfield 37, 3) := by decide +kernel
theorem d_Ring_init_72 : decode b_Ring_init 72 = .ok (.aload_n 0, 1) := by decide +kernel
theorem d_Ring_init_73 : decode b_Ring_init 73 = .ok (.invokevirtual 41, 3) := by decide +kernel
theorem d_Ring_init_76 : decode b_Ring_init 76 = .ok (.return_, 1) := by decide +kernel
theorem d_Ring_clear_0 : decode b_Ring_clear 0 = .ok (.iconst 0, 1) := by decide +kernel
theorem d_Ring_clear_1 : decode b_Ring_clear 1 = .ok (.istore_n 1, 1) := by decide +kernel
theorem d_Ring_clear_2 : decode b_Ring_clear 2 = .ok (.iload_n 1, 1) := by decide +kernel
theorem d_Ring_clear_3 : decode b_Ring_clear 3 = .ok (.bipush 15, 2) := by decide +kernel
theorem d_Ring_clear_5 : decode b_Ring_clear 5 = .ok (.if_icmp .ge 16, 3) := by decide +kernel
theorem d_Ring_clear_8 : decode b_Ring_clear 8 = .ok (.aload_n 0, 1) := by decide +kernel
theorem d_Ring_clear_9 : decode b_Ring_clear 9 = .ok (.getfield 15, 3) := by decide +kernel
theorem d_Ring_clear_12 : decode b_Ring_clear 12 = .ok (.iload_n 1, 1) := by decide +kernel
theorem d_Ring_clear_13 : decode b_Ring_clear 13 = .ok (.iconst 0, 1) := by decide +kernel
theorem d_Ring_clear_14 : decode b_Ring_clear 14 = .ok (.iastore, 1) := by decide +kernel
theorem d_Ring_clear_15 : decode b_Ring_clear 15 = .ok (.iinc 1 1, 3) := by decide +kernel
theorem d_Ring_clear_18 : decode b_Ring_clear 18 = .ok (.goto (-16), 3) := by decide +kernel
theorem d_Ring_clear_21 : decode b_Ring_clear 21 = .ok (.iconst 0, 1) := by decide +kernel
theorem d_Ring_clear_22 : decode b_Ring_clear 22 = .ok (.istore_n 1, 1) := by decide +kernel
theorem d_Ring_clear_23 : decode b_Ring_clear 23 = .ok (.iload_n 1, 1) := by decide +kernel
theorem d_Ring_clear_24 : decode b_Ring_clear 24 = .ok (.aload_n 0, 1) := by decide +kernel
theorem d_Ring_clear_25 : decode b_Ring_clear 25 = .ok (.getfield 34, 3) := by decide +kernel
theorem d_Ring_clear_28 : decode b_Ring_clear 28 = .ok (.arraylength, 1) := by decide +kernel
theorem d_Ring_clear_29 : decode b_Ring_clear 29 = .ok (.if_icmp .ge 16, 3) := by decide +kernel
theorem d_Ring_clear_32 : decode b_Ring_clear 32 = .ok (.aload_n 0, 1) := by decide +kernel
theorem d_Ring_clear_33 : decode b_Ring_clear 33 = .ok (.getfield 34, 3) := by decide +kernel
theorem d_Ring_clear_36 : decode b_Ring_clear 36 = .ok (.iload_n 1, 1) := by decide +kernel
theorem d_Ring_clear_37 : decode b_Ring_clear 37 = .ok (.iconst (-1), 1) := by decide +kernel
theorem d_Ring_clear_38 : decode b_Ring_clear 38 = .ok (.iastore, 1) := by decide +kernel
theorem d_Ring_clear_39 : decode b_Ring_clear 39 = .ok (.iinc 1 1, 3) := by decide +kernel
theorem d_Ring_clear_42 : decode b_Ring_clear 42 = .ok (.goto (-19), 3) := by decide +kernel
theorem d_Ring_clear_45 : decode b_Ring_clear 45 = .ok (.return_, 1) := by decide +kernel
theorem d_Ring_isEmpty_0 : decode b_Ring_isEmpty 0 = .ok (.aload_n 0, 1) := by decide +kernel
theorem d_Ring_isEmpty_1 : decode b_Ring_isEmpty 1 = .ok (.getfield 15, 3) := by decide +kernel
theorem d_Ring_isEmpty_4 : decode b_Ring_isEmpty 4 = .ok (.iconst 0, 1) := by decide +kernel
theorem d_Ring_isEmpty_5 : decode b_Ring_isEmpty 5 = .ok (.iaload, 1) := by decide +kernel
theorem d_Ring_isEmpty_6 : decode b_Ring_isEmpty 6 = .ok (.ifCond .ne 7, 3) := by decide +kernel
theorem d_Ring_isEmpty_9 : decode b_Ring_isEmpty 9 = .ok (.iconst 1, 1) := by decide +kernel
theorem d_Ring_isEmpty_10 : decode b_Ring_isEmpty 10 = .ok (.goto 4, 3) := by decide +kernel
theorem d_Ring_isEmpty_13 : decode b_Ring_isEmpty 13 = .ok (.iconst 0, 1) := by decide +kernel
theorem d_Ring_isEmpty_14 : decode b_Ring_isEmpty 14 = .ok (.ireturn, 1) := by decide +kernel
theorem d_Ring_put_0 : decode b_Ring_put 0 = .ok (.aload_n 0, 1) := by decide +kernel
theorem d_Ring_put_1 : decode b_Ring_put 1 = .ok (.getfield 11, 3) := by decide +kernel
theorem d_Ring_put_4 : decode b_Ring_put 4 = .ok (.iload_n 1, 1) := by decide +kernel
theorem d_Ring_put_5 : decode b_Ring_put 5 = .ok (.aload_n 0, 1) := by decide +kernel
theorem d_Ring_put_6 : decode b_Ring_put 6 = .ok (.dup, 1) := by decide +kernel
theorem d_Ring_put_7 : decode b_Ring_put 7 = .ok (.getfield 44, 3) := by decide +kernel
theorem d_Ring_put_10 : decode b_Ring_put 10 = .ok (.dup_x1, 1) := by decide +kernel
theorem d_Ring_put_11 : decode b_Ring_put 11 = .ok (.iconst 1, 1) := by decide +kernel
theorem d_Ring_put_12 : decode b_Ring_put 12 = .ok (.iadd, 1) := by decide +kernel
theorem d_Ring_put_13 : decode b_Ring_put 13 = .ok (.putfield 44, 3) := by decide +kernel
theorem d_Ring_put_16 : decode b_Ring_put 16 = .ok (.iastore, 1) := by decide +kernel
theorem d_Ring_put_17 : decode b_Ring_put 17 = .ok (.aload_n 0, 1) := by decide +kernel
theorem d_Ring_put_18 : decode b_Ring_put 18 = .ok (.getfield 18, 3) := by decide +kernel
theorem d_Ring_put_21 : decode b_Ring_put 21 = .ok (.iload_n 1, 1) := by decide +kernel
theorem d_Ring_put_22 : decode b_Ring_put 22 = .ok (.iload_n 2, 1) := by decide +kernel
theorem d_Ring_put_23 : decode b_Ring_put 23 = .ok (.iastore, 1) := by decide +kernel
theorem d_Ring_put_24 : decode b_Ring_put 24 = .ok (.aload_n 0, 1) := by decide +kernel
theorem d_Ring_put_25 : decode b_Ring_put 25 = .ok (.getfield 21, 3) := by decide +kernel
theorem d_Ring_put_28 : decode b_Ring_put 28 = .ok (.iload_n 1, 1) := by decide +kernel
theorem d_Ring_put_29 : decode b_Ring_put 29 = .ok (.iconst 0, 1) := by decide +kernel
theorem d_Ring_put_30 : decode b_Ring_put 30 = .ok (.bastore, 1) := by decide +kernel
theorem d_Ring_put_31 : decode b_Ring_put 31 = .ok (.aload_n 0, 1) := by decide +kernel
theorem d_Ring_put_32 : decode b_Ring_put 32 = .ok (.getfield 15, 3) := by decide +kernel
theorem d_Ring_put_35 : decode b_Ring_put 35 = .ok (.iload_n 1, 1) := by decide +kernel
theorem d_Ring_put_36 : decode b_Ring_put 36 = .ok (.iconst 1, 1) := by decide +kernel
theorem d_Ring_put_37 : decode b_Ring_put 37 = .ok (.iastore, 1) := by decide +kernel
theorem d_Ring_put_38 : decode b_Ring_put 38 = .ok (.return_, 1) := by decide +kernel
theorem d_Ring_first_0 : decode b_Ring_first 0 = .ok (.aload_n 0, 1) := by decide +kernel
theorem d_Ring_first_1 : decode b_Ring_first 1 = .ok (.iconst 1, 1) := by decide +kernel
theorem d_Ring_first_2 : decode b_Ring_first 2 = .ok (.putfield 44, 3) := by decide +kernel
theorem d_Ring_first_5 : decode b_Ring_first 5 = .ok (.aload_n 0, 1) := by decide +kernel
theorem d_Ring_first_6 : decode b_Ring_first 6 = .ok (.iconst 0, 1) := by decide +kernel
theorem d_Ring_first_7 : decode b_Ring_first 7 = .ok (.putfield 47, 3) := by decide +kernel
theorem d_Ring_first_10 : decode b_Ring_first 10 = .ok (.aload_n 0, 1) := by decide +kernel
theorem d_Ring_first_11 : decode b_Ring_first 11 = .ok (.bipush 14, 2) := by decide +kernel
theorem d_Ring_first_13 : decode b_Ring_first 13 = .ok (.putfield 50, 3) := by decide +kernel
theorem d_Ring_first_16 : decode b_Ring_first 16 = .ok (.aload_n 0, 1) := by decide +kernel
theorem d_Ring_first_17 : decode b_Ring_first 17 = .ok (.iconst 0, 1) := by decide +kernel
theorem d_Ring_first_18 : decode b_Ring_first 18 = .ok (.iconst 0, 1) := by decide +kernel
theorem d_Ring_first_19 : decode b_Ring_first 19 = .ok (.invokevirtual 53, 3) := by decide +kernel
theorem d_Ring_first_22 : decode b_Ring_first 22 = .ok (.return_, 1) := by decide +kernel
theorem d_Ring_at_0 : decode b_Ring_at 0 = .ok (.iload_n 1, 1) := by decide +kernel
theorem d_Ring_at_1 : decode b_Ring_at 1 = .ok (.ifCond .lt 20, 3) := by decide +kernel
theorem d_Ring_at_4 : decode b_Ring_at 4 = .ok (.iload_n 1, 1) := by decide +kernel
theorem d_Ring_at_5 : decode b_Ring_at 5 = .ok (.aload_n 0, 1) := by decide +kernel
theorem d_Ring_at_6 : decode b_Ring_at 6 = .ok (.getfield 37, 3) := by decide +kernel
theorem d_Ring_at_9 : decode b_Ring_at 9 = .ok (.if_icmp .ge 12, 3) := by decide +kernel
theorem d_Ring_at_12 : decode b_Ring_at 12 = .ok (.aload_n 0, 1) := by decide +kernel
theorem d_Ring_at_13 : decode b_Ring_at 13 = .ok (.getfield 34, 3) := by decide +kernel
theorem d_Ring_at_16 : decode b_Ring_at 16 = .ok (.iload_n 1, 1) := by decide +kernel
theorem d_Ring_at_17 : decode b_Ring_at 17 = .ok (.iaload, 1) := by decide +kernel
theorem d_Ring_at_18 : decode b_Ring_at 18 = .ok (.goto 4, 3) := by decide +kernel
theorem d_Ring_at_21 : decode b_Ring_at 21 = .ok (.iconst (-1), 1) := by decide +kernel
theorem d_Ring_at_22 : decode b_Ring_at 22 = .ok (.ireturn, 1) := by decide +kernel
theorem d_Ring_pick_0 : decode b_Ring_pick 0 = .ok (.iload_n 1, 1) := by decide +kernel
theorem d_Ring_pick_1 : decode b_Ring_pick 1 = .ok (.ifCond .lt 11, 3) := by decide +kernel
theorem d_Ring_pick_4 : decode b_Ring_pick 4 = .ok (.iload_n 1, 1) := by decide +kernel
theorem d_Ring_pick_5 : decode b_Ring_pick 5 = .ok (.aload_n 0, 1) := by decide +kernel
theorem d_Ring_pick_6 : decode b_Ring_pick 6 = .ok (.getfield 37, 3) := by decide +kernel
theorem d_Ring_pick_9 : decode b_Ring_pick 9 = .ok (.if_icmp .lt 5, 3) := by decide +kernel
theorem d_Ring_pick_12 : decode b_Ring_pick 12 = .ok (.iconst (-1), 1) := by decide +kernel
theorem d_Ring_pick_13 : decode b_Ring_pick 13 = .ok (.ireturn, 1) := by decide +kernel
theorem d_Ring_pick_14 : decode b_Ring_pick 14 = .ok (.iconst 1, 1) := by decide +kernel
theorem d_Ring_pick_15 : decode b_Ring_pick 15 = .ok (.istore_n 2, 1) := by decide +kernel
theorem d_Ring_pick_16 : decode b_Ring_pick 16 = .ok (.iload_n 2, 1) := by decide +kernel
theorem d_Ring_pick_17 : decode b_Ring_pick 17 = .ok (.bipush 15, 2) := by decide +kernel
theorem d_Ring_pick_19 : decode b_Ring_pick 19 = .ok (.if_icmp .gt 45, 3) := by decide +kernel
theorem d_Ring_pick_22 : decode b_Ring_pick 22 = .ok (.aload_n 0, 1) := by decide +kernel
theorem d_Ring_pick_23 : decode b_Ring_pick 23 = .ok (.getfield 34, 3) := by decide +kernel
theorem d_Ring_pick_26 : decode b_Ring_pick 26 = .ok (.iload_n 1, 1) := by decide +kernel
theorem d_Ring_pick_27 : decode b_Ring_pick 27 = .ok (.iaload, 1) := by decide +kernel
theorem d_Ring_pick_28 : decode b_Ring_pick 28 = .ok (.iconst (-1), 1) := by decide +kernel
theorem d_Ring_pick_29 : decode b_Ring_pick 29 = .ok (.if_icmp .ne 35, 3) := by decide +kernel
theorem d_Ring_pick_32 : decode b_Ring_pick 32 = .ok (.aload_n 0, 1) := by decide +kernel
theorem d_Ring_pick_33 : decode b_Ring_pick 33 = .ok (.getfield 50, 3) := by decide +kernel
theorem d_Ring_pick_36 : decode b_Ring_pick 36 = .ok (.iload_n 2, 1) := by decide +kernel
theorem d_Ring_pick_37 : decode b_Ring_pick 37 = .ok (.iadd, 1) := by decide +kernel
theorem d_Ring_pick_38 : decode b_Ring_pick 38 = .ok (.bipush 15, 2) := by decide +kernel
theorem d_Ring_pick_40 : decode b_Ring_pick 40 = .ok (.irem, 1) := by decide +kernel
theorem d_Ring_pick_41 : decode b_Ring_pick 41 = .ok (.istore_n 3, 1) := by decide +kernel
theorem d_Ring_pick_42 : decode b_Ring_pick 42 = .ok (.aload_n 0, 1) := by decide +kernel
theorem d_Ring_pick_43 : decode b_Ring_pick 43 = .ok (.getfield 15, 3) := by decide +kernel
theorem d_Ring_pick_46 : decode b_Ring_pick 46 = .ok (.iload_n 3, 1) := by decide +kernel
theorem d_Ring_pick_47 : decode b_Ring_pick 47 = .ok (.iaload, 1) := by decide +kernel
theorem d_Ring_pick_48 : decode b_Ring_pick 48 = .ok (.iconst 1, 1) := by decide +kernel
theorem d_Ring_pick_49 : decode b_Ring_pick 49 = .ok (.if_icmp .ne 9, 3) := by decide +kernel
theorem d_Ring_pick_52 : decode b_Ring_pick 52 = .ok (.aload_n 0, 1) := by decide +kernel
theorem d_Ring_pick_53 : decode b_Ring_pick 53 = .ok (.iload_n 1, 1) := by decide +kernel
theorem d_Ring_pick_54 : decode b_Ring_pick 54 = .ok (.iload_n 3, 1) := by decide +kernel
theorem d_Ring_pick_55 : decode b_Ring_pick 55 = .ok (.invokevirtual 57, 3) := by decide +kernel
theorem d_Ring_pick_58 : decode b_Ring_pick 58 = .ok (.iinc 2 1, 3) := by decide +kernel
theorem d_Ring_pick_61 : decode b_Ring_pick 61 = .ok (.goto (-45), 3) := by decide +kernel
theorem d_Ring_pick_64 : decode b_Ring_pick 64 = .ok (.aload_n 0, 1) := by decide +kernel
theorem d_Ring_pick_65 : decode b_Ring_pick 65 = .ok (.getfield 34, 3) := by decide +kernel
theorem d_Ring_pick_68 : decode b_Ring_pick 68 = .ok (.iload_n 1, 1) := by decide +kernel
theorem d_Ring_pick_69 : decode b_Ring_pick 69 = .ok (.iaload, 1) := by decide +kernel
theorem d_Ring_pick_70 : decode b_Ring_pick 70 = .ok (.ireturn, 1) := by decide +kernel
theorem d_Ring_take_0 : decode b_Ring_take 0 = .ok (.aload_n 0, 1) := by decide +kernel
theorem d_Ring_take_1 : decode b_Ring_take 1 = .ok (.getfield 34, 3) := by decide +kernel
theorem d_Ring_take_4 : decode b_Ring_take 4 = .ok (.iload_n 1, 1) := by decide +kernel
theorem d_Ring_take_5 : decode b_Ring_take 5 = .ok (.iload_n 2, 1) := by decide +kernel
theorem d_Ring_take_6 : decode b_Ring_take 6 = .ok (.iastore, 1) := by decide +kernel
theorem d_Ring_take_7 : decode b_Ring_take 7 = .ok (.aload_n 0, 1) := by decide +kernel
theorem d_Ring_take_8 : decode b_Ring_take 8 = .ok (.getfield 15, 3) := by decide +kernel
theorem d_Ring_take_11 : decode b_Ring_take 11 = .ok (.iload_n 2, 1) := by decide +kernel
theorem d_Ring_take_12 : decode b_Ring_take 12 = .ok (.iconst 2, 1) := by decide +kernel
theorem d_Ring_take_13 : decode b_Ring_take 13 = .ok (.iastore, 1) := by decide +kernel
theorem d_Ring_take_14 : decode b_Ring_take 14 = .ok (.aload_n 0, 1) := by decide +kernel
theorem d_Ring_take_15 : decode b_Ring_take 15 = .ok (.iload_n 2, 1) := by decide +kernel
theorem d_Ring_take_16 : decode b_Ring_take 16 = .ok (.putfield 50, 3) := by decide +kernel
theorem d_Ring_take_19 : decode b_Ring_take 19 = .ok (.return_, 1) := by decide +kernel
theorem d_Ring_leave_0 : decode b_Ring_leave 0 = .ok (.aload_n 0, 1) := by decide +kernel
theorem d_Ring_leave_1 : decode b_Ring_leave 1 = .ok (.iload_n 1, 1) := by decide +kernel
theorem d_Ring_leave_2 : decode b_Ring_leave 2 = .ok (.invokevirtual 60, 3) := by decide +kernel
theorem d_Ring_leave_5 : decode b_Ring_leave 5 = .ok (.istore_n 3, 1) := by decide +kernel
theorem d_Ring_leave_6 : decode b_Ring_leave 6 = .ok (.iload_n 3, 1) := by decide +kernel
theorem d_Ring_leave_7 : decode b_Ring_leave 7 = .ok (.iconst (-1), 1) := by decide +kernel
theorem d_Ring_leave_8 : decode b_Ring_leave 8 = .ok (.if_icmp .ne 5, 3) := by decide +kernel
theorem d_Ring_leave_11 : decode b_Ring_leave 11 = .ok (.iconst (-1), 1) := by decide +kernel
theorem d_Ring_leave_12 : decode b_Ring_leave 12 = .ok (.ireturn, 1) := by decide +kernel
theorem d_Ring_leave_13 : decode b_Ring_leave 13 = .ok (.aload_n 0, 1) := by decide +kernel
theorem d_Ring_leave_14 : decode b_Ring_leave 14 = .ok (.getfield 34, 3) := by decide +kernel
theorem d_Ring_leave_17 : decode b_Ring_leave 17 = .ok (.iload_n 1, 1) := by decide +kernel
theorem d_Ring_leave_18 : decode b_Ring_leave 18 = .ok (.iconst (-1), 1) := by decide +kernel
theorem d_Ring_leave_19 : decode b_Ring_leave 19 = .ok (.iastore, 1) := by decide +kernel
theorem d_Ring_leave_20 : decode b_Ring_leave 20 = .ok (.aload_n 0, 1) := by decide +kernel
theorem d_Ring_leave_21 : decode b_Ring_leave 21 = .ok (.getfield 15, 3) := by decide +kernel
theorem d_Ring_leave_24 : decode b_Ring_leave 24 = .ok (.iload_n 3, 1) := by decide +kernel
theorem d_Ring_leave_25 : decode b_Ring_leave 25 = .ok (.iload_n 2, 1) := by decide +kernel
theorem d_Ring_leave_26 : decode b_Ring_leave 26 = .ok (.iastore, 1) := by decide +kernel
theorem d_Ring_leave_27 : decode b_Ring_leave 27 = .ok (.iload_n 3, 1) := by decide +kernel
theorem d_Ring_leave_28 : decode b_Ring_leave 28 = .ok (.ireturn, 1) := by decide +kernel
theorem d_Ring_waitFor_0 : decode b_Ring_waitFor 0 = .ok (.aload_n 0, 1) := by decide +kernel
theorem d_Ring_waitFor_1 : decode b_Ring_waitFor 1 = .ok (.iload_n 1, 1) := by decide +kernel
theorem d_Ring_waitFor_2 : decode b_Ring_waitFor 2 = .ok (.iconst 3, 1) := by decide +kernel
theorem d_Ring_waitFor_3 : decode b_Ring_waitFor 3 = .ok (.invokevirtual 64, 3) := by decide +kernel
theorem d_Ring_waitFor_6 : decode b_Ring_waitFor 6 = .ok (.istore 4, 2) := by decide +kernel
theorem d_Ring_waitFor_8 : decode b_Ring_waitFor 8 = .ok (.iload 4, 2) := by decide +kernel
theorem d_Ring_waitFor_10 : decode b_Ring_waitFor 10 = .ok (.iconst (-1), 1) := by decide +kernel
theorem d_Ring_waitFor_11 : decode b_Ring_waitFor 11 = .ok (.if_icmp .ne 5, 3) := by decide +kernel
theorem d_Ring_waitFor_14 : decode b_Ring_waitFor 14 = .ok (.iconst (-1), 1) := by decide +kernel
theorem d_Ring_waitFor_15 : decode b_Ring_waitFor 15 = .ok (.ireturn, 1) := by decide +kernel
theorem d_Ring_waitFor_16 : decode b_Ring_waitFor 16 = .ok (.aload_n 0, 1) := by decide +kernel
theorem d_Ring_waitFor_17 : decode b_Ring_waitFor 17 = .ok (.getfield 28, 3) := by decide +kernel
theorem d_Ring_waitFor_20 : decode b_Ring_waitFor 20 = .ok (.iload 4, 2) := by decide +kernel
theorem d_Ring_waitFor_22 : decode b_Ring_waitFor 22 = .ok (.iload_n 2, 1) := by decide +kernel
theorem d_Ring_waitFor_23 : decode b_Ring_waitFor 23 = .ok (.iastore, 1) := by decide +kernel
theorem d_Ring_waitFor_24 : decode b_Ring_waitFor 24 = .ok (.aload_n 0, 1) := by decide +kernel
theorem d_Ring_waitFor_25 : decode b_Ring_waitFor 25 = .ok (.getfield 31, 3) := by decide +kernel
theorem d_Ring_waitFor_28 : decode b_Ring_waitFor 28 = .ok (.iload 4, 2) := by decide +kernel
theorem d_Ring_waitFor_30 : decode b_Ring_waitFor 30 = .ok (.iload_n 3, 1) := by decide +kernel
theorem d_Ring_waitFor_31 : decode b_Ring_waitFor 31 = .ok (.iastore, 1) := by decide +kernel
theorem d_Ring_waitFor_32 : decode b_Ring_waitFor 32 = .ok (.iload 4, 2) := by decide +kernel
theorem d_Ring_waitFor_34 : decode b_Ring_waitFor 34 = .ok (.ireturn, 1) := by decide +kernel
theorem d_Ring_block_0 : decode b_Ring_block 0 = .ok (.aload_n 0, 1) := by decide +kernel
theorem d_Ring_block_1 : decode b_Ring_block 1 = .ok (.iload_n 1, 1) := by decide +kernel
theorem d_Ring_block_2 : decode b_Ring_block 2 = .ok (.iconst 1, 1) := by decide +kernel
theorem d_Ring_block_3 : decode b_Ring_block 3 = .ok (.iload_n 2, 1) := by decide +kernel
theorem d_Ring_block_4 : decode b_Ring_block 4 = .ok (.invokevirtual 68, 3) := by decide +kernel
theorem d_Ring_block_7 : decode b_Ring_block 7 = .ok (.ireturn, 1) := by decide +kernel
theorem d_Ring_sleep_0 : decode b_Ring_sleep 0 = .ok (.iload_n 2, 1) := by decide +kernel
theorem d_Ring_sleep_1 : decode b_Ring_sleep 1 = .ok (.iconst 1, 1) := by decide +kernel
theorem d_Ring_sleep_2 : decode b_Ring_sleep 2 = .ok (.if_icmp .ge 11, 3) := by decide +kernel
theorem d_Ring_sleep_5 : decode b_Ring_sleep 5 = .ok (.aload_n 0, 1) := by decide +kernel
theorem d_Ring_sleep_6 : decode b_Ring_sleep 6 = .ok (.iload_n 1, 1) := by decide +kernel
theorem d_Ring_sleep_7 : decode b_Ring_sleep 7 = .ok (.invokevirtual 60, 3) := by decide +kernel
theorem d_Ring_sleep_10 : decode b_Ring_sleep 10 = .ok (.goto 14, 3) := by decide +kernel
theorem d_Ring_sleep_13 : decode b_Ring_sleep 13 = .ok (.aload_n 0, 1) := by decide +kernel
theorem d_Ring_sleep_14 : decode b_Ring_sleep 14 = .ok (.iload_n 1, 1) := by decide +kernel
theorem d_Ring_sleep_15 : decode b_Ring_sleep 15 = .ok (.iconst 3, 1) := by decide +kernel
theorem d_Ring_sleep_16 : decode b_Ring_sleep 16 = .ok (.aload_n 0, 1) := by decide +kernel
theorem d_Ring_sleep_17 : decode b_Ring_sleep 17 = .ok (.iload_n 2, 1) := by decide +kernel
theorem d_Ring_sleep_18 : decode b_Ring_sleep 18 = .ok (.invokevirtual 72, 3) := by decide +kernel
theorem d_Ring_sleep_21 : decode b_Ring_sleep 21 = .ok (.invokevirtual 68, 3) := by decide +kernel
theorem d_Ring_sleep_24 : decode b_Ring_sleep 24 = .ok (.ireturn, 1) := by decide +kernel
theorem d_Ring_until_0 : decode b_Ring_until 0 = .ok (.aload_n 0, 1) := by decide +kernel
theorem d_Ring_until_1 : decode b_Ring_until 1 = .ok (.getfield 47, 3) := by decide +kernel
theorem d_Ring_until_4 : decode b_Ring_until 4 = .ok (.ldc 77, 2) := by decide +kernel
theorem d_Ring_until_6 : decode b_Ring_until 6 = .ok (.iload_n 1, 1) := by decide +kernel
theorem d_Ring_until_7 : decode b_Ring_until 7 = .ok (.isub, 1) := by decide +kernel
theorem d_Ring_until_8 : decode b_Ring_until 8 = .ok (.if_icmp .le 8, 3) := by decide +kernel
theorem d_Ring_until_11 : decode b_Ring_until 11 = .ok (.ldc 77, 2) := by decide +kernel
theorem d_Ring_until_13 : decode b_Ring_until 13 = .ok (.goto 9, 3) := by decide +kernel
theorem d_Ring_until_16 : decode b_Ring_until 16 = .ok (.aload_n 0, 1) := by decide +kernel
theorem d_Ring_until_17 : decode b_Ring_until 17 = .ok (.getfield 47, 3) := by decide +kernel
theorem d_Ring_until_20 : decode b_Ring_until 20 = .ok (.iload_n 1, 1) := by decide +kernel
theorem d_Ring_until_21 : decode b_Ring_until 21 = .ok (.iadd, 1) := by decide +kernel
theorem d_Ring_until_22 : decode b_Ring_until 22 = .ok (.ireturn, 1) := by decide +kernel
theorem d_Ring_rest_0 : decode b_Ring_rest 0 = .ok (.aload_n 0, 1) := by decide +kernel
theorem d_Ring_rest_1 : decode b_Ring_rest 1 = .ok (.iload_n 1, 1) := by decide +kernel
theorem d_Ring_rest_2 : decode b_Ring_rest 2 = .ok (.iconst 1, 1) := by decide +kernel
theorem d_Ring_rest_3 : decode b_Ring_rest 3 = .ok (.invokevirtual 64, 3) := by decide +kernel
theorem d_Ring_rest_6 : decode b_Ring_rest 6 = .ok (.ireturn, 1) := by decide +kernel
theorem d_Ring_wake2_0 : decode b_Ring_wake2 0 = .ok (.iconst 0, 1) := by decide +kernel
theorem d_Ring_wake2_1 : decode b_Ring_wake2 1 = .ok (.istore_n 3, 1) := by decide +kernel
theorem d_Ring_wake2_2 : decode b_Ring_wake2 2 = .ok (.iconst 0, 1) := by decide +kernel
theorem d_Ring_wake2_3 : decode b_Ring_wake2 3 = .ok (.istore 4, 2) := by decide +kernel
theorem d_Ring_wake2_5 : decode b_Ring_wake2 5 = .ok (.iload 4, 2) := by decide +kernel
theorem d_Ring_wake2_7 : decode b_Ring_wake2 7 = .ok (.bipush 15, 2) := by decide +kernel
theorem d_Ring_wake2_9 : decode b_Ring_wake2 9 = .ok (.if_icmp .ge 87, 3) := by decide +kernel
theorem d_Ring_wake2_12 : decode b_Ring_wake2 12 = .ok (.aload_n 0, 1) := by decide +kernel
theorem d_Ring_wake2_13 : decode b_Ring_wake2 13 = .ok (.getfield 15, 3) := by decide +kernel
theorem d_Ring_wake2_16 : decode b_Ring_wake2 16 = .ok (.iload 4, 2) := by decide +kernel
theorem d_Ring_wake2_18 : decode b_Ring_wake2 18 = .ok (.iaload, 1) := by decide +kernel
theorem d_Ring_wake2_19 : decode b_Ring_wake2 19 = .ok (.iconst 3, 1) := by decide +kernel
theorem d_Ring_wake2_20 : decode b_Ring_wake2 20 = .ok (.if_icmp .ne 48, 3) := by decide +kernel
theorem d_Ring_wake2_23 : decode b_Ring_wake2 23 = .ok (.aload_n 0, 1) := by decide +kernel
theorem d_Ring_wake2_24 : decode b_Ring_wake2 24 = .ok (.getfield 28, 3) := by decide +kernel
theorem d_Ring_wake2_27 : decode b_Ring_wake2 27 = .ok (.iload 4, 2) := by decide +kernel
theorem d_Ring_wake2_29 : decode b_Ring_wake2 29 = .ok (.iaload, 1) := by decide +kernel
theorem d_Ring_wake2_30 : decode b_Ring_wake2 30 = .ok (.iload_n 1, 1) := by decide +kernel
theorem d_Ring_wake2_31 : decode b_Ring_wake2 31 = .ok (.if_icmp .ne 37, 3) := by decide +kernel
theorem d_Ring_wake2_34 : decode b_Ring_wake2 34 = .ok (.iload_n 1, 1) := by decide +kernel
theorem d_Ring_wake2_35 : decode b_Ring_wake2 35 = .ok (.iconst 3, 1) := by decide +kernel
theorem d_Ring_wake2_36 : decode b_Ring_wake2 36 = .ok (.if_icmp .ne 17, 3) := by decide +kernel
theorem d_Ring_wake2_39 : decode b_Ring_wake2 39 = .ok (.aload_n 0, 1) := by decide +kernel
theorem d_Ring_wake2_40 : decode b_Ring_wake2 40 = .ok (.getfield 31, 3) := by decide +kernel
theorem d_Ring_wake2_43 : decode b_Ring_wake2 43 = .ok (.iload 4, 2) := by decide +kernel
theorem d_Ring_wake2_45 : decode b_Ring_wake2 45 = .ok (.iaload, 1) := by decide +kernel
theorem d_Ring_wake2_46 : decode b_Ring_wake2 46 = .ok (.iload_n 2, 1) := by decide +kernel
theorem d_Ring_wake2_47 : decode b_Ring_wake2 47 = .ok (.if_icmp .gt 21, 3) := by decide +kernel
theorem d_Ring_wake2_50 : decode b_Ring_wake2 50 = .ok (.goto 14, 3) := by decide +kernel
theorem d_Ring_wake2_53 : decode b_Ring_wake2 53 = .ok (.aload_n 0, 1) := by decide +kernel
theorem d_Ring_wake2_54 : decode b_Ring_wake2 54 = .ok (.getfield 31, 3) := by decide +kernel
theorem d_Ring_wake2_57 : decode b_Ring_wake2 57 = .ok (.iload 4, 2) := by decide +kernel
theorem d_Ring_wake2_59 : decode b_Ring_wake2 59 = .ok (.iaload, 1) := by decide +kernel
theorem d_Ring_wake2_60 : decode b_Ring_wake2 60 = .ok (.iload_n 2, 1) := by decide +kernel
theorem d_Ring_wake2_61 : decode b_Ring_wake2 61 = .ok (.if_icmp .ne 7, 3) := by decide +kernel
theorem d_Ring_wake2_64 : decode b_Ring_wake2 64 = .ok (.iconst 1, 1) := by decide +kernel
theorem d_Ring_wake2_65 : decode b_Ring_wake2 65 = .ok (.goto 4, 3) := by decide +kernel
theorem d_Ring_wake2_68 : decode b_Ring_wake2 68 = .ok (.iconst 0, 1) := by decide +kernel
theorem d_Ring_wake2_69 : decode b_Ring_wake2 69 = .ok (.istore 5, 2) := by decide +kernel
theorem d_Ring_wake2_71 : decode b_Ring_wake2 71 = .ok (.iload 5, 2) := by decide +kernel
theorem d_Ring_wake2_73 : decode b_Ring_wake2 73 = .ok (.ifCond .ne 6, 3) := by decide +kernel
theorem d_Ring_wake2_76 : decode b_Ring_wake2 76 = .ok (.goto 14, 3) := by decide +kernel
theorem d_Ring_wake2_79 : decode b_Ring_wake2 79 = .ok (.aload_n 0, 1) := by decide +kernel
theorem d_Ring_wake2_80 : decode b_Ring_wake2 80 = .ok (.getfield 15, 3) := by decide +kernel
theorem d_Ring_wake2_83 : decode b_Ring_wake2 83 = .ok (.iload 4, 2) := by decide +kernel
theorem d_Ring_wake2_85 : decode b_Ring_wake2 85 = .ok (.iconst 1, 1) := by decide +kernel
theorem d_Ring_wake2_86 : decode b_Ring_wake2 86 = .ok (.iastore, 1) := by decide +kernel
theorem d_Ring_wake2_87 : decode b_Ring_wake2 87 = .ok (.iinc 3 1, 3) := by decide +kernel
theorem d_Ring_wake2_90 : decode b_Ring_wake2 90 = .ok (.iinc 4 1, 3) := by decide +kernel
theorem d_Ring_wake2_93 : decode b_Ring_wake2 93 = .ok (.goto (-88), 3) := by decide +kernel
theorem d_Ring_wake2_96 : decode b_Ring_wake2 96 = .ok (.iload_n 3, 1) := by decide +kernel
theorem d_Ring_wake2_97 : decode b_Ring_wake2 97 = .ok (.ireturn, 1) := by decide +kernel
theorem d_Ring_wake1_0 : decode b_Ring_wake1 0 = .ok (.aload_n 0, 1) := by decide +kernel
theorem d_Ring_wake1_1 : decode b_Ring_wake1 1 = .ok (.iconst 1, 1) := by decide +kernel
theorem d_Ring_wake1_2 : decode b_Ring_wake1 2 = .ok (.iload_n 1, 1) := by decide +kernel
theorem d_Ring_wake1_3 : decode b_Ring_wake1 3 = .ok (.invokevirtual 78, 3) := by decide +kernel
theorem d_Ring_wake1_6 : decode b_Ring_wake1 6 = .ok (.ireturn, 1) := by decide +kernel
theorem d_Ring_tick_0 : decode b_Ring_tick 0 = .ok (.aload_n 0, 1) := by decide +kernel
theorem d_Ring_tick_1 : decode b_Ring_tick 1 = .ok (.dup, 1) := by decide +kernel
theorem d_Ring_tick_2 : decode b_Ring_tick 2 = .ok (.getfield 47, 3) := by decide +kernel
theorem d_Ring_tick_5 : decode b_Ring_tick 5 = .ok (.iconst 1, 1) := by decide +kernel
theorem d_Ring_tick_6 : decode b_Ring_tick 6 = .ok (.iadd, 1) := by decide +kernel
theorem d_Ring_tick_7 : decode b_Ring_tick 7 = .ok (.putfield 47, 3) := by decide +kernel
theorem d_Ring_tick_10 : decode b_Ring_tick 10 = .ok (.iconst 0, 1) := by decide +kernel
theorem d_Ring_tick_11 : decode b_Ring_tick 11 = .ok (.istore_n 1, 1) := by decide +kernel
theorem d_Ring_tick_12 : decode b_Ring_tick 12 = .ok (.iload_n 1, 1) := by decide +kernel
theorem d_Ring_tick_13 : decode b_Ring_tick 13 = .ok (.aload_n 0, 1) := by decide +kernel
theorem d_Ring_tick_14 : decode b_Ring_tick 14 = .ok (.getfield 37, 3) := by decide +kernel
theorem d_Ring_tick_17 : decode b_Ring_tick 17 = .ok (.if_icmp .ge 15, 3) := by decide +kernel
theorem d_Ring_tick_20 : decode b_Ring_tick 20 = .ok (.aload_n 0, 1) := by decide +kernel
theorem d_Ring_tick_21 : decode b_Ring_tick 21 = .ok (.iload_n 1, 1) := by decide +kernel
theorem d_Ring_tick_22 : decode b_Ring_tick 22 = .ok (.invokevirtual 81, 3) := by decide +kernel
theorem d_Ring_tick_25 : decode b_Ring_tick 25 = .ok (.pop, 1) := by decide +kernel
theorem d_Ring_tick_26 : decode b_Ring_tick 26 = .ok (.iinc 1 1, 3) := by decide +kernel
theorem d_Ring_tick_29 : decode b_Ring_tick 29 = .ok (.goto (-17), 3) := by decide +kernel
theorem d_Ring_tick_32 : decode b_Ring_tick 32 = .ok (.aload_n 0, 1) := by decide +kernel
theorem d_Ring_tick_33 : decode b_Ring_tick 33 = .ok (.iconst 3, 1) := by decide +kernel
theorem d_Ring_tick_34 : decode b_Ring_tick 34 = .ok (.aload_n 0, 1) := by decide +kernel
theorem d_Ring_tick_35 : decode b_Ring_tick 35 = .ok (.getfield 47, 3) := by decide +kernel
theorem d_Ring_tick_38 : decode b_Ring_tick 38 = .ok (.invokevirtual 78, 3) := by decide +kernel
theorem d_Ring_tick_41 : decode b_Ring_tick 41 = .ok (.pop, 1) := by decide +kernel
theorem d_Ring_tick_42 : decode b_Ring_tick 42 = .ok (.aload_n 0, 1) := by decide +kernel
theorem d_Ring_tick_43 : decode b_Ring_tick 43 = .ok (.getfield 47, 3) := by decide +kernel
theorem d_Ring_tick_46 : decode b_Ring_tick 46 = .ok (.ireturn, 1) := by decide +kernel
theorem d_Ring_fork_0 : decode b_Ring_fork 0 = .ok (.aload_n 0, 1) := by decide +kernel
theorem d_Ring_fork_1 : decode b_Ring_fork 1 = .ok (.iload_n 1, 1) := by decide +kernel
theorem d_Ring_fork_2 : decode b_Ring_fork 2 = .ok (.invokevirtual 60, 3) := by decide +kernel
theorem d_Ring_fork_5 : decode b_Ring_fork 5 = .ok (.istore_n 2, 1) := by decide +kernel
theorem d_Ring_fork_6 : decode b_Ring_fork 6 = .ok (.iconst 0, 1) := by decide +kernel
theorem d_Ring_fork_7 : decode b_Ring_fork 7 = .ok (.istore_n 3, 1) := by decide +kernel
theorem d_Ring_fork_8 : decode b_Ring_fork 8 = .ok (.iload_n 3, 1) := by decide +kernel
theorem d_Ring_fork_9 : decode b_Ring_fork 9 = .ok (.bipush 15, 2) := by decide +kernel
theorem d_Ring_fork_11 : decode b_Ring_fork 11 = .ok (.if_icmp .ge 18, 3) := by decide +kernel
theorem d_Ring_fork_14 : decode b_Ring_fork 14 = .ok (.aload_n 0, 1) := by decide +kernel
theorem d_Ring_fork_15 : decode b_Ring_fork 15 = .ok (.getfield 15, 3) := by decide +kernel
theorem d_Ring_fork_18 : decode b_Ring_fork 18 = .ok (.iload_n 3, 1) := by decide +kernel
theorem d_Ring_fork_19 : decode b_Ring_fork 19 = .ok (.iaload, 1) := by decide +kernel
theorem d_Ring_fork_20 : decode b_Ring_fork 20 = .ok (.ifCond .eq 9, 3) := by decide +kernel
theorem d_Ring_fork_23 : decode b_Ring_fork 23 = .ok (.iinc 3 1, 3) := by decide +kernel
theorem d_Ring_fork_26 : decode b_Ring_fork 26 = .ok (.goto (-18), 3) := by decide +kernel
theorem d_Ring_fork_29 : decode b_Ring_fork 29 = .ok (.iload_n 2, 1) := by decide +kernel
theorem d_Ring_fork_30 : decode b_Ring_fork 30 = .ok (.iconst (-1), 1) := by decide +kernel
theorem d_Ring_fork_31 : decode b_Ring_fork 31 = .ok (.if_icmp .eq 9, 3) := by decide +kernel
theorem d_Ring_fork_34 : decode b_Ring_fork 34 = .ok (.iload_n 3, 1) := by decide +kernel
theorem d_Ring_fork_35 : decode b_Ring_fork 35 = .ok (.bipush 15, 2) := by decide +kernel
theorem d_Ring_fork_37 : decode b_Ring_fork 37 = .ok (.if_icmp .ne 5, 3) := by decide +kernel
theorem d_Ring_fork_40 : decode b_Ring_fork 40 = .ok (.iconst (-1), 1) := by decide +kernel
theorem d_Ring_fork_41 : decode b_Ring_fork 41 = .ok (.ireturn, 1) := by decide +kernel
theorem d_Ring_fork_42 : decode b_Ring_fork 42 = .ok (.aload_n 0, 1) := by decide +kernel
theorem d_Ring_fork_43 : decode b_Ring_fork 43 = .ok (.iload_n 3, 1) := by decide +kernel
theorem d_Ring_fork_44 : decode b_Ring_fork 44 = .ok (.aload_n 0, 1) := by decide +kernel
theorem d_Ring_fork_45 : decode b_Ring_fork 45 = .ok (.getfield 11, 3) := by decide +kernel
theorem d_Ring_fork_48 : decode b_Ring_fork 48 = .ok (.iload_n 2, 1) := by decide +kernel
theorem d_Ring_fork_49 : decode b_Ring_fork 49 = .ok (.iaload, 1) := by decide +kernel
theorem d_Ring_fork_50 : decode b_Ring_fork 50 = .ok (.invokevirtual 53, 3) := by decide +kernel
theorem d_Ring_fork_53 : decode b_Ring_fork 53 = .ok (.iload_n 3, 1) := by decide +kernel
theorem d_Ring_fork_54 : decode b_Ring_fork 54 = .ok (.ireturn, 1) := by decide +kernel
theorem d_Ring_exit_0 : decode b_Ring_exit 0 = .ok (.aload_n 0, 1) := by decide +kernel
theorem d_Ring_exit_1 : decode b_Ring_exit 1 = .ok (.iload_n 1, 1) := by decide +kernel
theorem d_Ring_exit_2 : decode b_Ring_exit 2 = .ok (.iconst 4, 1) := by decide +kernel
theorem d_Ring_exit_3 : decode b_Ring_exit 3 = .ok (.invokevirtual 64, 3) := by decide +kernel
theorem d_Ring_exit_6 : decode b_Ring_exit 6 = .ok (.istore_n 3, 1) := by decide +kernel
theorem d_Ring_exit_7 : decode b_Ring_exit 7 = .ok (.iload_n 3, 1) := by decide +kernel
theorem d_Ring_exit_8 : decode b_Ring_exit 8 = .ok (.iconst (-1), 1) := by decide +kernel
theorem d_Ring_exit_9 : decode b_Ring_exit 9 = .ok (.if_icmp .ne 5, 3) := by decide +kernel
theorem d_Ring_exit_12 : decode b_Ring_exit 12 = .ok (.iconst (-1), 1) := by decide +kernel
theorem d_Ring_exit_13 : decode b_Ring_exit 13 = .ok (.ireturn, 1) := by decide +kernel
theorem d_Ring_exit_14 : decode b_Ring_exit 14 = .ok (.iload_n 3, 1) := by decide +kernel
theorem d_Ring_exit_15 : decode b_Ring_exit 15 = .ok (.ifCond .ne 14, 3) := by decide +kernel
theorem d_Ring_exit_18 : decode b_Ring_exit 18 = .ok (.aload_n 0, 1) := by decide +kernel
theorem d_Ring_exit_19 : decode b_Ring_exit 19 = .ok (.iload_n 2, 1) := by decide +kernel
theorem d_Ring_exit_20 : decode b_Ring_exit 20 = .ok (.putfield 84, 3) := by decide +kernel
theorem d_Ring_exit_23 : decode b_Ring_exit 23 = .ok (.aload_n 0, 1) := by decide +kernel
theorem d_Ring_exit_24 : decode b_Ring_exit 24 = .ok (.invokevirtual 41, 3) := by decide +kernel
theorem d_Ring_exit_27 : decode b_Ring_exit 27 = .ok (.iconst 0, 1) := by decide +kernel
theorem d_Ring_exit_28 : decode b_Ring_exit 28 = .ok (.ireturn, 1) := by decide +kernel
theorem d_Ring_exit_29 : decode b_Ring_exit 29 = .ok (.aload_n 0, 1) := by decide +kernel
theorem d_Ring_exit_30 : decode b_Ring_exit 30 = .ok (.getfield 25, 3) := by decide +kernel
theorem d_Ring_exit_33 : decode b_Ring_exit 33 = .ok (.iload_n 3, 1) := by decide +kernel
theorem d_Ring_exit_34 : decode b_Ring_exit 34 = .ok (.iload_n 2, 1) := by decide +kernel
theorem d_Ring_exit_35 : decode b_Ring_exit 35 = .ok (.iastore, 1) := by decide +kernel
theorem d_Ring_exit_36 : decode b_Ring_exit 36 = .ok (.iconst 0, 1) := by decide +kernel
theorem d_Ring_exit_37 : decode b_Ring_exit 37 = .ok (.istore 4, 2) := by decide +kernel
theorem d_Ring_exit_39 : decode b_Ring_exit 39 = .ok (.iconst 0, 1) := by decide +kernel
theorem d_Ring_exit_40 : decode b_Ring_exit 40 = .ok (.istore 5, 2) := by decide +kernel
theorem d_Ring_exit_42 : decode b_Ring_exit 42 = .ok (.iload 5, 2) := by decide +kernel
theorem d_Ring_exit_44 : decode b_Ring_exit 44 = .ok (.bipush 15, 2) := by decide +kernel
theorem d_Ring_exit_46 : decode b_Ring_exit 46 = .ok (.if_icmp .ge 67, 3) := by decide +kernel
theorem d_Ring_exit_49 : decode b_Ring_exit 49 = .ok (.aload_n 0, 1) := by decide +kernel
theorem d_Ring_exit_50 : decode b_Ring_exit 50 = .ok (.getfield 15, 3) := by decide +kernel
theorem d_Ring_exit_53 : decode b_Ring_exit 53 = .ok (.iload 5, 2) := by decide +kernel
theorem d_Ring_exit_55 : decode b_Ring_exit 55 = .ok (.iaload, 1) := by decide +kernel
theorem d_Ring_exit_56 : decode b_Ring_exit 56 = .ok (.ifCond .eq 51, 3) := by decide +kernel
theorem d_Ring_exit_59 : decode b_Ring_exit 59 = .ok (.aload_n 0, 1) := by decide +kernel
theorem d_Ring_exit_60 : decode b_Ring_exit 60 = .ok (.getfield 18, 3) := by decide +kernel
theorem d_Ring_exit_63 : decode b_Ring_exit 63 = .ok (.iload 5, 2) := by decide +kernel
theorem d_Ring_exit_65 : decode b_Ring_exit 65 = .ok (.iaload, 1) := by decide +kernel
theorem d_Ring_exit_66 : decode b_Ring_exit 66 = .ok (.aload_n 0, 1) := by decide +kernel
theorem d_Ring_exit_67 : decode b_Ring_exit 67 = .ok (.getfield 11, 3) := by decide +kernel
theorem d_Ring_exit_70 : decode b_Ring_exit 70 = .ok (.iload_n 3, 1) := by decide +kernel
theorem d_Ring_exit_71 : decode b_Ring_exit 71 = .ok (.iaload, 1) := by decide +kernel
theorem d_Ring_exit_72 : decode b_Ring_exit 72 = .ok (.if_icmp .eq 6, 3) := by decide +kernel
theorem d_Ring_exit_75 : decode b_Ring_exit 75 = .ok (.goto 32, 3) := by decide +kernel
theorem d_Ring_exit_78 : decode b_Ring_exit 78 = .ok (.aload_n 0, 1) := by decide +kernel
theorem d_Ring_exit_79 : decode b_Ring_exit 79 = .ok (.getfield 18, 3) := by decide +kernel
theorem d_Ring_exit_82 : decode b_Ring_exit 82 = .ok (.iload 5, 2) := by decide +kernel
theorem d_Ring_exit_84 : decode b_Ring_exit 84 = .ok (.iconst 1, 1) := by decide +kernel
theorem d_Ring_exit_85 : decode b_Ring_exit 85 = .ok (.iastore, 1) := by decide +kernel
theorem d_Ring_exit_86 : decode b_Ring_exit 86 = .ok (.iload 4, 2) := by decide +kernel
theorem d_Ring_exit_88 : decode b_Ring_exit 88 = .ok (.aload_n 0, 1) := by decide +kernel
theorem d_Ring_exit_89 : decode b_Ring_exit 89 = .ok (.getfield 15, 3) := by decide +kernel
theorem d_Ring_exit_92 : decode b_Ring_exit 92 = .ok (.iload 5, 2) := by decide +kernel
theorem d_Ring_exit_94 : decode b_Ring_exit 94 = .ok (.iaload, 1) := by decide +kernel
theorem d_Ring_exit_95 : decode b_Ring_exit 95 = .ok (.iconst 4, 1) := by decide +kernel
theorem d_Ring_exit_96 : decode b_Ring_exit 96 = .ok (.if_icmp .ne 7, 3) := by decide +kernel
theorem d_Ring_exit_99 : decode b_Ring_exit 99 = .ok (.iconst 1, 1) := by decide +kernel
theorem d_Ring_exit_100 : decode b_Ring_exit 100 = .ok (.goto 4, 3) := by decide +kernel
theorem d_Ring_exit_103 : decode b_Ring_exit 103 = .ok (.iconst 0, 1) := by decide +kernel
theorem d_Ring_exit_104 : decode b_Ring_exit 104 = .ok (.ior, 1) := by decide +kernel
theorem d_Ring_exit_105 : decode b_Ring_exit 105 = .ok (.istore 4, 2) := by decide +kernel
theorem d_Ring_exit_107 : decode b_Ring_exit 107 = .ok (.iinc 5 1, 3) := by decide +kernel
theorem d_Ring_exit_110 : decode b_Ring_exit 110 = .ok (.goto (-68), 3) := by decide +kernel
theorem d_Ring_exit_113 : decode b_Ring_exit 113 = .ok (.aload_n 0, 1) := by decide +kernel
theorem d_Ring_exit_114 : decode b_Ring_exit 114 = .ok (.iconst 2, 1) := by decide +kernel
theorem d_Ring_exit_115 : decode b_Ring_exit 115 = .ok (.aload_n 0, 1) := by decide +kernel
theorem d_Ring_exit_116 : decode b_Ring_exit 116 = .ok (.getfield 18, 3) := by decide +kernel
theorem d_Ring_exit_119 : decode b_Ring_exit 119 = .ok (.iload_n 3, 1) := by decide +kernel
theorem d_Ring_exit_120 : decode b_Ring_exit 120 = .ok (.iaload, 1) := by decide +kernel
theorem d_Ring_exit_121 : decode b_Ring_exit 121 = .ok (.invokevirtual 78, 3) := by decide +kernel
theorem d_Ring_exit_124 : decode b_Ring_exit 124 = .ok (.pop, 1) := by decide +kernel
theorem d_Ring_exit_125 : decode b_Ring_exit 125 = .ok (.iload 4, 2) := by decide +kernel
theorem d_Ring_exit_127 : decode b_Ring_exit 127 = .ok (.ifCond .eq 10, 3) := by decide +kernel
theorem d_Ring_exit_130 : decode b_Ring_exit 130 = .ok (.aload_n 0, 1) := by decide +kernel
theorem d_Ring_exit_131 : decode b_Ring_exit 131 = .ok (.iconst 2, 1) := by decide +kernel
theorem d_Ring_exit_132 : decode b_Ring_exit 132 = .ok (.iconst 1, 1) := by decide +kernel
theorem d_Ring_exit_133 : decode b_Ring_exit 133 = .ok (.invokevirtual 78, 3) := by decide +kernel
theorem d_Ring_exit_136 : decode b_Ring_exit 136 = .ok (.pop, 1) := by decide +kernel
theorem d_Ring_exit_137 : decode b_Ring_exit 137 = .ok (.iload_n 3, 1) := by decide +kernel
theorem d_Ring_exit_138 : decode b_Ring_exit 138 = .ok (.ireturn, 1) := by decide +kernel
theorem d_Ring_await_0 : decode b_Ring_await 0 = .ok (.aload_n 0, 1) := by decide +kernel
theorem d_Ring_await_1 : decode b_Ring_await 1 = .ok (.iload_n 1, 1) := by decide +kernel
theorem d_Ring_await_2 : decode b_Ring_await 2 = .ok (.invokevirtual 60, 3) := by decide +kernel
theorem d_Ring_await_5 : decode b_Ring_await 5 = .ok (.istore_n 2, 1) := by decide +kernel
theorem d_Ring_await_6 : decode b_Ring_await 6 = .ok (.iconst 0, 1) := by decide +kernel
theorem d_Ring_await_7 : decode b_Ring_await 7 = .ok (.istore_n 3, 1) := by decide +kernel
theorem d_Ring_await_8 : decode b_Ring_await 8 = .ok (.iconst 0, 1) := by decide +kernel
theorem d_Ring_await_9 : decode b_Ring_await 9 = .ok (.istore 4, 2) := by decide +kernel
theorem d_Ring_await_11 : decode b_Ring_await 11 = .ok (.iload 4, 2) := by decide +kernel
theorem d_Ring_await_13 : decode b_Ring_await 13 = .ok (.bipush 15, 2) := by decide +kernel
theorem d_Ring_await_15 : decode b_Ring_await 15 = .ok (.if_icmp .ge 75, 3) := by decide +kernel
theorem d_Ring_await_18 : decode b_Ring_await 18 = .ok (.iload_n 2, 1) := by decide +kernel
theorem d_Ring_await_19 : decode b_Ring_await 19 = .ok (.iconst (-1), 1) := by decide +kernel
theorem d_Ring_await_20 : decode b_Ring_await 20 = .ok (.if_icmp .eq 70, 3) := by decide +kernel
theorem d_Ring_await_23 : decode b_Ring_await 23 = .ok (.aload_n 0, 1) := by decide +kernel
theorem d_Ring_await_24 : decode b_Ring_await 24 = .ok (.getfield 15, 3) := by decide +kernel
theorem d_Ring_await_27 : decode b_Ring_await 27 = .ok (.iload 4, 2) := by decide +kernel
theorem d_Ring_await_29 : decode b_Ring_await 29 = .ok (.iaload, 1) := by decide +kernel
theorem d_Ring_await_30 : decode b_Ring_await 30 = .ok (.ifCond .eq 23, 3) := by decide +kernel
theorem d_Ring_await_33 : decode b_Ring_await 33 = .ok (.aload_n 0, 1) := by decide +kernel
theorem d_Ring_await_34 : decode b_Ring_await 34 = .ok (.getfield 18, 3) := by decide +kernel
theorem d_Ring_await_37 : decode b_Ring_await 37 = .ok (.iload 4, 2) := by decide +kernel
theorem d_Ring_await_39 : decode b_Ring_await 39 = .ok (.iaload, 1) := by decide +kernel
theorem d_Ring_await_40 : decode b_Ring_await 40 = .ok (.aload_n 0, 1) := by decide +kernel
theorem d_Ring_await_41 : decode b_Ring_await 41 = .ok (.getfield 11, 3) := by decide +kernel
theorem d_Ring_await_44 : decode b_Ring_await 44 = .ok (.iload_n 2, 1) := by decide +kernel
theorem d_Ring_await_45 : decode b_Ring_await 45 = .ok (.iaload, 1) := by decide +kernel
theorem d_Ring_await_46 : decode b_Ring_await 46 = .ok (.if_icmp .ne 7, 3) := by decide +kernel
theorem d_Ring_await_49 : decode b_Ring_await 49 = .ok (.iconst 1, 1) := by decide +kernel
theorem d_Ring_await_50 : decode b_Ring_await 50 = .ok (.goto 4, 3) := by decide +kernel
theorem d_Ring_await_53 : decode b_Ring_await 53 = .ok (.iconst 0, 1) := by decide +kernel
theorem d_Ring_await_54 : decode b_Ring_await 54 = .ok (.istore 5, 2) := by decide +kernel
theorem d_Ring_await_56 : decode b_Ring_await 56 = .ok (.iload 5, 2) := by decide +kernel
theorem d_Ring_await_58 : decode b_Ring_await 58 = .ok (.ifCond .eq 21, 3) := by decide +kernel
theorem d_Ring_await_61 : decode b_Ring_await 61 = .ok (.aload_n 0, 1) := by decide +kernel
theorem d_Ring_await_62 : decode b_Ring_await 62 = .ok (.getfield 15, 3) := by decide +kernel
theorem d_Ring_await_65 : decode b_Ring_await 65 = .ok (.iload 4, 2) := by decide +kernel
theorem d_Ring_await_67 : decode b_Ring_await 67 = .ok (.iaload, 1) := by decide +kernel
theorem d_Ring_await_68 : decode b_Ring_await 68 = .ok (.iconst 4, 1) := by decide +kernel
theorem d_Ring_await_69 : decode b_Ring_await 69 = .ok (.if_icmp .ne 10, 3) := by decide +kernel
theorem d_Ring_await_72 : decode b_Ring_await 72 = .ok (.aload_n 0, 1) := by decide +kernel
theorem d_Ring_await_73 : decode b_Ring_await 73 = .ok (.iload 4, 2) := by decide +kernel
theorem d_Ring_await_75 : decode b_Ring_await 75 = .ok (.invokevirtual 87, 3) := by decide +kernel
theorem d_Ring_await_78 : decode b_Ring_await 78 = .ok (.ireturn, 1) := by decide +kernel
theorem d_Ring_await_79 : decode b_Ring_await 79 = .ok (.iload_n 3, 1) := by decide +kernel
theorem d_Ring_await_80 : decode b_Ring_await 80 = .ok (.iload 5, 2) := by decide +kernel
theorem d_Ring_await_82 : decode b_Ring_await 82 = .ok (.ior, 1) := by decide +kernel
theorem d_Ring_await_83 : decode b_Ring_await 83 = .ok (.istore_n 3, 1) := by decide +kernel
theorem d_Ring_await_84 : decode b_Ring_await 84 = .ok (.iinc 4 1, 3) := by decide +kernel
theorem d_Ring_await_87 : decode b_Ring_await 87 = .ok (.goto (-76), 3) := by decide +kernel
theorem d_Ring_await_90 : decode b_Ring_await 90 = .ok (.iload_n 3, 1) := by decide +kernel
theorem d_Ring_await_91 : decode b_Ring_await 91 = .ok (.ifCond .ne 5, 3) := by decide +kernel
theorem d_Ring_await_94 : decode b_Ring_await 94 = .ok (.iconst (-1), 1) := by decide +kernel
theorem d_Ring_await_95 : decode b_Ring_await 95 = .ok (.ireturn, 1) := by decide +kernel
theorem d_Ring_await_96 : decode b_Ring_await 96 = .ok (.aload_n 0, 1) := by decide +kernel
theorem d_Ring_await_97 : decode b_Ring_await 97 = .ok (.iload_n 1, 1) := by decide +kernel
theorem d_Ring_await_98 : decode b_Ring_await 98 = .ok (.iconst 2, 1) := by decide +kernel
theorem d_Ring_await_99 : decode b_Ring_await 99 = .ok (.aload_n 0, 1) := by decide +kernel
theorem d_Ring_await_100 : decode b_Ring_await 100 = .ok (.getfield 11, 3) := by decide +kernel
theorem d_Ring_await_103 : decode b_Ring_await 103 = .ok (.iload_n 2, 1) := by decide +kernel
theorem d_Ring_await_104 : decode b_Ring_await 104 = .ok (.iaload, 1) := by decide +kernel
theorem d_Ring_await_105 : decode b_Ring_await 105 = .ok (.invokevirtual 68, 3) := by decide +kernel
theorem d_Ring_await_108 : decode b_Ring_await 108 = .ok (.pop, 1) := by decide +kernel
theorem d_Ring_await_109 : decode b_Ring_await 109 = .ok (.iconst 0, 1) := by decide +kernel
theorem d_Ring_await_110 : decode b_Ring_await 110 = .ok (.ireturn, 1) := by decide +kernel
theorem d_Ring_reap_0 : decode b_Ring_reap 0 = .ok (.aload_n 0, 1) := by decide +kernel
theorem d_Ring_reap_1 : decode b_Ring_reap 1 = .ok (.aload_n 0, 1) := by decide +kernel
theorem d_Ring_reap_2 : decode b_Ring_reap 2 = .ok (.getfield 25, 3) := by decide +kernel
theorem d_Ring_reap_5 : decode b_Ring_reap 5 = .ok (.iload_n 1, 1) := by decide +kernel
theorem d_Ring_reap_6 : decode b_Ring_reap 6 = .ok (.iaload, 1) := by decide +kernel
theorem d_Ring_reap_7 : decode b_Ring_reap 7 = .ok (.putfield 84, 3) := by decide +kernel
theorem d_Ring_reap_10 : decode b_Ring_reap 10 = .ok (.aload_n 0, 1) := by decide +kernel
theorem d_Ring_reap_11 : decode b_Ring_reap 11 = .ok (.getfield 15, 3) := by decide +kernel
theorem d_Ring_reap_14 : decode b_Ring_reap 14 = .ok (.iload_n 1, 1) := by decide +kernel
theorem d_Ring_reap_15 : decode b_Ring_reap 15 = .ok (.iconst 0, 1) := by decide +kernel
theorem d_Ring_reap_16 : decode b_Ring_reap 16 = .ok (.iastore, 1) := by decide +kernel
theorem d_Ring_reap_17 : decode b_Ring_reap 17 = .ok (.aload_n 0, 1) := by decide +kernel
theorem d_Ring_reap_18 : decode b_Ring_reap 18 = .ok (.getfield 11, 3) := by decide +kernel
theorem d_Ring_reap_21 : decode b_Ring_reap 21 = .ok (.iload_n 1, 1) := by decide +kernel
theorem d_Ring_reap_22 : decode b_Ring_reap 22 = .ok (.iaload, 1) := by decide +kernel
theorem d_Ring_reap_23 : decode b_Ring_reap 23 = .ok (.ireturn, 1) := by decide +kernel
theorem d_Ring_kill_0 : decode b_Ring_kill 0 = .ok (.iconst 0, 1) := by decide +kernel
theorem d_Ring_kill_1 : decode b_Ring_kill 1 = .ok (.istore_n 2, 1) := by decide +kernel
theorem d_Ring_kill_2 : decode b_Ring_kill 2 = .ok (.iload_n 2, 1) := by decide +kernel
theorem d_Ring_kill_3 : decode b_Ring_kill 3 = .ok (.bipush 15, 2) := by decide +kernel
theorem d_Ring_kill_5 : decode b_Ring_kill 5 = .ok (.if_icmp .ge 76, 3) := by decide +kernel
theorem d_Ring_kill_8 : decode b_Ring_kill 8 = .ok (.aload_n 0, 1) := by decide +kernel
theorem d_Ring_kill_9 : decode b_Ring_kill 9 = .ok (.getfield 15, 3) := by decide +kernel
theorem d_Ring_kill_12 : decode b_Ring_kill 12 = .ok (.iload_n 2, 1) := by decide +kernel
theorem d_Ring_kill_13 : decode b_Ring_kill 13 = .ok (.iaload, 1) := by decide +kernel
theorem d_Ring_kill_14 : decode b_Ring_kill 14 = .ok (.ifCond .eq 61, 3) := by decide +kernel
theorem d_Ring_kill_17 : decode b_Ring_kill 17 = .ok (.aload_n 0, 1) := by decide +kernel
theorem d_Ring_kill_18 : decode b_Ring_kill 18 = .ok (.getfield 15, 3) := by decide +kernel
theorem d_Ring_kill_21 : decode b_Ring_kill 21 = .ok (.iload_n 2, 1) := by decide +kernel
theorem d_Ring_kill_22 : decode b_Ring_kill 22 = .ok (.iaload, 1) := by decide +kernel
theorem d_Ring_kill_23 : decode b_Ring_kill 23 = .ok (.iconst 4, 1) := by decide +kernel
theorem d_Ring_kill_24 : decode b_Ring_kill 24 = .ok (.if_icmp .eq 51, 3) := by decide +kernel
theorem d_Ring_kill_27 : decode b_Ring_kill 27 = .ok (.aload_n 0, 1) := by decide +kernel
theorem d_Ring_kill_28 : decode b_Ring_kill 28 = .ok (.getfield 11, 3) := by decide +kernel
theorem d_Ring_kill_31 : decode b_Ring_kill 31 = .ok (.iload_n 2, 1) := by decide +kernel
theorem d_Ring_kill_32 : decode b_Ring_kill 32 = .ok (.iaload, 1) := by decide +kernel
theorem d_Ring_kill_33 : decode b_Ring_kill 33 = .ok (.iload_n 1, 1) := by decide +kernel
theorem d_Ring_kill_34 : decode b_Ring_kill 34 = .ok (.if_icmp .eq 6, 3) := by decide +kernel
theorem d_Ring_kill_37 : decode b_Ring_kill 37 = .ok (.goto 38, 3) := by decide +kernel
theorem d_Ring_kill_40 : decode b_Ring_kill 40 = .ok (.aload_n 0, 1) := by decide +kernel
theorem d_Ring_kill_41 : decode b_Ring_kill 41 = .ok (.getfield 21, 3) := by decide +kernel
theorem d_Ring_kill_44 : decode b_Ring_kill 44 = .ok (.iload_n 2, 1) := by decide +kernel
theorem d_Ring_kill_45 : decode b_Ring_kill 45 = .ok (.iconst 1, 1) := by decide +kernel
theorem d_Ring_kill_46 : decode b_Ring_kill 46 = .ok (.bastore, 1) := by decide +kernel
theorem d_Ring_kill_47 : decode b_Ring_kill 47 = .ok (.aload_n 0, 1) := by decide +kernel
theorem d_Ring_kill_48 : decode b_Ring_kill 48 = .ok (.getfield 15, 3) := by decide +kernel
theorem d_Ring_kill_51 : decode b_Ring_kill 51 = .ok (.iload_n 2, 1) := by decide +kernel
theorem d_Ring_kill_52 : decode b_Ring_kill 52 = .ok (.aload_n 0, 1) := by decide +kernel
theorem d_Ring_kill_53 : decode b_Ring_kill 53 = .ok (.getfield 15, 3) := by decide +kernel
theorem d_Ring_kill_56 : decode b_Ring_kill 56 = .ok (.iload_n 2, 1) := by decide +kernel
theorem d_Ring_kill_57 : decode b_Ring_kill 57 = .ok (.iaload, 1) := by decide +kernel
theorem d_Ring_kill_58 : decode b_Ring_kill 58 = .ok (.iconst 3, 1) := by decide +kernel
theorem d_Ring_kill_59 : decode b_Ring_kill 59 = .ok (.if_icmp .ne 7, 3) := by decide +kernel
theorem d_Ring_kill_62 : decode b_Ring_kill 62 = .ok (.iconst 1, 1) := by decide +kernel
theorem d_Ring_kill_63 : decode b_Ring_kill 63 = .ok (.goto 9, 3) := by decide +kernel
theorem d_Ring_kill_66 : decode b_Ring_kill 66 = .ok (.aload_n 0, 1) := by decide +kernel
theorem d_Ring_kill_67 : decode b_Ring_kill 67 = .ok (.getfield 15, 3) := by decide +kernel
theorem d_Ring_kill_70 : decode b_Ring_kill 70 = .ok (.iload_n 2, 1) := by decide +kernel
theorem d_Ring_kill_71 : decode b_Ring_kill 71 = .ok (.iaload, 1) := by decide +kernel
theorem d_Ring_kill_72 : decode b_Ring_kill 72 = .ok (.iastore, 1) := by decide +kernel
theorem d_Ring_kill_73 : decode b_Ring_kill 73 = .ok (.iconst 1, 1) := by decide +kernel
theorem d_Ring_kill_74 : decode b_Ring_kill 74 = .ok (.ireturn, 1) := by decide +kernel
theorem d_Ring_kill_75 : decode b_Ring_kill 75 = .ok (.iinc 2 1, 3) := by decide +kernel
theorem d_Ring_kill_78 : decode b_Ring_kill 78 = .ok (.goto (-76), 3) := by decide +kernel
theorem d_Ring_kill_81 : decode b_Ring_kill 81 = .ok (.iconst 0, 1) := by decide +kernel
theorem d_Ring_kill_82 : decode b_Ring_kill 82 = .ok (.ireturn, 1) := by decide +kernel
theorem d_Ring_processorOf_0 : decode b_Ring_processorOf 0 = .ok (.iconst (-1), 1) := by decide +kernel
theorem d_Ring_processorOf_1 : decode b_Ring_processorOf 1 = .ok (.istore_n 2, 1) := by decide +kernel
theorem d_Ring_processorOf_2 : decode b_Ring_processorOf 2 = .ok (.iconst 0, 1) := by decide +kernel
theorem d_Ring_processorOf_3 : decode b_Ring_processorOf 3 = .ok (.istore_n 3, 1) := by decide +kernel
theorem d_Ring_processorOf_4 : decode b_Ring_processorOf 4 = .ok (.iload_n 3, 1) := by decide +kernel
theorem d_Ring_processorOf_5 : decode b_Ring_processorOf 5 = .ok (.aload_n 0, 1) := by decide +kernel
theorem d_Ring_processorOf_6 : decode b_Ring_processorOf 6 = .ok (.getfield 37, 3) := by decide +kernel
theorem d_Ring_processorOf_9 : decode b_Ring_processorOf 9 = .ok (.if_icmp .ge 25, 3) := by decide +kernel
theorem d_Ring_processorOf_12 : decode b_Ring_processorOf 12 = .ok (.aload_n 0, 1) := by decide +kernel
theorem d_Ring_processorOf_13 : decode b_Ring_processorOf 13 = .ok (.getfield 34, 3) := by decide +kernel
theorem d_Ring_processorOf_16 : decode b_Ring_processorOf 16 = .ok (.iload_n 3, 1) := by decide +kernel
theorem d_Ring_processorOf_17 : decode b_Ring_processorOf 17 = .ok (.iaload, 1) := by decide +kernel
theorem d_Ring_processorOf_18 : decode b_Ring_processorOf 18 = .ok (.iload_n 1, 1) := by decide +kernel
theorem d_Ring_processorOf_19 : decode b_Ring_processorOf 19 = .ok (.if_icmp .ne 7, 3) := by decide +kernel
theorem d_Ring_processorOf_22 : decode b_Ring_processorOf 22 = .ok (.iload_n 3, 1) := by decide +kernel
theorem d_Ring_processorOf_23 : decode b_Ring_processorOf 23 = .ok (.goto 4, 3) := by decide +kernel
theorem d_Ring_processorOf_26 : decode b_Ring_processorOf 26 = .ok (.iload_n 2, 1) := by decide +kernel
theorem d_Ring_processorOf_27 : decode b_Ring_processorOf 27 = .ok (.istore_n 2, 1) := by decide +kernel
theorem d_Ring_processorOf_28 : decode b_Ring_processorOf 28 = .ok (.iinc 3 1, 3) := by decide +kernel
theorem d_Ring_processorOf_31 : decode b_Ring_processorOf 31 = .ok (.goto (-27), 3) := by decide +kernel
theorem d_Ring_processorOf_34 : decode b_Ring_processorOf 34 = .ok (.iload_n 2, 1) := by decide +kernel
theorem d_Ring_processorOf_35 : decode b_Ring_processorOf 35 = .ok (.ireturn, 1) := by decide +kernel
theorem d_Ring_count_0 : decode b_Ring_count 0 = .ok (.iconst 0, 1) := by decide +kernel
theorem d_Ring_count_1 : decode b_Ring_count 1 = .ok (.istore_n 2, 1) := by decide +kernel
theorem d_Ring_count_2 : decode b_Ring_count 2 = .ok (.iconst 0, 1) := by decide +kernel
theorem d_Ring_count_3 : decode b_Ring_count 3 = .ok (.istore_n 3, 1) := by decide +kernel
theorem d_Ring_count_4 : decode b_Ring_count 4 = .ok (.iload_n 3, 1) := by decide +kernel
theorem d_Ring_count_5 : decode b_Ring_count 5 = .ok (.bipush 15, 2) := by decide +kernel
theorem d_Ring_count_7 : decode b_Ring_count 7 = .ok (.if_icmp .ge 43, 3) := by decide +kernel
theorem d_Ring_count_10 : decode b_Ring_count 10 = .ok (.iload_n 2, 1) := by decide +kernel
theorem d_Ring_count_11 : decode b_Ring_count 11 = .ok (.iload_n 1, 1) := by decide +kernel
theorem d_Ring_count_12 : decode b_Ring_count 12 = .ok (.ifCond .ne 15, 3) := by decide +kernel
theorem d_Ring_count_15 : decode b_Ring_count 15 = .ok (.aload_n 0, 1) := by decide +kernel
theorem d_Ring_count_16 : decode b_Ring_count 16 = .ok (.getfield 15, 3) := by decide +kernel
theorem d_Ring_count_19 : decode b_Ring_count 19 = .ok (.iload_n 3, 1) := by decide +kernel
theorem d_Ring_count_20 : decode b_Ring_count 20 = .ok (.iaload, 1) := by decide +kernel
theorem d_Ring_count_21 : decode b_Ring_count 21 = .ok (.ifCond .eq 20, 3) := by decide +kernel
theorem d_Ring_count_24 : decode b_Ring_count 24 = .ok (.goto 13, 3) := by decide +kernel
theorem d_Ring_count_27 : decode b_Ring_count 27 = .ok (.aload_n 0, 1) := by decide +kernel
theorem d_Ring_count_28 : decode b_Ring_count 28 = .ok (.getfield 15, 3) := by decide +kernel
theorem d_Ring_count_31 : decode b_Ring_count 31 = .ok (.iload_n 3, 1) := by decide +kernel
theorem d_Ring_count_32 : decode b_Ring_count 32 = .ok (.iaload, 1) := by decide +kernel
theorem d_Ring_count_33 : decode b_Ring_count 33 = .ok (.iload_n 1, 1) := by decide +kernel
theorem d_Ring_count_34 : decode b_Ring_count 34 = .ok (.if_icmp .ne 7, 3) := by decide +kernel
theorem d_Ring_count_37 : decode b_Ring_count 37 = .ok (.iconst 1, 1) := by decide +kernel
theorem d_Ring_count_38 : decode b_Ring_count 38 = .ok (.goto 4, 3) := by decide +kernel
theorem d_Ring_count_41 : decode b_Ring_count 41 = .ok (.iconst 0, 1) := by decide +kernel
theorem d_Ring_count_42 : decode b_Ring_count 42 = .ok (.iadd, 1) := by decide +kernel
theorem d_Ring_count_43 : decode b_Ring_count 43 = .ok (.istore_n 2, 1) := by decide +kernel
theorem d_Ring_count_44 : decode b_Ring_count 44 = .ok (.iinc 3 1, 3) := by decide +kernel
theorem d_Ring_count_47 : decode b_Ring_count 47 = .ok (.goto (-43), 3) := by decide +kernel
theorem d_Ring_count_50 : decode b_Ring_count 50 = .ok (.iload_n 2, 1) := by decide +kernel
theorem d_Ring_count_51 : decode b_Ring_count 51 = .ok (.ireturn, 1) := by decide +kernel
end
section
theorem d_Proc_init_0 : decode b_Proc_init 0 = .ok (.aload_n 0, 1) := by decide +kernel
theorem d_Proc_init_1 : decode b_Proc_init 1 = .ok (.invokespecial 1, 3) := by decide +kernel
theorem d_Proc_init_4 : decode b_Proc_init 4 = .ok (.aload_n 0, 1) := by decide +kernel
theorem d_Proc_init_5 : decode b_Proc_init 5 = .ok (.new 7, 3) := by decide +kernel
theorem d_Proc_init_8 : decode b_Proc_init 8 = .ok (.dup, 1) := by decide +kernel
theorem d_Proc_init_9 : decode b_Proc_init 9 = .ok (.iload_n 1, 1) := by decide +kernel
theorem d_Proc_init_10 : decode b_Proc_init 10 = .ok (.iconst 1, 1) := by decide +kernel
theorem d_Proc_init_11 : decode b_Proc_init 11 = .ok (.if_icmp .ge 7, 3) := by decide +kernel
theorem d_Proc_init_14 : decode b_Proc_init 14 = .ok (.iconst 1, 1) := by decide +kernel
theorem d_Proc_init_15 : decode b_Proc_init 15 = .ok (.goto 13, 3) := by decide +kernel
theorem d_Proc_init_18 : decode b_Proc_init 18 = .ok (.iload_n 1, 1) := by decide +kernel
theorem d_Proc_init_19 : decode b_Proc_init 19 = .ok (.iconst 4, 1) := by decide +kernel
theorem d_Proc_init_20 : decode b_Proc_init 20 = .ok (.if_icmp .le 7, 3) := by decide +kernel
theorem d_Proc_init_23 : decode b_Proc_init 23 = .ok (.iconst 4, 1) := by decide +kernel
theorem d_Proc_init_24 : decode b_Proc_init 24 = .ok (.goto 4, 3) := by decide +kernel
theorem d_Proc_init_27 : decode b_Proc_init 27 = .ok (.iload_n 1, 1) := by decide +kernel
theorem d_Proc_init_28 : decode b_Proc_init 28 = .ok (.invokespecial 9, 3) := by decide +kernel
theorem d_Proc_init_31 : decode b_Proc_init 31 = .ok (.putfield 12, 3) := by decide +kernel
theorem d_Proc_init_34 : decode b_Proc_init 34 = .ok (.return_, 1) := by decide +kernel
theorem d_Proc_first_0 : decode b_Proc_first 0 = .ok (.aload_n 0, 1) := by decide +kernel
theorem d_Proc_first_1 : decode b_Proc_first 1 = .ok (.getfield 12, 3) := by decide +kernel
theorem d_Proc_first_4 : decode b_Proc_first 4 = .ok (.invokevirtual 18, 3) := by decide +kernel
theorem d_Proc_first_7 : decode b_Proc_first 7 = .ok (.ifCond .ne 5, 3) := by decide +kernel
theorem d_Proc_first_10 : decode b_Proc_first 10 = .ok (.iconst 0, 1) := by decide +kernel
theorem d_Proc_first_11 : decode b_Proc_first 11 = .ok (.ireturn, 1) := by decide +kernel
theorem d_Proc_first_12 : decode b_Proc_first 12 = .ok (.aload_n 0, 1) := by decide +kernel
theorem d_Proc_first_13 : decode b_Proc_first 13 = .ok (.getfield 12, 3) := by decide +kernel
theorem d_Proc_first_16 : decode b_Proc_first 16 = .ok (.invokevirtual 22, 3) := by decide +kernel
theorem d_Proc_first_19 : decode b_Proc_first 19 = .ok (.iconst 1, 1) := by decide +kernel
theorem d_Proc_first_20 : decode b_Proc_first 20 = .ok (.ireturn, 1) := by decide +kernel
theorem d_Proc_pick_0 : decode b_Proc_pick 0 = .ok (.aload_n 0, 1) := by decide +kernel
theorem d_Proc_pick_1 : decode b_Proc_pick 1 = .ok (.getfield 12, 3) := by decide +kernel
theorem d_Proc_pick_4 : decode b_Proc_pick 4 = .ok (.iload_n 1, 1) := by decide +kernel
theorem d_Proc_pick_5 : decode b_Proc_pick 5 = .ok (.invokevirtual 25, 3) := by decide +kernel
theorem d_Proc_pick_8 : decode b_Proc_pick 8 = .ok (.ireturn, 1) := by decide +kernel
theorem d_Proc_fork_0 : decode b_Proc_fork 0 = .ok (.aload_n 0, 1) := by decide +kernel
theorem d_Proc_fork_1 : decode b_Proc_fork 1 = .ok (.getfield 12, 3) := by decide +kernel
theorem d_Proc_fork_4 : decode b_Proc_fork 4 = .ok (.iload_n 1, 1) := by decide +kernel
theorem d_Proc_fork_5 : decode b_Proc_fork 5 = .ok (.invokevirtual 29, 3) := by decide +kernel
theorem d_Proc_fork_8 : decode b_Proc_fork 8 = .ok (.ireturn, 1) := by decide +kernel
theorem d_Proc_exit_0 : decode b_Proc_exit 0 = .ok (.aload_n 0, 1) := by decide +kernel
theorem d_Proc_exit_1 : decode b_Proc_exit 1 = .ok (.getfield 12, 3) := by decide +kernel
theorem d_Proc_exit_4 : decode b_Proc_exit 4 = .ok (.iload_n 1, 1) := by decide +kernel
theorem d_Proc_exit_5 : decode b_Proc_exit 5 = .ok (.iload_n 2, 1) := by decide +kernel
theorem d_Proc_exit_6 : decode b_Proc_exit 6 = .ok (.invokevirtual 32, 3) := by decide +kernel
theorem d_Proc_exit_9 : decode b_Proc_exit 9 = .ok (.ireturn, 1) := by decide +kernel
theorem d_Proc_await_0 : decode b_Proc_await 0 = .ok (.aload_n 0, 1) := by decide +kernel
theorem d_Proc_await_1 : decode b_Proc_await 1 = .ok (.getfield 12, 3) := by decide +kernel
theorem d_Proc_await_4 : decode b_Proc_await 4 = .ok (.iload_n 1, 1) := by decide +kernel
theorem d_Proc_await_5 : decode b_Proc_await 5 = .ok (.invokevirtual 36, 3) := by decide +kernel
theorem d_Proc_await_8 : decode b_Proc_await 8 = .ok (.ireturn, 1) := by decide +kernel
theorem d_Proc_status_0 : decode b_Proc_status 0 = .ok (.aload_n 0, 1) := by decide +kernel
theorem d_Proc_status_1 : decode b_Proc_status 1 = .ok (.getfield 12, 3) := by decide +kernel
theorem d_Proc_status_4 : decode b_Proc_status 4 = .ok (.getfield 39, 3) := by decide +kernel
theorem d_Proc_status_7 : decode b_Proc_status 7 = .ok (.ireturn, 1) := by decide +kernel
theorem d_Proc_block_0 : decode b_Proc_block 0 = .ok (.aload_n 0, 1) := by decide +kernel
theorem d_Proc_block_1 : decode b_Proc_block 1 = .ok (.getfield 12, 3) := by decide +kernel
theorem d_Proc_block_4 : decode b_Proc_block 4 = .ok (.iload_n 1, 1) := by decide +kernel
theorem d_Proc_block_5 : decode b_Proc_block 5 = .ok (.iload_n 2, 1) := by decide +kernel
theorem d_Proc_block_6 : decode b_Proc_block 6 = .ok (.invokevirtual 43, 3) := by decide +kernel
theorem d_Proc_block_9 : decode b_Proc_block 9 = .ok (.ireturn, 1) := by decide +kernel
theorem d_Proc_sleep_0 : decode b_Proc_sleep 0 = .ok (.aload_n 0, 1) := by decide +kernel
theorem d_Proc_sleep_1 : decode b_Proc_sleep 1 = .ok (.getfield 12, 3) := by decide +kernel
theorem d_Proc_sleep_4 : decode b_Proc_sleep 4 = .ok (.iload_n 1, 1) := by decide +kernel
theorem d_Proc_sleep_5 : decode b_Proc_sleep 5 = .ok (.iload_n 2, 1) := by decide +kernel
theorem d_Proc_sleep_6 : decode b_Proc_sleep 6 = .ok (.invokevirtual 46, 3) := by decide +kernel
theorem d_Proc_sleep_9 : decode b_Proc_sleep 9 = .ok (.ireturn, 1) := by decide +kernel
theorem d_Proc_wake_0 : decode b_Proc_wake 0 = .ok (.aload_n 0, 1) := by decide +kernel
theorem d_Proc_wake_1 : decode b_Proc_wake 1 = .ok (.getfield 12, 3) := by decide +kernel
theorem d_Proc_wake_4 : decode b_Proc_wake 4 = .ok (.iload_n 1, 1) := by decide +kernel
theorem d_Proc_wake_5 : decode b_Proc_wake 5 = .ok (.invokevirtual 49, 3) := by decide +kernel
theorem d_Proc_wake_8 : decode b_Proc_wake 8 = .ok (.ireturn, 1) := by decide +kernel
theorem d_Proc_rest_0 : decode b_Proc_rest 0 = .ok (.aload_n 0, 1) := by decide +kernel
theorem d_Proc_rest_1 : decode b_Proc_rest 1 = .ok (.getfield 12, 3) := by decide +kernel
theorem d_Proc_rest_4 : decode b_Proc_rest 4 = .ok (.iload_n 1, 1) := by decide +kernel
theorem d_Proc_rest_5 : decode b_Proc_rest 5 = .ok (.invokevirtual 52, 3) := by decide +kernel
theorem d_Proc_rest_8 : decode b_Proc_rest 8 = .ok (.ireturn, 1) := by decide +kernel
theorem d_Proc_tick_0 : decode b_Proc_tick 0 = .ok (.aload_n 0, 1) := by decide +kernel
theorem d_Proc_tick_1 : decode b_Proc_tick 1 = .ok (.getfield 12, 3) := by decide +kernel
theorem d_Proc_tick_4 : decode b_Proc_tick 4 = .ok (.invokevirtual 18, 3) := by decide +kernel
theorem d_Proc_tick_7 : decode b_Proc_tick 7 = .ok (.ifCond .eq 7, 3) := by decide +kernel
theorem d_Proc_tick_10 : decode b_Proc_tick 10 = .ok (.iconst (-1), 1) := by decide +kernel
theorem d_Proc_tick_11 : decode b_Proc_tick 11 = .ok (.goto 10, 3) := by decide +kernel
theorem d_Proc_tick_14 : decode b_Proc_tick 14 = .ok (.aload_n 0, 1) := by decide +kernel
theorem d_Proc_tick_15 : decode b_Proc_tick 15 = .ok (.getfield 12, 3) := by decide +kernel
theorem d_Proc_tick_18 : decode b_Proc_tick 18 = .ok (.invokevirtual 55, 3) := by decide +kernel
theorem d_Proc_tick_21 : decode b_Proc_tick 21 = .ok (.ireturn, 1) := by decide +kernel
theorem d_Proc_kill_0 : decode b_Proc_kill 0 = .ok (.aload_n 0, 1) := by decide +kernel
theorem d_Proc_kill_1 : decode b_Proc_kill 1 = .ok (.getfield 12, 3) := by decide +kernel
theorem d_Proc_kill_4 : decode b_Proc_kill 4 = .ok (.iload_n 1, 1) := by decide +kernel
theorem d_Proc_kill_5 : decode b_Proc_kill 5 = .ok (.invokevirtual 59, 3) := by decide +kernel
theorem d_Proc_kill_8 : decode b_Proc_kill 8 = .ok (.ireturn, 1) := by decide +kernel
theorem d_Proc_about_0 : decode b_Proc_about 0 = .ok (.iload_n 1, 1) := by decide +kernel
theorem d_Proc_about_1 : decode b_Proc_about 1 = .ok (.ifCond .lt 18, 3) := by decide +kernel
theorem d_Proc_about_4 : decode b_Proc_about 4 = .ok (.iload_n 1, 1) := by decide +kernel
theorem d_Proc_about_5 : decode b_Proc_about 5 = .ok (.bipush 15, 2) := by decide +kernel
theorem d_Proc_about_7 : decode b_Proc_about 7 = .ok (.if_icmp .ge 12, 3) := by decide +kernel
theorem d_Proc_about_10 : decode b_Proc_about 10 = .ok (.iload_n 2, 1) := by decide +kernel
theorem d_Proc_about_11 : decode b_Proc_about 11 = .ok (.ifCond .lt 8, 3) := by decide +kernel
theorem d_Proc_about_14 : decode b_Proc_about 14 = .ok (.iload_n 2, 1) := by decide +kernel
theorem d_Proc_about_15 : decode b_Proc_about 15 = .ok (.iconst 5, 1) := by decide +kernel
theorem d_Proc_about_16 : decode b_Proc_about 16 = .ok (.if_icmp .le 5, 3) := by decide +kernel
theorem d_Proc_about_19 : decode b_Proc_about 19 = .ok (.iconst (-1), 1) := by decide +kernel
theorem d_Proc_about_20 : decode b_Proc_about 20 = .ok (.ireturn, 1) := by decide +kernel
theorem d_Proc_about_21 : decode b_Proc_about 21 = .ok (.aload_n 0, 1) := by decide +kernel
theorem d_Proc_about_22 : decode b_Proc_about 22 = .ok (.getfield 12, 3) := by decide +kernel
theorem d_Proc_about_25 : decode b_Proc_about 25 = .ok (.getfield 63, 3) := by decide +kernel
theorem d_Proc_about_28 : decode b_Proc_about 28 = .ok (.iload_n 1, 1) := by decide +kernel
theorem d_Proc_about_29 : decode b_Proc_about 29 = .ok (.iaload, 1) := by decide +kernel
theorem d_Proc_about_30 : decode b_Proc_about 30 = .ok (.istore_n 3, 1) := by decide +kernel
theorem d_Proc_about_31 : decode b_Proc_about 31 = .ok (.iload_n 2, 1) := by decide +kernel
theorem d_Proc_about_32 : decode b_Proc_about 32 = .ok (.iconst 1, 1) := by decide +kernel
theorem d_Proc_about_33 : decode b_Proc_about 33 = .ok (.if_icmp .eq 7, 3) := by decide +kernel
theorem d_Proc_about_36 : decode b_Proc_about 36 = .ok (.iload_n 3, 1) := by decide +kernel
theorem d_Proc_about_37 : decode b_Proc_about 37 = .ok (.ifCond .ne 14, 3) := by decide +kernel
theorem d_Proc_about_40 : decode b_Proc_about 40 = .ok (.iload_n 2, 1) := by decide +kernel
theorem d_Proc_about_41 : decode b_Proc_about 41 = .ok (.iconst 1, 1) := by decide +kernel
theorem d_Proc_about_42 : decode b_Proc_about 42 = .ok (.if_icmp .ne 7, 3) := by decide +kernel
theorem d_Proc_about_45 : decode b_Proc_about 45 = .ok (.iload_n 3, 1) := by decide +kernel
theorem d_Proc_about_46 : decode b_Proc_about 46 = .ok (.goto 4, 3) := by decide +kernel
theorem d_Proc_about_49 : decode b_Proc_about 49 = .ok (.iconst (-1), 1) := by decide +kernel
theorem d_Proc_about_50 : decode b_Proc_about 50 = .ok (.ireturn, 1) := by decide +kernel
theorem d_Proc_about_51 : decode b_Proc_about 51 = .ok (.iload_n 2, 1) := by decide +kernel
theorem d_Proc_about_52 : decode b_Proc_about 52 = .ok (.tableswitch 93 0 4 #[36, 93, 46, 56, 74], 36) := by decide +kernel
theorem d_Proc_about_88 : decode b_Proc_about 88 = .ok (.aload_n 0, 1) := by decide +kernel
theorem d_Proc_about_89 : decode b_Proc_about 89 = .ok (.getfield 12, 3) := by decide +kernel
theorem d_Proc_about_92 : decode b_Proc_about 92 = .ok (.getfield 67, 3) := by decide +kernel
theorem d_Proc_about_95 : decode b_Proc_about 95 = .ok (.iload_n 1, 1) := by decide +kernel
theorem d_Proc_about_96 : decode b_Proc_about 96 = .ok (.iaload, 1) := by decide +kernel
theorem d_Proc_about_97 : decode b_Proc_about 97 = .ok (.ireturn, 1) := by decide +kernel
theorem d_Proc_about_98 : decode b_Proc_about 98 = .ok (.aload_n 0, 1) := by decide +kernel
theorem d_Proc_about_99 : decode b_Proc_about 99 = .ok (.getfield 12, 3) := by decide +kernel
theorem d_Proc_about_102 : decode b_Proc_about 102 = .ok (.getfield 70, 3) := by decide +kernel
theorem d_Proc_about_105 : decode b_Proc_about 105 = .ok (.iload_n 1, 1) := by decide +kernel
theorem d_Proc_about_106 : decode b_Proc_about 106 = .ok (.iaload, 1) := by decide +kernel
theorem d_Proc_about_107 : decode b_Proc_about 107 = .ok (.ireturn, 1) := by decide +kernel
theorem d_Proc_about_108 : decode b_Proc_about 108 = .ok (.aload_n 0, 1) := by decide +kernel
theorem d_Proc_about_109 : decode b_Proc_about 109 = .ok (.getfield 12, 3) := by decide +kernel
theorem d_Proc_about_112 : decode b_Proc_about 112 = .ok (.getfield 73, 3) := by decide +kernel
theorem d_Proc_about_115 : decode b_Proc_about 115 = .ok (.iload_n 1, 1) := by decide +kernel
theorem d_Proc_about_116 : decode b_Proc_about 116 = .ok (.baload, 1) := by decide +kernel
theorem d_Proc_about_117 : decode b_Proc_about 117 = .ok (.ifCond .eq 7, 3) := by decide +kernel
theorem d_Proc_about_120 : decode b_Proc_about 120 = .ok (.iconst 1, 1) := by decide +kernel
theorem d_Proc_about_121 : decode b_Proc_about 121 = .ok (.goto 4, 3) := by decide +kernel
theorem d_Proc_about_124 : decode b_Proc_about 124 = .ok (.iconst 0, 1) := by decide +kernel
theorem d_Proc_about_125 : decode b_Proc_about 125 = .ok (.ireturn, 1) := by decide +kernel
theorem d_Proc_about_126 : decode b_Proc_about 126 = .ok (.iload_n 3, 1) := by decide +kernel
theorem d_Proc_about_127 : decode b_Proc_about 127 = .ok (.iconst 4, 1) := by decide +kernel
theorem d_Proc_about_128 : decode b_Proc_about 128 = .ok (.if_icmp .ne 15, 3) := by decide +kernel
theorem d_Proc_about_131 : decode b_Proc_about 131 = .ok (.aload_n 0, 1) := by decide +kernel
theorem d_Proc_about_132 : decode b_Proc_about 132 = .ok (.getfield 12, 3) := by decide +kernel
theorem d_Proc_about_135 : decode b_Proc_about 135 = .ok (.getfield 77, 3) := by decide +kernel
theorem d_Proc_about_138 : decode b_Proc_about 138 = .ok (.iload_n 1, 1) := by decide +kernel
theorem d_Proc_about_139 : decode b_Proc_about 139 = .ok (.iaload, 1) := by decide +kernel
theorem d_Proc_about_140 : decode b_Proc_about 140 = .ok (.goto 4, 3) := by decide +kernel
theorem d_Proc_about_143 : decode b_Proc_about 143 = .ok (.iconst 0, 1) := by decide +kernel
theorem d_Proc_about_144 : decode b_Proc_about 144 = .ok (.ireturn, 1) := by decide +kernel
theorem d_Proc_about_145 : decode b_Proc_about 145 = .ok (.aload_n 0, 1) := by decide +kernel
theorem d_Proc_about_146 : decode b_Proc_about 146 = .ok (.getfield 12, 3) := by decide +kernel
theorem d_Proc_about_149 : decode b_Proc_about 149 = .ok (.iload_n 1, 1) := by decide +kernel
theorem d_Proc_about_150 : decode b_Proc_about 150 = .ok (.invokevirtual 80, 3) := by decide +kernel
theorem d_Proc_about_153 : decode b_Proc_about 153 = .ok (.ireturn, 1) := by decide +kernel
theorem d_Proc_count_0 : decode b_Proc_count 0 = .ok (.iload_n 1, 1) := by decide +kernel
theorem d_Proc_count_1 : decode b_Proc_count 1 = .ok (.ifCond .lt 8, 3) := by decide +kernel
theorem d_Proc_count_4 : decode b_Proc_count 4 = .ok (.iload_n 1, 1) := by decide +kernel
theorem d_Proc_count_5 : decode b_Proc_count 5 = .ok (.iconst 4, 1) := by decide +kernel
theorem d_Proc_count_6 : decode b_Proc_count 6 = .ok (.if_icmp .le 7, 3) := by decide +kernel
theorem d_Proc_count_9 : decode b_Proc_count 9 = .ok (.iconst (-1), 1) := by decide +kernel
theorem d_Proc_count_10 : decode b_Proc_count 10 = .ok (.goto 11, 3) := by decide +kernel
theorem d_Proc_count_13 : decode b_Proc_count 13 = .ok (.aload_n 0, 1) := by decide +kernel
theorem d_Proc_count_14 : decode b_Proc_count 14 = .ok (.getfield 12, 3) := by decide +kernel
theorem d_Proc_count_17 : decode b_Proc_count 17 = .ok (.iload_n 1, 1) := by decide +kernel
theorem d_Proc_count_18 : decode b_Proc_count 18 = .ok (.invokevirtual 83, 3) := by decide +kernel
theorem d_Proc_count_21 : decode b_Proc_count 21 = .ok (.ireturn, 1) := by decide +kernel
end
section
theorem d_Mod_init_0 : decode b_Mod_init 0 = .ok (.aload_n 0, 1) := by decide +kernel
theorem d_Mod_init_1 : decode b_Mod_init 1 = .ok (.invokespecial 1, 3) := by decide +kernel
theorem d_Mod_init_4 : decode b_Mod_init 4 = .ok (.aload_n 0, 1) := by decide +kernel
theorem d_Mod_init_5 : decode b_Mod_init 5 = .ok (.bipush 16, 2) := by decide +kernel
theorem d_Mod_init_7 : decode b_Mod_init 7 = .ok (.newarray .int, 2) := by decide +kernel
theorem d_Mod_init_9 : decode b_Mod_init 9 = .ok (.putfield 7, 3) := by decide +kernel
theorem d_Mod_init_12 : decode b_Mod_init 12 = .ok (.aload_n 0, 1) := by decide +kernel
theorem d_Mod_init_13 : decode b_Mod_init 13 = .ok (.bipush 16, 2) := by decide +kernel
theorem d_Mod_init_15 : decode b_Mod_init 15 = .ok (.newarray .int, 2) := by decide +kernel
theorem d_Mod_init_17 : decode b_Mod_init 17 = .ok (.putfield 13, 3) := by decide +kernel
theorem d_Mod_init_20 : decode b_Mod_init 20 = .ok (.aload_n 0, 1) := by decide +kernel
theorem d_Mod_init_21 : decode b_Mod_init 21 = .ok (.bipush 16, 2) := by decide +kernel
theorem d_Mod_init_23 : decode b_Mod_init 23 = .ok (.newarray .int, 2) := by decide +kernel
theorem d_Mod_init_25 : decode b_Mod_init 25 = .ok (.putfield 16, 3) := by decide +kernel
theorem d_Mod_init_28 : decode b_Mod_init 28 = .ok (.aload_n 0, 1) := by decide +kernel
theorem d_Mod_init_29 : decode b_Mod_init 29 = .ok (.bipush 16, 2) := by decide +kernel
theorem d_Mod_init_31 : decode b_Mod_init 31 = .ok (.newarray .boolean, 2) := by decide +kernel
theorem d_Mod_init_33 : decode b_Mod_init 33 = .ok (.putfield 19, 3) := by decide +kernel
theorem d_Mod_init_36 : decode b_Mod_init 36 = .ok (.aload_n 0, 1) := by decide +kernel
theorem d_Mod_init_37 : decode b_Mod_init 37 = .ok (.bipush 16, 2) := by decide +kernel
theorem d_Mod_init_39 : decode b_Mod_init 39 = .ok (.newarray .int, 2) := by decide +kernel
theorem d_Mod_init_41 : decode b_Mod_init 41 = .ok (.putfield 23, 3) := by decide +kernel
theorem d_Mod_init_44 : decode b_Mod_init 44 = .ok (.aload_n 0, 1) := by decide +kernel
theorem d_Mod_init_45 : decode b_Mod_init 45 = .ok (.bipush 16, 2) := by decide +kernel
theorem d_Mod_init_47 : decode b_Mod_init 47 = .ok (.newarray .boolean, 2) := by decide +kernel
theorem d_Mod_init_49 : decode b_Mod_init 49 = .ok (.putfield 26, 3) := by decide +kernel
theorem d_Mod_init_52 : decode b_Mod_init 52 = .ok (.aload_n 0, 1) := by decide +kernel
theorem d_Mod_init_53 : decode b_Mod_init 53 = .ok (.bipush 16, 2) := by decide +kernel
theorem d_Mod_init_55 : decode b_Mod_init 55 = .ok (.newarray .int, 2) := by decide +kernel
theorem d_Mod_init_57 : decode b_Mod_init 57 = .ok (.putfield 29, 3) := by decide +kernel
theorem d_Mod_init_60 : decode b_Mod_init 60 = .ok (.aload_n 0, 1) := by decide +kernel
theorem d_Mod_init_61 : decode b_Mod_init 61 = .ok (.bipush 16, 2) := by decide +kernel
theorem d_Mod_init_63 : decode b_Mod_init 63 = .ok (.newarray .int, 2) := by decide +kernel
theorem d_Mod_init_65 : decode b_Mod_init 65 = .ok (.putfield 32, 3) := by decide +kernel
theorem d_Mod_init_68 : decode b_Mod_init 68 = .ok (.aload_n 0, 1) := by decide +kernel
theorem d_Mod_init_69 : decode b_Mod_init 69 = .ok (.bipush 16, 2) := by decide +kernel
theorem d_Mod_init_71 : decode b_Mod_init 71 = .ok (.newarray .int, 2) := by decide +kernel
theorem d_Mod_init_73 : decode b_Mod_init 73 = .ok (.putfield 35, 3) := by decide +kernel
theorem d_Mod_init_76 : decode b_Mod_init 76 = .ok (.aload_n 0, 1) := by decide +kernel
theorem d_Mod_init_77 : decode b_Mod_init 77 = .ok (.iload_n 1, 1) := by decide +kernel
theorem d_Mod_init_78 : decode b_Mod_init 78 = .ok (.iconst 1, 1) := by decide +kernel
theorem d_Mod_init_79 : decode b_Mod_init 79 = .ok (.if_icmp .ge 7, 3) := by decide +kernel
theorem d_Mod_init_82 : decode b_Mod_init 82 = .ok (.iconst 1, 1) := by decide +kernel
theorem d_Mod_init_83 : decode b_Mod_init 83 = .ok (.goto 13, 3) := by decide +kernel
theorem d_Mod_init_86 : decode b_Mod_init 86 = .ok (.iload_n 1, 1) := by decide +kernel
theorem d_Mod_init_87 : decode b_Mod_init 87 = .ok (.iconst 4, 1) := by decide +kernel
theorem d_Mod_init_88 : decode b_Mod_init 88 = .ok (.if_icmp .le 7, 3) := by decide +kernel
theorem d_Mod_init_91 : decode b_Mod_init 91 = .ok (.iconst 4, 1) := by decide +kernel
theorem d_Mod_init_92 : decode b_Mod_init 92 = .ok (.goto 4, 3) := by decide +kernel
theorem d_Mod_init_95 : decode b_Mod_init 95 = .ok (.iload_n 1, 1) := by decide +kernel
theorem d_Mod_init_96 : decode b_Mod_init 96 = .ok (.putfield 38, 3) := by decide +kernel
theorem d_Mod_init_99 : decode b_Mod_init 99 = .ok (.return_, 1) := by decide +kernel
theorem d_Mod_ofPlace_0 : decode b_Mod_ofPlace 0 = .ok (.iconst (-1), 1) := by decide +kernel
theorem d_Mod_ofPlace_1 : decode b_Mod_ofPlace 1 = .ok (.istore_n 2, 1) := by decide +kernel
theorem d_Mod_ofPlace_2 : decode b_Mod_ofPlace 2 = .ok (.iconst 0, 1) := by decide +kernel
theorem d_Mod_ofPlace_3 : decode b_Mod_ofPlace 3 = .ok (.istore_n 3, 1) := by decide +kernel
theorem d_Mod_ofPlace_4 : decode b_Mod_ofPlace 4 = .ok (.iload_n 3, 1) := by decide +kernel
theorem d_Mod_ofPlace_5 : decode b_Mod_ofPlace 5 = .ok (.aload_n 0, 1) := by decide +kernel
theorem d_Mod_ofPlace_6 : decode b_Mod_ofPlace 6 = .ok (.getfield 45, 3) := by decide +kernel
theorem d_Mod_ofPlace_9 : decode b_Mod_ofPlace 9 = .ok (.if_icmp .ge 25, 3) := by decide +kernel
theorem d_Mod_ofPlace_12 : decode b_Mod_ofPlace 12 = .ok (.aload_n 0, 1) := by decide +kernel
theorem d_Mod_ofPlace_13 : decode b_Mod_ofPlace 13 = .ok (.getfield 13, 3) := by decide +kernel
theorem d_Mod_ofPlace_16 : decode b_Mod_ofPlace 16 = .ok (.iload_n 3, 1) := by decide +kernel
theorem d_Mod_ofPlace_17 : decode b_Mod_ofPlace 17 = .ok (.iaload, 1) := by decide +kernel
theorem d_Mod_ofPlace_18 : decode b_Mod_ofPlace 18 = .ok (.iload_n 1, 1) := by decide +kernel
theorem d_Mod_ofPlace_19 : decode b_Mod_ofPlace 19 = .ok (.if_icmp .ne 7, 3) := by decide +kernel
theorem d_Mod_ofPlace_22 : decode b_Mod_ofPlace 22 = .ok (.iload_n 3, 1) := by decide +kernel
theorem d_Mod_ofPlace_23 : decode b_Mod_ofPlace 23 = .ok (.goto 4, 3) := by decide +kernel
theorem d_Mod_ofPlace_26 : decode b_Mod_ofPlace 26 = .ok (.iload_n 2, 1) := by decide +kernel
theorem d_Mod_ofPlace_27 : decode b_Mod_ofPlace 27 = .ok (.istore_n 2, 1) := by decide +kernel
theorem d_Mod_ofPlace_28 : decode b_Mod_ofPlace 28 = .ok (.iinc 3 1, 3) := by decide +kernel
theorem d_Mod_ofPlace_31 : decode b_Mod_ofPlace 31 = .ok (.goto (-27), 3) := by decide +kernel
theorem d_Mod_ofPlace_34 : decode b_Mod_ofPlace 34 = .ok (.iload_n 2, 1) := by decide +kernel
theorem d_Mod_ofPlace_35 : decode b_Mod_ofPlace 35 = .ok (.ireturn, 1) := by decide +kernel
theorem d_Mod_ofNumber_0 : decode b_Mod_ofNumber 0 = .ok (.iconst (-1), 1) := by decide +kernel
theorem d_Mod_ofNumber_1 : decode b_Mod_ofNumber 1 = .ok (.istore_n 2, 1) := by decide +kernel
theorem d_Mod_ofNumber_2 : decode b_Mod_ofNumber 2 = .ok (.iconst 0, 1) := by decide +kernel
theorem d_Mod_ofNumber_3 : decode b_Mod_ofNumber 3 = .ok (.istore_n 3, 1) := by decide +kernel
theorem d_Mod_ofNumber_4 : decode b_Mod_ofNumber 4 = .ok (.iload_n 3, 1) := by decide +kernel
theorem d_Mod_ofNumber_5 : decode b_Mod_ofNumber 5 = .ok (.aload_n 0, 1) := by decide +kernel
theorem d_Mod_ofNumber_6 : decode b_Mod_ofNumber 6 = .ok (.getfield 45, 3) := by decide +kernel
theorem d_Mod_ofNumber_9 : decode b_Mod_ofNumber 9 = .ok (.if_icmp .ge 25, 3) := by decide +kernel
theorem d_Mod_ofNumber_12 : decode b_Mod_ofNumber 12 = .ok (.aload_n 0, 1) := by decide +kernel
theorem d_Mod_ofNumber_13 : decode b_Mod_ofNumber 13 = .ok (.getfield 7, 3) := by decide +kernel
theorem d_Mod_ofNumber_16 : decode b_Mod_ofNumber 16 = .ok (.iload_n 3, 1) := by decide +kernel
theorem d_Mod_ofNumber_17 : decode b_Mod_ofNumber 17 = .ok (.iaload, 1) := by decide +kernel
theorem d_Mod_ofNumber_18 : decode b_Mod_ofNumber 18 = .ok (.iload_n 1, 1) := by decide +kernel
theorem d_Mod_ofNumber_19 : decode b_Mod_ofNumber 19 = .ok (.if_icmp .ne 7, 3) := by decide +kernel
theorem d_Mod_ofNumber_22 : decode b_Mod_ofNumber 22 = .ok (.iload_n 3, 1) := by decide +kernel
theorem d_Mod_ofNumber_23 : decode b_Mod_ofNumber 23 = .ok (.goto 4, 3) := by decide +kernel
theorem d_Mod_ofNumber_26 : decode b_Mod_ofNumber 26 = .ok (.iload_n 2, 1) := by decide +kernel
theorem d_Mod_ofNumber_27 : decode b_Mod_ofNumber 27 = .ok (.istore_n 2, 1) := by decide +kernel
theorem d_Mod_ofNumber_28 : decode b_Mod_ofNumber 28 = .ok (.iinc 3 1, 3) := by decide +kernel
theorem d_Mod_ofNumber_31 : decode b_Mod_ofNumber 31 = .ok (.goto (-27), 3) := by decide +kernel
theorem d_Mod_ofNumber_34 : decode b_Mod_ofNumber 34 = .ok (.iload_n 2, 1) := by decide +kernel
theorem d_Mod_ofNumber_35 : decode b_Mod_ofNumber 35 = .ok (.ireturn, 1) := by decide +kernel
theorem d_Mod_running_0 : decode b_Mod_running 0 = .ok (.iconst (-1), 1) := by decide +kernel
theorem d_Mod_running_1 : decode b_Mod_running 1 = .ok (.istore_n 2, 1) := by decide +kernel
theorem d_Mod_running_2 : decode b_Mod_running 2 = .ok (.iconst 0, 1) := by decide +kernel
theorem d_Mod_running_3 : decode b_Mod_running 3 = .ok (.istore_n 3, 1) := by decide +kernel
theorem d_Mod_running_4 : decode b_Mod_running 4 = .ok (.iload_n 3, 1) := by decide +kernel
theorem d_Mod_running_5 : decode b_Mod_running 5 = .ok (.aload_n 0, 1) := by decide +kernel
theorem d_Mod_running_6 : decode b_Mod_running 6 = .ok (.getfield 45, 3) := by decide +kernel
theorem d_Mod_running_9 : decode b_Mod_running 9 = .ok (.if_icmp .ge 37, 3) := by decide +kernel
theorem d_Mod_running_12 : decode b_Mod_running 12 = .ok (.iload_n 1, 1) := by decide +kernel
theorem d_Mod_running_13 : decode b_Mod_running 13 = .ok (.ifCond .lt 33, 3) := by decide +kernel
theorem d_Mod_running_16 : decode b_Mod_running 16 = .ok (.iload_n 1, 1) := by decide +kernel
theorem d_Mod_running_17 : decode b_Mod_running 17 = .ok (.aload_n 0, 1) := by decide +kernel
theorem d_Mod_running_18 : decode b_Mod_running 18 = .ok (.getfield 38, 3) := by decide +kernel
theorem d_Mod_running_21 : decode b_Mod_running 21 = .ok (.if_icmp .ge 25, 3) := by decide +kernel
theorem d_Mod_running_24 : decode b_Mod_running 24 = .ok (.aload_n 0, 1) := by decide +kernel
theorem d_Mod_running_25 : decode b_Mod_running 25 = .ok (.getfield 29, 3) := by decide +kernel
theorem d_Mod_running_28 : decode b_Mod_running 28 = .ok (.iload_n 3, 1) := by decide +kernel
theorem d_Mod_running_29 : decode b_Mod_running 29 = .ok (.iaload, 1) := by decide +kernel
theorem d_Mod_running_30 : decode b_Mod_running 30 = .ok (.iload_n 1, 1) := by decide +kernel
theorem d_Mod_running_31 : decode b_Mod_running 31 = .ok (.if_icmp .ne 7, 3) := by decide +kernel
theorem d_Mod_running_34 : decode b_Mod_running 34 = .ok (.iload_n 3, 1) := by decide +kernel
theorem d_Mod_running_35 : decode b_Mod_running 35 = .ok (.goto 4, 3) := by decide +kernel
theorem d_Mod_running_38 : decode b_Mod_running 38 = .ok (.iload_n 2, 1) := by decide +kernel
theorem d_Mod_running_39 : decode b_Mod_running 39 = .ok (.istore_n 2, 1) := by decide +kernel
theorem d_Mod_running_40 : decode b_Mod_running 40 = .ok (.iinc 3 1, 3) := by decide +kernel
theorem d_Mod_running_43 : decode b_Mod_running 43 = .ok (.goto (-39), 3) := by decide +kernel
theorem d_Mod_running_46 : decode b_Mod_running 46 = .ok (.iload_n 2, 1) := by decide +kernel
theorem d_Mod_running_47 : decode b_Mod_running 47 = .ok (.ireturn, 1) := by decide +kernel
theorem d_Mod_vacant_0 : decode b_Mod_vacant 0 = .ok (.iconst 0, 1) := by decide +kernel
theorem d_Mod_vacant_1 : decode b_Mod_vacant 1 = .ok (.istore_n 1, 1) := by decide +kernel
theorem d_Mod_vacant_2 : decode b_Mod_vacant 2 = .ok (.iload_n 1, 1) := by decide +kernel
theorem d_Mod_vacant_3 : decode b_Mod_vacant 3 = .ok (.bipush 15, 2) := by decide +kernel
theorem d_Mod_vacant_5 : decode b_Mod_vacant 5 = .ok (.if_icmp .ge 17, 3) := by decide +kernel
theorem d_Mod_vacant_8 : decode b_Mod_vacant 8 = .ok (.aload_n 0, 1) := by decide +kernel
theorem d_Mod_vacant_9 : decode b_Mod_vacant 9 = .ok (.iload_n 1, 1) := by decide +kernel
theorem d_Mod_vacant_10 : decode b_Mod_vacant 10 = .ok (.invokevirtual 48, 3) := by decide +kernel
theorem d_Mod_vacant_13 : decode b_Mod_vacant 13 = .ok (.ifCond .lt 9, 3) := by decide +kernel
theorem d_Mod_vacant_16 : decode b_Mod_vacant 16 = .ok (.iinc 1 1, 3) := by decide +kernel
theorem d_Mod_vacant_19 : decode b_Mod_vacant 19 = .ok (.goto (-17), 3) := by decide +kernel
theorem d_Mod_vacant_22 : decode b_Mod_vacant 22 = .ok (.iload_n 1, 1) := by decide +kernel
theorem d_Mod_vacant_23 : decode b_Mod_vacant 23 = .ok (.ireturn, 1) := by decide +kernel
theorem d_Mod_endedChild_0 : decode b_Mod_endedChild 0 = .ok (.iconst (-1), 1) := by decide +kernel
theorem d_Mod_endedChild_1 : decode b_Mod_endedChild 1 = .ok (.istore_n 2, 1) := by decide +kernel
theorem d_Mod_endedChild_2 : decode b_Mod_endedChild 2 = .ok (.iconst 0, 1) := by decide +kernel
theorem d_Mod_endedChild_3 : decode b_Mod_endedChild 3 = .ok (.istore_n 3, 1) := by decide +kernel
theorem d_Mod_endedChild_4 : decode b_Mod_endedChild 4 = .ok (.iload_n 3, 1) := by decide +kernel
theorem d_Mod_endedChild_5 : decode b_Mod_endedChild 5 = .ok (.aload_n 0, 1) := by decide +kernel
theorem d_Mod_endedChild_6 : decode b_Mod_endedChild 6 = .ok (.getfield 45, 3) := by decide +kernel
theorem d_Mod_endedChild_9 : decode b_Mod_endedChild 9 = .ok (.if_icmp .ge 54, 3) := by decide +kernel
theorem d_Mod_endedChild_12 : decode b_Mod_endedChild 12 = .ok (.aload_n 0, 1) := by decide +kernel
theorem d_Mod_endedChild_13 : decode b_Mod_endedChild 13 = .ok (.getfield 16, 3) := by decide +kernel
theorem d_Mod_endedChild_16 : decode b_Mod_endedChild 16 = .ok (.iload_n 3, 1) := by decide +kernel
theorem d_Mod_endedChild_17 : decode b_Mod_endedChild 17 = .ok (.iaload, 1) := by decide +kernel
theorem d_Mod_endedChild_18 : decode b_Mod_endedChild 18 = .ok (.aload_n 0, 1) := by decide +kernel
theorem d_Mod_endedChild_19 : decode b_Mod_endedChild 19 = .ok (.getfield 7, 3) := by decide +kernel
theorem d_Mod_endedChild_22 : decode b_Mod_endedChild 22 = .ok (.iload_n 1, 1) := by decide +kernel
theorem d_Mod_endedChild_23 : decode b_Mod_endedChild 23 = .ok (.iaload, 1) := by decide +kernel
theorem d_Mod_endedChild_24 : decode b_Mod_endedChild 24 = .ok (.if_icmp .ne 33, 3) := by decide +kernel
theorem d_Mod_endedChild_27 : decode b_Mod_endedChild 27 = .ok (.aload_n 0, 1) := by decide +kernel
theorem d_Mod_endedChild_28 : decode b_Mod_endedChild 28 = .ok (.getfield 19, 3) := by decide +kernel
theorem d_Mod_endedChild_31 : decode b_Mod_endedChild 31 = .ok (.iload_n 3, 1) := by decide +kernel
theorem d_Mod_endedChild_32 : decode b_Mod_endedChild 32 = .ok (.baload, 1) := by decide +kernel
theorem d_Mod_endedChild_33 : decode b_Mod_endedChild 33 = .ok (.ifCond .eq 24, 3) := by decide +kernel
theorem d_Mod_endedChild_36 : decode b_Mod_endedChild 36 = .ok (.iload_n 2, 1) := by decide +kernel
theorem d_Mod_endedChild_37 : decode b_Mod_endedChild 37 = .ok (.ifCond .lt 18, 3) := by decide +kernel
theorem d_Mod_endedChild_40 : decode b_Mod_endedChild 40 = .ok (.aload_n 0, 1) := by decide +kernel
theorem d_Mod_endedChild_41 : decode b_Mod_endedChild 41 = .ok (.getfield 13, 3) := by decide +kernel
theorem d_Mod_endedChild_44 : decode b_Mod_endedChild 44 = .ok (.iload_n 3, 1) := by decide +kernel
theorem d_Mod_endedChild_45 : decode b_Mod_endedChild 45 = .ok (.iaload, 1) := by decide +kernel
theorem d_Mod_endedChild_46 : decode b_Mod_endedChild 46 = .ok (.aload_n 0, 1) := by decide +kernel
theorem d_Mod_endedChild_47 : decode b_Mod_endedChild 47 = .ok (.getfield 13, 3) := by decide +kernel
theorem d_Mod_endedChild_50 : decode b_Mod_endedChild 50 = .ok (.iload_n 2, 1) := by decide +kernel
theorem d_Mod_endedChild_51 : decode b_Mod_endedChild 51 = .ok (.iaload, 1) := by decide +kernel
theorem d_Mod_endedChild_52 : decode b_Mod_endedChild 52 = .ok (.if_icmp .ge 5, 3) := by decide +kernel
theorem d_Mod_endedChild_55 : decode b_Mod_endedChild 55 = .ok (.iload_n 3, 1) := by decide +kernel
theorem d_Mod_endedChild_56 : decode b_Mod_endedChild 56 = .ok (.istore_n 2, 1) := by decide +kernel
theorem d_Mod_endedChild_57 : decode b_Mod_endedChild 57 = .ok (.iinc 3 1, 3) := by decide +kernel
theorem d_Mod_endedChild_60 : decode b_Mod_endedChild 60 = .ok (.goto (-56), 3) := by decide +kernel
theorem d_Mod_endedChild_63 : decode b_Mod_endedChild 63 = .ok (.iload_n 2, 1) := by decide +kernel
theorem d_Mod_endedChild_64 : decode b_Mod_endedChild 64 = .ok (.ireturn, 1) := by decide +kernel
theorem d_Mod_state_0 : decode b_Mod_state 0 = .ok (.aload_n 0, 1) := by decide +kernel
theorem d_Mod_state_1 : decode b_Mod_state 1 = .ok (.getfield 19, 3) := by decide +kernel
theorem d_Mod_state_4 : decode b_Mod_state 4 = .ok (.iload_n 1, 1) := by decide +kernel
theorem d_Mod_state_5 : decode b_Mod_state 5 = .ok (.baload, 1) := by decide +kernel
theorem d_Mod_state_6 : decode b_Mod_state 6 = .ok (.ifCond .eq 5, 3) := by decide +kernel
theorem d_Mod_state_9 : decode b_Mod_state 9 = .ok (.iconst 4, 1) := by decide +kernel
theorem d_Mod_state_10 : decode b_Mod_state 10 = .ok (.ireturn, 1) := by decide +kernel
theorem d_Mod_state_11 : decode b_Mod_state 11 = .ok (.aload_n 0, 1) := by decide +kernel
theorem d_Mod_state_12 : decode b_Mod_state 12 = .ok (.getfield 29, 3) := by decide +kernel
theorem d_Mod_state_15 : decode b_Mod_state 15 = .ok (.iload_n 1, 1) := by decide +kernel
theorem d_Mod_state_16 : decode b_Mod_state 16 = .ok (.iaload, 1) := by decide +kernel
theorem d_Mod_state_17 : decode b_Mod_state 17 = .ok (.ifCond .lt 5, 3) := by decide +kernel
theorem d_Mod_state_20 : decode b_Mod_state 20 = .ok (.iconst 2, 1) := by decide +kernel
theorem d_Mod_state_21 : decode b_Mod_state 21 = .ok (.ireturn, 1) := by decide +kernel
theorem d_Mod_state_22 : decode b_Mod_state 22 = .ok (.aload_n 0, 1) := by decide +kernel
theorem d_Mod_state_23 : decode b_Mod_state 23 = .ok (.getfield 32, 3) := by decide +kernel
theorem d_Mod_state_26 : decode b_Mod_state 26 = .ok (.iload_n 1, 1) := by decide +kernel
theorem d_Mod_state_27 : decode b_Mod_state 27 = .ok (.iaload, 1) := by decide +kernel
theorem d_Mod_state_28 : decode b_Mod_state 28 = .ok (.iconst 1, 1) := by decide +kernel
theorem d_Mod_state_29 : decode b_Mod_state 29 = .ok (.if_icmp .eq 44, 3) := by decide +kernel
theorem d_Mod_state_32 : decode b_Mod_state 32 = .ok (.aload_n 0, 1) := by decide +kernel
theorem d_Mod_state_33 : decode b_Mod_state 33 = .ok (.getfield 32, 3) := by decide +kernel
theorem d_Mod_state_36 : decode b_Mod_state 36 = .ok (.iload_n 1, 1) := by decide +kernel
theorem d_Mod_state_37 : decode b_Mod_state 37 = .ok (.iaload, 1) := by decide +kernel
theorem d_Mod_state_38 : decode b_Mod_state 38 = .ok (.iconst 2, 1) := by decide +kernel
theorem d_Mod_state_39 : decode b_Mod_state 39 = .ok (.if_icmp .ne 11, 3) := by decide +kernel
theorem d_Mod_state_42 : decode b_Mod_state 42 = .ok (.aload_n 0, 1) := by decide +kernel
theorem d_Mod_state_43 : decode b_Mod_state 43 = .ok (.iload_n 1, 1) := by decide +kernel
theorem d_Mod_state_44 : decode b_Mod_state 44 = .ok (.invokevirtual 52, 3) := by decide +kernel
theorem d_Mod_state_47 : decode b_Mod_state 47 = .ok (.ifCond .lt 26, 3) := by decide +kernel
theorem d_Mod_state_50 : decode b_Mod_state 50 = .ok (.aload_n 0, 1) := by decide +kernel
theorem d_Mod_state_51 : decode b_Mod_state 51 = .ok (.getfield 32, 3) := by decide +kernel
theorem d_Mod_state_54 : decode b_Mod_state 54 = .ok (.iload_n 1, 1) := by decide +kernel
theorem d_Mod_state_55 : decode b_Mod_state 55 = .ok (.iaload, 1) := by decide +kernel
theorem d_Mod_state_56 : decode b_Mod_state 56 = .ok (.iconst 3, 1) := by decide +kernel
theorem d_Mod_state_57 : decode b_Mod_state 57 = .ok (.if_icmp .ne 20, 3) := by decide +kernel
theorem d_Mod_state_60 : decode b_Mod_state 60 = .ok (.aload_n 0, 1) := by decide +kernel
theorem d_Mod_state_61 : decode b_Mod_state 61 = .ok (.getfield 55, 3) := by decide +kernel
theorem d_Mod_state_64 : decode b_Mod_state 64 = .ok (.aload_n 0, 1) := by decide +kernel
theorem d_Mod_state_65 : decode b_Mod_state 65 = .ok (.getfield 35, 3) := by decide +kernel
theorem d_Mod_state_68 : decode b_Mod_state 68 = .ok (.iload_n 1, 1) := by decide +kernel
theorem d_Mod_state_69 : decode b_Mod_state 69 = .ok (.iaload, 1) := by decide +kernel
theorem d_Mod_state_70 : decode b_Mod_state 70 = .ok (.if_icmp .ge 7, 3) := by decide +kernel
theorem d_Mod_state_73 : decode b_Mod_state 73 = .ok (.iconst 1, 1) := by decide +kernel
theorem d_Mod_state_74 : decode b_Mod_state 74 = .ok (.goto 4, 3) := by decide +kernel
theorem d_Mod_state_77 : decode b_Mod_state 77 = .ok (.iconst 0, 1) := by decide +kernel
theorem d_Mod_state_78 : decode b_Mod_state 78 = .ok (.istore_n 2, 1) := by decide +kernel
theorem d_Mod_state_79 : decode b_Mod_state 79 = .ok (.iload_n 2, 1) := by decide +kernel
theorem d_Mod_state_80 : decode b_Mod_state 80 = .ok (.ifCond .eq 7, 3) := by decide +kernel
theorem d_Mod_state_83 : decode b_Mod_state 83 = .ok (.iconst 3, 1) := by decide +kernel
theorem d_Mod_state_84 : decode b_Mod_state 84 = .ok (.goto 4, 3) := by decide +kernel
theorem d_Mod_state_87 : decode b_Mod_state 87 = .ok (.iconst 1, 1) := by decide +kernel
theorem d_Mod_state_88 : decode b_Mod_state 88 = .ok (.ireturn, 1) := by decide +kernel
theorem d_Mod_add_0 : decode b_Mod_add 0 = .ok (.aload_n 0, 1) := by decide +kernel
theorem d_Mod_add_1 : decode b_Mod_add 1 = .ok (.dup, 1) := by decide +kernel
theorem d_Mod_add_2 : decode b_Mod_add 2 = .ok (.getfield 58, 3) := by decide +kernel
theorem d_Mod_add_5 : decode b_Mod_add 5 = .ok (.iconst 1, 1) := by decide +kernel
theorem d_Mod_add_6 : decode b_Mod_add 6 = .ok (.iadd, 1) := by decide +kernel
theorem d_Mod_add_7 : decode b_Mod_add 7 = .ok (.putfield 58, 3) := by decide +kernel
theorem d_Mod_add_10 : decode b_Mod_add 10 = .ok (.aload_n 0, 1) := by decide +kernel
theorem d_Mod_add_11 : decode b_Mod_add 11 = .ok (.getfield 7, 3) := by decide +kernel
theorem d_Mod_add_14 : decode b_Mod_add 14 = .ok (.aload_n 0, 1) := by decide +kernel
theorem d_Mod_add_15 : decode b_Mod_add 15 = .ok (.getfield 45, 3) := by decide +kernel
theorem d_Mod_add_18 : decode b_Mod_add 18 = .ok (.aload_n 0, 1) := by decide +kernel
theorem d_Mod_add_19 : decode b_Mod_add 19 = .ok (.getfield 58, 3) := by decide +kernel
theorem d_Mod_add_22 : decode b_Mod_add 22 = .ok (.iastore, 1) := by decide +kernel
theorem d_Mod_add_23 : decode b_Mod_add 23 = .ok (.aload_n 0, 1) := by decide +kernel
theorem d_Mod_add_24 : decode b_Mod_add 24 = .ok (.getfield 13, 3) := by decide +kernel
theorem d_Mod_add_27 : decode b_Mod_add 27 = .ok (.aload_n 0, 1) := by decide +kernel
theorem d_Mod_add_28 : decode b_Mod_add 28 = .ok (.getfield 45, 3) := by decide +kernel
theorem d_Mod_add_31 : decode b_Mod_add 31 = .ok (.iload_n 1, 1) := by decide +kernel
theorem d_Mod_add_32 : decode b_Mod_add 32 = .ok (.iastore, 1) := by decide +kernel
theorem d_Mod_add_33 : decode b_Mod_add 33 = .ok (.aload_n 0, 1) := by decide +kernel
theorem d_Mod_add_34 : decode b_Mod_add 34 = .ok (.getfield 16, 3) := by decide +kernel
theorem d_Mod_add_37 : decode b_Mod_add 37 = .ok (.aload_n 0, 1) := by decide +kernel
theorem d_Mod_add_38 : decode b_Mod_add 38 = .ok (.getfield 45, 3) := by decide +kernel
theorem d_Mod_add_41 : decode b_Mod_add 41 = .ok (.iload_n 2, 1) := by decide +kernel
theorem d_Mod_add_42 : decode b_Mod_add 42 = .ok (.iastore, 1) := by decide +kernel
theorem d_Mod_add_43 : decode b_Mod_add 43 = .ok (.aload_n 0, 1) := by decide +kernel
theorem d_Mod_add_44 : decode b_Mod_add 44 = .ok (.getfield 19, 3) := by decide +kernel
theorem d_Mod_add_47 : decode b_Mod_add 47 = .ok (.aload_n 0, 1) := by decide +kernel
theorem d_Mod_add_48 : decode b_Mod_add 48 = .ok (.getfield 45, 3) := by decide +kernel
theorem d_Mod_add_51 : decode b_Mod_add 51 = .ok (.iconst 0, 1) := by decide +kernel
theorem d_Mod_add_52 : decode b_Mod_add 52 = .ok (.bastore, 1) := by decide +kernel
theorem d_Mod_add_53 : decode b_Mod_add 53 = .ok (.aload_n 0, 1) := by decide +kernel
theorem d_Mod_add_54 : decode b_Mod_add 54 = .ok (.getfield 23, 3) := by decide +kernel
theorem d_Mod_add_57 : decode b_Mod_add 57 = .ok (.aload_n 0, 1) := by decide +kernel
theorem d_Mod_add_58 : decode b_Mod_add 58 = .ok (.getfield 45, 3) := by decide +kernel
theorem d_Mod_add_61 : decode b_Mod_add 61 = .ok (.iconst 0, 1) := by decide +kernel
theorem d_Mod_add_62 : decode b_Mod_add 62 = .ok (.iastore, 1) := by decide +kernel
theorem d_Mod_add_63 : decode b_Mod_add 63 = .ok (.aload_n 0, 1) := by decide +kernel
theorem d_Mod_add_64 : decode b_Mod_add 64 = .ok (.getfield 26, 3) := by decide +kernel
theorem d_Mod_add_67 : decode b_Mod_add 67 = .ok (.aload_n 0, 1) := by decide +kernel
theorem d_Mod_add_68 : decode b_Mod_add 68 = .ok (.getfield 45, 3) := by decide +kernel
theorem d_Mod_add_71 : decode b_Mod_add 71 = .ok (.iconst 0, 1) := by decide +kernel
theorem d_Mod_add_72 : decode b_Mod_add 72 = .ok (.bastore, 1) := by decide +kernel
theorem d_Mod_add_73 : decode b_Mod_add 73 = .ok (.aload_n 0, 1) := by decide +kernel
theorem d_Mod_add_74 : decode b_Mod_add 74 = .ok (.getfield 29, 3) := by decide +kernel
theorem d_Mod_add_77 : decode b_Mod_add 77 = .ok (.aload_n 0, 1) := by decide +kernel
theorem d_Mod_add_78 : decode b_Mod_add 78 = .ok (.getfield 45, 3) := by decide +kernel
theorem d_Mod_add_81 : decode b_Mod_add 81 = .ok (.iconst (-1), 1) := by decide +kernel
theorem d_Mod_add_82 : decode b_Mod_add 82 = .ok (.iastore, 1) := by decide +kernel
theorem d_Mod_add_83 : decode b_Mod_add 83 = .ok (.aload_n 0, 1) := by decide +kernel
theorem d_Mod_add_84 : decode b_Mod_add 84 = .ok (.getfield 32, 3) := by decide +kernel
theorem d_Mod_add_87 : decode b_Mod_add 87 = .ok (.aload_n 0, 1) := by decide +kernel
theorem d_Mod_add_88 : decode b_Mod_add 88 = .ok (.getfield 45, 3) := by decide +kernel
theorem d_Mod_add_91 : decode b_Mod_add 91 = .ok (.iconst 0, 1) := by decide +kernel
theorem d_Mod_add_92 : decode b_Mod_add 92 = .ok (.iastore, 1) := by decide +kernel
theorem d_Mod_add_93 : decode b_Mod_add 93 = .ok (.aload_n 0, 1) := by decide +kernel
theorem d_Mod_add_94 : decode b_Mod_add 94 = .ok (.dup, 1) := by decide +kernel
theorem d_Mod_add_95 : decode b_Mod_add 95 = .ok (.getfield 45, 3) := by decide +kernel
theorem d_Mod_add_98 : decode b_Mod_add 98 = .ok (.iconst 1, 1) := by decide +kernel
theorem d_Mod_add_99 : decode b_Mod_add 99 = .ok (.iadd, 1) := by decide +kernel
theorem d_Mod_add_100 : decode b_Mod_add 100 = .ok (.putfield 45, 3) := by decide +kernel
theorem d_Mod_add_103 : decode b_Mod_add 103 = .ok (.iload_n 1, 1) := by decide +kernel
theorem d_Mod_add_104 : decode b_Mod_add 104 = .ok (.ireturn, 1) := by decide +kernel
theorem d_Mod_remove_0 : decode b_Mod_remove 0 = .ok (.aload_n 0, 1) := by decide +kernel
theorem d_Mod_remove_1 : decode b_Mod_remove 1 = .ok (.dup, 1) := by decide +kernel
theorem d_Mod_remove_2 : decode b_Mod_remove 2 = .ok (.getfield 45, 3) := by decide +kernel
theorem d_Mod_remove_5 : decode b_Mod_remove 5 = .ok (.iconst 1, 1) := by decide +kernel
theorem d_Mod_remove_6 : decode b_Mod_remove 6 = .ok (.isub, 1) := by decide +kernel
theorem d_Mod_remove_7 : decode b_Mod_remove 7 = .ok (.putfield 45, 3) := by decide +kernel
theorem d_Mod_remove_10 : decode b_Mod_remove 10 = .ok (.iload_n 1, 1) := by decide +kernel
theorem d_Mod_remove_11 : decode b_Mod_remove 11 = .ok (.istore_n 2, 1) := by decide +kernel
theorem d_Mod_remove_12 : decode b_Mod_remove 12 = .ok (.iload_n 2, 1) := by decide +kernel
theorem d_Mod_remove_13 : decode b_Mod_remove 13 = .ok (.aload_n 0, 1) := by decide +kernel
theorem d_Mod_remove_14 : decode b_Mod_remove 14 = .ok (.getfield 45, 3) := by decide +kernel
theorem d_Mod_remove_17 : decode b_Mod_remove 17 = .ok (.if_icmp .ge 135, 3) := by decide +kernel
theorem d_Mod_remove_20 : decode b_Mod_remove 20 = .ok (.aload_n 0, 1) := by decide +kernel
theorem d_Mod_remove_21 : decode b_Mod_remove 21 = .ok (.getfield 7, 3) := by decide +kernel
theorem d_Mod_remove_24 : decode b_Mod_remove 24 = .ok (.iload_n 2, 1) := by decide +kernel
theorem d_Mod_remove_25 : decode b_Mod_remove 25 = .ok (.aload_n 0, 1) := by decide +kernel
theorem d_Mod_remove_26 : decode b_Mod_remove 26 = .ok (.getfield 7, 3) := by decide +kernel
theorem d_Mod_remove_29 : decode b_Mod_remove 29 = .ok (.iload_n 2, 1) := by decide +kernel
theorem d_Mod_remove_30 : decode b_Mod_remove 30 = .ok (.iconst 1, 1) := by decide +kernel
theorem d_Mod_remove_31 : decode b_Mod_remove 31 = .ok (.iadd, 1) := by decide +kernel
theorem d_Mod_remove_32 : decode b_Mod_remove 32 = .ok (.iaload, 1) := by decide +kernel
theorem d_Mod_remove_33 : decode b_Mod_remove 33 = .ok (.iastore, 1) := by decide +kernel
theorem d_Mod_remove_34 : decode b_Mod_remove 34 = .ok (.aload_n 0, 1) := by decide +kernel
theorem d_Mod_remove_35 : decode b_Mod_remove 35 = .ok (.getfield 13, 3) := by decide +kernel
theorem d_Mod_remove_38 : decode b_Mod_remove 38 = .ok (.iload_n 2, 1) := by decide +kernel
theorem d_Mod_remove_39 : decode b_Mod_remove 39 = .ok (.aload_n 0, 1) := by decide +kernel
theorem d_Mod_remove_40 : decode b_Mod_remove 40 = .ok (.getfield 13, 3) := by decide +kernel
theorem d_Mod_remove_43 : decode b_Mod_remove 43 = .ok (.iload_n 2, 1) := by decide +kernel
theorem d_Mod_remove_44 : decode b_Mod_remove 44 = .ok (.iconst 1, 1) := by decide +kernel
theorem d_Mod_remove_45 : decode b_Mod_remove 45 = .ok (.iadd, 1) := by decide +kernel
theorem d_Mod_remove_46 : decode b_Mod_remove 46 = .ok (.iaload, 1) := by decide +kernel
theorem d_Mod_remove_47 : decode b_Mod_remove 47 = .ok (.iastore, 1) := by decide +kernel
theorem d_Mod_remove_48 : decode b_Mod_remove 48 = .ok (.aload_n 0, 1) := by decide +kernel
theorem d_Mod_remove_49 : decode b_Mod_remove 49 = .ok (.getfield 16, 3) := by decide +kernel
theorem d_Mod_remove_52 : decode b_Mod_remove 52 = .ok (.iload_n 2, 1) := by decide +kernel
theorem d_Mod_remove_53 : decode b_Mod_remove 53 = .ok (.aload_n 0, 1) := by decide +kernel
theorem d_Mod_remove_54 : decode b_Mod_remove 54 = .ok (.getfield 16, 3) := by decide +kernel
theorem d_Mod_remove_57 : decode b_Mod_remove 57 = .ok (.iload_n 2, 1) := by decide +kernel
theorem d_Mod_remove_58 : decode b_Mod_remove 58 = .ok (.iconst 1, 1) := by decide +kernel
theorem d_Mod_remove_59 : decode b_Mod_remove 59 = .ok (.iadd, 1) := by decide +kernel
theorem d_Mod_remove_60 : decode b_Mod_remove 60 = .ok (.iaload, 1) := by decide +kernel
theorem d_Mod_remove_61 : decode b_Mod_remove 61 = .ok (.iastore, 1) := by decide +kernel
theorem d_Mod_remove_62 : decode b_Mod_remove 62 = .ok (.aload_n 0, 1) := by decide +kernel
theorem d_Mod_remove_63 : decode b_Mod_remove 63 = .ok (.getfield 19, 3) := by decide +kernel
theorem d_Mod_remove_66 : decode b_Mod_remove 66 = .ok (.iload_n 2, 1) := by decide +kernel
theorem d_Mod_remove_67 : decode b_Mod_remove 67 = .ok (.aload_n 0, 1) := by decide +kernel
theorem d_Mod_remove_68 : decode b_Mod_remove 68 = .ok (.getfield 19, 3) := by decide +kernel
theorem d_Mod_remove_71 : decode b_Mod_remove 71 = .ok (.iload_n 2, 1) := by decide +kernel
theorem d_Mod_remove_72 : decode b_Mod_remove 72 = .ok (.iconst 1, 1) := by decide +kernel
theorem d_Mod_remove_73 : decode b_Mod_remove 73 = .ok (.iadd, 1) := by decide +kernel
theorem d_Mod_remove_74 : decode b_Mod_remove 74 = .ok (.baload, 1) := by decide +kernel
theorem d_Mod_remove_75 : decode b_Mod_remove 75 = .ok (.bastore, 1) := by decide +kernel
theorem d_Mod_remove_76 : decode b_Mod_remove 76 = .ok (.aload_n 0, 1) := by decide +kernel
theorem d_Mod_remove_77 : decode b_Mod_remove 77 = .ok (.getfield 23, 3) := by decide +kernel
theorem d_Mod_remove_80 : decode b_Mod_remove 80 = .ok (.iload_n 2, 1) := by decide +kernel
theorem d_Mod_remove_81 : decode b_Mod_remove 81 = .ok (.aload_n 0, 1) := by decide +kernel
theorem d_Mod_remove_82 : decode b_Mod_remove 82 = .ok (.getfield 23, 3) := by decide +kernel
theorem d_Mod_remove_85 : decode b_Mod_remove 85 = .ok (.iload_n 2, 1) := by decide +kernel
theorem d_Mod_remove_86 : decode b_Mod_remove 86 = .ok (.iconst 1, 1) := by decide +kernel
theorem d_Mod_remove_87 : decode b_Mod_remove 87 = .ok (.iadd, 1) := by decide +kernel
theorem d_Mod_remove_88 : decode b_Mod_remove 88 = .ok (.iaload, 1) := by decide +kernel
theorem d_Mod_remove_89 : decode b_Mod_remove 89 = .ok (.iastore, 1) := by decide +kernel
theorem d_Mod_remove_90 : decode b_Mod_remove 90 = .ok (.aload_n 0, 1) := by decide +kernel
theorem d_Mod_remove_91 : decode b_Mod_remove 91 = .ok (.getfield 26, 3) := by decide +kernel
theorem d_Mod_remove_94 : decode b_Mod_remove 94 = .ok (.iload_n 2, 1) := by decide +kernel
theorem d_Mod_remove_95 : decode b_Mod_remove 95 = .ok (.aload_n 0, 1) := by decide +kernel
theorem d_Mod_remove_96 : decode b_Mod_remove 96 = .ok (.getfield 26, 3) := by decide +kernel
theorem d_Mod_remove_99 : decode b_Mod_remove 99 = .ok (.iload_n 2, 1) := by decide +kernel
theorem d_Mod_remove_100 : decode b_Mod_remove 100 = .ok (.iconst 1, 1) := by decide +kernel
theorem d_Mod_remove_101 : decode b_Mod_remove 101 = .ok (.iadd, 1) := by decide +kernel
theorem d_Mod_remove_102 : decode b_Mod_remove 102 = .ok (.baload, 1) := by decide +kernel
theorem d_Mod_remove_103 : decode b_Mod_remove 103 = .ok (.bastore, 1) := by decide +kernel
theorem d_Mod_remove_104 : decode b_Mod_remove 104 = .ok (.aload_n 0, 1) := by decide +kernel
theorem d_Mod_remove_105 : decode b_Mod_remove 105 = .ok (.getfield 29, 3) := by decide +kernel
theorem d_Mod_remove_108 : decode b_Mod_remove 108 = .ok (.iload_n 2, 1) := by decide +kernel
theorem d_Mod_remove_109 : decode b_Mod_remove 109 = .ok (.aload_n 0, 1) := by decide +kernel
theorem d_Mod_remove_110 : decode b_Mod_remove 110 = .ok (.getfield 29, 3) := by decide +kernel
theorem d_Mod_remove_113 : decode b_Mod_remove 113 = .ok (.iload_n 2, 1) := by decide +kernel
theorem d_Mod_remove_114 : decode b_Mod_remove 114 = .ok (.iconst 1, 1) := by decide +kernel
theorem d_Mod_remove_115 : decode b_Mod_remove 115 = .ok (.iadd, 1) := by decide +kernel
theorem d_Mod_remove_116 : decode b_Mod_remove 116 = .ok (.iaload, 1) := by decide +kernel
theorem d_Mod_remove_117 : decode b_Mod_remove 117 = .ok (.iastore, 1) := by decide +kernel
theorem d_Mod_remove_118 : decode b_Mod_remove 118 = .ok (.aload_n 0, 1) := by decide +kernel
theorem d_Mod_remove_119 : decode b_Mod_remove 119 = .ok (.getfield 32, 3) := by decide +kernel
theorem d_Mod_remove_122 : decode b_Mod_remove 122 = .ok (.iload_n 2, 1) := by decide +kernel
theorem d_Mod_remove_123 : decode b_Mod_remove 123 = .ok (.aload_n 0, 1) := by decide +kernel
theorem d_Mod_remove_124 : decode b_Mod_remove 124 = .ok (.getfield 32, 3) := by decide +kernel
theorem d_Mod_remove_127 : decode b_Mod_remove 127 = .ok (.iload_n 2, 1) := by decide +kernel
theorem d_Mod_remove_128 : decode b_Mod_remove 128 = .ok (.iconst 1, 1) := by decide +kernel
theorem d_Mod_remove_129 : decode b_Mod_remove 129 = .ok (.iadd, 1) := by decide +kernel
theorem d_Mod_remove_130 : decode b_Mod_remove 130 = .ok (.iaload, 1) := by decide +kernel
theorem d_Mod_remove_131 : decode b_Mod_remove 131 = .ok (.iastore, 1) := by decide +kernel
theorem d_Mod_remove_132 : decode b_Mod_remove 132 = .ok (.aload_n 0, 1) := by decide +kernel
theorem d_Mod_remove_133 : decode b_Mod_remove 133 = .ok (.getfield 35, 3) := by decide +kernel
theorem d_Mod_remove_136 : decode b_Mod_remove 136 = .ok (.iload_n 2, 1) := by decide +kernel
theorem d_Mod_remove_137 : decode b_Mod_remove 137 = .ok (.aload_n 0, 1) := by decide +kernel
theorem d_Mod_remove_138 : decode b_Mod_remove 138 = .ok (.getfield 35, 3) := by decide +kernel
theorem d_Mod_remove_141 : decode b_Mod_remove 141 = .ok (.iload_n 2, 1) := by decide +kernel
theorem d_Mod_remove_142 : decode b_Mod_remove 142 = .ok (.iconst 1, 1) := by decide +kernel
theorem d_Mod_remove_143 : decode b_Mod_remove 143 = .ok (.iadd, 1) := by decide +kernel
theorem d_Mod_remove_144 : decode b_Mod_remove 144 = .ok (.iaload, 1) := by decide +kernel
theorem d_Mod_remove_145 : decode b_Mod_remove 145 = .ok (.iastore, 1) := by decide +kernel
theorem d_Mod_remove_146 : decode b_Mod_remove 146 = .ok (.iinc 2 1, 3) := by decide +kernel
theorem d_Mod_remove_149 : decode b_Mod_remove 149 = .ok (.goto (-137), 3) := by decide +kernel
theorem d_Mod_remove_152 : decode b_Mod_remove 152 = .ok (.return_, 1) := by decide +kernel
theorem d_Mod_first_0 : decode b_Mod_first 0 = .ok (.aload_n 0, 1) := by decide +kernel
theorem d_Mod_first_1 : decode b_Mod_first 1 = .ok (.iconst 0, 1) := by decide +kernel
theorem d_Mod_first_2 : decode b_Mod_first 2 = .ok (.putfield 42, 3) := by decide +kernel
theorem d_Mod_first_5 : decode b_Mod_first 5 = .ok (.aload_n 0, 1) := by decide +kernel
theorem d_Mod_first_6 : decode b_Mod_first 6 = .ok (.getfield 45, 3) := by decide +kernel
theorem d_Mod_first_9 : decode b_Mod_first 9 = .ok (.ifCond .le 5, 3) := by decide +kernel
theorem d_Mod_first_12 : decode b_Mod_first 12 = .ok (.iconst 0, 1) := by decide +kernel
theorem d_Mod_first_13 : decode b_Mod_first 13 = .ok (.ireturn, 1) := by decide +kernel
theorem d_Mod_first_14 : decode b_Mod_first 14 = .ok (.aload_n 0, 1) := by decide +kernel
theorem d_Mod_first_15 : decode b_Mod_first 15 = .ok (.iconst 0, 1) := by decide +kernel
theorem d_Mod_first_16 : decode b_Mod_first 16 = .ok (.putfield 55, 3) := by decide +kernel
theorem d_Mod_first_19 : decode b_Mod_first 19 = .ok (.aload_n 0, 1) := by decide +kernel
theorem d_Mod_first_20 : decode b_Mod_first 20 = .ok (.iconst 0, 1) := by decide +kernel
theorem d_Mod_first_21 : decode b_Mod_first 21 = .ok (.putfield 58, 3) := by decide +kernel
theorem d_Mod_first_24 : decode b_Mod_first 24 = .ok (.aload_n 0, 1) := by decide +kernel
theorem d_Mod_first_25 : decode b_Mod_first 25 = .ok (.bipush 14, 2) := by decide +kernel
theorem d_Mod_first_27 : decode b_Mod_first 27 = .ok (.putfield 61, 3) := by decide +kernel
theorem d_Mod_first_30 : decode b_Mod_first 30 = .ok (.aload_n 0, 1) := by decide +kernel
theorem d_Mod_first_31 : decode b_Mod_first 31 = .ok (.iconst 0, 1) := by decide +kernel
theorem d_Mod_first_32 : decode b_Mod_first 32 = .ok (.iconst 0, 1) := by decide +kernel
theorem d_Mod_first_33 : decode b_Mod_first 33 = .ok (.invokevirtual 64, 3) := by decide +kernel
theorem d_Mod_first_36 : decode b_Mod_first 36 = .ok (.istore_n 1, 1) := by decide +kernel
theorem d_Mod_first_37 : decode b_Mod_first 37 = .ok (.iconst 1, 1) := by decide +kernel
theorem d_Mod_first_38 : decode b_Mod_first 38 = .ok (.ireturn, 1) := by decide +kernel
theorem d_Mod_pick_0 : decode b_Mod_pick 0 = .ok (.aload_n 0, 1) := by decide +kernel
theorem d_Mod_pick_1 : decode b_Mod_pick 1 = .ok (.iconst 0, 1) := by decide +kernel
theorem d_Mod_pick_2 : decode b_Mod_pick 2 = .ok (.putfield 42, 3) := by decide +kernel
theorem d_Mod_pick_5 : decode b_Mod_pick 5 = .ok (.iload_n 1, 1) := by decide +kernel
theorem d_Mod_pick_6 : decode b_Mod_pick 6 = .ok (.ifCond .lt 11, 3) := by decide +kernel
theorem d_Mod_pick_9 : decode b_Mod_pick 9 = .ok (.iload_n 1, 1) := by decide +kernel
theorem d_Mod_pick_10 : decode b_Mod_pick 10 = .ok (.aload_n 0, 1) := by decide +kernel
theorem d_Mod_pick_11 : decode b_Mod_pick 11 = .ok (.getfield 38, 3) := by decide +kernel
theorem d_Mod_pick_14 : decode b_Mod_pick 14 = .ok (.if_icmp .lt 5, 3) := by decide +kernel
theorem d_Mod_pick_17 : decode b_Mod_pick 17 = .ok (.iconst (-1), 1) := by decide +kernel
theorem d_Mod_pick_18 : decode b_Mod_pick 18 = .ok (.ireturn, 1) := by decide +kernel
theorem d_Mod_pick_19 : decode b_Mod_pick 19 = .ok (.aload_n 0, 1) := by decide +kernel
theorem d_Mod_pick_20 : decode b_Mod_pick 20 = .ok (.iload_n 1, 1) := by decide +kernel
theorem d_Mod_pick_21 : decode b_Mod_pick 21 = .ok (.invokevirtual 68, 3) := by decide +kernel
theorem d_Mod_pick_24 : decode b_Mod_pick 24 = .ok (.istore_n 2, 1) := by decide +kernel
theorem d_Mod_pick_25 : decode b_Mod_pick 25 = .ok (.iconst 1, 1) := by decide +kernel
theorem d_Mod_pick_26 : decode b_Mod_pick 26 = .ok (.istore_n 3, 1) := by decide +kernel
theorem d_Mod_pick_27 : decode b_Mod_pick 27 = .ok (.iload_n 3, 1) := by decide +kernel
theorem d_Mod_pick_28 : decode b_Mod_pick 28 = .ok (.bipush 15, 2) := by decide +kernel
theorem d_Mod_pick_30 : decode b_Mod_pick 30 = .ok (.if_icmp .gt 50, 3) := by decide +kernel
theorem d_Mod_pick_33 : decode b_Mod_pick 33 = .ok (.iload_n 2, 1) := by decide +kernel
theorem d_Mod_pick_34 : decode b_Mod_pick 34 = .ok (.ifCond .ge 46, 3) := by decide +kernel
theorem d_Mod_pick_37 : decode b_Mod_pick 37 = .ok (.aload_n 0, 1) := by decide +kernel
theorem d_Mod_pick_38 : decode b_Mod_pick 38 = .ok (.aload_n 0, 1) := by decide +kernel
theorem d_Mod_pick_39 : decode b_Mod_pick 39 = .ok (.getfield 61, 3) := by decide +kernel
theorem d_Mod_pick_42 : decode b_Mod_pick 42 = .ok (.iload_n 3, 1) := by decide +kernel
theorem d_Mod_pick_43 : decode b_Mod_pick 43 = .ok (.iadd, 1) := by decide +kernel
theorem d_Mod_pick_44 : decode b_Mod_pick 44 = .ok (.bipush 15, 2) := by decide +kernel
theorem d_Mod_pick_46 : decode b_Mod_pick 46 = .ok (.irem, 1) := by decide +kernel
theorem d_Mod_pick_47 : decode b_Mod_pick 47 = .ok (.invokevirtual 48, 3) := by decide +kernel
theorem d_Mod_pick_50 : decode b_Mod_pick 50 = .ok (.istore 4, 2) := by decide +kernel
theorem d_Mod_pick_52 : decode b_Mod_pick 52 = .ok (.iload 4, 2) := by decide +kernel
theorem d_Mod_pick_54 : decode b_Mod_pick 54 = .ok (.ifCond .lt 18, 3) := by decide +kernel
theorem d_Mod_pick_57 : decode b_Mod_pick 57 = .ok (.aload_n 0, 1) := by decide +kernel
theorem d_Mod_pick_58 : decode b_Mod_pick 58 = .ok (.iload 4, 2) := by decide +kernel
theorem d_Mod_pick_60 : decode b_Mod_pick 60 = .ok (.invokevirtual 71, 3) := by decide +kernel
theorem d_Mod_pick_63 : decode b_Mod_pick 63 = .ok (.iconst 1, 1) := by decide +kernel
theorem d_Mod_pick_64 : decode b_Mod_pick 64 = .ok (.if_icmp .ne 8, 3) := by decide +kernel
theorem d_Mod_pick_67 : decode b_Mod_pick 67 = .ok (.iload 4, 2) := by decide +kernel
theorem d_Mod_pick_69 : decode b_Mod_pick 69 = .ok (.goto 4, 3) := by decide +kernel
theorem d_Mod_pick_72 : decode b_Mod_pick 72 = .ok (.iconst (-1), 1) := by decide +kernel
theorem d_Mod_pick_73 : decode b_Mod_pick 73 = .ok (.istore_n 2, 1) := by decide +kernel
theorem d_Mod_pick_74 : decode b_Mod_pick 74 = .ok (.iinc 3 1, 3) := by decide +kernel
theorem d_Mod_pick_77 : decode b_Mod_pick 77 = .ok (.goto (-50), 3) := by decide +kernel
theorem d_Mod_pick_80 : decode b_Mod_pick 80 = .ok (.iload_n 2, 1) := by decide +kernel
theorem d_Mod_pick_81 : decode b_Mod_pick 81 = .ok (.ifCond .ge 5, 3) := by decide +kernel
theorem d_Mod_pick_84 : decode b_Mod_pick 84 = .ok (.iconst (-1), 1) := by decide +kernel
theorem d_Mod_pick_85 : decode b_Mod_pick 85 = .ok (.ireturn, 1) := by decide +kernel
theorem d_Mod_pick_86 : decode b_Mod_pick 86 = .ok (.aload_n 0, 1) := by decide +kernel
theorem d_Mod_pick_87 : decode b_Mod_pick 87 = .ok (.getfield 29, 3) := by decide +kernel
theorem d_Mod_pick_90 : decode b_Mod_pick 90 = .ok (.iload_n 2, 1) := by decide +kernel
theorem d_Mod_pick_91 : decode b_Mod_pick 91 = .ok (.iaload, 1) := by decide +kernel
theorem d_Mod_pick_92 : decode b_Mod_pick 92 = .ok (.iload_n 1, 1) := by decide +kernel
theorem d_Mod_pick_93 : decode b_Mod_pick 93 = .ok (.if_icmp .eq 27, 3) := by decide +kernel
theorem d_Mod_pick_96 : decode b_Mod_pick 96 = .ok (.aload_n 0, 1) := by decide +kernel
theorem d_Mod_pick_97 : decode b_Mod_pick 97 = .ok (.getfield 29, 3) := by decide +kernel
theorem d_Mod_pick_100 : decode b_Mod_pick 100 = .ok (.iload_n 2, 1) := by decide +kernel
theorem d_Mod_pick_101 : decode b_Mod_pick 101 = .ok (.iload_n 1, 1) := by decide +kernel
theorem d_Mod_pick_102 : decode b_Mod_pick 102 = .ok (.iastore, 1) := by decide +kernel
theorem d_Mod_pick_103 : decode b_Mod_pick 103 = .ok (.aload_n 0, 1) := by decide +kernel
theorem d_Mod_pick_104 : decode b_Mod_pick 104 = .ok (.getfield 32, 3) := by decide +kernel
theorem d_Mod_pick_107 : decode b_Mod_pick 107 = .ok (.iload_n 2, 1) := by decide +kernel
theorem d_Mod_pick_108 : decode b_Mod_pick 108 = .ok (.iconst 0, 1) := by decide +kernel
theorem d_Mod_pick_109 : decode b_Mod_pick 109 = .ok (.iastore, 1) := by decide +kernel
theorem d_Mod_pick_110 : decode b_Mod_pick 110 = .ok (.aload_n 0, 1) := by decide +kernel
theorem d_Mod_pick_111 : decode b_Mod_pick 111 = .ok (.aload_n 0, 1) := by decide +kernel
theorem d_Mod_pick_112 : decode b_Mod_pick 112 = .ok (.getfield 13, 3) := by decide +kernel
theorem d_Mod_pick_115 : decode b_Mod_pick 115 = .ok (.iload_n 2, 1) := by decide +kernel
theorem d_Mod_pick_116 : decode b_Mod_pick 116 = .ok (.iaload, 1) := by decide +kernel
theorem d_Mod_pick_117 : decode b_Mod_pick 117 = .ok (.putfield 61, 3) := by decide +kernel
theorem d_Mod_pick_120 : decode b_Mod_pick 120 = .ok (.aload_n 0, 1) := by decide +kernel
theorem d_Mod_pick_121 : decode b_Mod_pick 121 = .ok (.getfield 13, 3) := by decide +kernel
theorem d_Mod_pick_124 : decode b_Mod_pick 124 = .ok (.iload_n 2, 1) := by decide +kernel
theorem d_Mod_pick_125 : decode b_Mod_pick 125 = .ok (.iaload, 1) := by decide +kernel
theorem d_Mod_pick_126 : decode b_Mod_pick 126 = .ok (.ireturn, 1) := by decide +kernel
end
section
theorem d_Mod_fork_0 : decode b_Mod_fork 0 = .ok (.aload_n 0, 1) := by decide +kernel
theorem d_Mod_fork_1 : decode b_Mod_fork 1 = .ok (.iconst 0, 1) := by decide +kernel
theorem d_Mod_fork_2 : decode b_Mod_fork 2 = .ok (.putfield 42, 3) := by decide +kernel
theorem d_Mod_fork_5 : decode b_Mod_fork 5 = .ok (.aload_n 0, 1) := by decide +kernel
theorem d_Mod_fork_6 : decode b_Mod_fork 6 = .ok (.iload_n 1, 1) := by decide +kernel
theorem d_Mod_fork_7 : decode b_Mod_fork 7 = .ok (.invokevirtual 68, 3) := by decide +kernel
theorem d_Mod_fork_10 : decode b_Mod_fork 10 = .ok (.istore_n 2, 1) := by decide +kernel
theorem d_Mod_fork_11 : decode b_Mod_fork 11 = .ok (.aload_n 0, 1) := by decide +kernel
theorem d_Mod_fork_12 : decode b_Mod_fork 12 = .ok (.invokevirtual 74, 3) := by decide +kernel
theorem d_Mod_fork_15 : decode b_Mod_fork 15 = .ok (.istore_n 3, 1) := by decide +kernel
theorem d_Mod_fork_16 : decode b_Mod_fork 16 = .ok (.iload_n 2, 1) := by decide +kernel
theorem d_Mod_fork_17 : decode b_Mod_fork 17 = .ok (.ifCond .lt 9, 3) := by decide +kernel
theorem d_Mod_fork_20 : decode b_Mod_fork 20 = .ok (.iload_n 3, 1) := by decide +kernel
theorem d_Mod_fork_21 : decode b_Mod_fork 21 = .ok (.bipush 15, 2) := by decide +kernel
theorem d_Mod_fork_23 : decode b_Mod_fork 23 = .ok (.if_icmp .ne 7, 3) := by decide +kernel
theorem d_Mod_fork_26 : decode b_Mod_fork 26 = .ok (.iconst (-1), 1) := by decide +kernel
theorem d_Mod_fork_27 : decode b_Mod_fork 27 = .ok (.goto 14, 3) := by decide +kernel
theorem d_Mod_fork_30 : decode b_Mod_fork 30 = .ok (.aload_n 0, 1) := by decide +kernel
theorem d_Mod_fork_31 : decode b_Mod_fork 31 = .ok (.iload_n 3, 1) := by decide +kernel
theorem d_Mod_fork_32 : decode b_Mod_fork 32 = .ok (.aload_n 0, 1) := by decide +kernel
theorem d_Mod_fork_33 : decode b_Mod_fork 33 = .ok (.getfield 7, 3) := by decide +kernel
theorem d_Mod_fork_36 : decode b_Mod_fork 36 = .ok (.iload_n 2, 1) := by decide +kernel
theorem d_Mod_fork_37 : decode b_Mod_fork 37 = .ok (.iaload, 1) := by decide +kernel
theorem d_Mod_fork_38 : decode b_Mod_fork 38 = .ok (.invokevirtual 64, 3) := by decide +kernel
theorem d_Mod_fork_41 : decode b_Mod_fork 41 = .ok (.ireturn, 1) := by decide +kernel
theorem d_Mod_exit_0 : decode b_Mod_exit 0 = .ok (.aload_n 0, 1) := by decide +kernel
theorem d_Mod_exit_1 : decode b_Mod_exit 1 = .ok (.iconst 0, 1) := by decide +kernel
theorem d_Mod_exit_2 : decode b_Mod_exit 2 = .ok (.putfield 42, 3) := by decide +kernel
theorem d_Mod_exit_5 : decode b_Mod_exit 5 = .ok (.aload_n 0, 1) := by decide +kernel
theorem d_Mod_exit_6 : decode b_Mod_exit 6 = .ok (.iload_n 1, 1) := by decide +kernel
theorem d_Mod_exit_7 : decode b_Mod_exit 7 = .ok (.invokevirtual 68, 3) := by decide +kernel
theorem d_Mod_exit_10 : decode b_Mod_exit 10 = .ok (.istore_n 3, 1) := by decide +kernel
theorem d_Mod_exit_11 : decode b_Mod_exit 11 = .ok (.iload_n 3, 1) := by decide +kernel
theorem d_Mod_exit_12 : decode b_Mod_exit 12 = .ok (.ifCond .ge 5, 3) := by decide +kernel
theorem d_Mod_exit_15 : decode b_Mod_exit 15 = .ok (.iconst (-1), 1) := by decide +kernel
theorem d_Mod_exit_16 : decode b_Mod_exit 16 = .ok (.ireturn, 1) := by decide +kernel
theorem d_Mod_exit_17 : decode b_Mod_exit 17 = .ok (.aload_n 0, 1) := by decide +kernel
theorem d_Mod_exit_18 : decode b_Mod_exit 18 = .ok (.getfield 13, 3) := by decide +kernel
theorem d_Mod_exit_21 : decode b_Mod_exit 21 = .ok (.iload_n 3, 1) := by decide +kernel
theorem d_Mod_exit_22 : decode b_Mod_exit 22 = .ok (.iaload, 1) := by decide +kernel
theorem d_Mod_exit_23 : decode b_Mod_exit 23 = .ok (.istore 4, 2) := by decide +kernel
theorem d_Mod_exit_25 : decode b_Mod_exit 25 = .ok (.aload_n 0, 1) := by decide +kernel
theorem d_Mod_exit_26 : decode b_Mod_exit 26 = .ok (.getfield 7, 3) := by decide +kernel
theorem d_Mod_exit_29 : decode b_Mod_exit 29 = .ok (.iload_n 3, 1) := by decide +kernel
theorem d_Mod_exit_30 : decode b_Mod_exit 30 = .ok (.iaload, 1) := by decide +kernel
theorem d_Mod_exit_31 : decode b_Mod_exit 31 = .ok (.iconst 1, 1) := by decide +kernel
theorem d_Mod_exit_32 : decode b_Mod_exit 32 = .ok (.if_icmp .ne 16, 3) := by decide +kernel
theorem d_Mod_exit_35 : decode b_Mod_exit 35 = .ok (.aload_n 0, 1) := by decide +kernel
theorem d_Mod_exit_36 : decode b_Mod_exit 36 = .ok (.iload_n 2, 1) := by decide +kernel
theorem d_Mod_exit_37 : decode b_Mod_exit 37 = .ok (.putfield 78, 3) := by decide +kernel
theorem d_Mod_exit_40 : decode b_Mod_exit 40 = .ok (.aload_n 0, 1) := by decide +kernel
theorem d_Mod_exit_41 : decode b_Mod_exit 41 = .ok (.iconst 0, 1) := by decide +kernel
theorem d_Mod_exit_42 : decode b_Mod_exit 42 = .ok (.putfield 45, 3) := by decide +kernel
theorem d_Mod_exit_45 : decode b_Mod_exit 45 = .ok (.iload 4, 2) := by decide +kernel
theorem d_Mod_exit_47 : decode b_Mod_exit 47 = .ok (.ireturn, 1) := by decide +kernel
theorem d_Mod_exit_48 : decode b_Mod_exit 48 = .ok (.iconst 0, 1) := by decide +kernel
theorem d_Mod_exit_49 : decode b_Mod_exit 49 = .ok (.istore 5, 2) := by decide +kernel
theorem d_Mod_exit_51 : decode b_Mod_exit 51 = .ok (.iload 5, 2) := by decide +kernel
theorem d_Mod_exit_53 : decode b_Mod_exit 53 = .ok (.aload_n 0, 1) := by decide +kernel
theorem d_Mod_exit_54 : decode b_Mod_exit 54 = .ok (.getfield 45, 3) := by decide +kernel
theorem d_Mod_exit_57 : decode b_Mod_exit 57 = .ok (.if_icmp .ge 43, 3) := by decide +kernel
theorem d_Mod_exit_60 : decode b_Mod_exit 60 = .ok (.aload_n 0, 1) := by decide +kernel
theorem d_Mod_exit_61 : decode b_Mod_exit 61 = .ok (.getfield 16, 3) := by decide +kernel
theorem d_Mod_exit_64 : decode b_Mod_exit 64 = .ok (.iload 5, 2) := by decide +kernel
theorem d_Mod_exit_66 : decode b_Mod_exit 66 = .ok (.aload_n 0, 1) := by decide +kernel
theorem d_Mod_exit_67 : decode b_Mod_exit 67 = .ok (.getfield 16, 3) := by decide +kernel
theorem d_Mod_exit_70 : decode b_Mod_exit 70 = .ok (.iload 5, 2) := by decide +kernel
theorem d_Mod_exit_72 : decode b_Mod_exit 72 = .ok (.iaload, 1) := by decide +kernel
theorem d_Mod_exit_73 : decode b_Mod_exit 73 = .ok (.aload_n 0, 1) := by decide +kernel
theorem d_Mod_exit_74 : decode b_Mod_exit 74 = .ok (.getfield 7, 3) := by decide +kernel
theorem d_Mod_exit_77 : decode b_Mod_exit 77 = .ok (.iload_n 3, 1) := by decide +kernel
theorem d_Mod_exit_78 : decode b_Mod_exit 78 = .ok (.iaload, 1) := by decide +kernel
theorem d_Mod_exit_79 : decode b_Mod_exit 79 = .ok (.if_icmp .ne 7, 3) := by decide +kernel
theorem d_Mod_exit_82 : decode b_Mod_exit 82 = .ok (.iconst 1, 1) := by decide +kernel
theorem d_Mod_exit_83 : decode b_Mod_exit 83 = .ok (.goto 10, 3) := by decide +kernel
theorem d_Mod_exit_86 : decode b_Mod_exit 86 = .ok (.aload_n 0, 1) := by decide +kernel
theorem d_Mod_exit_87 : decode b_Mod_exit 87 = .ok (.getfield 16, 3) := by decide +kernel
theorem d_Mod_exit_90 : decode b_Mod_exit 90 = .ok (.iload 5, 2) := by decide +kernel
theorem d_Mod_exit_92 : decode b_Mod_exit 92 = .ok (.iaload, 1) := by decide +kernel
theorem d_Mod_exit_93 : decode b_Mod_exit 93 = .ok (.iastore, 1) := by decide +kernel
theorem d_Mod_exit_94 : decode b_Mod_exit 94 = .ok (.iinc 5 1, 3) := by decide +kernel
theorem d_Mod_exit_97 : decode b_Mod_exit 97 = .ok (.goto (-46), 3) := by decide +kernel
theorem d_Mod_exit_100 : decode b_Mod_exit 100 = .ok (.aload_n 0, 1) := by decide +kernel
theorem d_Mod_exit_101 : decode b_Mod_exit 101 = .ok (.getfield 19, 3) := by decide +kernel
theorem d_Mod_exit_104 : decode b_Mod_exit 104 = .ok (.iload_n 3, 1) := by decide +kernel
theorem d_Mod_exit_105 : decode b_Mod_exit 105 = .ok (.iconst 1, 1) := by decide +kernel
theorem d_Mod_exit_106 : decode b_Mod_exit 106 = .ok (.bastore, 1) := by decide +kernel
theorem d_Mod_exit_107 : decode b_Mod_exit 107 = .ok (.aload_n 0, 1) := by decide +kernel
theorem d_Mod_exit_108 : decode b_Mod_exit 108 = .ok (.getfield 23, 3) := by decide +kernel
theorem d_Mod_exit_111 : decode b_Mod_exit 111 = .ok (.iload_n 3, 1) := by decide +kernel
theorem d_Mod_exit_112 : decode b_Mod_exit 112 = .ok (.iload_n 2, 1) := by decide +kernel
theorem d_Mod_exit_113 : decode b_Mod_exit 113 = .ok (.iastore, 1) := by decide +kernel
theorem d_Mod_exit_114 : decode b_Mod_exit 114 = .ok (.aload_n 0, 1) := by decide +kernel
theorem d_Mod_exit_115 : decode b_Mod_exit 115 = .ok (.getfield 29, 3) := by decide +kernel
theorem d_Mod_exit_118 : decode b_Mod_exit 118 = .ok (.iload_n 3, 1) := by decide +kernel
theorem d_Mod_exit_119 : decode b_Mod_exit 119 = .ok (.iconst (-1), 1) := by decide +kernel
theorem d_Mod_exit_120 : decode b_Mod_exit 120 = .ok (.iastore, 1) := by decide +kernel
theorem d_Mod_exit_121 : decode b_Mod_exit 121 = .ok (.iload 4, 2) := by decide +kernel
theorem d_Mod_exit_123 : decode b_Mod_exit 123 = .ok (.ireturn, 1) := by decide +kernel
theorem d_Mod_await_0 : decode b_Mod_await 0 = .ok (.aload_n 0, 1) := by decide +kernel
theorem d_Mod_await_1 : decode b_Mod_await 1 = .ok (.iconst 0, 1) := by decide +kernel
theorem d_Mod_await_2 : decode b_Mod_await 2 = .ok (.putfield 42, 3) := by decide +kernel
theorem d_Mod_await_5 : decode b_Mod_await 5 = .ok (.aload_n 0, 1) := by decide +kernel
theorem d_Mod_await_6 : decode b_Mod_await 6 = .ok (.iload_n 1, 1) := by decide +kernel
theorem d_Mod_await_7 : decode b_Mod_await 7 = .ok (.invokevirtual 68, 3) := by decide +kernel
theorem d_Mod_await_10 : decode b_Mod_await 10 = .ok (.istore_n 2, 1) := by decide +kernel
theorem d_Mod_await_11 : decode b_Mod_await 11 = .ok (.iconst 0, 1) := by decide +kernel
theorem d_Mod_await_12 : decode b_Mod_await 12 = .ok (.istore_n 3, 1) := by decide +kernel
theorem d_Mod_await_13 : decode b_Mod_await 13 = .ok (.iconst 0, 1) := by decide +kernel
theorem d_Mod_await_14 : decode b_Mod_await 14 = .ok (.istore 4, 2) := by decide +kernel
theorem d_Mod_await_16 : decode b_Mod_await 16 = .ok (.iload 4, 2) := by decide +kernel
theorem d_Mod_await_18 : decode b_Mod_await 18 = .ok (.aload_n 0, 1) := by decide +kernel
theorem d_Mod_await_19 : decode b_Mod_await 19 = .ok (.getfield 45, 3) := by decide +kernel
theorem d_Mod_await_22 : decode b_Mod_await 22 = .ok (.if_icmp .ge 39, 3) := by decide +kernel
theorem d_Mod_await_25 : decode b_Mod_await 25 = .ok (.iload_n 2, 1) := by decide +kernel
theorem d_Mod_await_26 : decode b_Mod_await 26 = .ok (.ifCond .lt 35, 3) := by decide +kernel
theorem d_Mod_await_29 : decode b_Mod_await 29 = .ok (.iload_n 3, 1) := by decide +kernel
theorem d_Mod_await_30 : decode b_Mod_await 30 = .ok (.ifCond .ne 19, 3) := by decide +kernel
theorem d_Mod_await_33 : decode b_Mod_await 33 = .ok (.aload_n 0, 1) := by decide +kernel
theorem d_Mod_await_34 : decode b_Mod_await 34 = .ok (.getfield 16, 3) := by decide +kernel
theorem d_Mod_await_37 : decode b_Mod_await 37 = .ok (.iload 4, 2) := by decide +kernel
theorem d_Mod_await_39 : decode b_Mod_await 39 = .ok (.iaload, 1) := by decide +kernel
theorem d_Mod_await_40 : decode b_Mod_await 40 = .ok (.aload_n 0, 1) := by decide +kernel
theorem d_Mod_await_41 : decode b_Mod_await 41 = .ok (.getfield 7, 3) := by decide +kernel
theorem d_Mod_await_44 : decode b_Mod_await 44 = .ok (.iload_n 2, 1) := by decide +kernel
theorem d_Mod_await_45 : decode b_Mod_await 45 = .ok (.iaload, 1) := by decide +kernel
theorem d_Mod_await_46 : decode b_Mod_await 46 = .ok (.if_icmp .ne 7, 3) := by decide +kernel
theorem d_Mod_await_49 : decode b_Mod_await 49 = .ok (.iconst 1, 1) := by decide +kernel
theorem d_Mod_await_50 : decode b_Mod_await 50 = .ok (.goto 4, 3) := by decide +kernel
theorem d_Mod_await_53 : decode b_Mod_await 53 = .ok (.iconst 0, 1) := by decide +kernel
theorem d_Mod_await_54 : decode b_Mod_await 54 = .ok (.istore_n 3, 1) := by decide +kernel
theorem d_Mod_await_55 : decode b_Mod_await 55 = .ok (.iinc 4 1, 3) := by decide +kernel
theorem d_Mod_await_58 : decode b_Mod_await 58 = .ok (.goto (-42), 3) := by decide +kernel
theorem d_Mod_await_61 : decode b_Mod_await 61 = .ok (.iload_n 3, 1) := by decide +kernel
theorem d_Mod_await_62 : decode b_Mod_await 62 = .ok (.ifCond .ne 5, 3) := by decide +kernel
theorem d_Mod_await_65 : decode b_Mod_await 65 = .ok (.iconst (-1), 1) := by decide +kernel
theorem d_Mod_await_66 : decode b_Mod_await 66 = .ok (.ireturn, 1) := by decide +kernel
theorem d_Mod_await_67 : decode b_Mod_await 67 = .ok (.aload_n 0, 1) := by decide +kernel
theorem d_Mod_await_68 : decode b_Mod_await 68 = .ok (.iload_n 2, 1) := by decide +kernel
theorem d_Mod_await_69 : decode b_Mod_await 69 = .ok (.invokevirtual 52, 3) := by decide +kernel
theorem d_Mod_await_72 : decode b_Mod_await 72 = .ok (.istore 4, 2) := by decide +kernel
theorem d_Mod_await_74 : decode b_Mod_await 74 = .ok (.iload 4, 2) := by decide +kernel
theorem d_Mod_await_76 : decode b_Mod_await 76 = .ok (.ifCond .ge 14, 3) := by decide +kernel
theorem d_Mod_await_79 : decode b_Mod_await 79 = .ok (.aload_n 0, 1) := by decide +kernel
theorem d_Mod_await_80 : decode b_Mod_await 80 = .ok (.iload_n 2, 1) := by decide +kernel
theorem d_Mod_await_81 : decode b_Mod_await 81 = .ok (.iconst 2, 1) := by decide +kernel
theorem d_Mod_await_82 : decode b_Mod_await 82 = .ok (.iconst 0, 1) := by decide +kernel
theorem d_Mod_await_83 : decode b_Mod_await 83 = .ok (.invokevirtual 81, 3) := by decide +kernel
theorem d_Mod_await_86 : decode b_Mod_await 86 = .ok (.istore 5, 2) := by decide +kernel
theorem d_Mod_await_88 : decode b_Mod_await 88 = .ok (.iconst 0, 1) := by decide +kernel
theorem d_Mod_await_89 : decode b_Mod_await 89 = .ok (.ireturn, 1) := by decide +kernel
theorem d_Mod_await_90 : decode b_Mod_await 90 = .ok (.aload_n 0, 1) := by decide +kernel
theorem d_Mod_await_91 : decode b_Mod_await 91 = .ok (.getfield 7, 3) := by decide +kernel
theorem d_Mod_await_94 : decode b_Mod_await 94 = .ok (.iload 4, 2) := by decide +kernel
theorem d_Mod_await_96 : decode b_Mod_await 96 = .ok (.iaload, 1) := by decide +kernel
theorem d_Mod_await_97 : decode b_Mod_await 97 = .ok (.istore 5, 2) := by decide +kernel
theorem d_Mod_await_99 : decode b_Mod_await 99 = .ok (.aload_n 0, 1) := by decide +kernel
theorem d_Mod_await_100 : decode b_Mod_await 100 = .ok (.aload_n 0, 1) := by decide +kernel
theorem d_Mod_await_101 : decode b_Mod_await 101 = .ok (.getfield 23, 3) := by decide +kernel
theorem d_Mod_await_104 : decode b_Mod_await 104 = .ok (.iload 4, 2) := by decide +kernel
theorem d_Mod_await_106 : decode b_Mod_await 106 = .ok (.iaload, 1) := by decide +kernel
theorem d_Mod_await_107 : decode b_Mod_await 107 = .ok (.putfield 78, 3) := by decide +kernel
theorem d_Mod_await_110 : decode b_Mod_await 110 = .ok (.aload_n 0, 1) := by decide +kernel
theorem d_Mod_await_111 : decode b_Mod_await 111 = .ok (.iload 4, 2) := by decide +kernel
theorem d_Mod_await_113 : decode b_Mod_await 113 = .ok (.invokevirtual 85, 3) := by decide +kernel
theorem d_Mod_await_116 : decode b_Mod_await 116 = .ok (.iload 5, 2) := by decide +kernel
theorem d_Mod_await_118 : decode b_Mod_await 118 = .ok (.ireturn, 1) := by decide +kernel
theorem d_Mod_status_0 : decode b_Mod_status 0 = .ok (.aload_n 0, 1) := by decide +kernel
theorem d_Mod_status_1 : decode b_Mod_status 1 = .ok (.iconst 0, 1) := by decide +kernel
theorem d_Mod_status_2 : decode b_Mod_status 2 = .ok (.putfield 42, 3) := by decide +kernel
theorem d_Mod_status_5 : decode b_Mod_status 5 = .ok (.aload_n 0, 1) := by decide +kernel
theorem d_Mod_status_6 : decode b_Mod_status 6 = .ok (.getfield 78, 3) := by decide +kernel
theorem d_Mod_status_9 : decode b_Mod_status 9 = .ok (.ireturn, 1) := by decide +kernel
theorem d_Mod_waitsFor_0 : decode b_Mod_waitsFor 0 = .ok (.aload_n 0, 1) := by decide +kernel
theorem d_Mod_waitsFor_1 : decode b_Mod_waitsFor 1 = .ok (.getfield 29, 3) := by decide +kernel
theorem d_Mod_waitsFor_4 : decode b_Mod_waitsFor 4 = .ok (.iload_n 1, 1) := by decide +kernel
theorem d_Mod_waitsFor_5 : decode b_Mod_waitsFor 5 = .ok (.iconst (-1), 1) := by decide +kernel
theorem d_Mod_waitsFor_6 : decode b_Mod_waitsFor 6 = .ok (.iastore, 1) := by decide +kernel
theorem d_Mod_waitsFor_7 : decode b_Mod_waitsFor 7 = .ok (.aload_n 0, 1) := by decide +kernel
theorem d_Mod_waitsFor_8 : decode b_Mod_waitsFor 8 = .ok (.getfield 32, 3) := by decide +kernel
theorem d_Mod_waitsFor_11 : decode b_Mod_waitsFor 11 = .ok (.iload_n 1, 1) := by decide +kernel
theorem d_Mod_waitsFor_12 : decode b_Mod_waitsFor 12 = .ok (.iload_n 2, 1) := by decide +kernel
theorem d_Mod_waitsFor_13 : decode b_Mod_waitsFor 13 = .ok (.iastore, 1) := by decide +kernel
theorem d_Mod_waitsFor_14 : decode b_Mod_waitsFor 14 = .ok (.aload_n 0, 1) := by decide +kernel
theorem d_Mod_waitsFor_15 : decode b_Mod_waitsFor 15 = .ok (.getfield 35, 3) := by decide +kernel
theorem d_Mod_waitsFor_18 : decode b_Mod_waitsFor 18 = .ok (.iload_n 1, 1) := by decide +kernel
theorem d_Mod_waitsFor_19 : decode b_Mod_waitsFor 19 = .ok (.iload_n 3, 1) := by decide +kernel
theorem d_Mod_waitsFor_20 : decode b_Mod_waitsFor 20 = .ok (.iastore, 1) := by decide +kernel
theorem d_Mod_waitsFor_21 : decode b_Mod_waitsFor 21 = .ok (.aload_n 0, 1) := by decide +kernel
theorem d_Mod_waitsFor_22 : decode b_Mod_waitsFor 22 = .ok (.getfield 13, 3) := by decide +kernel
theorem d_Mod_waitsFor_25 : decode b_Mod_waitsFor 25 = .ok (.iload_n 1, 1) := by decide +kernel
theorem d_Mod_waitsFor_26 : decode b_Mod_waitsFor 26 = .ok (.iaload, 1) := by decide +kernel
theorem d_Mod_waitsFor_27 : decode b_Mod_waitsFor 27 = .ok (.ireturn, 1) := by decide +kernel
theorem d_Mod_block_0 : decode b_Mod_block 0 = .ok (.aload_n 0, 1) := by decide +kernel
theorem d_Mod_block_1 : decode b_Mod_block 1 = .ok (.iconst 0, 1) := by decide +kernel
theorem d_Mod_block_2 : decode b_Mod_block 2 = .ok (.putfield 42, 3) := by decide +kernel
theorem d_Mod_block_5 : decode b_Mod_block 5 = .ok (.aload_n 0, 1) := by decide +kernel
theorem d_Mod_block_6 : decode b_Mod_block 6 = .ok (.iload_n 1, 1) := by decide +kernel
theorem d_Mod_block_7 : decode b_Mod_block 7 = .ok (.invokevirtual 68, 3) := by decide +kernel
theorem d_Mod_block_10 : decode b_Mod_block 10 = .ok (.istore_n 3, 1) := by decide +kernel
theorem d_Mod_block_11 : decode b_Mod_block 11 = .ok (.iload_n 3, 1) := by decide +kernel
theorem d_Mod_block_12 : decode b_Mod_block 12 = .ok (.ifCond .ge 7, 3) := by decide +kernel
theorem d_Mod_block_15 : decode b_Mod_block 15 = .ok (.iconst (-1), 1) := by decide +kernel
theorem d_Mod_block_16 : decode b_Mod_block 16 = .ok (.goto 10, 3) := by decide +kernel
theorem d_Mod_block_19 : decode b_Mod_block 19 = .ok (.aload_n 0, 1) := by decide +kernel
theorem d_Mod_block_20 : decode b_Mod_block 20 = .ok (.iload_n 3, 1) := by decide +kernel
theorem d_Mod_block_21 : decode b_Mod_block 21 = .ok (.iconst 1, 1) := by decide +kernel
theorem d_Mod_block_22 : decode b_Mod_block 22 = .ok (.iload_n 2, 1) := by decide +kernel
theorem d_Mod_block_23 : decode b_Mod_block 23 = .ok (.invokevirtual 81, 3) := by decide +kernel
theorem d_Mod_block_26 : decode b_Mod_block 26 = .ok (.ireturn, 1) := by decide +kernel
theorem d_Mod_sleep_0 : decode b_Mod_sleep 0 = .ok (.aload_n 0, 1) := by decide +kernel
theorem d_Mod_sleep_1 : decode b_Mod_sleep 1 = .ok (.iconst 0, 1) := by decide +kernel
theorem d_Mod_sleep_2 : decode b_Mod_sleep 2 = .ok (.putfield 42, 3) := by decide +kernel
theorem d_Mod_sleep_5 : decode b_Mod_sleep 5 = .ok (.aload_n 0, 1) := by decide +kernel
theorem d_Mod_sleep_6 : decode b_Mod_sleep 6 = .ok (.iload_n 1, 1) := by decide +kernel
theorem d_Mod_sleep_7 : decode b_Mod_sleep 7 = .ok (.invokevirtual 68, 3) := by decide +kernel
theorem d_Mod_sleep_10 : decode b_Mod_sleep 10 = .ok (.istore_n 3, 1) := by decide +kernel
theorem d_Mod_sleep_11 : decode b_Mod_sleep 11 = .ok (.iload_n 3, 1) := by decide +kernel
theorem d_Mod_sleep_12 : decode b_Mod_sleep 12 = .ok (.ifCond .ge 7, 3) := by decide +kernel
theorem d_Mod_sleep_15 : decode b_Mod_sleep 15 = .ok (.iconst (-1), 1) := by decide +kernel
theorem d_Mod_sleep_16 : decode b_Mod_sleep 16 = .ok (.goto 45, 3) := by decide +kernel
theorem d_Mod_sleep_19 : decode b_Mod_sleep 19 = .ok (.iload_n 2, 1) := by decide +kernel
theorem d_Mod_sleep_20 : decode b_Mod_sleep 20 = .ok (.iconst 1, 1) := by decide +kernel
theorem d_Mod_sleep_21 : decode b_Mod_sleep 21 = .ok (.if_icmp .ge 12, 3) := by decide +kernel
theorem d_Mod_sleep_24 : decode b_Mod_sleep 24 = .ok (.aload_n 0, 1) := by decide +kernel
theorem d_Mod_sleep_25 : decode b_Mod_sleep 25 = .ok (.getfield 13, 3) := by decide +kernel
theorem d_Mod_sleep_28 : decode b_Mod_sleep 28 = .ok (.iload_n 3, 1) := by decide +kernel
theorem d_Mod_sleep_29 : decode b_Mod_sleep 29 = .ok (.iaload, 1) := by decide +kernel
theorem d_Mod_sleep_30 : decode b_Mod_sleep 30 = .ok (.goto 31, 3) := by decide +kernel
theorem d_Mod_sleep_33 : decode b_Mod_sleep 33 = .ok (.aload_n 0, 1) := by decide +kernel
theorem d_Mod_sleep_34 : decode b_Mod_sleep 34 = .ok (.iload_n 3, 1) := by decide +kernel
theorem d_Mod_sleep_35 : decode b_Mod_sleep 35 = .ok (.iconst 3, 1) := by decide +kernel
theorem d_Mod_sleep_36 : decode b_Mod_sleep 36 = .ok (.aload_n 0, 1) := by decide +kernel
theorem d_Mod_sleep_37 : decode b_Mod_sleep 37 = .ok (.getfield 55, 3) := by decide +kernel
theorem d_Mod_sleep_40 : decode b_Mod_sleep 40 = .ok (.ldc 89, 2) := by decide +kernel
theorem d_Mod_sleep_42 : decode b_Mod_sleep 42 = .ok (.iload_n 2, 1) := by decide +kernel
theorem d_Mod_sleep_43 : decode b_Mod_sleep 43 = .ok (.isub, 1) := by decide +kernel
theorem d_Mod_sleep_44 : decode b_Mod_sleep 44 = .ok (.if_icmp .le 8, 3) := by decide +kernel
theorem d_Mod_sleep_47 : decode b_Mod_sleep 47 = .ok (.ldc 89, 2) := by decide +kernel
theorem d_Mod_sleep_49 : decode b_Mod_sleep 49 = .ok (.goto 9, 3) := by decide +kernel
theorem d_Mod_sleep_52 : decode b_Mod_sleep 52 = .ok (.aload_n 0, 1) := by decide +kernel
theorem d_Mod_sleep_53 : decode b_Mod_sleep 53 = .ok (.getfield 55, 3) := by decide +kernel
theorem d_Mod_sleep_56 : decode b_Mod_sleep 56 = .ok (.iload_n 2, 1) := by decide +kernel
theorem d_Mod_sleep_57 : decode b_Mod_sleep 57 = .ok (.iadd, 1) := by decide +kernel
theorem d_Mod_sleep_58 : decode b_Mod_sleep 58 = .ok (.invokevirtual 81, 3) := by decide +kernel
theorem d_Mod_sleep_61 : decode b_Mod_sleep 61 = .ok (.ireturn, 1) := by decide +kernel
theorem d_Mod_wake_0 : decode b_Mod_wake 0 = .ok (.aload_n 0, 1) := by decide +kernel
theorem d_Mod_wake_1 : decode b_Mod_wake 1 = .ok (.iconst 0, 1) := by decide +kernel
theorem d_Mod_wake_2 : decode b_Mod_wake 2 = .ok (.putfield 42, 3) := by decide +kernel
theorem d_Mod_wake_5 : decode b_Mod_wake 5 = .ok (.iconst 0, 1) := by decide +kernel
theorem d_Mod_wake_6 : decode b_Mod_wake 6 = .ok (.istore_n 2, 1) := by decide +kernel
theorem d_Mod_wake_7 : decode b_Mod_wake 7 = .ok (.iconst 0, 1) := by decide +kernel
theorem d_Mod_wake_8 : decode b_Mod_wake 8 = .ok (.istore_n 3, 1) := by decide +kernel
theorem d_Mod_wake_9 : decode b_Mod_wake 9 = .ok (.iload_n 3, 1) := by decide +kernel
theorem d_Mod_wake_10 : decode b_Mod_wake 10 = .ok (.aload_n 0, 1) := by decide +kernel
theorem d_Mod_wake_11 : decode b_Mod_wake 11 = .ok (.getfield 45, 3) := by decide +kernel
theorem d_Mod_wake_14 : decode b_Mod_wake 14 = .ok (.if_icmp .ge 57, 3) := by decide +kernel
theorem d_Mod_wake_17 : decode b_Mod_wake 17 = .ok (.aload_n 0, 1) := by decide +kernel
theorem d_Mod_wake_18 : decode b_Mod_wake 18 = .ok (.getfield 19, 3) := by decide +kernel
theorem d_Mod_wake_21 : decode b_Mod_wake 21 = .ok (.iload_n 3, 1) := by decide +kernel
theorem d_Mod_wake_22 : decode b_Mod_wake 22 = .ok (.baload, 1) := by decide +kernel
theorem d_Mod_wake_23 : decode b_Mod_wake 23 = .ok (.ifCond .ne 42, 3) := by decide +kernel
theorem d_Mod_wake_26 : decode b_Mod_wake 26 = .ok (.aload_n 0, 1) := by decide +kernel
theorem d_Mod_wake_27 : decode b_Mod_wake 27 = .ok (.getfield 29, 3) := by decide +kernel
theorem d_Mod_wake_30 : decode b_Mod_wake 30 = .ok (.iload_n 3, 1) := by decide +kernel
theorem d_Mod_wake_31 : decode b_Mod_wake 31 = .ok (.iaload, 1) := by decide +kernel
theorem d_Mod_wake_32 : decode b_Mod_wake 32 = .ok (.ifCond .ge 33, 3) := by decide +kernel
theorem d_Mod_wake_35 : decode b_Mod_wake 35 = .ok (.aload_n 0, 1) := by decide +kernel
theorem d_Mod_wake_36 : decode b_Mod_wake 36 = .ok (.getfield 32, 3) := by decide +kernel
theorem d_Mod_wake_39 : decode b_Mod_wake 39 = .ok (.iload_n 3, 1) := by decide +kernel
theorem d_Mod_wake_40 : decode b_Mod_wake 40 = .ok (.iaload, 1) := by decide +kernel
theorem d_Mod_wake_41 : decode b_Mod_wake 41 = .ok (.iconst 1, 1) := by decide +kernel
theorem d_Mod_wake_42 : decode b_Mod_wake 42 = .ok (.if_icmp .ne 23, 3) := by decide +kernel
theorem d_Mod_wake_45 : decode b_Mod_wake 45 = .ok (.aload_n 0, 1) := by decide +kernel
theorem d_Mod_wake_46 : decode b_Mod_wake 46 = .ok (.getfield 35, 3) := by decide +kernel
theorem d_Mod_wake_49 : decode b_Mod_wake 49 = .ok (.iload_n 3, 1) := by decide +kernel
theorem d_Mod_wake_50 : decode b_Mod_wake 50 = .ok (.iaload, 1) := by decide +kernel
theorem d_Mod_wake_51 : decode b_Mod_wake 51 = .ok (.iload_n 1, 1) := by decide +kernel
theorem d_Mod_wake_52 : decode b_Mod_wake 52 = .ok (.if_icmp .ne 13, 3) := by decide +kernel
theorem d_Mod_wake_55 : decode b_Mod_wake 55 = .ok (.aload_n 0, 1) := by decide +kernel
theorem d_Mod_wake_56 : decode b_Mod_wake 56 = .ok (.getfield 32, 3) := by decide +kernel
theorem d_Mod_wake_59 : decode b_Mod_wake 59 = .ok (.iload_n 3, 1) := by decide +kernel
theorem d_Mod_wake_60 : decode b_Mod_wake 60 = .ok (.iconst 0, 1) := by decide +kernel
theorem d_Mod_wake_61 : decode b_Mod_wake 61 = .ok (.iastore, 1) := by decide +kernel
theorem d_Mod_wake_62 : decode b_Mod_wake 62 = .ok (.iinc 2 1, 3) := by decide +kernel
theorem d_Mod_wake_65 : decode b_Mod_wake 65 = .ok (.iinc 3 1, 3) := by decide +kernel
theorem d_Mod_wake_68 : decode b_Mod_wake 68 = .ok (.goto (-59), 3) := by decide +kernel
theorem d_Mod_wake_71 : decode b_Mod_wake 71 = .ok (.iload_n 2, 1) := by decide +kernel
theorem d_Mod_wake_72 : decode b_Mod_wake 72 = .ok (.ireturn, 1) := by decide +kernel
theorem d_Mod_rest_0 : decode b_Mod_rest 0 = .ok (.aload_n 0, 1) := by decide +kernel
theorem d_Mod_rest_1 : decode b_Mod_rest 1 = .ok (.iconst 0, 1) := by decide +kernel
theorem d_Mod_rest_2 : decode b_Mod_rest 2 = .ok (.putfield 42, 3) := by decide +kernel
theorem d_Mod_rest_5 : decode b_Mod_rest 5 = .ok (.aload_n 0, 1) := by decide +kernel
theorem d_Mod_rest_6 : decode b_Mod_rest 6 = .ok (.iload_n 1, 1) := by decide +kernel
theorem d_Mod_rest_7 : decode b_Mod_rest 7 = .ok (.invokevirtual 68, 3) := by decide +kernel
theorem d_Mod_rest_10 : decode b_Mod_rest 10 = .ok (.istore_n 2, 1) := by decide +kernel
theorem d_Mod_rest_11 : decode b_Mod_rest 11 = .ok (.iload_n 2, 1) := by decide +kernel
theorem d_Mod_rest_12 : decode b_Mod_rest 12 = .ok (.ifCond .ge 7, 3) := by decide +kernel
theorem d_Mod_rest_15 : decode b_Mod_rest 15 = .ok (.iconst (-1), 1) := by decide +kernel
theorem d_Mod_rest_16 : decode b_Mod_rest 16 = .ok (.goto 10, 3) := by decide +kernel
theorem d_Mod_rest_19 : decode b_Mod_rest 19 = .ok (.aload_n 0, 1) := by decide +kernel
theorem d_Mod_rest_20 : decode b_Mod_rest 20 = .ok (.iload_n 2, 1) := by decide +kernel
theorem d_Mod_rest_21 : decode b_Mod_rest 21 = .ok (.iconst 0, 1) := by decide +kernel
theorem d_Mod_rest_22 : decode b_Mod_rest 22 = .ok (.iconst 0, 1) := by decide +kernel
theorem d_Mod_rest_23 : decode b_Mod_rest 23 = .ok (.invokevirtual 81, 3) := by decide +kernel
theorem d_Mod_rest_26 : decode b_Mod_rest 26 = .ok (.ireturn, 1) := by decide +kernel
theorem d_Mod_tick_0 : decode b_Mod_tick 0 = .ok (.aload_n 0, 1) := by decide +kernel
theorem d_Mod_tick_1 : decode b_Mod_tick 1 = .ok (.iconst 0, 1) := by decide +kernel
theorem d_Mod_tick_2 : decode b_Mod_tick 2 = .ok (.putfield 42, 3) := by decide +kernel
theorem d_Mod_tick_5 : decode b_Mod_tick 5 = .ok (.aload_n 0, 1) := by decide +kernel
theorem d_Mod_tick_6 : decode b_Mod_tick 6 = .ok (.getfield 45, 3) := by decide +kernel
theorem d_Mod_tick_9 : decode b_Mod_tick 9 = .ok (.ifCond .ne 5, 3) := by decide +kernel
theorem d_Mod_tick_12 : decode b_Mod_tick 12 = .ok (.iconst (-1), 1) := by decide +kernel
theorem d_Mod_tick_13 : decode b_Mod_tick 13 = .ok (.ireturn, 1) := by decide +kernel
theorem d_Mod_tick_14 : decode b_Mod_tick 14 = .ok (.aload_n 0, 1) := by decide +kernel
theorem d_Mod_tick_15 : decode b_Mod_tick 15 = .ok (.dup, 1) := by decide +kernel
theorem d_Mod_tick_16 : decode b_Mod_tick 16 = .ok (.getfield 55, 3) := by decide +kernel
theorem d_Mod_tick_19 : decode b_Mod_tick 19 = .ok (.iconst 1, 1) := by decide +kernel
theorem d_Mod_tick_20 : decode b_Mod_tick 20 = .ok (.iadd, 1) := by decide +kernel
theorem d_Mod_tick_21 : decode b_Mod_tick 21 = .ok (.putfield 55, 3) := by decide +kernel
theorem d_Mod_tick_24 : decode b_Mod_tick 24 = .ok (.iconst 0, 1) := by decide +kernel
theorem d_Mod_tick_25 : decode b_Mod_tick 25 = .ok (.istore_n 1, 1) := by decide +kernel
theorem d_Mod_tick_26 : decode b_Mod_tick 26 = .ok (.iload_n 1, 1) := by decide +kernel
theorem d_Mod_tick_27 : decode b_Mod_tick 27 = .ok (.aload_n 0, 1) := by decide +kernel
theorem d_Mod_tick_28 : decode b_Mod_tick 28 = .ok (.getfield 45, 3) := by decide +kernel
theorem d_Mod_tick_31 : decode b_Mod_tick 31 = .ok (.if_icmp .ge 16, 3) := by decide +kernel
theorem d_Mod_tick_34 : decode b_Mod_tick 34 = .ok (.aload_n 0, 1) := by decide +kernel
theorem d_Mod_tick_35 : decode b_Mod_tick 35 = .ok (.getfield 29, 3) := by decide +kernel
theorem d_Mod_tick_38 : decode b_Mod_tick 38 = .ok (.iload_n 1, 1) := by decide +kernel
theorem d_Mod_tick_39 : decode b_Mod_tick 39 = .ok (.iconst (-1), 1) := by decide +kernel
theorem d_Mod_tick_40 : decode b_Mod_tick 40 = .ok (.iastore, 1) := by decide +kernel
theorem d_Mod_tick_41 : decode b_Mod_tick 41 = .ok (.iinc 1 1, 3) := by decide +kernel
theorem d_Mod_tick_44 : decode b_Mod_tick 44 = .ok (.goto (-18), 3) := by decide +kernel
theorem d_Mod_tick_47 : decode b_Mod_tick 47 = .ok (.aload_n 0, 1) := by decide +kernel
theorem d_Mod_tick_48 : decode b_Mod_tick 48 = .ok (.getfield 55, 3) := by decide +kernel
theorem d_Mod_tick_51 : decode b_Mod_tick 51 = .ok (.ireturn, 1) := by decide +kernel
theorem d_Mod_kill_0 : decode b_Mod_kill 0 = .ok (.aload_n 0, 1) := by decide +kernel
theorem d_Mod_kill_1 : decode b_Mod_kill 1 = .ok (.iconst 0, 1) := by decide +kernel
theorem d_Mod_kill_2 : decode b_Mod_kill 2 = .ok (.putfield 42, 3) := by decide +kernel
theorem d_Mod_kill_5 : decode b_Mod_kill 5 = .ok (.aload_n 0, 1) := by decide +kernel
theorem d_Mod_kill_6 : decode b_Mod_kill 6 = .ok (.iload_n 1, 1) := by decide +kernel
theorem d_Mod_kill_7 : decode b_Mod_kill 7 = .ok (.invokevirtual 90, 3) := by decide +kernel
theorem d_Mod_kill_10 : decode b_Mod_kill 10 = .ok (.istore_n 2, 1) := by decide +kernel
theorem d_Mod_kill_11 : decode b_Mod_kill 11 = .ok (.iload_n 2, 1) := by decide +kernel
theorem d_Mod_kill_12 : decode b_Mod_kill 12 = .ok (.ifCond .lt 12, 3) := by decide +kernel
theorem d_Mod_kill_15 : decode b_Mod_kill 15 = .ok (.aload_n 0, 1) := by decide +kernel
theorem d_Mod_kill_16 : decode b_Mod_kill 16 = .ok (.getfield 19, 3) := by decide +kernel
theorem d_Mod_kill_19 : decode b_Mod_kill 19 = .ok (.iload_n 2, 1) := by decide +kernel
theorem d_Mod_kill_20 : decode b_Mod_kill 20 = .ok (.baload, 1) := by decide +kernel
theorem d_Mod_kill_21 : decode b_Mod_kill 21 = .ok (.ifCond .eq 5, 3) := by decide +kernel
theorem d_Mod_kill_24 : decode b_Mod_kill 24 = .ok (.iconst 0, 1) := by decide +kernel
theorem d_Mod_kill_25 : decode b_Mod_kill 25 = .ok (.ireturn, 1) := by decide +kernel
theorem d_Mod_kill_26 : decode b_Mod_kill 26 = .ok (.aload_n 0, 1) := by decide +kernel
theorem d_Mod_kill_27 : decode b_Mod_kill 27 = .ok (.getfield 26, 3) := by decide +kernel
theorem d_Mod_kill_30 : decode b_Mod_kill 30 = .ok (.iload_n 2, 1) := by decide +kernel
theorem d_Mod_kill_31 : decode b_Mod_kill 31 = .ok (.iconst 1, 1) := by decide +kernel
theorem d_Mod_kill_32 : decode b_Mod_kill 32 = .ok (.bastore, 1) := by decide +kernel
theorem d_Mod_kill_33 : decode b_Mod_kill 33 = .ok (.aload_n 0, 1) := by decide +kernel
theorem d_Mod_kill_34 : decode b_Mod_kill 34 = .ok (.getfield 32, 3) := by decide +kernel
theorem d_Mod_kill_37 : decode b_Mod_kill 37 = .ok (.iload_n 2, 1) := by decide +kernel
theorem d_Mod_kill_38 : decode b_Mod_kill 38 = .ok (.iconst 0, 1) := by decide +kernel
theorem d_Mod_kill_39 : decode b_Mod_kill 39 = .ok (.iastore, 1) := by decide +kernel
theorem d_Mod_kill_40 : decode b_Mod_kill 40 = .ok (.iconst 1, 1) := by decide +kernel
theorem d_Mod_kill_41 : decode b_Mod_kill 41 = .ok (.ireturn, 1) := by decide +kernel
theorem d_Mod_about_0 : decode b_Mod_about 0 = .ok (.aload_n 0, 1) := by decide +kernel
theorem d_Mod_about_1 : decode b_Mod_about 1 = .ok (.iconst 0, 1) := by decide +kernel
theorem d_Mod_about_2 : decode b_Mod_about 2 = .ok (.putfield 42, 3) := by decide +kernel
theorem d_Mod_about_5 : decode b_Mod_about 5 = .ok (.iload_n 1, 1) := by decide +kernel
theorem d_Mod_about_6 : decode b_Mod_about 6 = .ok (.ifCond .lt 17, 3) := by decide +kernel
theorem d_Mod_about_9 : decode b_Mod_about 9 = .ok (.iload_n 1, 1) := by decide +kernel
theorem d_Mod_about_10 : decode b_Mod_about 10 = .ok (.bipush 15, 2) := by decide +kernel
theorem d_Mod_about_12 : decode b_Mod_about 12 = .ok (.if_icmp .ge 11, 3) := by decide +kernel
theorem d_Mod_about_15 : decode b_Mod_about 15 = .ok (.aload_n 0, 1) := by decide +kernel
theorem d_Mod_about_16 : decode b_Mod_about 16 = .ok (.iload_n 1, 1) := by decide +kernel
theorem d_Mod_about_17 : decode b_Mod_about 17 = .ok (.invokevirtual 48, 3) := by decide +kernel
theorem d_Mod_about_20 : decode b_Mod_about 20 = .ok (.goto 4, 3) := by decide +kernel
theorem d_Mod_about_23 : decode b_Mod_about 23 = .ok (.iconst (-1), 1) := by decide +kernel
theorem d_Mod_about_24 : decode b_Mod_about 24 = .ok (.istore_n 3, 1) := by decide +kernel
theorem d_Mod_about_25 : decode b_Mod_about 25 = .ok (.iload_n 3, 1) := by decide +kernel
theorem d_Mod_about_26 : decode b_Mod_about 26 = .ok (.ifCond .ge 24, 3) := by decide +kernel
theorem d_Mod_about_29 : decode b_Mod_about 29 = .ok (.iload_n 1, 1) := by decide +kernel
theorem d_Mod_about_30 : decode b_Mod_about 30 = .ok (.ifCond .lt 18, 3) := by decide +kernel
theorem d_Mod_about_33 : decode b_Mod_about 33 = .ok (.iload_n 1, 1) := by decide +kernel
theorem d_Mod_about_34 : decode b_Mod_about 34 = .ok (.bipush 15, 2) := by decide +kernel
theorem d_Mod_about_36 : decode b_Mod_about 36 = .ok (.if_icmp .ge 12, 3) := by decide +kernel
theorem d_Mod_about_39 : decode b_Mod_about 39 = .ok (.iload_n 2, 1) := by decide +kernel
theorem d_Mod_about_40 : decode b_Mod_about 40 = .ok (.iconst 1, 1) := by decide +kernel
theorem d_Mod_about_41 : decode b_Mod_about 41 = .ok (.if_icmp .ne 7, 3) := by decide +kernel
theorem d_Mod_about_44 : decode b_Mod_about 44 = .ok (.iconst 0, 1) := by decide +kernel
theorem d_Mod_about_45 : decode b_Mod_about 45 = .ok (.goto 4, 3) := by decide +kernel
theorem d_Mod_about_48 : decode b_Mod_about 48 = .ok (.iconst (-1), 1) := by decide +kernel
theorem d_Mod_about_49 : decode b_Mod_about 49 = .ok (.ireturn, 1) := by decide +kernel
theorem d_Mod_about_50 : decode b_Mod_about 50 = .ok (.iload_n 2, 1) := by decide +kernel
theorem d_Mod_about_51 : decode b_Mod_about 51 = .ok (.tableswitch 99 0 5 #[37, 44, 50, 57, 72, 92], 37) := by decide +kernel
theorem d_Mod_about_88 : decode b_Mod_about 88 = .ok (.aload_n 0, 1) := by decide +kernel
theorem d_Mod_about_89 : decode b_Mod_about 89 = .ok (.getfield 7, 3) := by decide +kernel
theorem d_Mod_about_92 : decode b_Mod_about 92 = .ok (.iload_n 3, 1) := by decide +kernel
theorem d_Mod_about_93 : decode b_Mod_about 93 = .ok (.iaload, 1) := by decide +kernel
theorem d_Mod_about_94 : decode b_Mod_about 94 = .ok (.ireturn, 1) := by decide +kernel
theorem d_Mod_about_95 : decode b_Mod_about 95 = .ok (.aload_n 0, 1) := by decide +kernel
theorem d_Mod_about_96 : decode b_Mod_about 96 = .ok (.iload_n 3, 1) := by decide +kernel
theorem d_Mod_about_97 : decode b_Mod_about 97 = .ok (.invokevirtual 71, 3) := by decide +kernel
theorem d_Mod_about_100 : decode b_Mod_about 100 = .ok (.ireturn, 1) := by decide +kernel
theorem d_Mod_about_101 : decode b_Mod_about 101 = .ok (.aload_n 0, 1) := by decide +kernel
theorem d_Mod_about_102 : decode b_Mod_about 102 = .ok (.getfield 16, 3) := by decide +kernel
theorem d_Mod_about_105 : decode b_Mod_about 105 = .ok (.iload_n 3, 1) := by decide +kernel
theorem d_Mod_about_106 : decode b_Mod_about 106 = .ok (.iaload, 1) := by decide +kernel
theorem d_Mod_about_107 : decode b_Mod_about 107 = .ok (.ireturn, 1) := by decide +kernel
theorem d_Mod_about_108 : decode b_Mod_about 108 = .ok (.aload_n 0, 1) := by decide +kernel
theorem d_Mod_about_109 : decode b_Mod_about 109 = .ok (.getfield 26, 3) := by decide +kernel
theorem d_Mod_about_112 : decode b_Mod_about 112 = .ok (.iload_n 3, 1) := by decide +kernel
theorem d_Mod_about_113 : decode b_Mod_about 113 = .ok (.baload, 1) := by decide +kernel
theorem d_Mod_about_114 : decode b_Mod_about 114 = .ok (.ifCond .eq 7, 3) := by decide +kernel
theorem d_Mod_about_117 : decode b_Mod_about 117 = .ok (.iconst 1, 1) := by decide +kernel
theorem d_Mod_about_118 : decode b_Mod_about 118 = .ok (.goto 4, 3) := by decide +kernel
theorem d_Mod_about_121 : decode b_Mod_about 121 = .ok (.iconst 0, 1) := by decide +kernel
theorem d_Mod_about_122 : decode b_Mod_about 122 = .ok (.ireturn, 1) := by decide +kernel
theorem d_Mod_about_123 : decode b_Mod_about 123 = .ok (.aload_n 0, 1) := by decide +kernel
theorem d_Mod_about_124 : decode b_Mod_about 124 = .ok (.getfield 19, 3) := by decide +kernel
theorem d_Mod_about_127 : decode b_Mod_about 127 = .ok (.iload_n 3, 1) := by decide +kernel
theorem d_Mod_about_128 : decode b_Mod_about 128 = .ok (.baload, 1) := by decide +kernel
theorem d_Mod_about_129 : decode b_Mod_about 129 = .ok (.ifCond .eq 12, 3) := by decide +kernel
theorem d_Mod_about_132 : decode b_Mod_about 132 = .ok (.aload_n 0, 1) := by decide +kernel
theorem d_Mod_about_133 : decode b_Mod_about 133 = .ok (.getfield 23, 3) := by decide +kernel
theorem d_Mod_about_136 : decode b_Mod_about 136 = .ok (.iload_n 3, 1) := by decide +kernel
theorem d_Mod_about_137 : decode b_Mod_about 137 = .ok (.iaload, 1) := by decide +kernel
theorem d_Mod_about_138 : decode b_Mod_about 138 = .ok (.goto 4, 3) := by decide +kernel
theorem d_Mod_about_141 : decode b_Mod_about 141 = .ok (.iconst 0, 1) := by decide +kernel
theorem d_Mod_about_142 : decode b_Mod_about 142 = .ok (.ireturn, 1) := by decide +kernel
theorem d_Mod_about_143 : decode b_Mod_about 143 = .ok (.aload_n 0, 1) := by decide +kernel
theorem d_Mod_about_144 : decode b_Mod_about 144 = .ok (.getfield 29, 3) := by decide +kernel
theorem d_Mod_about_147 : decode b_Mod_about 147 = .ok (.iload_n 3, 1) := by decide +kernel
theorem d_Mod_about_148 : decode b_Mod_about 148 = .ok (.iaload, 1) := by decide +kernel
theorem d_Mod_about_149 : decode b_Mod_about 149 = .ok (.ireturn, 1) := by decide +kernel
theorem d_Mod_about_150 : decode b_Mod_about 150 = .ok (.iconst (-1), 1) := by decide +kernel
theorem d_Mod_about_151 : decode b_Mod_about 151 = .ok (.ireturn, 1) := by decide +kernel
theorem d_Mod_count_0 : decode b_Mod_count 0 = .ok (.aload_n 0, 1) := by decide +kernel
theorem d_Mod_count_1 : decode b_Mod_count 1 = .ok (.iconst 0, 1) := by decide +kernel
theorem d_Mod_count_2 : decode b_Mod_count 2 = .ok (.putfield 42, 3) := by decide +kernel
theorem d_Mod_count_5 : decode b_Mod_count 5 = .ok (.iload_n 1, 1) := by decide +kernel
theorem d_Mod_count_6 : decode b_Mod_count 6 = .ok (.ifCond .lt 8, 3) := by decide +kernel
theorem d_Mod_count_9 : decode b_Mod_count 9 = .ok (.iload_n 1, 1) := by decide +kernel
theorem d_Mod_count_10 : decode b_Mod_count 10 = .ok (.iconst 4, 1) := by decide +kernel
theorem d_Mod_count_11 : decode b_Mod_count 11 = .ok (.if_icmp .le 5, 3) := by decide +kernel
theorem d_Mod_count_14 : decode b_Mod_count 14 = .ok (.iconst (-1), 1) := by decide +kernel
theorem d_Mod_count_15 : decode b_Mod_count 15 = .ok (.ireturn, 1) := by decide +kernel
theorem d_Mod_count_16 : decode b_Mod_count 16 = .ok (.iconst 0, 1) := by decide +kernel
theorem d_Mod_count_17 : decode b_Mod_count 17 = .ok (.istore_n 2, 1) := by decide +kernel
theorem d_Mod_count_18 : decode b_Mod_count 18 = .ok (.iconst 0, 1) := by decide +kernel
theorem d_Mod_count_19 : decode b_Mod_count 19 = .ok (.istore_n 3, 1) := by decide +kernel
theorem d_Mod_count_20 : decode b_Mod_count 20 = .ok (.iload_n 3, 1) := by decide +kernel
theorem d_Mod_count_21 : decode b_Mod_count 21 = .ok (.aload_n 0, 1) := by decide +kernel
theorem d_Mod_count_22 : decode b_Mod_count 22 = .ok (.getfield 45, 3) := by decide +kernel
theorem d_Mod_count_25 : decode b_Mod_count 25 = .ok (.if_icmp .ge 30, 3) := by decide +kernel
theorem d_Mod_count_28 : decode b_Mod_count 28 = .ok (.iload_n 2, 1) := by decide +kernel
theorem d_Mod_count_29 : decode b_Mod_count 29 = .ok (.iload_n 1, 1) := by decide +kernel
theorem d_Mod_count_30 : decode b_Mod_count 30 = .ok (.ifCond .eq 12, 3) := by decide +kernel
theorem d_Mod_count_33 : decode b_Mod_count 33 = .ok (.aload_n 0, 1) := by decide +kernel
theorem d_Mod_count_34 : decode b_Mod_count 34 = .ok (.iload_n 3, 1) := by decide +kernel
theorem d_Mod_count_35 : decode b_Mod_count 35 = .ok (.invokevirtual 71, 3) := by decide +kernel
theorem d_Mod_count_38 : decode b_Mod_count 38 = .ok (.iload_n 1, 1) := by decide +kernel
theorem d_Mod_count_39 : decode b_Mod_count 39 = .ok (.if_icmp .ne 7, 3) := by decide +kernel
theorem d_Mod_count_42 : decode b_Mod_count 42 = .ok (.iconst 1, 1) := by decide +kernel
theorem d_Mod_count_43 : decode b_Mod_count 43 = .ok (.goto 4, 3) := by decide +kernel
theorem d_Mod_count_46 : decode b_Mod_count 46 = .ok (.iconst 0, 1) := by decide +kernel
theorem d_Mod_count_47 : decode b_Mod_count 47 = .ok (.iadd, 1) := by decide +kernel
theorem d_Mod_count_48 : decode b_Mod_count 48 = .ok (.istore_n 2, 1) := by decide +kernel
theorem d_Mod_count_49 : decode b_Mod_count 49 = .ok (.iinc 3 1, 3) := by decide +kernel
theorem d_Mod_count_52 : decode b_Mod_count 52 = .ok (.goto (-32), 3) := by decide +kernel
theorem d_Mod_count_55 : decode b_Mod_count 55 = .ok (.iload_n 2, 1) := by decide +kernel
theorem d_Mod_count_56 : decode b_Mod_count 56 = .ok (.ireturn, 1) := by decide +kernel
end
section
theorem d_Law_cell_0 : decode b_Law_cell 0 = .ok (.iload_n 1, 1) := by decide +kernel
theorem d_Law_cell_1 : decode b_Law_cell 1 = .ok (.aload_n 0, 1) := by decide +kernel
theorem d_Law_cell_2 : decode b_Law_cell 2 = .ok (.arraylength, 1) := by decide +kernel
theorem d_Law_cell_3 : decode b_Law_cell 3 = .ok (.if_icmp .ge 9, 3) := by decide +kernel
theorem d_Law_cell_6 : decode b_Law_cell 6 = .ok (.aload_n 0, 1) := by decide +kernel
theorem d_Law_cell_7 : decode b_Law_cell 7 = .ok (.iload_n 1, 1) := by decide +kernel
theorem d_Law_cell_8 : decode b_Law_cell 8 = .ok (.iaload, 1) := by decide +kernel
theorem d_Law_cell_9 : decode b_Law_cell 9 = .ok (.goto 4, 3) := by decide +kernel
theorem d_Law_cell_12 : decode b_Law_cell 12 = .ok (.iconst 0, 1) := by decide +kernel
theorem d_Law_cell_13 : decode b_Law_cell 13 = .ok (.ireturn, 1) := by decide +kernel
theorem d_Law_law_0 : decode code 0 = .ok (.new 7, 3) := by decide +kernel
theorem d_Law_law_3 : decode code 3 = .ok (.dup, 1) := by decide +kernel
theorem d_Law_law_4 : decode code 4 = .ok (.aload_n 0, 1) := by decide +kernel
theorem d_Law_law_5 : decode code 5 = .ok (.iconst 0, 1) := by decide +kernel
theorem d_Law_law_6 : decode code 6 = .ok (.invokestatic 9, 3) := by decide +kernel
theorem d_Law_law_9 : decode code 9 = .ok (.invokespecial 15, 3) := by decide +kernel
theorem d_Law_law_12 : decode code 12 = .ok (.astore_n 1, 1) := by decide +kernel
theorem d_Law_law_13 : decode code 13 = .ok (.new 18, 3) := by decide +kernel
theorem d_Law_law_16 : decode code 16 = .ok (.dup, 1) := by decide +kernel
theorem d_Law_law_17 : decode code 17 = .ok (.aload_n 0, 1) := by decide +kernel
theorem d_Law_law_18 : decode code 18 = .ok (.iconst 0, 1) := by decide +kernel
theorem d_Law_law_19 : decode code 19 = .ok (.invokestatic 9, 3) := by decide +kernel
theorem d_Law_law_22 : decode code 22 = .ok (.invokespecial 20, 3) := by decide +kernel
theorem d_Law_law_25 : decode code 25 = .ok (.astore_n 2, 1) := by decide +kernel
theorem d_Law_law_26 : decode code 26 = .ok (.iconst 1, 1) := by decide +kernel
theorem d_Law_law_27 : decode code 27 = .ok (.istore_n 3, 1) := by decide +kernel
theorem d_Law_law_28 : decode code 28 = .ok (.iload_n 3, 1) := by decide +kernel
theorem d_Law_law_29 : decode code 29 = .ok (.aload_n 0, 1) := by decide +kernel
theorem d_Law_law_30 : decode code 30 = .ok (.arraylength, 1) := by decide +kernel
theorem d_Law_law_31 : decode code 31 = .ok (.iconst 3, 1) := by decide +kernel
theorem d_Law_law_32 : decode code 32 = .ok (.isub, 1) := by decide +kernel
theorem d_Law_law_33 : decode code 33 = .ok (.if_icmp .gt 417, 3) := by decide +kernel
theorem d_Law_law_36 : decode code 36 = .ok (.aload_n 0, 1) := by decide +kernel
theorem d_Law_law_37 : decode code 37 = .ok (.iload_n 3, 1) := by decide +kernel
theorem d_Law_law_38 : decode code 38 = .ok (.iaload, 1) := by decide +kernel
theorem d_Law_law_39 : decode code 39 = .ok (.bipush 15, 2) := by decide +kernel
theorem d_Law_law_41 : decode code 41 = .ok (.iand, 1) := by decide +kernel
theorem d_Law_law_42 : decode code 42 = .ok (.tableswitch 402 0 13 #[70, 83, 106, 129, 162, 185, 198, 231, 264, 287, 310, 323, 346, 379], 70) := by decide +kernel
theorem d_Law_law_112 : decode code 112 = .ok (.aload_n 1, 1) := by decide +kernel
theorem d_Law_law_113 : decode code 113 = .ok (.invokevirtual 21, 3) := by decide +kernel
theorem d_Law_law_116 : decode code 116 = .ok (.aload_n 2, 1) := by decide +kernel
theorem d_Law_law_117 : decode code 117 = .ok (.invokevirtual 25, 3) := by decide +kernel
theorem d_Law_law_120 : decode code 120 = .ok (.if_icmp .eq 324, 3) := by decide +kernel
theorem d_Law_law_123 : decode code 123 = .ok (.iconst 0, 1) := by decide +kernel
theorem d_Law_law_124 : decode code 124 = .ok (.ireturn, 1) := by decide +kernel
theorem d_Law_law_125 : decode code 125 = .ok (.aload_n 1, 1) := by decide +kernel
theorem d_Law_law_126 : decode code 126 = .ok (.aload_n 0, 1) := by decide +kernel
theorem d_Law_law_127 : decode code 127 = .ok (.iload_n 3, 1) := by decide +kernel
theorem d_Law_law_128 : decode code 128 = .ok (.iconst 1, 1) := by decide +kernel
theorem d_Law_law_129 : decode code 129 = .ok (.iadd, 1) := by decide +kernel
theorem d_Law_law_130 : decode code 130 = .ok (.iaload, 1) := by decide +kernel
theorem d_Law_law_131 : decode code 131 = .ok (.invokevirtual 26, 3) := by decide +kernel
theorem d_Law_law_134 : decode code 134 = .ok (.aload_n 2, 1) := by decide +kernel
theorem d_Law_law_135 : decode code 135 = .ok (.aload_n 0, 1) := by decide +kernel
theorem d_Law_law_136 : decode code 136 = .ok (.iload_n 3, 1) := by decide +kernel
theorem d_Law_law_137 : decode code 137 = .ok (.iconst 1, 1) := by decide +kernel
theorem d_Law_law_138 : decode code 138 = .ok (.iadd, 1) := by decide +kernel
theorem d_Law_law_139 : decode code 139 = .ok (.iaload, 1) := by decide +kernel
theorem d_Law_law_140 : decode code 140 = .ok (.invokevirtual 30, 3) := by decide +kernel
theorem d_Law_law_143 : decode code 143 = .ok (.if_icmp .eq 301, 3) := by decide +kernel
theorem d_Law_law_146 : decode code 146 = .ok (.iconst 0, 1) := by decide +kernel
theorem d_Law_law_147 : decode code 147 = .ok (.ireturn, 1) := by decide +kernel
theorem d_Law_law_148 : decode code 148 = .ok (.aload_n 1, 1) := by decide +kernel
theorem d_Law_law_149 : decode code 149 = .ok (.aload_n 0, 1) := by decide +kernel
theorem d_Law_law_150 : decode code 150 = .ok (.iload_n 3, 1) := by decide +kernel
theorem d_Law_law_151 : decode code 151 = .ok (.iconst 1, 1) := by decide +kernel
theorem d_Law_law_152 : decode code 152 = .ok (.iadd, 1) := by decide +kernel
theorem d_Law_law_153 : decode code 153 = .ok (.iaload, 1) := by decide +kernel
theorem d_Law_law_154 : decode code 154 = .ok (.invokevirtual 31, 3) := by decide +kernel
theorem d_Law_law_157 : decode code 157 = .ok (.aload_n 2, 1) := by decide +kernel
theorem d_Law_law_158 : decode code 158 = .ok (.aload_n 0, 1) := by decide +kernel
theorem d_Law_law_159 : decode code 159 = .ok (.iload_n 3, 1) := by decide +kernel
theorem d_Law_law_160 : decode code 160 = .ok (.iconst 1, 1) := by decide +kernel
theorem d_Law_law_161 : decode code 161 = .ok (.iadd, 1) := by decide +kernel
theorem d_Law_law_162 : decode code 162 = .ok (.iaload, 1) := by decide +kernel
theorem d_Law_law_163 : decode code 163 = .ok (.invokevirtual 34, 3) := by decide +kernel
theorem d_Law_law_166 : decode code 166 = .ok (.if_icmp .eq 278, 3) := by decide +kernel
theorem d_Law_law_169 : decode code 169 = .ok (.iconst 0, 1) := by decide +kernel
theorem d_Law_law_170 : decode code 170 = .ok (.ireturn, 1) := by decide +kernel
theorem d_Law_law_171 : decode code 171 = .ok (.aload_n 1, 1) := by decide +kernel
theorem d_Law_law_172 : decode code 172 = .ok (.aload_n 0, 1) := by decide +kernel
theorem d_Law_law_173 : decode code 173 = .ok (.iload_n 3, 1) := by decide +kernel
theorem d_Law_law_174 : decode code 174 = .ok (.iconst 1, 1) := by decide +kernel
theorem d_Law_law_175 : decode code 175 = .ok (.iadd, 1) := by decide +kernel
theorem d_Law_law_176 : decode code 176 = .ok (.iaload, 1) := by decide +kernel
theorem d_Law_law_177 : decode code 177 = .ok (.aload_n 0, 1) := by decide +kernel
theorem d_Law_law_178 : decode code 178 = .ok (.iload_n 3, 1) := by decide +kernel
theorem d_Law_law_179 : decode code 179 = .ok (.iconst 2, 1) := by decide +kernel
theorem d_Law_law_180 : decode code 180 = .ok (.iadd, 1) := by decide +kernel
theorem d_Law_law_181 : decode code 181 = .ok (.iaload, 1) := by decide +kernel
theorem d_Law_law_182 : decode code 182 = .ok (.invokevirtual 35, 3) := by decide +kernel
theorem d_Law_law_185 : decode code 185 = .ok (.aload_n 2, 1) := by decide +kernel
theorem d_Law_law_186 : decode code 186 = .ok (.aload_n 0, 1) := by decide +kernel
theorem d_Law_law_187 : decode code 187 = .ok (.iload_n 3, 1) := by decide +kernel
theorem d_Law_law_188 : decode code 188 = .ok (.iconst 1, 1) := by decide +kernel
theorem d_Law_law_189 : decode code 189 = .ok (.iadd, 1) := by decide +kernel
theorem d_Law_law_190 : decode code 190 = .ok (.iaload, 1) := by decide +kernel
theorem d_Law_law_191 : decode code 191 = .ok (.aload_n 0, 1) := by decide +kernel
theorem d_Law_law_192 : decode code 192 = .ok (.iload_n 3, 1) := by decide +kernel
theorem d_Law_law_193 : decode code 193 = .ok (.iconst 2, 1) := by decide +kernel
theorem d_Law_law_194 : decode code 194 = .ok (.iadd, 1) := by decide +kernel
theorem d_Law_law_195 : decode code 195 = .ok (.iaload, 1) := by decide +kernel
theorem d_Law_law_196 : decode code 196 = .ok (.invokevirtual 39, 3) := by decide +kernel
theorem d_Law_law_199 : decode code 199 = .ok (.if_icmp .eq 245, 3) := by decide +kernel
theorem d_Law_law_202 : decode code 202 = .ok (.iconst 0, 1) := by decide +kernel
theorem d_Law_law_203 : decode code 203 = .ok (.ireturn, 1) := by decide +kernel
theorem d_Law_law_204 : decode code 204 = .ok (.aload_n 1, 1) := by decide +kernel
theorem d_Law_law_205 : decode code 205 = .ok (.aload_n 0, 1) := by decide +kernel
theorem d_Law_law_206 : decode code 206 = .ok (.iload_n 3, 1) := by decide +kernel
theorem d_Law_law_207 : decode code 207 = .ok (.iconst 1, 1) := by decide +kernel
theorem d_Law_law_208 : decode code 208 = .ok (.iadd, 1) := by decide +kernel
theorem d_Law_law_209 : decode code 209 = .ok (.iaload, 1) := by decide +kernel
theorem d_Law_law_210 : decode code 210 = .ok (.invokevirtual 40, 3) := by decide +kernel
theorem d_Law_law_213 : decode code 213 = .ok (.aload_n 2, 1) := by decide +kernel
theorem d_Law_law_214 : decode code 214 = .ok (.aload_n 0, 1) := by decide +kernel
theorem d_Law_law_215 : decode code 215 = .ok (.iload_n 3, 1) := by decide +kernel
theorem d_Law_law_216 : decode code 216 = .ok (.iconst 1, 1) := by decide +kernel
theorem d_Law_law_217 : decode code 217 = .ok (.iadd, 1) := by decide +kernel
theorem d_Law_law_218 : decode code 218 = .ok (.iaload, 1) := by decide +kernel
theorem d_Law_law_219 : decode code 219 = .ok (.invokevirtual 43, 3) := by decide +kernel
theorem d_Law_law_222 : decode code 222 = .ok (.if_icmp .eq 222, 3) := by decide +kernel
theorem d_Law_law_225 : decode code 225 = .ok (.iconst 0, 1) := by decide +kernel
theorem d_Law_law_226 : decode code 226 = .ok (.ireturn, 1) := by decide +kernel
theorem d_Law_law_227 : decode code 227 = .ok (.aload_n 1, 1) := by decide +kernel
theorem d_Law_law_228 : decode code 228 = .ok (.invokevirtual 44, 3) := by decide +kernel
theorem d_Law_law_231 : decode code 231 = .ok (.aload_n 2, 1) := by decide +kernel
theorem d_Law_law_232 : decode code 232 = .ok (.invokevirtual 48, 3) := by decide +kernel
theorem d_Law_law_235 : decode code 235 = .ok (.if_icmp .eq 209, 3) := by decide +kernel
theorem d_Law_law_238 : decode code 238 = .ok (.iconst 0, 1) := by decide +kernel
theorem d_Law_law_239 : decode code 239 = .ok (.ireturn, 1) := by decide +kernel
theorem d_Law_law_240 : decode code 240 = .ok (.aload_n 1, 1) := by decide +kernel
theorem d_Law_law_241 : decode code 241 = .ok (.aload_n 0, 1) := by decide +kernel
theorem d_Law_law_242 : decode code 242 = .ok (.iload_n 3, 1) := by decide +kernel
theorem d_Law_law_243 : decode code 243 = .ok (.iconst 1, 1) := by decide +kernel
theorem d_Law_law_244 : decode code 244 = .ok (.iadd, 1) := by decide +kernel
theorem d_Law_law_245 : decode code 245 = .ok (.iaload, 1) := by decide +kernel
theorem d_Law_law_246 : decode code 246 = .ok (.aload_n 0, 1) := by decide +kernel
theorem d_Law_law_247 : decode code 247 = .ok (.iload_n 3, 1) := by decide +kernel
theorem d_Law_law_248 : decode code 248 = .ok (.iconst 2, 1) := by decide +kernel
theorem d_Law_law_249 : decode code 249 = .ok (.iadd, 1) := by decide +kernel
theorem d_Law_law_250 : decode code 250 = .ok (.iaload, 1) := by decide +kernel
theorem d_Law_law_251 : decode code 251 = .ok (.invokevirtual 49, 3) := by decide +kernel
theorem d_Law_law_254 : decode code 254 = .ok (.aload_n 2, 1) := by decide +kernel
theorem d_Law_law_255 : decode code 255 = .ok (.aload_n 0, 1) := by decide +kernel
theorem d_Law_law_256 : decode code 256 = .ok (.iload_n 3, 1) := by decide +kernel
theorem d_Law_law_257 : decode code 257 = .ok (.iconst 1, 1) := by decide +kernel
theorem d_Law_law_258 : decode code 258 = .ok (.iadd, 1) := by decide +kernel
theorem d_Law_law_259 : decode code 259 = .ok (.iaload, 1) := by decide +kernel
theorem d_Law_law_260 : decode code 260 = .ok (.aload_n 0, 1) := by decide +kernel
theorem d_Law_law_261 : decode code 261 = .ok (.iload_n 3, 1) := by decide +kernel
theorem d_Law_law_262 : decode code 262 = .ok (.iconst 2, 1) := by decide +kernel
theorem d_Law_law_263 : decode code 263 = .ok (.iadd, 1) := by decide +kernel
theorem d_Law_law_264 : decode code 264 = .ok (.iaload, 1) := by decide +kernel
theorem d_Law_law_265 : decode code 265 = .ok (.invokevirtual 52, 3) := by decide +kernel
theorem d_Law_law_268 : decode code 268 = .ok (.if_icmp .eq 176, 3) := by decide +kernel
theorem d_Law_law_271 : decode code 271 = .ok (.iconst 0, 1) := by decide +kernel
theorem d_Law_law_272 : decode code 272 = .ok (.ireturn, 1) := by decide +kernel
theorem d_Law_law_273 : decode code 273 = .ok (.aload_n 1, 1) := by decide +kernel
theorem d_Law_law_274 : decode code 274 = .ok (.aload_n 0, 1) := by decide +kernel
theorem d_Law_law_275 : decode code 275 = .ok (.iload_n 3, 1) := by decide +kernel
theorem d_Law_law_276 : decode code 276 = .ok (.iconst 1, 1) := by decide +kernel
theorem d_Law_law_277 : decode code 277 = .ok (.iadd, 1) := by decide +kernel
theorem d_Law_law_278 : decode code 278 = .ok (.iaload, 1) := by decide +kernel
theorem d_Law_law_279 : decode code 279 = .ok (.aload_n 0, 1) := by decide +kernel
theorem d_Law_law_280 : decode code 280 = .ok (.iload_n 3, 1) := by decide +kernel
theorem d_Law_law_281 : decode code 281 = .ok (.iconst 2, 1) := by decide +kernel
theorem d_Law_law_282 : decode code 282 = .ok (.iadd, 1) := by decide +kernel
theorem d_Law_law_283 : decode code 283 = .ok (.iaload, 1) := by decide +kernel
theorem d_Law_law_284 : decode code 284 = .ok (.invokevirtual 53, 3) := by decide +kernel
theorem d_Law_law_287 : decode code 287 = .ok (.aload_n 2, 1) := by decide +kernel
theorem d_Law_law_288 : decode code 288 = .ok (.aload_n 0, 1) := by decide +kernel
theorem d_Law_law_289 : decode code 289 = .ok (.iload_n 3, 1) := by decide +kernel
theorem d_Law_law_290 : decode code 290 = .ok (.iconst 1, 1) := by decide +kernel
theorem d_Law_law_291 : decode code 291 = .ok (.iadd, 1) := by decide +kernel
theorem d_Law_law_292 : decode code 292 = .ok (.iaload, 1) := by decide +kernel
theorem d_Law_law_293 : decode code 293 = .ok (.aload_n 0, 1) := by decide +kernel
theorem d_Law_law_294 : decode code 294 = .ok (.iload_n 3, 1) := by decide +kernel
theorem d_Law_law_295 : decode code 295 = .ok (.iconst 2, 1) := by decide +kernel
theorem d_Law_law_296 : decode code 296 = .ok (.iadd, 1) := by decide +kernel
theorem d_Law_law_297 : decode code 297 = .ok (.iaload, 1) := by decide +kernel
theorem d_Law_law_298 : decode code 298 = .ok (.invokevirtual 56, 3) := by decide +kernel
theorem d_Law_law_301 : decode code 301 = .ok (.if_icmp .eq 143, 3) := by decide +kernel
theorem d_Law_law_304 : decode code 304 = .ok (.iconst 0, 1) := by decide +kernel
theorem d_Law_law_305 : decode code 305 = .ok (.ireturn, 1) := by decide +kernel
theorem d_Law_law_306 : decode code 306 = .ok (.aload_n 1, 1) := by decide +kernel
theorem d_Law_law_307 : decode code 307 = .ok (.aload_n 0, 1) := by decide +kernel
theorem d_Law_law_308 : decode code 308 = .ok (.iload_n 3, 1) := by decide +kernel
theorem d_Law_law_309 : decode code 309 = .ok (.iconst 1, 1) := by decide +kernel
theorem d_Law_law_310 : decode code 310 = .ok (.iadd, 1) := by decide +kernel
theorem d_Law_law_311 : decode code 311 = .ok (.iaload, 1) := by decide +kernel
theorem d_Law_law_312 : decode code 312 = .ok (.invokevirtual 57, 3) := by decide +kernel
theorem d_Law_law_315 : decode code 315 = .ok (.aload_n 2, 1) := by decide +kernel
theorem d_Law_law_316 : decode code 316 = .ok (.aload_n 0, 1) := by decide +kernel
theorem d_Law_law_317 : decode code 317 = .ok (.iload_n 3, 1) := by decide +kernel
theorem d_Law_law_318 : decode code 318 = .ok (.iconst 1, 1) := by decide +kernel
theorem d_Law_law_319 : decode code 319 = .ok (.iadd, 1) := by decide +kernel
theorem d_Law_law_320 : decode code 320 = .ok (.iaload, 1) := by decide +kernel
theorem d_Law_law_321 : decode code 321 = .ok (.invokevirtual 60, 3) := by decide +kernel
theorem d_Law_law_324 : decode code 324 = .ok (.if_icmp .eq 120, 3) := by decide +kernel
theorem d_Law_law_327 : decode code 327 = .ok (.iconst 0, 1) := by decide +kernel
theorem d_Law_law_328 : decode code 328 = .ok (.ireturn, 1) := by decide +kernel
theorem d_Law_law_329 : decode code 329 = .ok (.aload_n 1, 1) := by decide +kernel
theorem d_Law_law_330 : decode code 330 = .ok (.aload_n 0, 1) := by decide +kernel
theorem d_Law_law_331 : decode code 331 = .ok (.iload_n 3, 1) := by decide +kernel
theorem d_Law_law_332 : decode code 332 = .ok (.iconst 1, 1) := by decide +kernel
theorem d_Law_law_333 : decode code 333 = .ok (.iadd, 1) := by decide +kernel
theorem d_Law_law_334 : decode code 334 = .ok (.iaload, 1) := by decide +kernel
theorem d_Law_law_335 : decode code 335 = .ok (.invokevirtual 61, 3) := by decide +kernel
theorem d_Law_law_338 : decode code 338 = .ok (.aload_n 2, 1) := by decide +kernel
theorem d_Law_law_339 : decode code 339 = .ok (.aload_n 0, 1) := by decide +kernel
theorem d_Law_law_340 : decode code 340 = .ok (.iload_n 3, 1) := by decide +kernel
theorem d_Law_law_341 : decode code 341 = .ok (.iconst 1, 1) := by decide +kernel
theorem d_Law_law_342 : decode code 342 = .ok (.iadd, 1) := by decide +kernel
theorem d_Law_law_343 : decode code 343 = .ok (.iaload, 1) := by decide +kernel
theorem d_Law_law_344 : decode code 344 = .ok (.invokevirtual 64, 3) := by decide +kernel
theorem d_Law_law_347 : decode code 347 = .ok (.if_icmp .eq 97, 3) := by decide +kernel
theorem d_Law_law_350 : decode code 350 = .ok (.iconst 0, 1) := by decide +kernel
theorem d_Law_law_351 : decode code 351 = .ok (.ireturn, 1) := by decide +kernel
theorem d_Law_law_352 : decode code 352 = .ok (.aload_n 1, 1) := by decide +kernel
theorem d_Law_law_353 : decode code 353 = .ok (.invokevirtual 65, 3) := by decide +kernel
theorem d_Law_law_356 : decode code 356 = .ok (.aload_n 2, 1) := by decide +kernel
theorem d_Law_law_357 : decode code 357 = .ok (.invokevirtual 68, 3) := by decide +kernel
theorem d_Law_law_360 : decode code 360 = .ok (.if_icmp .eq 84, 3) := by decide +kernel
theorem d_Law_law_363 : decode code 363 = .ok (.iconst 0, 1) := by decide +kernel
theorem d_Law_law_364 : decode code 364 = .ok (.ireturn, 1) := by decide +kernel
theorem d_Law_law_365 : decode code 365 = .ok (.aload_n 1, 1) := by decide +kernel
theorem d_Law_law_366 : decode code 366 = .ok (.aload_n 0, 1) := by decide +kernel
theorem d_Law_law_367 : decode code 367 = .ok (.iload_n 3, 1) := by decide +kernel
theorem d_Law_law_368 : decode code 368 = .ok (.iconst 1, 1) := by decide +kernel
theorem d_Law_law_369 : decode code 369 = .ok (.iadd, 1) := by decide +kernel
theorem d_Law_law_370 : decode code 370 = .ok (.iaload, 1) := by decide +kernel
theorem d_Law_law_371 : decode code 371 = .ok (.invokevirtual 69, 3) := by decide +kernel
theorem d_Law_law_374 : decode code 374 = .ok (.aload_n 2, 1) := by decide +kernel
theorem d_Law_law_375 : decode code 375 = .ok (.aload_n 0, 1) := by decide +kernel
theorem d_Law_law_376 : decode code 376 = .ok (.iload_n 3, 1) := by decide +kernel
theorem d_Law_law_377 : decode code 377 = .ok (.iconst 1, 1) := by decide +kernel
theorem d_Law_law_378 : decode code 378 = .ok (.iadd, 1) := by decide +kernel
theorem d_Law_law_379 : decode code 379 = .ok (.iaload, 1) := by decide +kernel
theorem d_Law_law_380 : decode code 380 = .ok (.invokevirtual 73, 3) := by decide +kernel
theorem d_Law_law_383 : decode code 383 = .ok (.if_icmp .eq 61, 3) := by decide +kernel
theorem d_Law_law_386 : decode code 386 = .ok (.iconst 0, 1) := by decide +kernel
theorem d_Law_law_387 : decode code 387 = .ok (.ireturn, 1) := by decide +kernel
theorem d_Law_law_388 : decode code 388 = .ok (.aload_n 1, 1) := by decide +kernel
theorem d_Law_law_389 : decode code 389 = .ok (.aload_n 0, 1) := by decide +kernel
theorem d_Law_law_390 : decode code 390 = .ok (.iload_n 3, 1) := by decide +kernel
theorem d_Law_law_391 : decode code 391 = .ok (.iconst 1, 1) := by decide +kernel
theorem d_Law_law_392 : decode code 392 = .ok (.iadd, 1) := by decide +kernel
theorem d_Law_law_393 : decode code 393 = .ok (.iaload, 1) := by decide +kernel
theorem d_Law_law_394 : decode code 394 = .ok (.aload_n 0, 1) := by decide +kernel
theorem d_Law_law_395 : decode code 395 = .ok (.iload_n 3, 1) := by decide +kernel
theorem d_Law_law_396 : decode code 396 = .ok (.iconst 2, 1) := by decide +kernel
theorem d_Law_law_397 : decode code 397 = .ok (.iadd, 1) := by decide +kernel
theorem d_Law_law_398 : decode code 398 = .ok (.iaload, 1) := by decide +kernel
theorem d_Law_law_399 : decode code 399 = .ok (.invokevirtual 74, 3) := by decide +kernel
theorem d_Law_law_402 : decode code 402 = .ok (.aload_n 2, 1) := by decide +kernel
theorem d_Law_law_403 : decode code 403 = .ok (.aload_n 0, 1) := by decide +kernel
theorem d_Law_law_404 : decode code 404 = .ok (.iload_n 3, 1) := by decide +kernel
theorem d_Law_law_405 : decode code 405 = .ok (.iconst 1, 1) := by decide +kernel
theorem d_Law_law_406 : decode code 406 = .ok (.iadd, 1) := by decide +kernel
theorem d_Law_law_407 : decode code 407 = .ok (.iaload, 1) := by decide +kernel
theorem d_Law_law_408 : decode code 408 = .ok (.aload_n 0, 1) := by decide +kernel
theorem d_Law_law_409 : decode code 409 = .ok (.iload_n 3, 1) := by decide +kernel
theorem d_Law_law_410 : decode code 410 = .ok (.iconst 2, 1) := by decide +kernel
theorem d_Law_law_411 : decode code 411 = .ok (.iadd, 1) := by decide +kernel
theorem d_Law_law_412 : decode code 412 = .ok (.iaload, 1) := by decide +kernel
theorem d_Law_law_413 : decode code 413 = .ok (.invokevirtual 77, 3) := by decide +kernel
theorem d_Law_law_416 : decode code 416 = .ok (.if_icmp .eq 28, 3) := by decide +kernel
theorem d_Law_law_419 : decode code 419 = .ok (.iconst 0, 1) := by decide +kernel
theorem d_Law_law_420 : decode code 420 = .ok (.ireturn, 1) := by decide +kernel
theorem d_Law_law_421 : decode code 421 = .ok (.aload_n 1, 1) := by decide +kernel
theorem d_Law_law_422 : decode code 422 = .ok (.aload_n 0, 1) := by decide +kernel
theorem d_Law_law_423 : decode code 423 = .ok (.iload_n 3, 1) := by decide +kernel
theorem d_Law_law_424 : decode code 424 = .ok (.iconst 1, 1) := by decide +kernel
theorem d_Law_law_425 : decode code 425 = .ok (.iadd, 1) := by decide +kernel
theorem d_Law_law_426 : decode code 426 = .ok (.iaload, 1) := by decide +kernel
theorem d_Law_law_427 : decode code 427 = .ok (.invokevirtual 78, 3) := by decide +kernel
theorem d_Law_law_430 : decode code 430 = .ok (.aload_n 2, 1) := by decide +kernel
theorem d_Law_law_431 : decode code 431 = .ok (.aload_n 0, 1) := by decide +kernel
theorem d_Law_law_432 : decode code 432 = .ok (.iload_n 3, 1) := by decide +kernel
theorem d_Law_law_433 : decode code 433 = .ok (.iconst 1, 1) := by decide +kernel
theorem d_Law_law_434 : decode code 434 = .ok (.iadd, 1) := by decide +kernel
theorem d_Law_law_435 : decode code 435 = .ok (.iaload, 1) := by decide +kernel
theorem d_Law_law_436 : decode code 436 = .ok (.invokevirtual 81, 3) := by decide +kernel
theorem d_Law_law_439 : decode code 439 = .ok (.if_icmp .eq 5, 3) := by decide +kernel
theorem d_Law_law_442 : decode code 442 = .ok (.iconst 0, 1) := by decide +kernel
theorem d_Law_law_443 : decode code 443 = .ok (.ireturn, 1) := by decide +kernel
theorem d_Law_law_444 : decode code 444 = .ok (.iinc 3 3, 3) := by decide +kernel
theorem d_Law_law_447 : decode code 447 = .ok (.goto (-419), 3) := by decide +kernel
theorem d_Law_law_450 : decode code 450 = .ok (.iconst 1, 1) := by decide +kernel
theorem d_Law_law_451 : decode code 451 = .ok (.ireturn, 1) := by decide +kernel
end
section
abbrev ix (x : Int32) : Nat := x.toNatClampNeg
abbrev IA : Type := Nat → Int32
def nestW : List Cond := [.fieldLinkNest R_Proc 67 R_Ring "numbers" "[I" R_Proc, .fieldLinkNest R_Proc 63 R_Ring "states" "[I" R_Proc, .fieldLinkNest R_Proc 70 R_Ring "parents" "[I" R_Proc, .fieldLinkNest R_Proc 73 R_Ring "killed" "[Z" R_Proc, .fieldLinkNest R_Proc 77 R_Ring "statuses" "[I" R_Proc, .fieldLinkNest R_Proc 39 R_Ring "status" "I" R_Proc]
/-- the nest links hold (where nb asks for them) -/
def NX (nb : Bool) (U : State) : Prop := nb = true → ∀ w ∈ nestW, va_Nw w U
theorem NX.no {U : State} : NX false U := fun h => by cases h
theorem nestW_kind {w : Cond} (h : w ∈ nestW) : ∃ a i b n d k, w = .fieldLinkNest a i b n d k := by
  simp only [nestW, List.mem_cons, List.not_mem_nil, or_false] at h
  rcases h with rfl | rfl | rfl | rfl | rfl | rfl <;> exact ⟨_, _, _, _, _, _, rfl⟩
theorem NX.warm {nb : Bool} {s U : State} (hW : s.WarmedH U.vm) (h : NX nb s) : NX nb U := fun hn w hw => by
  have h1 := h hn w hw
  obtain ⟨a, i, b, n, d, k, rfl⟩ := nestW_kind hw
  exact va_Nw.warmF hW h1
theorem NX.same {nb : Bool} {s U : State} (hv : s.vm = U.vm) (h : NX nb s) : NX nb U := fun hn w hw => by
  have h1 := h hn w hw
  obtain ⟨a, i, b, n, d, k, rfl⟩ := nestW_kind hw
  exact va_Nw.same rfl hv h1
theorem NX.less {nb nc : Bool} {s : State} (hb : nc = true → nb = true) (h : NX nb s) : NX nc s := fun hn => h (hb hn)
def VX (D : va_G) (A : Nat → Prop) (H0 : Heap) (ws : va_W) (H : Heap) (locs : List Loc) : Prop := va_P D classes ws H ∧ va_D A ws ∧ va_S A H0 H locs
def Cx (p : Program) (m : MethodId) (c : Code) (s : State) (args : Array Value) (cc : ByteArray) (nL : Nat) (own : String) (D : va_G) (tys : List (ClassId × FieldType)) (A : Nat → Prop) (nb : Bool) : Prop :=
  CallFix p m c cc nL s args gw own ∧ va_K D classes tys s ∧ (∀ q, s.heap.size ≤ q → A q) ∧ NX nb s
/-- the words of a method's contract: its code, and every good word of the tables -/
def wy (y : MethodName) (b : ByteArray) (n : Nat) (r : Option FieldType) : List Cond := .code y b n r :: gw
theorem good_wy {y : MethodName} {b : ByteArray} {n : Nat} {r : Option FieldType} (h : Cond.code y b n r ∈ gw) : GoodIn gw (wy y b n r) := by
  intro w hw
  rcases List.mem_cons.mp hw with rfl | hw
  · exact ⟨h, gw_good h⟩
  · exact ⟨hw, gw_good hw⟩
/-- a method's start in a world -/
def Pw (av : List Value) (D : va_G) (tys : List (ClassId × FieldType)) (nb : Bool) (ws : va_W) (sz : Nat) : Array Value → State → Prop := va_Pc av (fun U => U.heap.size = sz ∧ va_P D classes ws U.heap ∧ va_K D classes tys U ∧ va_D (fun _ => True) ws ∧ NX nb U)
theorem Pw.blind {av : List Value} {D : va_G} {tys : List (ClassId × FieldType)} {nb : Bool} {ws : va_W} {sz : Nat} : FrameBlind (Pw av D tys nb ws sz) := fun a U g mk q => by
  obtain ⟨q0, q1, qP, qK, qD, qN⟩ := q
  exact ⟨q0, q1, qP, va_K.moved (u := U) (U := U.calling g mk a) (Vm.Alike.refl U.vm) qK, qD, NX.same (s := U) rfl qN⟩
/-- a method's world behind it -/
def Bw {S : Type} (D : va_G) (tys : List (ClassId × FieldType)) (wf : S → va_W) (A : Nat → Prop) : S → State → Prop := fun u t => va_P D classes (wf u) t.heap ∧ va_K D classes tys t ∧ va_D A (wf u)
/-- contract of a method that answers an int (or a boolean) and makes no cell -/
def MCi {S : Type} (l : Launch) (y : MethodName) (b : ByteArray) (n : Nat) (rt : FieldType) (rm : Room) (av : List Value) (D : va_G) (tys : List (ClassId × FieldType)) (nb : Bool) (wf : S → va_W) (v : S) (post : Int32 → S → Prop) : Prop :=
  ∀ sz, Met l y (wy y b n (some rt)) rm (Pw av D tys nb (wf v) sz) (va_Qi post (Bw D tys wf (va_A (wf v) sz)) (va_A (wf v) sz)) 0 0 (va_A (wf v) sz)
/-- the same, of one that answers nothing -/
def MCv {S : Type} (l : Launch) (y : MethodName) (b : ByteArray) (n : Nat) (rm : Room) (av : List Value) (D : va_G) (tys : List (ClassId × FieldType)) (nb : Bool) (wf : S → va_W) (v : S) (post : S → Prop) : Prop :=
  ∀ sz, Met l y (wy y b n none) rm (Pw av D tys nb (wf v) sz) (va_Qv post (Bw D tys wf (va_A (wf v) sz)) (va_A (wf v) sz)) 0 0 (va_A (wf v) sz)
theorem MCi.of {S : Type} {l : Launch} {y : MethodName} {b : ByteArray} {n : Nat} {rt : FieldType} {rm : Room} {av : List Value} {D : va_G} {tys : List (ClassId × FieldType)} {nb : Bool} {wf : S → va_W} {v : S} {post : Int32 → S → Prop} (own : String) (hyc : y.cls = own) (hy : plainName y.cls = true) (hlen : (lg_sl av).length ≤ n)
    (body : ∀ (p : Program) (e : Env) (s : State) (m : MethodId) (args : Array Value) (below : List Frame) (meth : Method) (c : Code) (A : Nat → Prop) (Q : State → Prop) (ls : Array Slot) (H : Heap) (locs : List Loc), Cx p m c s args b n own D tys A nb → VX D A s.heap (wf v) H locs → lv_has ls n (lv_args 0 av) →
      (∀ (H : Heap) (locs : List Loc) (r : Int32) (u : S) (pc : Nat) (ls : Array Slot), narrow rt (.int r) = .int r → post r u → VX D A s.heap (wf u) H locs → decode b pc = .ok (.ireturn, 1) → W p l e rm s m args below meth c H locs 0 0 Q (F0 m pc ls [.int r])) →
      W p l e rm s m args below meth c H locs 0 0 Q (F0 m 0 ls [])) : MCi l y b n rt rm av D tys nb wf v post := by
  intro sz
  refine Met.ofW (cc := b) (maxL := n) (ret := some rt) hy rfl ?_
  intro p e s m args below meth c s₁ B hml hv
  obtain ⟨rfl, hsz, hP, hK, hD0, hN⟩ := hv
  subst hsz
  have hts := atoms_spec (ws := wy y b n (some rt)) B.pre
  have hown : s.vm.findClass own = some m.cls := by rw [← hyc]; exact findClass_of_methodNamed B.named
  have hl := lv_entry av (n := n) hlen
  rw [lg_entry_eq]
  refine body p e s m _ below meth c (va_A (wf v) s.heap.size) _ _ s.heap [] ⟨⟨B.exec, B.bytes, hml, hown, fun w hw => hts w (List.mem_cons_of_mem _ hw)⟩, hK, fun q h => Or.inr h, hN⟩ ⟨hP, hD0.self, va_S.rf⟩ hl ?_
  intro H locs r u pc ls hn hp hX hd
  exact W.zret B.exec B.bytes B.returns hn (fun t ht hW => ⟨⟨r, u, rfl, hp, by rw [ht]; exact hX.1, va_K.moved hW.alike hK, hX.2.1⟩, hX.2.2.F ht⟩) hX.2.2.2.2 hd
theorem MCv.of {S : Type} {l : Launch} {y : MethodName} {b : ByteArray} {n : Nat} {rm : Room} {av : List Value} {D : va_G} {tys : List (ClassId × FieldType)} {nb : Bool} {wf : S → va_W} {v : S} {post : S → Prop} (own : String) (hyc : y.cls = own) (hy : plainName y.cls = true) (hlen : (lg_sl av).length ≤ n)
    (body : ∀ (p : Program) (e : Env) (s : State) (m : MethodId) (args : Array Value) (below : List Frame) (meth : Method) (c : Code) (A : Nat → Prop) (Q : State → Prop) (ls : Array Slot) (H : Heap) (locs : List Loc), Cx p m c s args b n own D tys A nb → VX D A s.heap (wf v) H locs → lv_has ls n (lv_args 0 av) →
      (∀ (H : Heap) (locs : List Loc) (u : S) (pc : Nat) (ls : Array Slot), post u → VX D A s.heap (wf u) H locs → decode b pc = .ok (.return_, 1) → W p l e rm s m args below meth c H locs 0 0 Q (F0 m pc ls [])) →
      W p l e rm s m args below meth c H locs 0 0 Q (F0 m 0 ls [])) : MCv l y b n rm av D tys nb wf v post := by
  intro sz
  refine Met.ofW (cc := b) (maxL := n) (ret := none) hy rfl ?_
  intro p e s m args below meth c s₁ B hml hv
  obtain ⟨rfl, hsz, hP, hK, hD0, hN⟩ := hv
  subst hsz
  have hts := atoms_spec (ws := wy y b n none) B.pre
  have hown : s.vm.findClass own = some m.cls := by rw [← hyc]; exact findClass_of_methodNamed B.named
  have hl := lv_entry av (n := n) hlen
  rw [lg_entry_eq]
  refine body p e s m _ below meth c (va_A (wf v) s.heap.size) _ _ s.heap [] ⟨⟨B.exec, B.bytes, hml, hown, fun w hw => hts w (List.mem_cons_of_mem _ hw)⟩, hK, fun q h => Or.inr h, hN⟩ ⟨hP, hD0.self, va_S.rf⟩ hl ?_
  intro H locs u pc ls hp hX hd
  exact W.vret B.exec B.bytes B.returns (fun t ht hW => ⟨⟨u, rfl, hp, by rw [ht]; exact hX.1, va_K.moved hW.alike hK, hX.2.1⟩, hX.2.2.F ht⟩) hX.2.2.2.2 hd
/-- what the tables say of a callee -/
def MI (own : String) (idx : Nat) (y : MethodName) (CC : String) (b : ByteArray) (n : Nat) (rt : Option FieldType) (k : Nat) : Prop := (Cond.methodLink own idx y ∈ gw ∧ Cond.instanceMethod y ∈ gw ∧ Cond.selects CC y y ∈ gw ∧ Cond.initialized CC ∈ gw ∧ Cond.code y b n rt ∈ gw) ∧
  (y.cls = CC ∧ y.cls ≠ "java/lang/invoke/MethodHandle" ∧ y.cls ≠ "java/lang/invoke/VarHandle" ∧ (parseMethodDescriptor y.desc).map (fun d => d.parameters.length) = some k)
theorem MI.good {own : String} {idx : Nat} {y : MethodName} {CC : String} {b : ByteArray} {n : Nat} {rt : Option FieldType} {k : Nat} (h : MI own idx y CC b n rt k) : GoodIn gw (wsV own idx CC y (wy y b n rt)) := by
  obtain ⟨⟨h1, h2, h3, h4, h5⟩, -⟩ := h
  intro w hw
  rcases List.mem_append.mp hw with hw | hw
  · simp only [List.mem_cons, List.not_mem_nil, or_false] at hw
    rcases hw with rfl | rfl | rfl | rfl
    · exact ⟨h1, gw_good h1⟩
    · exact ⟨h2, gw_good h2⟩
    · exact ⟨h3, gw_good h3⟩
    · exact ⟨h4, gw_good h4⟩
  · exact good_wy h5 w hw
theorem fm_of_map {α β : Type} {f : α → Option β} {l : List α} {w : List β} (h : l.map f = w.map some) : l.filterMap f = w := by
  have e : l.filterMap f = (l.map f).filterMap id := by simp [List.filterMap_map]
  rw [e, h]
  simp [List.filterMap_map]
section CL
variable {p : Program} {l : Launch} {e : Env} {R : Room} {s : State} {m : MethodId} {args : Array Value} {below : List Frame} {meth : Method} {c : Code} {H : Heap} {locs : List Loc} {cells slots : Nat} {Q : State → Prop}
variable {cc : ByteArray} {pc nL : Nat} {ls : Array Slot} {rest st0 : List Value} {own : String} {D : va_G} {tys tysC : List (ClassId × FieldType)} {A : Nat → Prop} {nb nc : Bool} {S : Type} {wf : S → va_W} {v : S} {ws wr : va_W} {y : MethodName} {b : ByteArray} {n k idx : Nat} {rt : FieldType} {rm : Room} {o q0 ci N : Nat} {T : u_T} {fs : List Value} {As : List Value} {CC : String}
/-- a call, the callee's world a part of the caller's: an int comes back -/
theorem cl_i {post : Int32 → S → Prop} (C : Cx p m c s args cc nL own D tys A nb) (hX : VX D A s.heap ws H locs) (hM : MCi l y b n rt rm (.ref o :: As) D tysC nc wf v post) (hI : MI own idx y CC b n (some rt) k)
    (hR : (rm.cells = 0 ∧ rm.slots = 0) ∧ rm.frames + 1 ≤ R.frames ∧ 8 + (n + 11) + rm.locals ≤ R.locals) (isC isR : List Nat) (hC : isC.map (fun i => ws[i]?) = (wf v).map some) (hRr : isR.map (fun i => ws[i]?) = wr.map some) (hnC : va_nd isC = true) (hnR : va_nd isR = true) (hdis : ∀ i ∈ isR, i ∉ isC)
    (tI : List Nat) (hT : tI.filterMap (fun i => tys[i]?) = tysC) (hnb : nc = true → nb = true) (hrecv : (wf v)[q0]? = some (o, .inr (ci, fs))) (hc : classes[ci]? = some (CC, T, N)) (hst : st0 = As.reverse ++ .ref o :: rest) (hAs : As.length = k) (hsz : ls.size = nL) (hroom : (rest.map fun v => v.category).sum ≤ 8)
    (hdg : decode cc pc = .ok (.invokevirtual idx, 3)) (hcs : cells ≤ R.cells ∧ slots ≤ R.slots)
    (kk : ∀ (r : Int32) (u : S) (H1 : Heap) (locs1 : List Loc), post r u → VX D A s.heap (wr ++ wf u) H1 locs1 → W p l e R s m args below meth c H1 locs1 cells slots Q (F0 m (pc + 3) ls (.int r :: rest))) : W p l e R s m args below meth c H locs cells slots Q (F0 m pc ls st0) := by
  subst hst
  obtain ⟨hP, hD, hS⟩ := hX
  have hPc : va_P D classes (wf v) H := hP.sub isC (fm_of_map hC)
  have hDc := hD.sub isC hnC hC
  have hKc := C.2.1.sub tI hT
  have hFc := va_free hD hS C.2.2.1 isC hC
  refine va_calli (va_runV (As := As) (rest := rest) C.1 (hM H.size) (cwV k C.1.2.2.2.2 hI.good rfl hR.1.1 hR.1.2 hI.2 hR.2) ⟨Pw.blind, va_recv hKc hPc hc hrecv, fun U hU hW => ⟨rfl, by rw [hU], by rw [hU]; exact hPc, va_K.moved hW.alike hKc, hDc.weaken (fun _ _ _ _ => trivial), (C.2.2.2.less hnb).warm hW⟩⟩ rfl hAs hsz rfl (lv_room hroom) hdg hcs) hS (fun q _ h => hFc q h) hFc (fun r u t H1 locs1 ht hvm hw hB hz1 hk1 hS1 => ?_)
  obtain ⟨hP1, hK1, hD1⟩ := hB
  rw [ht] at hP1
  obtain ⟨hP2, hD2⟩ := va_join hP hD isC isR hC hRr hnR hdis hk1 hFc hP1 hD1
  exact kk r u H1 locs1 hw ⟨hP2, hD2, hS1⟩
theorem cl_v {post : S → Prop} (C : Cx p m c s args cc nL own D tys A nb) (hX : VX D A s.heap ws H locs) (hM : MCv l y b n rm (.ref o :: As) D tysC nc wf v post) (hI : MI own idx y CC b n none k)
    (hR : (rm.cells = 0 ∧ rm.slots = 0) ∧ rm.frames + 1 ≤ R.frames ∧ 8 + (n + 11) + rm.locals ≤ R.locals) (isC isR : List Nat) (hC : isC.map (fun i => ws[i]?) = (wf v).map some) (hRr : isR.map (fun i => ws[i]?) = wr.map some) (hnC : va_nd isC = true) (hnR : va_nd isR = true) (hdis : ∀ i ∈ isR, i ∉ isC)
    (tI : List Nat) (hT : tI.filterMap (fun i => tys[i]?) = tysC) (hnb : nc = true → nb = true) (hrecv : (wf v)[q0]? = some (o, .inr (ci, fs))) (hc : classes[ci]? = some (CC, T, N)) (hst : st0 = As.reverse ++ .ref o :: rest) (hAs : As.length = k) (hsz : ls.size = nL) (hroom : (rest.map fun v => v.category).sum ≤ 8)
    (hdg : decode cc pc = .ok (.invokevirtual idx, 3)) (hcs : cells ≤ R.cells ∧ slots ≤ R.slots)
    (kk : ∀ (u : S) (H1 : Heap) (locs1 : List Loc), post u → VX D A s.heap (wr ++ wf u) H1 locs1 → W p l e R s m args below meth c H1 locs1 cells slots Q (F0 m (pc + 3) ls rest)) : W p l e R s m args below meth c H locs cells slots Q (F0 m pc ls st0) := by
  subst hst
  obtain ⟨hP, hD, hS⟩ := hX
  have hPc : va_P D classes (wf v) H := hP.sub isC (fm_of_map hC)
  have hDc := hD.sub isC hnC hC
  have hKc := C.2.1.sub tI hT
  have hFc := va_free hD hS C.2.2.1 isC hC
  refine va_callv (va_runV (As := As) (rest := rest) C.1 (hM H.size) (cwV k C.1.2.2.2.2 hI.good rfl hR.1.1 hR.1.2 hI.2 hR.2) ⟨Pw.blind, va_recv hKc hPc hc hrecv, fun U hU hW => ⟨rfl, by rw [hU], by rw [hU]; exact hPc, va_K.moved hW.alike hKc, hDc.weaken (fun _ _ _ _ => trivial), (C.2.2.2.less hnb).warm hW⟩⟩ rfl hAs hsz rfl (lv_room hroom) hdg hcs) hS (fun q _ h => hFc q h) hFc (fun u t H1 locs1 ht hvm hw hB hz1 hk1 hS1 => ?_)
  obtain ⟨hP1, hK1, hD1⟩ := hB
  rw [ht] at hP1
  obtain ⟨hP2, hD2⟩ := va_join hP hD isC isR hC hRr hnR hdis hk1 hFc hP1 hD1
  exact kk u H1 locs1 hw ⟨hP2, hD2, hS1⟩
end CL

abbrev RS : Type := IA × IA × IA × IA × IA × IA × IA × IA × Int32 × Int32 × Int32 × Int32 × Int32
abbrev rnu (u : RS) : IA := u.1
abbrev zrnu (u : RS) (f : IA) : RS := (f, u.2)
abbrev rst (u : RS) : IA := u.2.1
abbrev zrst (u : RS) (f : IA) : RS := (u.1, f, u.2.2)
abbrev rpa (u : RS) : IA := u.2.2.1
abbrev zrpa (u : RS) (f : IA) : RS := (u.1, u.2.1, f, u.2.2.2)
abbrev rki (u : RS) : IA := u.2.2.2.1
abbrev zrki (u : RS) (f : IA) : RS := (u.1, u.2.1, u.2.2.1, f, u.2.2.2.2)
abbrev rsa (u : RS) : IA := u.2.2.2.2.1
abbrev zrsa (u : RS) (f : IA) : RS := (u.1, u.2.1, u.2.2.1, u.2.2.2.1, f, u.2.2.2.2.2)
abbrev rwa (u : RS) : IA := u.2.2.2.2.2.1
abbrev zrwa (u : RS) (f : IA) : RS := (u.1, u.2.1, u.2.2.1, u.2.2.2.1, u.2.2.2.2.1, f, u.2.2.2.2.2.2)
abbrev rwd (u : RS) : IA := u.2.2.2.2.2.2.1
abbrev zrwd (u : RS) (f : IA) : RS := (u.1, u.2.1, u.2.2.1, u.2.2.2.1, u.2.2.2.2.1, u.2.2.2.2.2.1, f, u.2.2.2.2.2.2.2)
abbrev ron (u : RS) : IA := u.2.2.2.2.2.2.2.1
abbrev zron (u : RS) (f : IA) : RS := (u.1, u.2.1, u.2.2.1, u.2.2.2.1, u.2.2.2.2.1, u.2.2.2.2.2.1, u.2.2.2.2.2.2.1, f, u.2.2.2.2.2.2.2.2)
abbrev rpr (u : RS) : Int32 := u.2.2.2.2.2.2.2.2.1
abbrev zrpr (u : RS) (f : Int32) : RS := (u.1, u.2.1, u.2.2.1, u.2.2.2.1, u.2.2.2.2.1, u.2.2.2.2.2.1, u.2.2.2.2.2.2.1, u.2.2.2.2.2.2.2.1, f, u.2.2.2.2.2.2.2.2.2)
abbrev rla (u : RS) : Int32 := u.2.2.2.2.2.2.2.2.2.1
abbrev zrla (u : RS) (f : Int32) : RS := (u.1, u.2.1, u.2.2.1, u.2.2.2.1, u.2.2.2.2.1, u.2.2.2.2.2.1, u.2.2.2.2.2.2.1, u.2.2.2.2.2.2.2.1, u.2.2.2.2.2.2.2.2.1, f, u.2.2.2.2.2.2.2.2.2.2)
abbrev rne (u : RS) : Int32 := u.2.2.2.2.2.2.2.2.2.2.1
abbrev zrne (u : RS) (f : Int32) : RS := (u.1, u.2.1, u.2.2.1, u.2.2.2.1, u.2.2.2.2.1, u.2.2.2.2.2.1, u.2.2.2.2.2.2.1, u.2.2.2.2.2.2.2.1, u.2.2.2.2.2.2.2.2.1, u.2.2.2.2.2.2.2.2.2.1, f, u.2.2.2.2.2.2.2.2.2.2.2)
abbrev rti (u : RS) : Int32 := u.2.2.2.2.2.2.2.2.2.2.2.1
abbrev zrti (u : RS) (f : Int32) : RS := (u.1, u.2.1, u.2.2.1, u.2.2.2.1, u.2.2.2.2.1, u.2.2.2.2.2.1, u.2.2.2.2.2.2.1, u.2.2.2.2.2.2.2.1, u.2.2.2.2.2.2.2.2.1, u.2.2.2.2.2.2.2.2.2.1, u.2.2.2.2.2.2.2.2.2.2.1, f, u.2.2.2.2.2.2.2.2.2.2.2.2)
abbrev rsu (u : RS) : Int32 := u.2.2.2.2.2.2.2.2.2.2.2.2
abbrev zrsu (u : RS) (f : Int32) : RS := (u.1, u.2.1, u.2.2.1, u.2.2.2.1, u.2.2.2.2.1, u.2.2.2.2.2.1, u.2.2.2.2.2.2.1, u.2.2.2.2.2.2.2.1, u.2.2.2.2.2.2.2.2.1, u.2.2.2.2.2.2.2.2.2.1, u.2.2.2.2.2.2.2.2.2.2.1, u.2.2.2.2.2.2.2.2.2.2.2.1, f)
abbrev MS : Type := Int32 × Int32 × Int32 × Int32 × Int32 × Int32 × Int32 × IA × IA × IA × IA × IA × IA × IA × IA × IA
abbrev mth (u : MS) : Int32 := u.1
abbrev zmth (u : MS) (f : Int32) : MS := (f, u.2)
abbrev mpr (u : MS) : Int32 := u.2.1
abbrev zmpr (u : MS) (f : Int32) : MS := (u.1, f, u.2.2)
abbrev mma (u : MS) : Int32 := u.2.2.1
abbrev zmma (u : MS) (f : Int32) : MS := (u.1, u.2.1, f, u.2.2.2)
abbrev mti (u : MS) : Int32 := u.2.2.2.1
abbrev zmti (u : MS) (f : Int32) : MS := (u.1, u.2.1, u.2.2.1, f, u.2.2.2.2)
abbrev mlt (u : MS) : Int32 := u.2.2.2.2.1
abbrev zmlt (u : MS) (f : Int32) : MS := (u.1, u.2.1, u.2.2.1, u.2.2.2.1, f, u.2.2.2.2.2)
abbrev mtk (u : MS) : Int32 := u.2.2.2.2.2.1
abbrev zmtk (u : MS) (f : Int32) : MS := (u.1, u.2.1, u.2.2.1, u.2.2.2.1, u.2.2.2.2.1, f, u.2.2.2.2.2.2)
abbrev msu (u : MS) : Int32 := u.2.2.2.2.2.2.1
abbrev zmsu (u : MS) (f : Int32) : MS := (u.1, u.2.1, u.2.2.1, u.2.2.2.1, u.2.2.2.2.1, u.2.2.2.2.2.1, f, u.2.2.2.2.2.2.2)
abbrev mnu (u : MS) : IA := u.2.2.2.2.2.2.2.1
abbrev zmnu (u : MS) (f : IA) : MS := (u.1, u.2.1, u.2.2.1, u.2.2.2.1, u.2.2.2.2.1, u.2.2.2.2.2.1, u.2.2.2.2.2.2.1, f, u.2.2.2.2.2.2.2.2)
abbrev mpl (u : MS) : IA := u.2.2.2.2.2.2.2.2.1
abbrev zmpl (u : MS) (f : IA) : MS := (u.1, u.2.1, u.2.2.1, u.2.2.2.1, u.2.2.2.2.1, u.2.2.2.2.2.1, u.2.2.2.2.2.2.1, u.2.2.2.2.2.2.2.1, f, u.2.2.2.2.2.2.2.2.2)
abbrev mpa (u : MS) : IA := u.2.2.2.2.2.2.2.2.2.1
abbrev zmpa (u : MS) (f : IA) : MS := (u.1, u.2.1, u.2.2.1, u.2.2.2.1, u.2.2.2.2.1, u.2.2.2.2.2.1, u.2.2.2.2.2.2.1, u.2.2.2.2.2.2.2.1, u.2.2.2.2.2.2.2.2.1, f, u.2.2.2.2.2.2.2.2.2.2)
abbrev men (u : MS) : IA := u.2.2.2.2.2.2.2.2.2.2.1
abbrev zmen (u : MS) (f : IA) : MS := (u.1, u.2.1, u.2.2.1, u.2.2.2.1, u.2.2.2.2.1, u.2.2.2.2.2.1, u.2.2.2.2.2.2.1, u.2.2.2.2.2.2.2.1, u.2.2.2.2.2.2.2.2.1, u.2.2.2.2.2.2.2.2.2.1, f, u.2.2.2.2.2.2.2.2.2.2.2)
abbrev mre (u : MS) : IA := u.2.2.2.2.2.2.2.2.2.2.2.1
abbrev zmre (u : MS) (f : IA) : MS := (u.1, u.2.1, u.2.2.1, u.2.2.2.1, u.2.2.2.2.1, u.2.2.2.2.2.1, u.2.2.2.2.2.2.1, u.2.2.2.2.2.2.2.1, u.2.2.2.2.2.2.2.2.1, u.2.2.2.2.2.2.2.2.2.1, u.2.2.2.2.2.2.2.2.2.2.1, f, u.2.2.2.2.2.2.2.2.2.2.2.2)
abbrev mki (u : MS) : IA := u.2.2.2.2.2.2.2.2.2.2.2.2.1
abbrev zmki (u : MS) (f : IA) : MS := (u.1, u.2.1, u.2.2.1, u.2.2.2.1, u.2.2.2.2.1, u.2.2.2.2.2.1, u.2.2.2.2.2.2.1, u.2.2.2.2.2.2.2.1, u.2.2.2.2.2.2.2.2.1, u.2.2.2.2.2.2.2.2.2.1, u.2.2.2.2.2.2.2.2.2.2.1, u.2.2.2.2.2.2.2.2.2.2.2.1, f, u.2.2.2.2.2.2.2.2.2.2.2.2.2)
abbrev mon (u : MS) : IA := u.2.2.2.2.2.2.2.2.2.2.2.2.2.1
abbrev zmon (u : MS) (f : IA) : MS := (u.1, u.2.1, u.2.2.1, u.2.2.2.1, u.2.2.2.2.1, u.2.2.2.2.2.1, u.2.2.2.2.2.2.1, u.2.2.2.2.2.2.2.1, u.2.2.2.2.2.2.2.2.1, u.2.2.2.2.2.2.2.2.2.1, u.2.2.2.2.2.2.2.2.2.2.1, u.2.2.2.2.2.2.2.2.2.2.2.1, u.2.2.2.2.2.2.2.2.2.2.2.2.1, f, u.2.2.2.2.2.2.2.2.2.2.2.2.2.2)
abbrev mwa (u : MS) : IA := u.2.2.2.2.2.2.2.2.2.2.2.2.2.2.1
abbrev zmwa (u : MS) (f : IA) : MS := (u.1, u.2.1, u.2.2.1, u.2.2.2.1, u.2.2.2.2.1, u.2.2.2.2.2.1, u.2.2.2.2.2.2.1, u.2.2.2.2.2.2.2.1, u.2.2.2.2.2.2.2.2.1, u.2.2.2.2.2.2.2.2.2.1, u.2.2.2.2.2.2.2.2.2.2.1, u.2.2.2.2.2.2.2.2.2.2.2.1, u.2.2.2.2.2.2.2.2.2.2.2.2.1, u.2.2.2.2.2.2.2.2.2.2.2.2.2.1, f, u.2.2.2.2.2.2.2.2.2.2.2.2.2.2.2)
abbrev mwh (u : MS) : IA := u.2.2.2.2.2.2.2.2.2.2.2.2.2.2.2
abbrev zmwh (u : MS) (f : IA) : MS := (u.1, u.2.1, u.2.2.1, u.2.2.2.1, u.2.2.2.2.1, u.2.2.2.2.2.1, u.2.2.2.2.2.2.1, u.2.2.2.2.2.2.2.1, u.2.2.2.2.2.2.2.2.1, u.2.2.2.2.2.2.2.2.2.1, u.2.2.2.2.2.2.2.2.2.2.1, u.2.2.2.2.2.2.2.2.2.2.2.1, u.2.2.2.2.2.2.2.2.2.2.2.2.1, u.2.2.2.2.2.2.2.2.2.2.2.2.2.1, u.2.2.2.2.2.2.2.2.2.2.2.2.2.2.1, f)
/-- the ring's cells: the object at a 0, its arrays at a 1 .. a 8, their types k 1 .. k 8 -/
def rF (a : Nat → Nat) (u : RS) : List Value := [.ref (a 1), .ref (a 2), .ref (a 3), .ref (a 4), .ref (a 5), .ref (a 6), .ref (a 7), .ref (a 8), .int (rpr u), .int (rla u), .int (rne u), .int (rti u), .int (rsu u)]
def rW (a k : Nat → Nat) (u : RS) : va_W := [(a 0, .inr (0, rF a u)), (a 1, .inl (k 1, 15, .inl (rnu u))), (a 2, .inl (k 2, 15, .inl (rst u))), (a 3, .inl (k 3, 15, .inl (rpa u))), (a 4, .inl (k 4, 15, .inl (rki u))), (a 5, .inl (k 5, 15, .inl (rsa u))), (a 6, .inl (k 6, 15, .inl (rwa u))), (a 7, .inl (k 7, 15, .inl (rwd u))), (a 8, .inl (k 8, 4, .inl (ron u)))]
def rT (k : Nat → Nat) : List (ClassId × FieldType) := [(k 1, .int), (k 2, .int), (k 3, .int), (k 4, .boolean), (k 5, .int), (k 6, .int), (k 7, .int), (k 8, .int)]
def pW (h : Nat) (a k : Nat → Nat) (u : RS) : va_W := (h, .inr (1, [.ref (a 0)])) :: rW a k u
def mF (a : Nat → Nat) (u : MS) : List Value := [.int (mth u), .int (mpr u), .int (mma u), .int (mti u), .int (mlt u), .int (mtk u), .int (msu u), .ref (a 1), .ref (a 2), .ref (a 3), .ref (a 4), .ref (a 5), .ref (a 6), .ref (a 7), .ref (a 8), .ref (a 9)]
def mW (a k : Nat → Nat) (u : MS) : va_W := [(a 0, .inr (2, mF a u)), (a 1, .inl (k 1, 16, .inl (mnu u))), (a 2, .inl (k 2, 16, .inl (mpl u))), (a 3, .inl (k 3, 16, .inl (mpa u))), (a 4, .inl (k 4, 16, .inl (men u))), (a 5, .inl (k 5, 16, .inl (mre u))), (a 6, .inl (k 6, 16, .inl (mki u))), (a 7, .inl (k 7, 16, .inl (mon u))), (a 8, .inl (k 8, 16, .inl (mwa u))), (a 9, .inl (k 9, 16, .inl (mwh u)))]
def mT (k : Nat → Nat) : List (ClassId × FieldType) := [(k 1, .int), (k 2, .int), (k 3, .int), (k 4, .boolean), (k 5, .int), (k 6, .boolean), (k 7, .int), (k 8, .int), (k 9, .int)]
section ROWS
variable {p : Program} {l : Launch} {e : Env} {R : Room} {s : State} {m : MethodId} {args : Array Value} {below : List Frame} {meth : Method} {c : Code} {H : Heap} {locs : List Loc} {cells slots : Nat} {Q : State → Prop}
variable {cc : ByteArray} {pc nL : Nat} {ls : Array Slot} {rest : List Value} {D : va_G} {A : Nat → Prop} {nb : Bool} {a k : Nat → Nat} {h : Nat}
theorem rg_nu {v : RS} (C : Cx p m c s args cc nL R_Ring D (rT k) A nb) (hX : VX D A s.heap (rW a k v) H locs) (hd : decode cc pc = .ok (.getfield 11, 3)) (kk : W p l e R s m args below meth c H locs cells slots Q (F0 m (pc + 3) ls (.ref (a 1) :: rest))) : W p l e R s m args below meth c H locs cells slots Q (F0 m pc ls (.ref (a 0) :: rest)) := va_get C.1.1 C.1.2.1 C.1.2.2.2.2 i_Ring C.1.2.2.2.1 C.2.1 hX.1 0 rfl rfl 0 (by decide) (C.1.2.2.2.2 _ k_fl_Ring_11) (fun _ h => h) rfl hd kk
theorem ra_nu {v : RS} {i : Int32} {j : Nat} (C : Cx p m c s args cc nL R_Ring D (rT k) A nb) (hX : VX D A s.heap (rW a k v) H locs) (hi : vp_in i 15) (hj : ix i = j) (hd : decode cc pc = .ok (.iaload, 1)) (kk : W p l e R s m args below meth c H locs cells slots Q (F0 m (pc + 1) ls (.int (rnu v j) :: rest))) : W p l e R s m args below meth c H locs cells slots Q (F0 m pc ls (.int i :: .ref (a 1) :: rest)) := by
  subst hj
  exact va_iald C.1.1 C.1.2.1 C.2.1 hX.1 1 0 rfl rfl hi hd kk
theorem rs_nu {v : RS} {i x : Int32} {j : Nat} (C : Cx p m c s args cc nL R_Ring D (rT k) A nb) (hX : VX D A s.heap (rW a k v) H locs) (hi : vp_in i 15) (hj : ix i = j) (hd : decode cc pc = .ok (.iastore, 1)) (kk : ∀ (H : Heap) (locs : List Loc), VX D A s.heap (rW a k (zrnu v (upd (rnu v) j x))) H locs → W p l e R s m args below meth c H locs cells slots Q (F0 m (pc + 1) ls rest)) : W p l e R s m args below meth c H locs cells slots Q (F0 m pc ls (.int x :: .int i :: .ref (a 1) :: rest)) := by
  subst hj
  exact va_iast C.1.1 C.1.2.1 C.2.1 hX.1 hX.2.1 hX.2.2 1 0 rfl rfl hi hd (fun H1 L1 h1 h2 h3 => kk H1 L1 ⟨h1, h2, h3⟩)
theorem rg_st {v : RS} (C : Cx p m c s args cc nL R_Ring D (rT k) A nb) (hX : VX D A s.heap (rW a k v) H locs) (hd : decode cc pc = .ok (.getfield 15, 3)) (kk : W p l e R s m args below meth c H locs cells slots Q (F0 m (pc + 3) ls (.ref (a 2) :: rest))) : W p l e R s m args below meth c H locs cells slots Q (F0 m pc ls (.ref (a 0) :: rest)) := va_get C.1.1 C.1.2.1 C.1.2.2.2.2 i_Ring C.1.2.2.2.1 C.2.1 hX.1 0 rfl rfl 1 (by decide) (C.1.2.2.2.2 _ k_fl_Ring_15) (fun _ h => h) rfl hd kk
theorem ra_st {v : RS} {i : Int32} {j : Nat} (C : Cx p m c s args cc nL R_Ring D (rT k) A nb) (hX : VX D A s.heap (rW a k v) H locs) (hi : vp_in i 15) (hj : ix i = j) (hd : decode cc pc = .ok (.iaload, 1)) (kk : W p l e R s m args below meth c H locs cells slots Q (F0 m (pc + 1) ls (.int (rst v j) :: rest))) : W p l e R s m args below meth c H locs cells slots Q (F0 m pc ls (.int i :: .ref (a 2) :: rest)) := by
  subst hj
  exact va_iald C.1.1 C.1.2.1 C.2.1 hX.1 2 1 rfl rfl hi hd kk
theorem rs_st {v : RS} {i x : Int32} {j : Nat} (C : Cx p m c s args cc nL R_Ring D (rT k) A nb) (hX : VX D A s.heap (rW a k v) H locs) (hi : vp_in i 15) (hj : ix i = j) (hd : decode cc pc = .ok (.iastore, 1)) (kk : ∀ (H : Heap) (locs : List Loc), VX D A s.heap (rW a k (zrst v (upd (rst v) j x))) H locs → W p l e R s m args below meth c H locs cells slots Q (F0 m (pc + 1) ls rest)) : W p l e R s m args below meth c H locs cells slots Q (F0 m pc ls (.int x :: .int i :: .ref (a 2) :: rest)) := by
  subst hj
  exact va_iast C.1.1 C.1.2.1 C.2.1 hX.1 hX.2.1 hX.2.2 2 1 rfl rfl hi hd (fun H1 L1 h1 h2 h3 => kk H1 L1 ⟨h1, h2, h3⟩)
theorem rg_pa {v : RS} (C : Cx p m c s args cc nL R_Ring D (rT k) A nb) (hX : VX D A s.heap (rW a k v) H locs) (hd : decode cc pc = .ok (.getfield 18, 3)) (kk : W p l e R s m args below meth c H locs cells slots Q (F0 m (pc + 3) ls (.ref (a 3) :: rest))) : W p l e R s m args below meth c H locs cells slots Q (F0 m pc ls (.ref (a 0) :: rest)) := va_get C.1.1 C.1.2.1 C.1.2.2.2.2 i_Ring C.1.2.2.2.1 C.2.1 hX.1 0 rfl rfl 2 (by decide) (C.1.2.2.2.2 _ k_fl_Ring_18) (fun _ h => h) rfl hd kk
theorem ra_pa {v : RS} {i : Int32} {j : Nat} (C : Cx p m c s args cc nL R_Ring D (rT k) A nb) (hX : VX D A s.heap (rW a k v) H locs) (hi : vp_in i 15) (hj : ix i = j) (hd : decode cc pc = .ok (.iaload, 1)) (kk : W p l e R s m args below meth c H locs cells slots Q (F0 m (pc + 1) ls (.int (rpa v j) :: rest))) : W p l e R s m args below meth c H locs cells slots Q (F0 m pc ls (.int i :: .ref (a 3) :: rest)) := by
  subst hj
  exact va_iald C.1.1 C.1.2.1 C.2.1 hX.1 3 2 rfl rfl hi hd kk
theorem rs_pa {v : RS} {i x : Int32} {j : Nat} (C : Cx p m c s args cc nL R_Ring D (rT k) A nb) (hX : VX D A s.heap (rW a k v) H locs) (hi : vp_in i 15) (hj : ix i = j) (hd : decode cc pc = .ok (.iastore, 1)) (kk : ∀ (H : Heap) (locs : List Loc), VX D A s.heap (rW a k (zrpa v (upd (rpa v) j x))) H locs → W p l e R s m args below meth c H locs cells slots Q (F0 m (pc + 1) ls rest)) : W p l e R s m args below meth c H locs cells slots Q (F0 m pc ls (.int x :: .int i :: .ref (a 3) :: rest)) := by
  subst hj
  exact va_iast C.1.1 C.1.2.1 C.2.1 hX.1 hX.2.1 hX.2.2 3 2 rfl rfl hi hd (fun H1 L1 h1 h2 h3 => kk H1 L1 ⟨h1, h2, h3⟩)
theorem rg_ki {v : RS} (C : Cx p m c s args cc nL R_Ring D (rT k) A nb) (hX : VX D A s.heap (rW a k v) H locs) (hd : decode cc pc = .ok (.getfield 21, 3)) (kk : W p l e R s m args below meth c H locs cells slots Q (F0 m (pc + 3) ls (.ref (a 4) :: rest))) : W p l e R s m args below meth c H locs cells slots Q (F0 m pc ls (.ref (a 0) :: rest)) := va_get C.1.1 C.1.2.1 C.1.2.2.2.2 i_Ring C.1.2.2.2.1 C.2.1 hX.1 0 rfl rfl 3 (by decide) (C.1.2.2.2.2 _ k_fl_Ring_21) (fun _ h => h) rfl hd kk
theorem ra_ki {v : RS} {i : Int32} {j : Nat} (C : Cx p m c s args cc nL R_Ring D (rT k) A nb) (hX : VX D A s.heap (rW a k v) H locs) (hi : vp_in i 15) (hj : ix i = j) (hd : decode cc pc = .ok (.baload, 1)) (kk : W p l e R s m args below meth c H locs cells slots Q (F0 m (pc + 1) ls (.int (rki v j) :: rest))) : W p l e R s m args below meth c H locs cells slots Q (F0 m pc ls (.int i :: .ref (a 4) :: rest)) := by
  subst hj
  exact va_zald C.1.1 C.1.2.1 C.2.1 hX.1 4 3 rfl rfl hi hd kk
theorem rs_ki {v : RS} {i x y : Int32} {j : Nat} (C : Cx p m c s args cc nL R_Ring D (rT k) A nb) (hX : VX D A s.heap (rW a k v) H locs) (hi : vp_in i 15) (hj : ix i = j) (hy : vp_nar .boolean x = y) (hd : decode cc pc = .ok (.bastore, 1)) (kk : ∀ (H : Heap) (locs : List Loc), VX D A s.heap (rW a k (zrki v (upd (rki v) j y))) H locs → W p l e R s m args below meth c H locs cells slots Q (F0 m (pc + 1) ls rest)) : W p l e R s m args below meth c H locs cells slots Q (F0 m pc ls (.int x :: .int i :: .ref (a 4) :: rest)) := by
  subst hy
  subst hj
  exact va_zast C.1.1 C.1.2.1 C.2.1 hX.1 hX.2.1 hX.2.2 4 3 rfl rfl hi hd (fun H1 L1 h1 h2 h3 => kk H1 L1 ⟨h1, h2, h3⟩)
theorem rg_sa {v : RS} (C : Cx p m c s args cc nL R_Ring D (rT k) A nb) (hX : VX D A s.heap (rW a k v) H locs) (hd : decode cc pc = .ok (.getfield 25, 3)) (kk : W p l e R s m args below meth c H locs cells slots Q (F0 m (pc + 3) ls (.ref (a 5) :: rest))) : W p l e R s m args below meth c H locs cells slots Q (F0 m pc ls (.ref (a 0) :: rest)) := va_get C.1.1 C.1.2.1 C.1.2.2.2.2 i_Ring C.1.2.2.2.1 C.2.1 hX.1 0 rfl rfl 4 (by decide) (C.1.2.2.2.2 _ k_fl_Ring_25) (fun _ h => h) rfl hd kk
theorem ra_sa {v : RS} {i : Int32} {j : Nat} (C : Cx p m c s args cc nL R_Ring D (rT k) A nb) (hX : VX D A s.heap (rW a k v) H locs) (hi : vp_in i 15) (hj : ix i = j) (hd : decode cc pc = .ok (.iaload, 1)) (kk : W p l e R s m args below meth c H locs cells slots Q (F0 m (pc + 1) ls (.int (rsa v j) :: rest))) : W p l e R s m args below meth c H locs cells slots Q (F0 m pc ls (.int i :: .ref (a 5) :: rest)) := by
  subst hj
  exact va_iald C.1.1 C.1.2.1 C.2.1 hX.1 5 4 rfl rfl hi hd kk
theorem rs_sa {v : RS} {i x : Int32} {j : Nat} (C : Cx p m c s args cc nL R_Ring D (rT k) A nb) (hX : VX D A s.heap (rW a k v) H locs) (hi : vp_in i 15) (hj : ix i = j) (hd : decode cc pc = .ok (.iastore, 1)) (kk : ∀ (H : Heap) (locs : List Loc), VX D A s.heap (rW a k (zrsa v (upd (rsa v) j x))) H locs → W p l e R s m args below meth c H locs cells slots Q (F0 m (pc + 1) ls rest)) : W p l e R s m args below meth c H locs cells slots Q (F0 m pc ls (.int x :: .int i :: .ref (a 5) :: rest)) := by
  subst hj
  exact va_iast C.1.1 C.1.2.1 C.2.1 hX.1 hX.2.1 hX.2.2 5 4 rfl rfl hi hd (fun H1 L1 h1 h2 h3 => kk H1 L1 ⟨h1, h2, h3⟩)
theorem rg_wa {v : RS} (C : Cx p m c s args cc nL R_Ring D (rT k) A nb) (hX : VX D A s.heap (rW a k v) H locs) (hd : decode cc pc = .ok (.getfield 28, 3)) (kk : W p l e R s m args below meth c H locs cells slots Q (F0 m (pc + 3) ls (.ref (a 6) :: rest))) : W p l e R s m args below meth c H locs cells slots Q (F0 m pc ls (.ref (a 0) :: rest)) := va_get C.1.1 C.1.2.1 C.1.2.2.2.2 i_Ring C.1.2.2.2.1 C.2.1 hX.1 0 rfl rfl 5 (by decide) (C.1.2.2.2.2 _ k_fl_Ring_28) (fun _ h => h) rfl hd kk
theorem ra_wa {v : RS} {i : Int32} {j : Nat} (C : Cx p m c s args cc nL R_Ring D (rT k) A nb) (hX : VX D A s.heap (rW a k v) H locs) (hi : vp_in i 15) (hj : ix i = j) (hd : decode cc pc = .ok (.iaload, 1)) (kk : W p l e R s m args below meth c H locs cells slots Q (F0 m (pc + 1) ls (.int (rwa v j) :: rest))) : W p l e R s m args below meth c H locs cells slots Q (F0 m pc ls (.int i :: .ref (a 6) :: rest)) := by
  subst hj
  exact va_iald C.1.1 C.1.2.1 C.2.1 hX.1 6 5 rfl rfl hi hd kk
theorem rs_wa {v : RS} {i x : Int32} {j : Nat} (C : Cx p m c s args cc nL R_Ring D (rT k) A nb) (hX : VX D A s.heap (rW a k v) H locs) (hi : vp_in i 15) (hj : ix i = j) (hd : decode cc pc = .ok (.iastore, 1)) (kk : ∀ (H : Heap) (locs : List Loc), VX D A s.heap (rW a k (zrwa v (upd (rwa v) j x))) H locs → W p l e R s m args below meth c H locs cells slots Q (F0 m (pc + 1) ls rest)) : W p l e R s m args below meth c H locs cells slots Q (F0 m pc ls (.int x :: .int i :: .ref (a 6) :: rest)) := by
  subst hj
  exact va_iast C.1.1 C.1.2.1 C.2.1 hX.1 hX.2.1 hX.2.2 6 5 rfl rfl hi hd (fun H1 L1 h1 h2 h3 => kk H1 L1 ⟨h1, h2, h3⟩)
theorem rg_wd {v : RS} (C : Cx p m c s args cc nL R_Ring D (rT k) A nb) (hX : VX D A s.heap (rW a k v) H locs) (hd : decode cc pc = .ok (.getfield 31, 3)) (kk : W p l e R s m args below meth c H locs cells slots Q (F0 m (pc + 3) ls (.ref (a 7) :: rest))) : W p l e R s m args below meth c H locs cells slots Q (F0 m pc ls (.ref (a 0) :: rest)) := va_get C.1.1 C.1.2.1 C.1.2.2.2.2 i_Ring C.1.2.2.2.1 C.2.1 hX.1 0 rfl rfl 6 (by decide) (C.1.2.2.2.2 _ k_fl_Ring_31) (fun _ h => h) rfl hd kk
theorem ra_wd {v : RS} {i : Int32} {j : Nat} (C : Cx p m c s args cc nL R_Ring D (rT k) A nb) (hX : VX D A s.heap (rW a k v) H locs) (hi : vp_in i 15) (hj : ix i = j) (hd : decode cc pc = .ok (.iaload, 1)) (kk : W p l e R s m args below meth c H locs cells slots Q (F0 m (pc + 1) ls (.int (rwd v j) :: rest))) : W p l e R s m args below meth c H locs cells slots Q (F0 m pc ls (.int i :: .ref (a 7) :: rest)) := by
  subst hj
  exact va_iald C.1.1 C.1.2.1 C.2.1 hX.1 7 6 rfl rfl hi hd kk
theorem rs_wd {v : RS} {i x : Int32} {j : Nat} (C : Cx p m c s args cc nL R_Ring D (rT k) A nb) (hX : VX D A s.heap (rW a k v) H locs) (hi : vp_in i 15) (hj : ix i = j) (hd : decode cc pc = .ok (.iastore, 1)) (kk : ∀ (H : Heap) (locs : List Loc), VX D A s.heap (rW a k (zrwd v (upd (rwd v) j x))) H locs → W p l e R s m args below meth c H locs cells slots Q (F0 m (pc + 1) ls rest)) : W p l e R s m args below meth c H locs cells slots Q (F0 m pc ls (.int x :: .int i :: .ref (a 7) :: rest)) := by
  subst hj
  exact va_iast C.1.1 C.1.2.1 C.2.1 hX.1 hX.2.1 hX.2.2 7 6 rfl rfl hi hd (fun H1 L1 h1 h2 h3 => kk H1 L1 ⟨h1, h2, h3⟩)
theorem rg_on {v : RS} (C : Cx p m c s args cc nL R_Ring D (rT k) A nb) (hX : VX D A s.heap (rW a k v) H locs) (hd : decode cc pc = .ok (.getfield 34, 3)) (kk : W p l e R s m args below meth c H locs cells slots Q (F0 m (pc + 3) ls (.ref (a 8) :: rest))) : W p l e R s m args below meth c H locs cells slots Q (F0 m pc ls (.ref (a 0) :: rest)) := va_get C.1.1 C.1.2.1 C.1.2.2.2.2 i_Ring C.1.2.2.2.1 C.2.1 hX.1 0 rfl rfl 7 (by decide) (C.1.2.2.2.2 _ k_fl_Ring_34) (fun _ h => h) rfl hd kk
theorem ra_on {v : RS} {i : Int32} {j : Nat} (C : Cx p m c s args cc nL R_Ring D (rT k) A nb) (hX : VX D A s.heap (rW a k v) H locs) (hi : vp_in i 4) (hj : ix i = j) (hd : decode cc pc = .ok (.iaload, 1)) (kk : W p l e R s m args below meth c H locs cells slots Q (F0 m (pc + 1) ls (.int (ron v j) :: rest))) : W p l e R s m args below meth c H locs cells slots Q (F0 m pc ls (.int i :: .ref (a 8) :: rest)) := by
  subst hj
  exact va_iald C.1.1 C.1.2.1 C.2.1 hX.1 8 7 rfl rfl hi hd kk
theorem rs_on {v : RS} {i x : Int32} {j : Nat} (C : Cx p m c s args cc nL R_Ring D (rT k) A nb) (hX : VX D A s.heap (rW a k v) H locs) (hi : vp_in i 4) (hj : ix i = j) (hd : decode cc pc = .ok (.iastore, 1)) (kk : ∀ (H : Heap) (locs : List Loc), VX D A s.heap (rW a k (zron v (upd (ron v) j x))) H locs → W p l e R s m args below meth c H locs cells slots Q (F0 m (pc + 1) ls rest)) : W p l e R s m args below meth c H locs cells slots Q (F0 m pc ls (.int x :: .int i :: .ref (a 8) :: rest)) := by
  subst hj
  exact va_iast C.1.1 C.1.2.1 C.2.1 hX.1 hX.2.1 hX.2.2 8 7 rfl rfl hi hd (fun H1 L1 h1 h2 h3 => kk H1 L1 ⟨h1, h2, h3⟩)
theorem rg_pr {v : RS} (C : Cx p m c s args cc nL R_Ring D (rT k) A nb) (hX : VX D A s.heap (rW a k v) H locs) (hd : decode cc pc = .ok (.getfield 37, 3)) (kk : W p l e R s m args below meth c H locs cells slots Q (F0 m (pc + 3) ls (.int (rpr v) :: rest))) : W p l e R s m args below meth c H locs cells slots Q (F0 m pc ls (.ref (a 0) :: rest)) := va_get C.1.1 C.1.2.1 C.1.2.2.2.2 i_Ring C.1.2.2.2.1 C.2.1 hX.1 0 rfl rfl 8 (by decide) (C.1.2.2.2.2 _ k_fl_Ring_37) (fun _ h => h) rfl hd kk
theorem rg_la {v : RS} (C : Cx p m c s args cc nL R_Ring D (rT k) A nb) (hX : VX D A s.heap (rW a k v) H locs) (hd : decode cc pc = .ok (.getfield 50, 3)) (kk : W p l e R s m args below meth c H locs cells slots Q (F0 m (pc + 3) ls (.int (rla v) :: rest))) : W p l e R s m args below meth c H locs cells slots Q (F0 m pc ls (.ref (a 0) :: rest)) := va_get C.1.1 C.1.2.1 C.1.2.2.2.2 i_Ring C.1.2.2.2.1 C.2.1 hX.1 0 rfl rfl 9 (by decide) (C.1.2.2.2.2 _ k_fl_Ring_50) (fun _ h => h) rfl hd kk
theorem rp_la {v : RS} {x : Int32} (C : Cx p m c s args cc nL R_Ring D (rT k) A nb) (hX : VX D A s.heap (rW a k v) H locs) (hd : decode cc pc = .ok (.putfield 50, 3)) (kk : ∀ (H : Heap) (locs : List Loc), VX D A s.heap (rW a k (zrla v x)) H locs → W p l e R s m args below meth c H locs cells slots Q (F0 m (pc + 3) ls rest)) : W p l e R s m args below meth c H locs cells slots Q (F0 m pc ls (.int x :: .ref (a 0) :: rest)) := va_put C.1.1 C.1.2.1 C.1.2.2.2.2 i_Ring t_Ring t_Ring_ok n_Ring C.1.2.2.2.1 C.2.1 hX.1 hX.2.1 hX.2.2 0 rfl rfl 9 (by decide) (C.1.2.2.2.2 _ k_fl_Ring_50) (fun _ h => h) rfl (by decide +kernel) (vp_nar_int x) rfl (Nat.le_of_ble_eq_true rfl) hd (fun H1 L1 h1 h2 h3 => kk H1 L1 ⟨h1, h2, h3⟩)
theorem rg_ne {v : RS} (C : Cx p m c s args cc nL R_Ring D (rT k) A nb) (hX : VX D A s.heap (rW a k v) H locs) (hd : decode cc pc = .ok (.getfield 44, 3)) (kk : W p l e R s m args below meth c H locs cells slots Q (F0 m (pc + 3) ls (.int (rne v) :: rest))) : W p l e R s m args below meth c H locs cells slots Q (F0 m pc ls (.ref (a 0) :: rest)) := va_get C.1.1 C.1.2.1 C.1.2.2.2.2 i_Ring C.1.2.2.2.1 C.2.1 hX.1 0 rfl rfl 10 (by decide) (C.1.2.2.2.2 _ k_fl_Ring_44) (fun _ h => h) rfl hd kk
theorem rp_ne {v : RS} {x : Int32} (C : Cx p m c s args cc nL R_Ring D (rT k) A nb) (hX : VX D A s.heap (rW a k v) H locs) (hd : decode cc pc = .ok (.putfield 44, 3)) (kk : ∀ (H : Heap) (locs : List Loc), VX D A s.heap (rW a k (zrne v x)) H locs → W p l e R s m args below meth c H locs cells slots Q (F0 m (pc + 3) ls rest)) : W p l e R s m args below meth c H locs cells slots Q (F0 m pc ls (.int x :: .ref (a 0) :: rest)) := va_put C.1.1 C.1.2.1 C.1.2.2.2.2 i_Ring t_Ring t_Ring_ok n_Ring C.1.2.2.2.1 C.2.1 hX.1 hX.2.1 hX.2.2 0 rfl rfl 10 (by decide) (C.1.2.2.2.2 _ k_fl_Ring_44) (fun _ h => h) rfl (by decide +kernel) (vp_nar_int x) rfl (Nat.le_of_ble_eq_true rfl) hd (fun H1 L1 h1 h2 h3 => kk H1 L1 ⟨h1, h2, h3⟩)
theorem rg_ti {v : RS} (C : Cx p m c s args cc nL R_Ring D (rT k) A nb) (hX : VX D A s.heap (rW a k v) H locs) (hd : decode cc pc = .ok (.getfield 47, 3)) (kk : W p l e R s m args below meth c H locs cells slots Q (F0 m (pc + 3) ls (.int (rti v) :: rest))) : W p l e R s m args below meth c H locs cells slots Q (F0 m pc ls (.ref (a 0) :: rest)) := va_get C.1.1 C.1.2.1 C.1.2.2.2.2 i_Ring C.1.2.2.2.1 C.2.1 hX.1 0 rfl rfl 11 (by decide) (C.1.2.2.2.2 _ k_fl_Ring_47) (fun _ h => h) rfl hd kk
theorem rp_ti {v : RS} {x : Int32} (C : Cx p m c s args cc nL R_Ring D (rT k) A nb) (hX : VX D A s.heap (rW a k v) H locs) (hd : decode cc pc = .ok (.putfield 47, 3)) (kk : ∀ (H : Heap) (locs : List Loc), VX D A s.heap (rW a k (zrti v x)) H locs → W p l e R s m args below meth c H locs cells slots Q (F0 m (pc + 3) ls rest)) : W p l e R s m args below meth c H locs cells slots Q (F0 m pc ls (.int x :: .ref (a 0) :: rest)) := va_put C.1.1 C.1.2.1 C.1.2.2.2.2 i_Ring t_Ring t_Ring_ok n_Ring C.1.2.2.2.1 C.2.1 hX.1 hX.2.1 hX.2.2 0 rfl rfl 11 (by decide) (C.1.2.2.2.2 _ k_fl_Ring_47) (fun _ h => h) rfl (by decide +kernel) (vp_nar_int x) rfl (Nat.le_of_ble_eq_true rfl) hd (fun H1 L1 h1 h2 h3 => kk H1 L1 ⟨h1, h2, h3⟩)
theorem rg_su {v : RS} (C : Cx p m c s args cc nL R_Ring D (rT k) A nb) (hX : VX D A s.heap (rW a k v) H locs) (hd : decode cc pc = .ok (.getfield 84, 3)) (kk : W p l e R s m args below meth c H locs cells slots Q (F0 m (pc + 3) ls (.int (rsu v) :: rest))) : W p l e R s m args below meth c H locs cells slots Q (F0 m pc ls (.ref (a 0) :: rest)) := va_get C.1.1 C.1.2.1 C.1.2.2.2.2 i_Ring C.1.2.2.2.1 C.2.1 hX.1 0 rfl rfl 12 (by decide) (C.1.2.2.2.2 _ k_fl_Ring_84) (fun _ h => h) rfl hd kk
theorem rp_su {v : RS} {x : Int32} (C : Cx p m c s args cc nL R_Ring D (rT k) A nb) (hX : VX D A s.heap (rW a k v) H locs) (hd : decode cc pc = .ok (.putfield 84, 3)) (kk : ∀ (H : Heap) (locs : List Loc), VX D A s.heap (rW a k (zrsu v x)) H locs → W p l e R s m args below meth c H locs cells slots Q (F0 m (pc + 3) ls rest)) : W p l e R s m args below meth c H locs cells slots Q (F0 m pc ls (.int x :: .ref (a 0) :: rest)) := va_put C.1.1 C.1.2.1 C.1.2.2.2.2 i_Ring t_Ring t_Ring_ok n_Ring C.1.2.2.2.1 C.2.1 hX.1 hX.2.1 hX.2.2 0 rfl rfl 12 (by decide) (C.1.2.2.2.2 _ k_fl_Ring_84) (fun _ h => h) rfl (by decide +kernel) (vp_nar_int x) rfl (Nat.le_of_ble_eq_true rfl) hd (fun H1 L1 h1 h2 h3 => kk H1 L1 ⟨h1, h2, h3⟩)
theorem mg_th {v : MS} (C : Cx p m c s args cc nL R_Mod D (mT k) A nb) (hX : VX D A s.heap (mW a k v) H locs) (hd : decode cc pc = .ok (.getfield 42, 3)) (kk : W p l e R s m args below meth c H locs cells slots Q (F0 m (pc + 3) ls (.int (mth v) :: rest))) : W p l e R s m args below meth c H locs cells slots Q (F0 m pc ls (.ref (a 0) :: rest)) := va_get C.1.1 C.1.2.1 C.1.2.2.2.2 i_Mod C.1.2.2.2.1 C.2.1 hX.1 0 rfl rfl 0 (by decide) (C.1.2.2.2.2 _ k_fl_Mod_42) (fun _ h => h) rfl hd kk
theorem mp_th {v : MS} {x : Int32} (C : Cx p m c s args cc nL R_Mod D (mT k) A nb) (hX : VX D A s.heap (mW a k v) H locs) (hd : decode cc pc = .ok (.putfield 42, 3)) (kk : ∀ (H : Heap) (locs : List Loc), VX D A s.heap (mW a k (zmth v x)) H locs → W p l e R s m args below meth c H locs cells slots Q (F0 m (pc + 3) ls rest)) : W p l e R s m args below meth c H locs cells slots Q (F0 m pc ls (.int x :: .ref (a 0) :: rest)) := va_put C.1.1 C.1.2.1 C.1.2.2.2.2 i_Mod t_Mod t_Mod_ok n_Mod C.1.2.2.2.1 C.2.1 hX.1 hX.2.1 hX.2.2 0 rfl rfl 0 (by decide) (C.1.2.2.2.2 _ k_fl_Mod_42) (fun _ h => h) rfl (by decide +kernel) (vp_nar_int x) rfl (Nat.le_of_ble_eq_true rfl) hd (fun H1 L1 h1 h2 h3 => kk H1 L1 ⟨h1, h2, h3⟩)
theorem mg_pr {v : MS} (C : Cx p m c s args cc nL R_Mod D (mT k) A nb) (hX : VX D A s.heap (mW a k v) H locs) (hd : decode cc pc = .ok (.getfield 38, 3)) (kk : W p l e R s m args below meth c H locs cells slots Q (F0 m (pc + 3) ls (.int (mpr v) :: rest))) : W p l e R s m args below meth c H locs cells slots Q (F0 m pc ls (.ref (a 0) :: rest)) := va_get C.1.1 C.1.2.1 C.1.2.2.2.2 i_Mod C.1.2.2.2.1 C.2.1 hX.1 0 rfl rfl 1 (by decide) (C.1.2.2.2.2 _ k_fl_Mod_38) (fun _ h => h) rfl hd kk
theorem mg_ma {v : MS} (C : Cx p m c s args cc nL R_Mod D (mT k) A nb) (hX : VX D A s.heap (mW a k v) H locs) (hd : decode cc pc = .ok (.getfield 45, 3)) (kk : W p l e R s m args below meth c H locs cells slots Q (F0 m (pc + 3) ls (.int (mma v) :: rest))) : W p l e R s m args below meth c H locs cells slots Q (F0 m pc ls (.ref (a 0) :: rest)) := va_get C.1.1 C.1.2.1 C.1.2.2.2.2 i_Mod C.1.2.2.2.1 C.2.1 hX.1 0 rfl rfl 2 (by decide) (C.1.2.2.2.2 _ k_fl_Mod_45) (fun _ h => h) rfl hd kk
theorem mp_ma {v : MS} {x : Int32} (C : Cx p m c s args cc nL R_Mod D (mT k) A nb) (hX : VX D A s.heap (mW a k v) H locs) (hd : decode cc pc = .ok (.putfield 45, 3)) (kk : ∀ (H : Heap) (locs : List Loc), VX D A s.heap (mW a k (zmma v x)) H locs → W p l e R s m args below meth c H locs cells slots Q (F0 m (pc + 3) ls rest)) : W p l e R s m args below meth c H locs cells slots Q (F0 m pc ls (.int x :: .ref (a 0) :: rest)) := va_put C.1.1 C.1.2.1 C.1.2.2.2.2 i_Mod t_Mod t_Mod_ok n_Mod C.1.2.2.2.1 C.2.1 hX.1 hX.2.1 hX.2.2 0 rfl rfl 2 (by decide) (C.1.2.2.2.2 _ k_fl_Mod_45) (fun _ h => h) rfl (by decide +kernel) (vp_nar_int x) rfl (Nat.le_of_ble_eq_true rfl) hd (fun H1 L1 h1 h2 h3 => kk H1 L1 ⟨h1, h2, h3⟩)
theorem mg_ti {v : MS} (C : Cx p m c s args cc nL R_Mod D (mT k) A nb) (hX : VX D A s.heap (mW a k v) H locs) (hd : decode cc pc = .ok (.getfield 55, 3)) (kk : W p l e R s m args below meth c H locs cells slots Q (F0 m (pc + 3) ls (.int (mti v) :: rest))) : W p l e R s m args below meth c H locs cells slots Q (F0 m pc ls (.ref (a 0) :: rest)) := va_get C.1.1 C.1.2.1 C.1.2.2.2.2 i_Mod C.1.2.2.2.1 C.2.1 hX.1 0 rfl rfl 3 (by decide) (C.1.2.2.2.2 _ k_fl_Mod_55) (fun _ h => h) rfl hd kk
theorem mp_ti {v : MS} {x : Int32} (C : Cx p m c s args cc nL R_Mod D (mT k) A nb) (hX : VX D A s.heap (mW a k v) H locs) (hd : decode cc pc = .ok (.putfield 55, 3)) (kk : ∀ (H : Heap) (locs : List Loc), VX D A s.heap (mW a k (zmti v x)) H locs → W p l e R s m args below meth c H locs cells slots Q (F0 m (pc + 3) ls rest)) : W p l e R s m args below meth c H locs cells slots Q (F0 m pc ls (.int x :: .ref (a 0) :: rest)) := va_put C.1.1 C.1.2.1 C.1.2.2.2.2 i_Mod t_Mod t_Mod_ok n_Mod C.1.2.2.2.1 C.2.1 hX.1 hX.2.1 hX.2.2 0 rfl rfl 3 (by decide) (C.1.2.2.2.2 _ k_fl_Mod_55) (fun _ h => h) rfl (by decide +kernel) (vp_nar_int x) rfl (Nat.le_of_ble_eq_true rfl) hd (fun H1 L1 h1 h2 h3 => kk H1 L1 ⟨h1, h2, h3⟩)
theorem mg_lt {v : MS} (C : Cx p m c s args cc nL R_Mod D (mT k) A nb) (hX : VX D A s.heap (mW a k v) H locs) (hd : decode cc pc = .ok (.getfield 58, 3)) (kk : W p l e R s m args below meth c H locs cells slots Q (F0 m (pc + 3) ls (.int (mlt v) :: rest))) : W p l e R s m args below meth c H locs cells slots Q (F0 m pc ls (.ref (a 0) :: rest)) := va_get C.1.1 C.1.2.1 C.1.2.2.2.2 i_Mod C.1.2.2.2.1 C.2.1 hX.1 0 rfl rfl 4 (by decide) (C.1.2.2.2.2 _ k_fl_Mod_58) (fun _ h => h) rfl hd kk
theorem mp_lt {v : MS} {x : Int32} (C : Cx p m c s args cc nL R_Mod D (mT k) A nb) (hX : VX D A s.heap (mW a k v) H locs) (hd : decode cc pc = .ok (.putfield 58, 3)) (kk : ∀ (H : Heap) (locs : List Loc), VX D A s.heap (mW a k (zmlt v x)) H locs → W p l e R s m args below meth c H locs cells slots Q (F0 m (pc + 3) ls rest)) : W p l e R s m args below meth c H locs cells slots Q (F0 m pc ls (.int x :: .ref (a 0) :: rest)) := va_put C.1.1 C.1.2.1 C.1.2.2.2.2 i_Mod t_Mod t_Mod_ok n_Mod C.1.2.2.2.1 C.2.1 hX.1 hX.2.1 hX.2.2 0 rfl rfl 4 (by decide) (C.1.2.2.2.2 _ k_fl_Mod_58) (fun _ h => h) rfl (by decide +kernel) (vp_nar_int x) rfl (Nat.le_of_ble_eq_true rfl) hd (fun H1 L1 h1 h2 h3 => kk H1 L1 ⟨h1, h2, h3⟩)
theorem mg_tk {v : MS} (C : Cx p m c s args cc nL R_Mod D (mT k) A nb) (hX : VX D A s.heap (mW a k v) H locs) (hd : decode cc pc = .ok (.getfield 61, 3)) (kk : W p l e R s m args below meth c H locs cells slots Q (F0 m (pc + 3) ls (.int (mtk v) :: rest))) : W p l e R s m args below meth c H locs cells slots Q (F0 m pc ls (.ref (a 0) :: rest)) := va_get C.1.1 C.1.2.1 C.1.2.2.2.2 i_Mod C.1.2.2.2.1 C.2.1 hX.1 0 rfl rfl 5 (by decide) (C.1.2.2.2.2 _ k_fl_Mod_61) (fun _ h => h) rfl hd kk
theorem mp_tk {v : MS} {x : Int32} (C : Cx p m c s args cc nL R_Mod D (mT k) A nb) (hX : VX D A s.heap (mW a k v) H locs) (hd : decode cc pc = .ok (.putfield 61, 3)) (kk : ∀ (H : Heap) (locs : List Loc), VX D A s.heap (mW a k (zmtk v x)) H locs → W p l e R s m args below meth c H locs cells slots Q (F0 m (pc + 3) ls rest)) : W p l e R s m args below meth c H locs cells slots Q (F0 m pc ls (.int x :: .ref (a 0) :: rest)) := va_put C.1.1 C.1.2.1 C.1.2.2.2.2 i_Mod t_Mod t_Mod_ok n_Mod C.1.2.2.2.1 C.2.1 hX.1 hX.2.1 hX.2.2 0 rfl rfl 5 (by decide) (C.1.2.2.2.2 _ k_fl_Mod_61) (fun _ h => h) rfl (by decide +kernel) (vp_nar_int x) rfl (Nat.le_of_ble_eq_true rfl) hd (fun H1 L1 h1 h2 h3 => kk H1 L1 ⟨h1, h2, h3⟩)
theorem mg_su {v : MS} (C : Cx p m c s args cc nL R_Mod D (mT k) A nb) (hX : VX D A s.heap (mW a k v) H locs) (hd : decode cc pc = .ok (.getfield 78, 3)) (kk : W p l e R s m args below meth c H locs cells slots Q (F0 m (pc + 3) ls (.int (msu v) :: rest))) : W p l e R s m args below meth c H locs cells slots Q (F0 m pc ls (.ref (a 0) :: rest)) := va_get C.1.1 C.1.2.1 C.1.2.2.2.2 i_Mod C.1.2.2.2.1 C.2.1 hX.1 0 rfl rfl 6 (by decide) (C.1.2.2.2.2 _ k_fl_Mod_78) (fun _ h => h) rfl hd kk
theorem mp_su {v : MS} {x : Int32} (C : Cx p m c s args cc nL R_Mod D (mT k) A nb) (hX : VX D A s.heap (mW a k v) H locs) (hd : decode cc pc = .ok (.putfield 78, 3)) (kk : ∀ (H : Heap) (locs : List Loc), VX D A s.heap (mW a k (zmsu v x)) H locs → W p l e R s m args below meth c H locs cells slots Q (F0 m (pc + 3) ls rest)) : W p l e R s m args below meth c H locs cells slots Q (F0 m pc ls (.int x :: .ref (a 0) :: rest)) := va_put C.1.1 C.1.2.1 C.1.2.2.2.2 i_Mod t_Mod t_Mod_ok n_Mod C.1.2.2.2.1 C.2.1 hX.1 hX.2.1 hX.2.2 0 rfl rfl 6 (by decide) (C.1.2.2.2.2 _ k_fl_Mod_78) (fun _ h => h) rfl (by decide +kernel) (vp_nar_int x) rfl (Nat.le_of_ble_eq_true rfl) hd (fun H1 L1 h1 h2 h3 => kk H1 L1 ⟨h1, h2, h3⟩)
theorem mg_nu {v : MS} (C : Cx p m c s args cc nL R_Mod D (mT k) A nb) (hX : VX D A s.heap (mW a k v) H locs) (hd : decode cc pc = .ok (.getfield 7, 3)) (kk : W p l e R s m args below meth c H locs cells slots Q (F0 m (pc + 3) ls (.ref (a 1) :: rest))) : W p l e R s m args below meth c H locs cells slots Q (F0 m pc ls (.ref (a 0) :: rest)) := va_get C.1.1 C.1.2.1 C.1.2.2.2.2 i_Mod C.1.2.2.2.1 C.2.1 hX.1 0 rfl rfl 7 (by decide) (C.1.2.2.2.2 _ k_fl_Mod_7) (fun _ h => h) rfl hd kk
theorem ma_nu {v : MS} {i : Int32} {j : Nat} (C : Cx p m c s args cc nL R_Mod D (mT k) A nb) (hX : VX D A s.heap (mW a k v) H locs) (hi : vp_in i 16) (hj : ix i = j) (hd : decode cc pc = .ok (.iaload, 1)) (kk : W p l e R s m args below meth c H locs cells slots Q (F0 m (pc + 1) ls (.int (mnu v j) :: rest))) : W p l e R s m args below meth c H locs cells slots Q (F0 m pc ls (.int i :: .ref (a 1) :: rest)) := by
  subst hj
  exact va_iald C.1.1 C.1.2.1 C.2.1 hX.1 1 0 rfl rfl hi hd kk
theorem ms_nu {v : MS} {i x : Int32} {j : Nat} (C : Cx p m c s args cc nL R_Mod D (mT k) A nb) (hX : VX D A s.heap (mW a k v) H locs) (hi : vp_in i 16) (hj : ix i = j) (hd : decode cc pc = .ok (.iastore, 1)) (kk : ∀ (H : Heap) (locs : List Loc), VX D A s.heap (mW a k (zmnu v (upd (mnu v) j x))) H locs → W p l e R s m args below meth c H locs cells slots Q (F0 m (pc + 1) ls rest)) : W p l e R s m args below meth c H locs cells slots Q (F0 m pc ls (.int x :: .int i :: .ref (a 1) :: rest)) := by
  subst hj
  exact va_iast C.1.1 C.1.2.1 C.2.1 hX.1 hX.2.1 hX.2.2 1 0 rfl rfl hi hd (fun H1 L1 h1 h2 h3 => kk H1 L1 ⟨h1, h2, h3⟩)
theorem mg_pl {v : MS} (C : Cx p m c s args cc nL R_Mod D (mT k) A nb) (hX : VX D A s.heap (mW a k v) H locs) (hd : decode cc pc = .ok (.getfield 13, 3)) (kk : W p l e R s m args below meth c H locs cells slots Q (F0 m (pc + 3) ls (.ref (a 2) :: rest))) : W p l e R s m args below meth c H locs cells slots Q (F0 m pc ls (.ref (a 0) :: rest)) := va_get C.1.1 C.1.2.1 C.1.2.2.2.2 i_Mod C.1.2.2.2.1 C.2.1 hX.1 0 rfl rfl 8 (by decide) (C.1.2.2.2.2 _ k_fl_Mod_13) (fun _ h => h) rfl hd kk
theorem ma_pl {v : MS} {i : Int32} {j : Nat} (C : Cx p m c s args cc nL R_Mod D (mT k) A nb) (hX : VX D A s.heap (mW a k v) H locs) (hi : vp_in i 16) (hj : ix i = j) (hd : decode cc pc = .ok (.iaload, 1)) (kk : W p l e R s m args below meth c H locs cells slots Q (F0 m (pc + 1) ls (.int (mpl v j) :: rest))) : W p l e R s m args below meth c H locs cells slots Q (F0 m pc ls (.int i :: .ref (a 2) :: rest)) := by
  subst hj
  exact va_iald C.1.1 C.1.2.1 C.2.1 hX.1 2 1 rfl rfl hi hd kk
theorem ms_pl {v : MS} {i x : Int32} {j : Nat} (C : Cx p m c s args cc nL R_Mod D (mT k) A nb) (hX : VX D A s.heap (mW a k v) H locs) (hi : vp_in i 16) (hj : ix i = j) (hd : decode cc pc = .ok (.iastore, 1)) (kk : ∀ (H : Heap) (locs : List Loc), VX D A s.heap (mW a k (zmpl v (upd (mpl v) j x))) H locs → W p l e R s m args below meth c H locs cells slots Q (F0 m (pc + 1) ls rest)) : W p l e R s m args below meth c H locs cells slots Q (F0 m pc ls (.int x :: .int i :: .ref (a 2) :: rest)) := by
  subst hj
  exact va_iast C.1.1 C.1.2.1 C.2.1 hX.1 hX.2.1 hX.2.2 2 1 rfl rfl hi hd (fun H1 L1 h1 h2 h3 => kk H1 L1 ⟨h1, h2, h3⟩)
theorem mg_pa {v : MS} (C : Cx p m c s args cc nL R_Mod D (mT k) A nb) (hX : VX D A s.heap (mW a k v) H locs) (hd : decode cc pc = .ok (.getfield 16, 3)) (kk : W p l e R s m args below meth c H locs cells slots Q (F0 m (pc + 3) ls (.ref (a 3) :: rest))) : W p l e R s m args below meth c H locs cells slots Q (F0 m pc ls (.ref (a 0) :: rest)) := va_get C.1.1 C.1.2.1 C.1.2.2.2.2 i_Mod C.1.2.2.2.1 C.2.1 hX.1 0 rfl rfl 9 (by decide) (C.1.2.2.2.2 _ k_fl_Mod_16) (fun _ h => h) rfl hd kk
theorem ma_pa {v : MS} {i : Int32} {j : Nat} (C : Cx p m c s args cc nL R_Mod D (mT k) A nb) (hX : VX D A s.heap (mW a k v) H locs) (hi : vp_in i 16) (hj : ix i = j) (hd : decode cc pc = .ok (.iaload, 1)) (kk : W p l e R s m args below meth c H locs cells slots Q (F0 m (pc + 1) ls (.int (mpa v j) :: rest))) : W p l e R s m args below meth c H locs cells slots Q (F0 m pc ls (.int i :: .ref (a 3) :: rest)) := by
  subst hj
  exact va_iald C.1.1 C.1.2.1 C.2.1 hX.1 3 2 rfl rfl hi hd kk
theorem ms_pa {v : MS} {i x : Int32} {j : Nat} (C : Cx p m c s args cc nL R_Mod D (mT k) A nb) (hX : VX D A s.heap (mW a k v) H locs) (hi : vp_in i 16) (hj : ix i = j) (hd : decode cc pc = .ok (.iastore, 1)) (kk : ∀ (H : Heap) (locs : List Loc), VX D A s.heap (mW a k (zmpa v (upd (mpa v) j x))) H locs → W p l e R s m args below meth c H locs cells slots Q (F0 m (pc + 1) ls rest)) : W p l e R s m args below meth c H locs cells slots Q (F0 m pc ls (.int x :: .int i :: .ref (a 3) :: rest)) := by
  subst hj
  exact va_iast C.1.1 C.1.2.1 C.2.1 hX.1 hX.2.1 hX.2.2 3 2 rfl rfl hi hd (fun H1 L1 h1 h2 h3 => kk H1 L1 ⟨h1, h2, h3⟩)
theorem mg_en {v : MS} (C : Cx p m c s args cc nL R_Mod D (mT k) A nb) (hX : VX D A s.heap (mW a k v) H locs) (hd : decode cc pc = .ok (.getfield 19, 3)) (kk : W p l e R s m args below meth c H locs cells slots Q (F0 m (pc + 3) ls (.ref (a 4) :: rest))) : W p l e R s m args below meth c H locs cells slots Q (F0 m pc ls (.ref (a 0) :: rest)) := va_get C.1.1 C.1.2.1 C.1.2.2.2.2 i_Mod C.1.2.2.2.1 C.2.1 hX.1 0 rfl rfl 10 (by decide) (C.1.2.2.2.2 _ k_fl_Mod_19) (fun _ h => h) rfl hd kk
theorem ma_en {v : MS} {i : Int32} {j : Nat} (C : Cx p m c s args cc nL R_Mod D (mT k) A nb) (hX : VX D A s.heap (mW a k v) H locs) (hi : vp_in i 16) (hj : ix i = j) (hd : decode cc pc = .ok (.baload, 1)) (kk : W p l e R s m args below meth c H locs cells slots Q (F0 m (pc + 1) ls (.int (men v j) :: rest))) : W p l e R s m args below meth c H locs cells slots Q (F0 m pc ls (.int i :: .ref (a 4) :: rest)) := by
  subst hj
  exact va_zald C.1.1 C.1.2.1 C.2.1 hX.1 4 3 rfl rfl hi hd kk
theorem ms_en {v : MS} {i x y : Int32} {j : Nat} (C : Cx p m c s args cc nL R_Mod D (mT k) A nb) (hX : VX D A s.heap (mW a k v) H locs) (hi : vp_in i 16) (hj : ix i = j) (hy : vp_nar .boolean x = y) (hd : decode cc pc = .ok (.bastore, 1)) (kk : ∀ (H : Heap) (locs : List Loc), VX D A s.heap (mW a k (zmen v (upd (men v) j y))) H locs → W p l e R s m args below meth c H locs cells slots Q (F0 m (pc + 1) ls rest)) : W p l e R s m args below meth c H locs cells slots Q (F0 m pc ls (.int x :: .int i :: .ref (a 4) :: rest)) := by
  subst hy
  subst hj
  exact va_zast C.1.1 C.1.2.1 C.2.1 hX.1 hX.2.1 hX.2.2 4 3 rfl rfl hi hd (fun H1 L1 h1 h2 h3 => kk H1 L1 ⟨h1, h2, h3⟩)
theorem mg_re {v : MS} (C : Cx p m c s args cc nL R_Mod D (mT k) A nb) (hX : VX D A s.heap (mW a k v) H locs) (hd : decode cc pc = .ok (.getfield 23, 3)) (kk : W p l e R s m args below meth c H locs cells slots Q (F0 m (pc + 3) ls (.ref (a 5) :: rest))) : W p l e R s m args below meth c H locs cells slots Q (F0 m pc ls (.ref (a 0) :: rest)) := va_get C.1.1 C.1.2.1 C.1.2.2.2.2 i_Mod C.1.2.2.2.1 C.2.1 hX.1 0 rfl rfl 11 (by decide) (C.1.2.2.2.2 _ k_fl_Mod_23) (fun _ h => h) rfl hd kk
theorem ma_re {v : MS} {i : Int32} {j : Nat} (C : Cx p m c s args cc nL R_Mod D (mT k) A nb) (hX : VX D A s.heap (mW a k v) H locs) (hi : vp_in i 16) (hj : ix i = j) (hd : decode cc pc = .ok (.iaload, 1)) (kk : W p l e R s m args below meth c H locs cells slots Q (F0 m (pc + 1) ls (.int (mre v j) :: rest))) : W p l e R s m args below meth c H locs cells slots Q (F0 m pc ls (.int i :: .ref (a 5) :: rest)) := by
  subst hj
  exact va_iald C.1.1 C.1.2.1 C.2.1 hX.1 5 4 rfl rfl hi hd kk
theorem ms_re {v : MS} {i x : Int32} {j : Nat} (C : Cx p m c s args cc nL R_Mod D (mT k) A nb) (hX : VX D A s.heap (mW a k v) H locs) (hi : vp_in i 16) (hj : ix i = j) (hd : decode cc pc = .ok (.iastore, 1)) (kk : ∀ (H : Heap) (locs : List Loc), VX D A s.heap (mW a k (zmre v (upd (mre v) j x))) H locs → W p l e R s m args below meth c H locs cells slots Q (F0 m (pc + 1) ls rest)) : W p l e R s m args below meth c H locs cells slots Q (F0 m pc ls (.int x :: .int i :: .ref (a 5) :: rest)) := by
  subst hj
  exact va_iast C.1.1 C.1.2.1 C.2.1 hX.1 hX.2.1 hX.2.2 5 4 rfl rfl hi hd (fun H1 L1 h1 h2 h3 => kk H1 L1 ⟨h1, h2, h3⟩)
theorem mg_ki {v : MS} (C : Cx p m c s args cc nL R_Mod D (mT k) A nb) (hX : VX D A s.heap (mW a k v) H locs) (hd : decode cc pc = .ok (.getfield 26, 3)) (kk : W p l e R s m args below meth c H locs cells slots Q (F0 m (pc + 3) ls (.ref (a 6) :: rest))) : W p l e R s m args below meth c H locs cells slots Q (F0 m pc ls (.ref (a 0) :: rest)) := va_get C.1.1 C.1.2.1 C.1.2.2.2.2 i_Mod C.1.2.2.2.1 C.2.1 hX.1 0 rfl rfl 12 (by decide) (C.1.2.2.2.2 _ k_fl_Mod_26) (fun _ h => h) rfl hd kk
theorem ma_ki {v : MS} {i : Int32} {j : Nat} (C : Cx p m c s args cc nL R_Mod D (mT k) A nb) (hX : VX D A s.heap (mW a k v) H locs) (hi : vp_in i 16) (hj : ix i = j) (hd : decode cc pc = .ok (.baload, 1)) (kk : W p l e R s m args below meth c H locs cells slots Q (F0 m (pc + 1) ls (.int (mki v j) :: rest))) : W p l e R s m args below meth c H locs cells slots Q (F0 m pc ls (.int i :: .ref (a 6) :: rest)) := by
  subst hj
  exact va_zald C.1.1 C.1.2.1 C.2.1 hX.1 6 5 rfl rfl hi hd kk
theorem ms_ki {v : MS} {i x y : Int32} {j : Nat} (C : Cx p m c s args cc nL R_Mod D (mT k) A nb) (hX : VX D A s.heap (mW a k v) H locs) (hi : vp_in i 16) (hj : ix i = j) (hy : vp_nar .boolean x = y) (hd : decode cc pc = .ok (.bastore, 1)) (kk : ∀ (H : Heap) (locs : List Loc), VX D A s.heap (mW a k (zmki v (upd (mki v) j y))) H locs → W p l e R s m args below meth c H locs cells slots Q (F0 m (pc + 1) ls rest)) : W p l e R s m args below meth c H locs cells slots Q (F0 m pc ls (.int x :: .int i :: .ref (a 6) :: rest)) := by
  subst hy
  subst hj
  exact va_zast C.1.1 C.1.2.1 C.2.1 hX.1 hX.2.1 hX.2.2 6 5 rfl rfl hi hd (fun H1 L1 h1 h2 h3 => kk H1 L1 ⟨h1, h2, h3⟩)
theorem mg_on {v : MS} (C : Cx p m c s args cc nL R_Mod D (mT k) A nb) (hX : VX D A s.heap (mW a k v) H locs) (hd : decode cc pc = .ok (.getfield 29, 3)) (kk : W p l e R s m args below meth c H locs cells slots Q (F0 m (pc + 3) ls (.ref (a 7) :: rest))) : W p l e R s m args below meth c H locs cells slots Q (F0 m pc ls (.ref (a 0) :: rest)) := va_get C.1.1 C.1.2.1 C.1.2.2.2.2 i_Mod C.1.2.2.2.1 C.2.1 hX.1 0 rfl rfl 13 (by decide) (C.1.2.2.2.2 _ k_fl_Mod_29) (fun _ h => h) rfl hd kk
theorem ma_on {v : MS} {i : Int32} {j : Nat} (C : Cx p m c s args cc nL R_Mod D (mT k) A nb) (hX : VX D A s.heap (mW a k v) H locs) (hi : vp_in i 16) (hj : ix i = j) (hd : decode cc pc = .ok (.iaload, 1)) (kk : W p l e R s m args below meth c H locs cells slots Q (F0 m (pc + 1) ls (.int (mon v j) :: rest))) : W p l e R s m args below meth c H locs cells slots Q (F0 m pc ls (.int i :: .ref (a 7) :: rest)) := by
  subst hj
  exact va_iald C.1.1 C.1.2.1 C.2.1 hX.1 7 6 rfl rfl hi hd kk
theorem ms_on {v : MS} {i x : Int32} {j : Nat} (C : Cx p m c s args cc nL R_Mod D (mT k) A nb) (hX : VX D A s.heap (mW a k v) H locs) (hi : vp_in i 16) (hj : ix i = j) (hd : decode cc pc = .ok (.iastore, 1)) (kk : ∀ (H : Heap) (locs : List Loc), VX D A s.heap (mW a k (zmon v (upd (mon v) j x))) H locs → W p l e R s m args below meth c H locs cells slots Q (F0 m (pc + 1) ls rest)) : W p l e R s m args below meth c H locs cells slots Q (F0 m pc ls (.int x :: .int i :: .ref (a 7) :: rest)) := by
  subst hj
  exact va_iast C.1.1 C.1.2.1 C.2.1 hX.1 hX.2.1 hX.2.2 7 6 rfl rfl hi hd (fun H1 L1 h1 h2 h3 => kk H1 L1 ⟨h1, h2, h3⟩)
theorem mg_wa {v : MS} (C : Cx p m c s args cc nL R_Mod D (mT k) A nb) (hX : VX D A s.heap (mW a k v) H locs) (hd : decode cc pc = .ok (.getfield 32, 3)) (kk : W p l e R s m args below meth c H locs cells slots Q (F0 m (pc + 3) ls (.ref (a 8) :: rest))) : W p l e R s m args below meth c H locs cells slots Q (F0 m pc ls (.ref (a 0) :: rest)) := va_get C.1.1 C.1.2.1 C.1.2.2.2.2 i_Mod C.1.2.2.2.1 C.2.1 hX.1 0 rfl rfl 14 (by decide) (C.1.2.2.2.2 _ k_fl_Mod_32) (fun _ h => h) rfl hd kk
theorem ma_wa {v : MS} {i : Int32} {j : Nat} (C : Cx p m c s args cc nL R_Mod D (mT k) A nb) (hX : VX D A s.heap (mW a k v) H locs) (hi : vp_in i 16) (hj : ix i = j) (hd : decode cc pc = .ok (.iaload, 1)) (kk : W p l e R s m args below meth c H locs cells slots Q (F0 m (pc + 1) ls (.int (mwa v j) :: rest))) : W p l e R s m args below meth c H locs cells slots Q (F0 m pc ls (.int i :: .ref (a 8) :: rest)) := by
  subst hj
  exact va_iald C.1.1 C.1.2.1 C.2.1 hX.1 8 7 rfl rfl hi hd kk
theorem ms_wa {v : MS} {i x : Int32} {j : Nat} (C : Cx p m c s args cc nL R_Mod D (mT k) A nb) (hX : VX D A s.heap (mW a k v) H locs) (hi : vp_in i 16) (hj : ix i = j) (hd : decode cc pc = .ok (.iastore, 1)) (kk : ∀ (H : Heap) (locs : List Loc), VX D A s.heap (mW a k (zmwa v (upd (mwa v) j x))) H locs → W p l e R s m args below meth c H locs cells slots Q (F0 m (pc + 1) ls rest)) : W p l e R s m args below meth c H locs cells slots Q (F0 m pc ls (.int x :: .int i :: .ref (a 8) :: rest)) := by
  subst hj
  exact va_iast C.1.1 C.1.2.1 C.2.1 hX.1 hX.2.1 hX.2.2 8 7 rfl rfl hi hd (fun H1 L1 h1 h2 h3 => kk H1 L1 ⟨h1, h2, h3⟩)
theorem mg_wh {v : MS} (C : Cx p m c s args cc nL R_Mod D (mT k) A nb) (hX : VX D A s.heap (mW a k v) H locs) (hd : decode cc pc = .ok (.getfield 35, 3)) (kk : W p l e R s m args below meth c H locs cells slots Q (F0 m (pc + 3) ls (.ref (a 9) :: rest))) : W p l e R s m args below meth c H locs cells slots Q (F0 m pc ls (.ref (a 0) :: rest)) := va_get C.1.1 C.1.2.1 C.1.2.2.2.2 i_Mod C.1.2.2.2.1 C.2.1 hX.1 0 rfl rfl 15 (by decide) (C.1.2.2.2.2 _ k_fl_Mod_35) (fun _ h => h) rfl hd kk
theorem ma_wh {v : MS} {i : Int32} {j : Nat} (C : Cx p m c s args cc nL R_Mod D (mT k) A nb) (hX : VX D A s.heap (mW a k v) H locs) (hi : vp_in i 16) (hj : ix i = j) (hd : decode cc pc = .ok (.iaload, 1)) (kk : W p l e R s m args below meth c H locs cells slots Q (F0 m (pc + 1) ls (.int (mwh v j) :: rest))) : W p l e R s m args below meth c H locs cells slots Q (F0 m pc ls (.int i :: .ref (a 9) :: rest)) := by
  subst hj
  exact va_iald C.1.1 C.1.2.1 C.2.1 hX.1 9 8 rfl rfl hi hd kk
theorem ms_wh {v : MS} {i x : Int32} {j : Nat} (C : Cx p m c s args cc nL R_Mod D (mT k) A nb) (hX : VX D A s.heap (mW a k v) H locs) (hi : vp_in i 16) (hj : ix i = j) (hd : decode cc pc = .ok (.iastore, 1)) (kk : ∀ (H : Heap) (locs : List Loc), VX D A s.heap (mW a k (zmwh v (upd (mwh v) j x))) H locs → W p l e R s m args below meth c H locs cells slots Q (F0 m (pc + 1) ls rest)) : W p l e R s m args below meth c H locs cells slots Q (F0 m pc ls (.int x :: .int i :: .ref (a 9) :: rest)) := by
  subst hj
  exact va_iast C.1.1 C.1.2.1 C.2.1 hX.1 hX.2.1 hX.2.2 9 8 rfl rfl hi hd (fun H1 L1 h1 h2 h3 => kk H1 L1 ⟨h1, h2, h3⟩)
theorem rl_on {v : RS} (C : Cx p m c s args cc nL R_Ring D (rT k) A nb) (hX : VX D A s.heap (rW a k v) H locs) (hd : decode cc pc = .ok (.arraylength, 1)) (kk : W p l e R s m args below meth c H locs cells slots Q (F0 m (pc + 1) ls (.int 4 :: rest))) : W p l e R s m args below meth c H locs cells slots Q (F0 m pc ls (.ref (a 8) :: rest)) := va_alen C.1.1 C.1.2.1 C.2.1 hX.1 8 7 rfl rfl rfl hd kk
theorem pg_ring {v : RS} (C : Cx p m c s args cc nL R_Proc D (rT k) A nb) (hX : VX D A s.heap (pW h a k v) H locs) (hd : decode cc pc = .ok (.getfield 12, 3)) (kk : W p l e R s m args below meth c H locs cells slots Q (F0 m (pc + 3) ls (.ref (a 0) :: rest))) : W p l e R s m args below meth c H locs cells slots Q (F0 m pc ls (.ref h :: rest)) := va_get C.1.1 C.1.2.1 C.1.2.2.2.2 i_Proc C.1.2.2.2.1 C.2.1 hX.1 0 rfl rfl 0 (by decide) (C.1.2.2.2.2 _ k_fl_Proc_12) (fun _ h => h) rfl hd kk
theorem pg_nu {v : RS} (hnb : nb = true) (C : Cx p m c s args cc nL R_Proc D (rT k) A nb) (hX : VX D A s.heap (pW h a k v) H locs) (hd : decode cc pc = .ok (.getfield 67, 3)) (kk : W p l e R s m args below meth c H locs cells slots Q (F0 m (pc + 3) ls (.ref (a 1) :: rest))) : W p l e R s m args below meth c H locs cells slots Q (F0 m pc ls (.ref (a 0) :: rest)) := va_getN C.1.1 C.1.2.1 C.1.2.2.2.2 i_Ring C.1.2.2.2.1 C.2.1 hX.1 1 rfl rfl 0 (by decide) (va_Nw.use rfl (C.2.2.2 hnb _ (List.mem_of_getElem? (i := 0) rfl))) (fun _ h => h) rfl hd kk
theorem pa_nu {v : RS} {i : Int32} {j : Nat} (C : Cx p m c s args cc nL R_Proc D (rT k) A nb) (hX : VX D A s.heap (pW h a k v) H locs) (hi : vp_in i 15) (hj : ix i = j) (hd : decode cc pc = .ok (.iaload, 1)) (kk : W p l e R s m args below meth c H locs cells slots Q (F0 m (pc + 1) ls (.int (rnu v j) :: rest))) : W p l e R s m args below meth c H locs cells slots Q (F0 m pc ls (.int i :: .ref (a 1) :: rest)) := by
  subst hj
  exact va_iald C.1.1 C.1.2.1 C.2.1 hX.1 2 0 rfl rfl hi hd kk
theorem pg_st {v : RS} (hnb : nb = true) (C : Cx p m c s args cc nL R_Proc D (rT k) A nb) (hX : VX D A s.heap (pW h a k v) H locs) (hd : decode cc pc = .ok (.getfield 63, 3)) (kk : W p l e R s m args below meth c H locs cells slots Q (F0 m (pc + 3) ls (.ref (a 2) :: rest))) : W p l e R s m args below meth c H locs cells slots Q (F0 m pc ls (.ref (a 0) :: rest)) := va_getN C.1.1 C.1.2.1 C.1.2.2.2.2 i_Ring C.1.2.2.2.1 C.2.1 hX.1 1 rfl rfl 1 (by decide) (va_Nw.use rfl (C.2.2.2 hnb _ (List.mem_of_getElem? (i := 1) rfl))) (fun _ h => h) rfl hd kk
theorem pa_st {v : RS} {i : Int32} {j : Nat} (C : Cx p m c s args cc nL R_Proc D (rT k) A nb) (hX : VX D A s.heap (pW h a k v) H locs) (hi : vp_in i 15) (hj : ix i = j) (hd : decode cc pc = .ok (.iaload, 1)) (kk : W p l e R s m args below meth c H locs cells slots Q (F0 m (pc + 1) ls (.int (rst v j) :: rest))) : W p l e R s m args below meth c H locs cells slots Q (F0 m pc ls (.int i :: .ref (a 2) :: rest)) := by
  subst hj
  exact va_iald C.1.1 C.1.2.1 C.2.1 hX.1 3 1 rfl rfl hi hd kk
theorem pg_pa {v : RS} (hnb : nb = true) (C : Cx p m c s args cc nL R_Proc D (rT k) A nb) (hX : VX D A s.heap (pW h a k v) H locs) (hd : decode cc pc = .ok (.getfield 70, 3)) (kk : W p l e R s m args below meth c H locs cells slots Q (F0 m (pc + 3) ls (.ref (a 3) :: rest))) : W p l e R s m args below meth c H locs cells slots Q (F0 m pc ls (.ref (a 0) :: rest)) := va_getN C.1.1 C.1.2.1 C.1.2.2.2.2 i_Ring C.1.2.2.2.1 C.2.1 hX.1 1 rfl rfl 2 (by decide) (va_Nw.use rfl (C.2.2.2 hnb _ (List.mem_of_getElem? (i := 2) rfl))) (fun _ h => h) rfl hd kk
theorem pa_pa {v : RS} {i : Int32} {j : Nat} (C : Cx p m c s args cc nL R_Proc D (rT k) A nb) (hX : VX D A s.heap (pW h a k v) H locs) (hi : vp_in i 15) (hj : ix i = j) (hd : decode cc pc = .ok (.iaload, 1)) (kk : W p l e R s m args below meth c H locs cells slots Q (F0 m (pc + 1) ls (.int (rpa v j) :: rest))) : W p l e R s m args below meth c H locs cells slots Q (F0 m pc ls (.int i :: .ref (a 3) :: rest)) := by
  subst hj
  exact va_iald C.1.1 C.1.2.1 C.2.1 hX.1 4 2 rfl rfl hi hd kk
theorem pg_ki {v : RS} (hnb : nb = true) (C : Cx p m c s args cc nL R_Proc D (rT k) A nb) (hX : VX D A s.heap (pW h a k v) H locs) (hd : decode cc pc = .ok (.getfield 73, 3)) (kk : W p l e R s m args below meth c H locs cells slots Q (F0 m (pc + 3) ls (.ref (a 4) :: rest))) : W p l e R s m args below meth c H locs cells slots Q (F0 m pc ls (.ref (a 0) :: rest)) := va_getN C.1.1 C.1.2.1 C.1.2.2.2.2 i_Ring C.1.2.2.2.1 C.2.1 hX.1 1 rfl rfl 3 (by decide) (va_Nw.use rfl (C.2.2.2 hnb _ (List.mem_of_getElem? (i := 3) rfl))) (fun _ h => h) rfl hd kk
theorem pa_ki {v : RS} {i : Int32} {j : Nat} (C : Cx p m c s args cc nL R_Proc D (rT k) A nb) (hX : VX D A s.heap (pW h a k v) H locs) (hi : vp_in i 15) (hj : ix i = j) (hd : decode cc pc = .ok (.baload, 1)) (kk : W p l e R s m args below meth c H locs cells slots Q (F0 m (pc + 1) ls (.int (rki v j) :: rest))) : W p l e R s m args below meth c H locs cells slots Q (F0 m pc ls (.int i :: .ref (a 4) :: rest)) := by
  subst hj
  exact va_zald C.1.1 C.1.2.1 C.2.1 hX.1 5 3 rfl rfl hi hd kk
theorem pg_sa {v : RS} (hnb : nb = true) (C : Cx p m c s args cc nL R_Proc D (rT k) A nb) (hX : VX D A s.heap (pW h a k v) H locs) (hd : decode cc pc = .ok (.getfield 77, 3)) (kk : W p l e R s m args below meth c H locs cells slots Q (F0 m (pc + 3) ls (.ref (a 5) :: rest))) : W p l e R s m args below meth c H locs cells slots Q (F0 m pc ls (.ref (a 0) :: rest)) := va_getN C.1.1 C.1.2.1 C.1.2.2.2.2 i_Ring C.1.2.2.2.1 C.2.1 hX.1 1 rfl rfl 4 (by decide) (va_Nw.use rfl (C.2.2.2 hnb _ (List.mem_of_getElem? (i := 4) rfl))) (fun _ h => h) rfl hd kk
theorem pa_sa {v : RS} {i : Int32} {j : Nat} (C : Cx p m c s args cc nL R_Proc D (rT k) A nb) (hX : VX D A s.heap (pW h a k v) H locs) (hi : vp_in i 15) (hj : ix i = j) (hd : decode cc pc = .ok (.iaload, 1)) (kk : W p l e R s m args below meth c H locs cells slots Q (F0 m (pc + 1) ls (.int (rsa v j) :: rest))) : W p l e R s m args below meth c H locs cells slots Q (F0 m pc ls (.int i :: .ref (a 5) :: rest)) := by
  subst hj
  exact va_iald C.1.1 C.1.2.1 C.2.1 hX.1 6 4 rfl rfl hi hd kk
theorem pg_su {v : RS} (hnb : nb = true) (C : Cx p m c s args cc nL R_Proc D (rT k) A nb) (hX : VX D A s.heap (pW h a k v) H locs) (hd : decode cc pc = .ok (.getfield 39, 3)) (kk : W p l e R s m args below meth c H locs cells slots Q (F0 m (pc + 3) ls (.int (rsu v) :: rest))) : W p l e R s m args below meth c H locs cells slots Q (F0 m pc ls (.ref (a 0) :: rest)) := va_getN C.1.1 C.1.2.1 C.1.2.2.2.2 i_Ring C.1.2.2.2.1 C.2.1 hX.1 1 rfl rfl 12 (by decide) (va_Nw.use rfl (C.2.2.2 hnb _ (List.mem_of_getElem? (i := 5) rfl))) (fun _ h => h) rfl hd kk
theorem rr_r {v : RS} {y : MethodName} {b : ByteArray} {n j idx : Nat} {rt : FieldType} {rm : Room} {As st0 : List Value} {X : Int32} (C : Cx p m c s args cc nL R_Ring D (rT k) A nb) (hX : VX D A s.heap (rW a k v) H locs) (hM : MCi l y b n rt rm (.ref (a 0) :: As) D (rT k) false (rW a k) v (fun r u => u = v ∧ r = X)) (hI : MI R_Ring idx y R_Ring b n (some rt) j) (hR : (rm.cells = 0 ∧ rm.slots = 0) ∧ rm.frames + 1 ≤ R.frames ∧ 8 + (n + 11) + rm.locals ≤ R.locals) (hst : st0 = As.reverse ++ .ref (a 0) :: rest) (hAs : As.length = j) (hsz : ls.size = nL) (hroom : (rest.map fun v => v.category).sum ≤ 8) (hdg : decode cc pc = .ok (.invokevirtual idx, 3)) (hcs : cells ≤ R.cells ∧ slots ≤ R.slots) (kk : ∀ (H : Heap) (locs : List Loc), VX D A s.heap (rW a k (v)) H locs → W p l e R s m args below meth c H locs cells slots Q (F0 m (pc + 3) ls (.int X :: rest))) : W p l e R s m args below meth c H locs cells slots Q (F0 m pc ls st0) :=
  cl_i (wr := []) (q0 := 0) C hX hM hI hR [0, 1, 2, 3, 4, 5, 6, 7, 8] [] rfl rfl (by decide) (by decide) (by decide) [0, 1, 2, 3, 4, 5, 6, 7] rfl (fun h => by cases h) rfl (show classes[0]? = some (R_Ring, F_Ring, 13) from rfl) hst hAs hsz hroom hdg hcs (fun r u H1 L1 hw h => by obtain ⟨rfl, rfl⟩ := hw; exact kk H1 L1 h)
theorem rr_w {v : RS} {y : MethodName} {b : ByteArray} {n j idx : Nat} {rt : FieldType} {rm : Room} {As st0 : List Value} {F : Int32 × RS} (C : Cx p m c s args cc nL R_Ring D (rT k) A nb) (hX : VX D A s.heap (rW a k v) H locs) (hM : MCi l y b n rt rm (.ref (a 0) :: As) D (rT k) false (rW a k) v (fun r u => (r, u) = F)) (hI : MI R_Ring idx y R_Ring b n (some rt) j) (hR : (rm.cells = 0 ∧ rm.slots = 0) ∧ rm.frames + 1 ≤ R.frames ∧ 8 + (n + 11) + rm.locals ≤ R.locals) (hst : st0 = As.reverse ++ .ref (a 0) :: rest) (hAs : As.length = j) (hsz : ls.size = nL) (hroom : (rest.map fun v => v.category).sum ≤ 8) (hdg : decode cc pc = .ok (.invokevirtual idx, 3)) (hcs : cells ≤ R.cells ∧ slots ≤ R.slots) (kk : ∀ (H : Heap) (locs : List Loc), VX D A s.heap (rW a k (F.2)) H locs → W p l e R s m args below meth c H locs cells slots Q (F0 m (pc + 3) ls (.int F.1 :: rest))) : W p l e R s m args below meth c H locs cells slots Q (F0 m pc ls st0) :=
  cl_i (wr := []) (q0 := 0) C hX hM hI hR [0, 1, 2, 3, 4, 5, 6, 7, 8] [] rfl rfl (by decide) (by decide) (by decide) [0, 1, 2, 3, 4, 5, 6, 7] rfl (fun h => by cases h) rfl (show classes[0]? = some (R_Ring, F_Ring, 13) from rfl) hst hAs hsz hroom hdg hcs (fun r u H1 L1 hw h => by subst hw; exact kk H1 L1 h)
theorem rr_v {v : RS} {y : MethodName} {b : ByteArray} {n j idx : Nat}  {rm : Room} {As st0 : List Value} {F : RS} (C : Cx p m c s args cc nL R_Ring D (rT k) A nb) (hX : VX D A s.heap (rW a k v) H locs) (hM : MCv l y b n rm (.ref (a 0) :: As) D (rT k) false (rW a k) v (fun u => u = F)) (hI : MI R_Ring idx y R_Ring b n none j) (hR : (rm.cells = 0 ∧ rm.slots = 0) ∧ rm.frames + 1 ≤ R.frames ∧ 8 + (n + 11) + rm.locals ≤ R.locals) (hst : st0 = As.reverse ++ .ref (a 0) :: rest) (hAs : As.length = j) (hsz : ls.size = nL) (hroom : (rest.map fun v => v.category).sum ≤ 8) (hdg : decode cc pc = .ok (.invokevirtual idx, 3)) (hcs : cells ≤ R.cells ∧ slots ≤ R.slots) (kk : ∀ (H : Heap) (locs : List Loc), VX D A s.heap (rW a k (F)) H locs → W p l e R s m args below meth c H locs cells slots Q (F0 m (pc + 3) ls rest)) : W p l e R s m args below meth c H locs cells slots Q (F0 m pc ls st0) :=
  cl_v (wr := []) (q0 := 0) C hX hM hI hR [0, 1, 2, 3, 4, 5, 6, 7, 8] [] rfl rfl (by decide) (by decide) (by decide) [0, 1, 2, 3, 4, 5, 6, 7] rfl (fun h => by cases h) rfl (show classes[0]? = some (R_Ring, F_Ring, 13) from rfl) hst hAs hsz hroom hdg hcs (fun u H1 L1 hw h => by subst hw; exact kk H1 L1 h)
theorem pr_r {v : RS} {y : MethodName} {b : ByteArray} {n j idx : Nat} {rt : FieldType} {rm : Room} {As st0 : List Value} {X : Int32} (C : Cx p m c s args cc nL R_Proc D (rT k) A nb) (hX : VX D A s.heap (pW h a k v) H locs) (hM : MCi l y b n rt rm (.ref (a 0) :: As) D (rT k) false (rW a k) v (fun r u => u = v ∧ r = X)) (hI : MI R_Proc idx y R_Ring b n (some rt) j) (hR : (rm.cells = 0 ∧ rm.slots = 0) ∧ rm.frames + 1 ≤ R.frames ∧ 8 + (n + 11) + rm.locals ≤ R.locals) (hst : st0 = As.reverse ++ .ref (a 0) :: rest) (hAs : As.length = j) (hsz : ls.size = nL) (hroom : (rest.map fun v => v.category).sum ≤ 8) (hdg : decode cc pc = .ok (.invokevirtual idx, 3)) (hcs : cells ≤ R.cells ∧ slots ≤ R.slots) (kk : ∀ (H : Heap) (locs : List Loc), VX D A s.heap (pW h a k (v)) H locs → W p l e R s m args below meth c H locs cells slots Q (F0 m (pc + 3) ls (.int X :: rest))) : W p l e R s m args below meth c H locs cells slots Q (F0 m pc ls st0) :=
  cl_i (wr := [(h, .inr (1, [.ref (a 0)]))]) (q0 := 0) C hX hM hI hR [1, 2, 3, 4, 5, 6, 7, 8, 9] [0] rfl rfl (by decide) (by decide) (by decide) [0, 1, 2, 3, 4, 5, 6, 7] rfl (fun h => by cases h) rfl (show classes[0]? = some (R_Ring, F_Ring, 13) from rfl) hst hAs hsz hroom hdg hcs (fun r u H1 L1 hw h => by obtain ⟨rfl, rfl⟩ := hw; exact kk H1 L1 h)
theorem pr_w {v : RS} {y : MethodName} {b : ByteArray} {n j idx : Nat} {rt : FieldType} {rm : Room} {As st0 : List Value} {F : Int32 × RS} (C : Cx p m c s args cc nL R_Proc D (rT k) A nb) (hX : VX D A s.heap (pW h a k v) H locs) (hM : MCi l y b n rt rm (.ref (a 0) :: As) D (rT k) false (rW a k) v (fun r u => (r, u) = F)) (hI : MI R_Proc idx y R_Ring b n (some rt) j) (hR : (rm.cells = 0 ∧ rm.slots = 0) ∧ rm.frames + 1 ≤ R.frames ∧ 8 + (n + 11) + rm.locals ≤ R.locals) (hst : st0 = As.reverse ++ .ref (a 0) :: rest) (hAs : As.length = j) (hsz : ls.size = nL) (hroom : (rest.map fun v => v.category).sum ≤ 8) (hdg : decode cc pc = .ok (.invokevirtual idx, 3)) (hcs : cells ≤ R.cells ∧ slots ≤ R.slots) (kk : ∀ (H : Heap) (locs : List Loc), VX D A s.heap (pW h a k (F.2)) H locs → W p l e R s m args below meth c H locs cells slots Q (F0 m (pc + 3) ls (.int F.1 :: rest))) : W p l e R s m args below meth c H locs cells slots Q (F0 m pc ls st0) :=
  cl_i (wr := [(h, .inr (1, [.ref (a 0)]))]) (q0 := 0) C hX hM hI hR [1, 2, 3, 4, 5, 6, 7, 8, 9] [0] rfl rfl (by decide) (by decide) (by decide) [0, 1, 2, 3, 4, 5, 6, 7] rfl (fun h => by cases h) rfl (show classes[0]? = some (R_Ring, F_Ring, 13) from rfl) hst hAs hsz hroom hdg hcs (fun r u H1 L1 hw h => by subst hw; exact kk H1 L1 h)
theorem pr_v {v : RS} {y : MethodName} {b : ByteArray} {n j idx : Nat}  {rm : Room} {As st0 : List Value} {F : RS} (C : Cx p m c s args cc nL R_Proc D (rT k) A nb) (hX : VX D A s.heap (pW h a k v) H locs) (hM : MCv l y b n rm (.ref (a 0) :: As) D (rT k) false (rW a k) v (fun u => u = F)) (hI : MI R_Proc idx y R_Ring b n none j) (hR : (rm.cells = 0 ∧ rm.slots = 0) ∧ rm.frames + 1 ≤ R.frames ∧ 8 + (n + 11) + rm.locals ≤ R.locals) (hst : st0 = As.reverse ++ .ref (a 0) :: rest) (hAs : As.length = j) (hsz : ls.size = nL) (hroom : (rest.map fun v => v.category).sum ≤ 8) (hdg : decode cc pc = .ok (.invokevirtual idx, 3)) (hcs : cells ≤ R.cells ∧ slots ≤ R.slots) (kk : ∀ (H : Heap) (locs : List Loc), VX D A s.heap (pW h a k (F)) H locs → W p l e R s m args below meth c H locs cells slots Q (F0 m (pc + 3) ls rest)) : W p l e R s m args below meth c H locs cells slots Q (F0 m pc ls st0) :=
  cl_v (wr := [(h, .inr (1, [.ref (a 0)]))]) (q0 := 0) C hX hM hI hR [1, 2, 3, 4, 5, 6, 7, 8, 9] [0] rfl rfl (by decide) (by decide) (by decide) [0, 1, 2, 3, 4, 5, 6, 7] rfl (fun h => by cases h) rfl (show classes[0]? = some (R_Ring, F_Ring, 13) from rfl) hst hAs hsz hroom hdg hcs (fun u H1 L1 hw h => by subst hw; exact kk H1 L1 h)
theorem mm_r {v : MS} {y : MethodName} {b : ByteArray} {n j idx : Nat} {rt : FieldType} {rm : Room} {As st0 : List Value} {X : Int32} (C : Cx p m c s args cc nL R_Mod D (mT k) A nb) (hX : VX D A s.heap (mW a k v) H locs) (hM : MCi l y b n rt rm (.ref (a 0) :: As) D (mT k) false (mW a k) v (fun r u => u = v ∧ r = X)) (hI : MI R_Mod idx y R_Mod b n (some rt) j) (hR : (rm.cells = 0 ∧ rm.slots = 0) ∧ rm.frames + 1 ≤ R.frames ∧ 8 + (n + 11) + rm.locals ≤ R.locals) (hst : st0 = As.reverse ++ .ref (a 0) :: rest) (hAs : As.length = j) (hsz : ls.size = nL) (hroom : (rest.map fun v => v.category).sum ≤ 8) (hdg : decode cc pc = .ok (.invokevirtual idx, 3)) (hcs : cells ≤ R.cells ∧ slots ≤ R.slots) (kk : ∀ (H : Heap) (locs : List Loc), VX D A s.heap (mW a k (v)) H locs → W p l e R s m args below meth c H locs cells slots Q (F0 m (pc + 3) ls (.int X :: rest))) : W p l e R s m args below meth c H locs cells slots Q (F0 m pc ls st0) :=
  cl_i (wr := []) (q0 := 0) C hX hM hI hR [0, 1, 2, 3, 4, 5, 6, 7, 8, 9] [] rfl rfl (by decide) (by decide) (by decide) [0, 1, 2, 3, 4, 5, 6, 7, 8] rfl (fun h => by cases h) rfl (show classes[2]? = some (R_Mod, F_Mod, 16) from rfl) hst hAs hsz hroom hdg hcs (fun r u H1 L1 hw h => by obtain ⟨rfl, rfl⟩ := hw; exact kk H1 L1 h)
theorem mm_w {v : MS} {y : MethodName} {b : ByteArray} {n j idx : Nat} {rt : FieldType} {rm : Room} {As st0 : List Value} {F : Int32 × MS} (C : Cx p m c s args cc nL R_Mod D (mT k) A nb) (hX : VX D A s.heap (mW a k v) H locs) (hM : MCi l y b n rt rm (.ref (a 0) :: As) D (mT k) false (mW a k) v (fun r u => (r, u) = F)) (hI : MI R_Mod idx y R_Mod b n (some rt) j) (hR : (rm.cells = 0 ∧ rm.slots = 0) ∧ rm.frames + 1 ≤ R.frames ∧ 8 + (n + 11) + rm.locals ≤ R.locals) (hst : st0 = As.reverse ++ .ref (a 0) :: rest) (hAs : As.length = j) (hsz : ls.size = nL) (hroom : (rest.map fun v => v.category).sum ≤ 8) (hdg : decode cc pc = .ok (.invokevirtual idx, 3)) (hcs : cells ≤ R.cells ∧ slots ≤ R.slots) (kk : ∀ (H : Heap) (locs : List Loc), VX D A s.heap (mW a k (F.2)) H locs → W p l e R s m args below meth c H locs cells slots Q (F0 m (pc + 3) ls (.int F.1 :: rest))) : W p l e R s m args below meth c H locs cells slots Q (F0 m pc ls st0) :=
  cl_i (wr := []) (q0 := 0) C hX hM hI hR [0, 1, 2, 3, 4, 5, 6, 7, 8, 9] [] rfl rfl (by decide) (by decide) (by decide) [0, 1, 2, 3, 4, 5, 6, 7, 8] rfl (fun h => by cases h) rfl (show classes[2]? = some (R_Mod, F_Mod, 16) from rfl) hst hAs hsz hroom hdg hcs (fun r u H1 L1 hw h => by subst hw; exact kk H1 L1 h)
theorem mm_v {v : MS} {y : MethodName} {b : ByteArray} {n j idx : Nat}  {rm : Room} {As st0 : List Value} {F : MS} (C : Cx p m c s args cc nL R_Mod D (mT k) A nb) (hX : VX D A s.heap (mW a k v) H locs) (hM : MCv l y b n rm (.ref (a 0) :: As) D (mT k) false (mW a k) v (fun u => u = F)) (hI : MI R_Mod idx y R_Mod b n none j) (hR : (rm.cells = 0 ∧ rm.slots = 0) ∧ rm.frames + 1 ≤ R.frames ∧ 8 + (n + 11) + rm.locals ≤ R.locals) (hst : st0 = As.reverse ++ .ref (a 0) :: rest) (hAs : As.length = j) (hsz : ls.size = nL) (hroom : (rest.map fun v => v.category).sum ≤ 8) (hdg : decode cc pc = .ok (.invokevirtual idx, 3)) (hcs : cells ≤ R.cells ∧ slots ≤ R.slots) (kk : ∀ (H : Heap) (locs : List Loc), VX D A s.heap (mW a k (F)) H locs → W p l e R s m args below meth c H locs cells slots Q (F0 m (pc + 3) ls rest)) : W p l e R s m args below meth c H locs cells slots Q (F0 m pc ls st0) :=
  cl_v (wr := []) (q0 := 0) C hX hM hI hR [0, 1, 2, 3, 4, 5, 6, 7, 8, 9] [] rfl rfl (by decide) (by decide) (by decide) [0, 1, 2, 3, 4, 5, 6, 7, 8] rfl (fun h => by cases h) rfl (show classes[2]? = some (R_Mod, F_Mod, 16) from rfl) hst hAs hsz hroom hdg hcs (fun u H1 L1 hw h => by subst hw; exact kk H1 L1 h)
end ROWS
theorem mi_Ring_41 : MI R_Ring 41 y_Ring_clear R_Ring b_Ring_clear 2 none 0 := ⟨⟨k_ml_Ring_41, k_im_Ring_clear, k_se_Ring_clear, k_ini_Ring, k_co_Ring_clear⟩, by decide +kernel⟩
theorem mi_Law_21 : MI R_law 21 y_Proc_first R_Proc b_Proc_first 1 (some .boolean) 0 := ⟨⟨k_ml_Law_21, k_im_Proc_first, k_se_Proc_first, k_ini_Proc, k_co_Proc_first⟩, by decide +kernel⟩
theorem mi_Proc_18 : MI R_Proc 18 y_Ring_isEmpty R_Ring b_Ring_isEmpty 1 (some .boolean) 0 := ⟨⟨k_ml_Proc_18, k_im_Ring_isEmpty, k_se_Ring_isEmpty, k_ini_Ring, k_co_Ring_isEmpty⟩, by decide +kernel⟩
theorem mi_Proc_22 : MI R_Proc 22 y_Ring_first R_Ring b_Ring_first 1 none 0 := ⟨⟨k_ml_Proc_22, k_im_Ring_first, k_se_Ring_first, k_ini_Ring, k_co_Ring_first⟩, by decide +kernel⟩
theorem mi_Ring_53 : MI R_Ring 53 y_Ring_put R_Ring b_Ring_put 3 none 2 := ⟨⟨k_ml_Ring_53, k_im_Ring_put, k_se_Ring_put, k_ini_Ring, k_co_Ring_put⟩, by decide +kernel⟩
theorem mi_Law_26 : MI R_law 26 y_Proc_pick R_Proc b_Proc_pick 2 (some .int) 1 := ⟨⟨k_ml_Law_26, k_im_Proc_pick, k_se_Proc_pick, k_ini_Proc, k_co_Proc_pick⟩, by decide +kernel⟩
theorem mi_Proc_25 : MI R_Proc 25 y_Ring_pick R_Ring b_Ring_pick 4 (some .int) 1 := ⟨⟨k_ml_Proc_25, k_im_Ring_pick, k_se_Ring_pick, k_ini_Ring, k_co_Ring_pick⟩, by decide +kernel⟩
theorem mi_Ring_57 : MI R_Ring 57 y_Ring_take R_Ring b_Ring_take 3 none 2 := ⟨⟨k_ml_Ring_57, k_im_Ring_take, k_se_Ring_take, k_ini_Ring, k_co_Ring_take⟩, by decide +kernel⟩
theorem mi_Law_31 : MI R_law 31 y_Proc_fork R_Proc b_Proc_fork 2 (some .int) 1 := ⟨⟨k_ml_Law_31, k_im_Proc_fork, k_se_Proc_fork, k_ini_Proc, k_co_Proc_fork⟩, by decide +kernel⟩
theorem mi_Proc_29 : MI R_Proc 29 y_Ring_fork R_Ring b_Ring_fork 4 (some .int) 1 := ⟨⟨k_ml_Proc_29, k_im_Ring_fork, k_se_Ring_fork, k_ini_Ring, k_co_Ring_fork⟩, by decide +kernel⟩
theorem mi_Ring_60 : MI R_Ring 60 y_Ring_at R_Ring b_Ring_at 2 (some .int) 1 := ⟨⟨k_ml_Ring_60, k_im_Ring_at, k_se_Ring_at, k_ini_Ring, k_co_Ring_at⟩, by decide +kernel⟩
theorem mi_Law_35 : MI R_law 35 y_Proc_exit R_Proc b_Proc_exit 3 (some .int) 2 := ⟨⟨k_ml_Law_35, k_im_Proc_exit, k_se_Proc_exit, k_ini_Proc, k_co_Proc_exit⟩, by decide +kernel⟩
theorem mi_Proc_32 : MI R_Proc 32 y_Ring_exit R_Ring b_Ring_exit 6 (some .int) 2 := ⟨⟨k_ml_Proc_32, k_im_Ring_exit, k_se_Ring_exit, k_ini_Ring, k_co_Ring_exit⟩, by decide +kernel⟩
theorem mi_Ring_64 : MI R_Ring 64 y_Ring_leave R_Ring b_Ring_leave 4 (some .int) 2 := ⟨⟨k_ml_Ring_64, k_im_Ring_leave, k_se_Ring_leave, k_ini_Ring, k_co_Ring_leave⟩, by decide +kernel⟩
theorem mi_Ring_78 : MI R_Ring 78 y_Ring_wake2 R_Ring b_Ring_wake2 6 (some .int) 2 := ⟨⟨k_ml_Ring_78, k_im_Ring_wake2, k_se_Ring_wake2, k_ini_Ring, k_co_Ring_wake2⟩, by decide +kernel⟩
theorem mi_Law_40 : MI R_law 40 y_Proc_await R_Proc b_Proc_await 2 (some .int) 1 := ⟨⟨k_ml_Law_40, k_im_Proc_await, k_se_Proc_await, k_ini_Proc, k_co_Proc_await⟩, by decide +kernel⟩
theorem mi_Proc_36 : MI R_Proc 36 y_Ring_await R_Ring b_Ring_await 6 (some .int) 1 := ⟨⟨k_ml_Proc_36, k_im_Ring_await, k_se_Ring_await, k_ini_Ring, k_co_Ring_await⟩, by decide +kernel⟩
theorem mi_Ring_87 : MI R_Ring 87 y_Ring_reap R_Ring b_Ring_reap 2 (some .int) 1 := ⟨⟨k_ml_Ring_87, k_im_Ring_reap, k_se_Ring_reap, k_ini_Ring, k_co_Ring_reap⟩, by decide +kernel⟩
theorem mi_Ring_68 : MI R_Ring 68 y_Ring_waitFor R_Ring b_Ring_waitFor 5 (some .int) 3 := ⟨⟨k_ml_Ring_68, k_im_Ring_waitFor, k_se_Ring_waitFor, k_ini_Ring, k_co_Ring_waitFor⟩, by decide +kernel⟩
theorem mi_Law_44 : MI R_law 44 y_Proc_status R_Proc b_Proc_status 1 (some .int) 0 := ⟨⟨k_ml_Law_44, k_im_Proc_status, k_se_Proc_status, k_ini_Proc, k_co_Proc_status⟩, by decide +kernel⟩
theorem mi_Law_49 : MI R_law 49 y_Proc_block R_Proc b_Proc_block 3 (some .int) 2 := ⟨⟨k_ml_Law_49, k_im_Proc_block, k_se_Proc_block, k_ini_Proc, k_co_Proc_block⟩, by decide +kernel⟩
theorem mi_Proc_43 : MI R_Proc 43 y_Ring_block R_Ring b_Ring_block 3 (some .int) 2 := ⟨⟨k_ml_Proc_43, k_im_Ring_block, k_se_Ring_block, k_ini_Ring, k_co_Ring_block⟩, by decide +kernel⟩
theorem mi_Law_53 : MI R_law 53 y_Proc_sleep R_Proc b_Proc_sleep 3 (some .int) 2 := ⟨⟨k_ml_Law_53, k_im_Proc_sleep, k_se_Proc_sleep, k_ini_Proc, k_co_Proc_sleep⟩, by decide +kernel⟩
theorem mi_Proc_46 : MI R_Proc 46 y_Ring_sleep R_Ring b_Ring_sleep 3 (some .int) 2 := ⟨⟨k_ml_Proc_46, k_im_Ring_sleep, k_se_Ring_sleep, k_ini_Ring, k_co_Ring_sleep⟩, by decide +kernel⟩
theorem mi_Ring_72 : MI R_Ring 72 y_Ring_until R_Ring b_Ring_until 2 (some .int) 1 := ⟨⟨k_ml_Ring_72, k_im_Ring_until, k_se_Ring_until, k_ini_Ring, k_co_Ring_until⟩, by decide +kernel⟩
theorem mi_Law_57 : MI R_law 57 y_Proc_wake R_Proc b_Proc_wake 2 (some .int) 1 := ⟨⟨k_ml_Law_57, k_im_Proc_wake, k_se_Proc_wake, k_ini_Proc, k_co_Proc_wake⟩, by decide +kernel⟩
theorem mi_Proc_49 : MI R_Proc 49 y_Ring_wake1 R_Ring b_Ring_wake1 2 (some .int) 1 := ⟨⟨k_ml_Proc_49, k_im_Ring_wake1, k_se_Ring_wake1, k_ini_Ring, k_co_Ring_wake1⟩, by decide +kernel⟩
theorem mi_Law_61 : MI R_law 61 y_Proc_rest R_Proc b_Proc_rest 2 (some .int) 1 := ⟨⟨k_ml_Law_61, k_im_Proc_rest, k_se_Proc_rest, k_ini_Proc, k_co_Proc_rest⟩, by decide +kernel⟩
theorem mi_Proc_52 : MI R_Proc 52 y_Ring_rest R_Ring b_Ring_rest 2 (some .int) 1 := ⟨⟨k_ml_Proc_52, k_im_Ring_rest, k_se_Ring_rest, k_ini_Ring, k_co_Ring_rest⟩, by decide +kernel⟩
theorem mi_Law_65 : MI R_law 65 y_Proc_tick R_Proc b_Proc_tick 1 (some .int) 0 := ⟨⟨k_ml_Law_65, k_im_Proc_tick, k_se_Proc_tick, k_ini_Proc, k_co_Proc_tick⟩, by decide +kernel⟩
theorem mi_Proc_55 : MI R_Proc 55 y_Ring_tick R_Ring b_Ring_tick 2 (some .int) 0 := ⟨⟨k_ml_Proc_55, k_im_Ring_tick, k_se_Ring_tick, k_ini_Ring, k_co_Ring_tick⟩, by decide +kernel⟩
theorem mi_Ring_81 : MI R_Ring 81 y_Ring_rest R_Ring b_Ring_rest 2 (some .int) 1 := ⟨⟨k_ml_Ring_81, k_im_Ring_rest, k_se_Ring_rest, k_ini_Ring, k_co_Ring_rest⟩, by decide +kernel⟩
theorem mi_Law_69 : MI R_law 69 y_Proc_kill R_Proc b_Proc_kill 2 (some .boolean) 1 := ⟨⟨k_ml_Law_69, k_im_Proc_kill, k_se_Proc_kill, k_ini_Proc, k_co_Proc_kill⟩, by decide +kernel⟩
theorem mi_Proc_59 : MI R_Proc 59 y_Ring_kill R_Ring b_Ring_kill 3 (some .boolean) 1 := ⟨⟨k_ml_Proc_59, k_im_Ring_kill, k_se_Ring_kill, k_ini_Ring, k_co_Ring_kill⟩, by decide +kernel⟩
theorem mi_Law_74 : MI R_law 74 y_Proc_about R_Proc b_Proc_about 4 (some .int) 2 := ⟨⟨k_ml_Law_74, k_im_Proc_about, k_se_Proc_about, k_ini_Proc, k_co_Proc_about⟩, by decide +kernel⟩
theorem mi_Proc_80 : MI R_Proc 80 y_Ring_processorOf R_Ring b_Ring_processorOf 4 (some .int) 1 := ⟨⟨k_ml_Proc_80, k_im_Ring_processorOf, k_se_Ring_processorOf, k_ini_Ring, k_co_Ring_processorOf⟩, by decide +kernel⟩
theorem mi_Law_78 : MI R_law 78 y_Proc_count R_Proc b_Proc_count 2 (some .int) 1 := ⟨⟨k_ml_Law_78, k_im_Proc_count, k_se_Proc_count, k_ini_Proc, k_co_Proc_count⟩, by decide +kernel⟩
theorem mi_Proc_83 : MI R_Proc 83 y_Ring_count R_Ring b_Ring_count 4 (some .int) 1 := ⟨⟨k_ml_Proc_83, k_im_Ring_count, k_se_Ring_count, k_ini_Ring, k_co_Ring_count⟩, by decide +kernel⟩
theorem mi_Law_25 : MI R_law 25 y_Mod_first R_Mod b_Mod_first 2 (some .boolean) 0 := ⟨⟨k_ml_Law_25, k_im_Mod_first, k_se_Mod_first, k_ini_Mod, k_co_Mod_first⟩, by decide +kernel⟩
theorem mi_Mod_64 : MI R_Mod 64 y_Mod_add R_Mod b_Mod_add 3 (some .int) 2 := ⟨⟨k_ml_Mod_64, k_im_Mod_add, k_se_Mod_add, k_ini_Mod, k_co_Mod_add⟩, by decide +kernel⟩
theorem mi_Law_30 : MI R_law 30 y_Mod_pick R_Mod b_Mod_pick 5 (some .int) 1 := ⟨⟨k_ml_Law_30, k_im_Mod_pick, k_se_Mod_pick, k_ini_Mod, k_co_Mod_pick⟩, by decide +kernel⟩
theorem mi_Mod_68 : MI R_Mod 68 y_Mod_running R_Mod b_Mod_running 4 (some .int) 1 := ⟨⟨k_ml_Mod_68, k_im_Mod_running, k_se_Mod_running, k_ini_Mod, k_co_Mod_running⟩, by decide +kernel⟩
theorem mi_Mod_48 : MI R_Mod 48 y_Mod_ofPlace R_Mod b_Mod_ofPlace 4 (some .int) 1 := ⟨⟨k_ml_Mod_48, k_im_Mod_ofPlace, k_se_Mod_ofPlace, k_ini_Mod, k_co_Mod_ofPlace⟩, by decide +kernel⟩
theorem mi_Mod_71 : MI R_Mod 71 y_Mod_state R_Mod b_Mod_state 3 (some .int) 1 := ⟨⟨k_ml_Mod_71, k_im_Mod_state, k_se_Mod_state, k_ini_Mod, k_co_Mod_state⟩, by decide +kernel⟩
theorem mi_Mod_52 : MI R_Mod 52 y_Mod_endedChild R_Mod b_Mod_endedChild 4 (some .int) 1 := ⟨⟨k_ml_Mod_52, k_im_Mod_endedChild, k_se_Mod_endedChild, k_ini_Mod, k_co_Mod_endedChild⟩, by decide +kernel⟩
theorem mi_Law_34 : MI R_law 34 y_Mod_fork R_Mod b_Mod_fork 4 (some .int) 1 := ⟨⟨k_ml_Law_34, k_im_Mod_fork, k_se_Mod_fork, k_ini_Mod, k_co_Mod_fork⟩, by decide +kernel⟩
theorem mi_Mod_74 : MI R_Mod 74 y_Mod_vacant R_Mod b_Mod_vacant 2 (some .int) 0 := ⟨⟨k_ml_Mod_74, k_im_Mod_vacant, k_se_Mod_vacant, k_ini_Mod, k_co_Mod_vacant⟩, by decide +kernel⟩
theorem mi_Law_39 : MI R_law 39 y_Mod_exit R_Mod b_Mod_exit 6 (some .int) 2 := ⟨⟨k_ml_Law_39, k_im_Mod_exit, k_se_Mod_exit, k_ini_Mod, k_co_Mod_exit⟩, by decide +kernel⟩
theorem mi_Law_43 : MI R_law 43 y_Mod_await R_Mod b_Mod_await 6 (some .int) 1 := ⟨⟨k_ml_Law_43, k_im_Mod_await, k_se_Mod_await, k_ini_Mod, k_co_Mod_await⟩, by decide +kernel⟩
theorem mi_Mod_81 : MI R_Mod 81 y_Mod_waitsFor R_Mod b_Mod_waitsFor 4 (some .int) 3 := ⟨⟨k_ml_Mod_81, k_im_Mod_waitsFor, k_se_Mod_waitsFor, k_ini_Mod, k_co_Mod_waitsFor⟩, by decide +kernel⟩
theorem mi_Mod_85 : MI R_Mod 85 y_Mod_remove R_Mod b_Mod_remove 3 none 1 := ⟨⟨k_ml_Mod_85, k_im_Mod_remove, k_se_Mod_remove, k_ini_Mod, k_co_Mod_remove⟩, by decide +kernel⟩
theorem mi_Law_48 : MI R_law 48 y_Mod_status R_Mod b_Mod_status 1 (some .int) 0 := ⟨⟨k_ml_Law_48, k_im_Mod_status, k_se_Mod_status, k_ini_Mod, k_co_Mod_status⟩, by decide +kernel⟩
theorem mi_Law_52 : MI R_law 52 y_Mod_block R_Mod b_Mod_block 4 (some .int) 2 := ⟨⟨k_ml_Law_52, k_im_Mod_block, k_se_Mod_block, k_ini_Mod, k_co_Mod_block⟩, by decide +kernel⟩
theorem mi_Law_56 : MI R_law 56 y_Mod_sleep R_Mod b_Mod_sleep 4 (some .int) 2 := ⟨⟨k_ml_Law_56, k_im_Mod_sleep, k_se_Mod_sleep, k_ini_Mod, k_co_Mod_sleep⟩, by decide +kernel⟩
theorem mi_Law_60 : MI R_law 60 y_Mod_wake R_Mod b_Mod_wake 4 (some .int) 1 := ⟨⟨k_ml_Law_60, k_im_Mod_wake, k_se_Mod_wake, k_ini_Mod, k_co_Mod_wake⟩, by decide +kernel⟩
theorem mi_Law_64 : MI R_law 64 y_Mod_rest R_Mod b_Mod_rest 3 (some .int) 1 := ⟨⟨k_ml_Law_64, k_im_Mod_rest, k_se_Mod_rest, k_ini_Mod, k_co_Mod_rest⟩, by decide +kernel⟩
theorem mi_Law_68 : MI R_law 68 y_Mod_tick R_Mod b_Mod_tick 2 (some .int) 0 := ⟨⟨k_ml_Law_68, k_im_Mod_tick, k_se_Mod_tick, k_ini_Mod, k_co_Mod_tick⟩, by decide +kernel⟩
theorem mi_Law_73 : MI R_law 73 y_Mod_kill R_Mod b_Mod_kill 3 (some .boolean) 1 := ⟨⟨k_ml_Law_73, k_im_Mod_kill, k_se_Mod_kill, k_ini_Mod, k_co_Mod_kill⟩, by decide +kernel⟩
theorem mi_Mod_90 : MI R_Mod 90 y_Mod_ofNumber R_Mod b_Mod_ofNumber 4 (some .int) 1 := ⟨⟨k_ml_Mod_90, k_im_Mod_ofNumber, k_se_Mod_ofNumber, k_ini_Mod, k_co_Mod_ofNumber⟩, by decide +kernel⟩
theorem mi_Law_77 : MI R_law 77 y_Mod_about R_Mod b_Mod_about 4 (some .int) 2 := ⟨⟨k_ml_Law_77, k_im_Mod_about, k_se_Mod_about, k_ini_Mod, k_co_Mod_about⟩, by decide +kernel⟩
theorem mi_Law_81 : MI R_law 81 y_Mod_count R_Mod b_Mod_count 4 (some .int) 1 := ⟨⟨k_ml_Law_81, k_im_Mod_count, k_se_Mod_count, k_ini_Mod, k_co_Mod_count⟩, by decide +kernel⟩
end
section
/-! pure words: first, last, count, any; the ring's functions -/
def fst (C : Nat → Prop) [DecidablePred C] : Nat → Nat
  | 0 => 0
  | n + 1 => if fst C n < n then fst C n else if C n then n else n + 1
def lst (C : Nat → Prop) [DecidablePred C] : Nat → Int32
  | 0 => -1
  | n + 1 => if C n then nI n else lst C n
def cnt (C : Nat → Prop) [DecidablePred C] : Nat → Int32
  | 0 => 0
  | n + 1 => if C n then cnt C n + 1 else cnt C n
def any1 (C : Nat → Prop) [DecidablePred C] : Nat → Int32
  | 0 => 0
  | n + 1 => if C n then 1 else any1 C n
theorem fst_spec (C : Nat → Prop) [DecidablePred C] (n : Nat) : fst C n ≤ n ∧ (∀ j, j < fst C n → ¬ C j) ∧ (fst C n < n → C (fst C n)) := by
  induction n with
  | zero => exact ⟨Nat.le_refl _, fun j h => absurd h (Nat.not_lt_zero _), fun h => absurd h (Nat.lt_irrefl _)⟩
  | succ n ih =>
    obtain ⟨h1, h2, h3⟩ := ih
    by_cases hf : fst C n < n
    · simp only [fst, if_pos hf]
      exact ⟨by omega, h2, fun _ => h3 hf⟩
    · have e : fst C n = n := by omega
      by_cases hc : C n
      · simp only [fst, if_neg hf, if_pos hc]
        exact ⟨by omega, fun j hj => h2 j (by omega), fun _ => hc⟩
      · simp only [fst, if_neg hf, if_neg hc]
        refine ⟨Nat.le_refl _, fun j hj => ?_, fun h => absurd h (Nat.lt_irrefl _)⟩
        by_cases e2 : j = n
        · rw [e2]; exact hc
        · exact h2 j (by omega)
theorem fst_is {C : Nat → Prop} [DecidablePred C] {n i : Nat} (hi : i ≤ n) (h1 : ∀ j, j < i → ¬ C j) (h2 : i = n ∨ C i) : fst C n = i := by
  obtain ⟨a1, a2, a3⟩ := fst_spec C n
  rcases Nat.lt_trichotomy (fst C n) i with h | h | h
  · exact absurd (a3 (by omega)) (h1 _ h)
  · exact h
  · rcases h2 with h2 | h2
    · omega
    · exact absurd h2 (a2 i h)
theorem ge_N {N : Int32} {n i : Nat} (hN : N = nI n) (hi : i ≤ n) (hn : n < 2 ^ 31) (c : N ≤ nI i) : i = n := by
  subst hN
  rcases Nat.lt_or_ge i n with h | h
  · exact absurd c (nI_ge h hn)
  · omega
theorem lt_N {N : Int32} {n i : Nat} (hN : N = nI n) (hn : i < 2 ^ 31) (c : ¬ N ≤ nI i) : i < n := by
  subst hN
  rcases Nat.lt_or_ge i n with h | h
  · exact h
  · exact absurd (nI_le h hn) c
theorem upd_self (f : IA) (k : Nat) (x : Int32) : upd f k x k = x := by simp [upd]
theorem upd_ne {f : IA} {k j : Nat} {x : Int32} (h : j ≠ k) : upd f k x j = f j := by simp [upd, h]
/-! the ring -/
/-- a place, or none -/
def isPl (x : Int32) : Prop := x = -1 ∨ ∃ i, i < 15 ∧ x = nI i
def Rok (v : RS) : Prop := (∃ n, 1 ≤ n ∧ n ≤ 4 ∧ rpr v = nI n) ∧ (∀ j, j < 4 → isPl (ron v j)) ∧ ∃ i, i < 15 ∧ rla v = nI i
def rAt (v : RS) (q : Int32) : Int32 := if q < 0 then -1 else if rpr v ≤ q then -1 else ron v (ix q)
def rTake (v : RS) (q pl : Int32) : RS := zrla (zrst (zron v (upd (ron v) (ix q) pl)) (upd (rst v) (ix pl) 2)) pl
def rLeave (v : RS) (q s : Int32) : Int32 × RS := if rAt v q = -1 then (-1, v) else (rAt v q, zrst (zron v (upd (ron v) (ix q) (-1))) (upd (rst v) (ix (rAt v q)) s))
def rWaitFor (v : RS) (q kd wh : Int32) : Int32 × RS := if (rLeave v q 3).1 = -1 then (-1, (rLeave v q 3).2) else ((rLeave v q 3).1, zrwd (zrwa (rLeave v q 3).2 (upd (rwa (rLeave v q 3).2) (ix (rLeave v q 3).1) kd)) (upd (rwd (rLeave v q 3).2) (ix (rLeave v q 3).1) wh))
def rUntil (v : RS) (n : Int32) : Int32 := if rti v ≤ 2147483647 - n then rti v + n else 2147483647
def rSleep (v : RS) (q n : Int32) : Int32 × RS := if 1 ≤ n then rWaitFor v q 3 (rUntil v n) else (rAt v q, v)
def rPut (v : RS) (pl par : Int32) : RS := zrst (zrki (zrpa (zrnu (zrne v (rne v + 1)) (upd (rnu v) (ix pl) (rne v))) (upd (rpa v) (ix pl) par)) (upd (rki v) (ix pl) 0)) (upd (rst v) (ix pl) 1)
def rFirst (v : RS) : RS := rPut (zrla (zrti (zrne v 1) 0) 14) 0 0
def clS (v : RS) (i : Nat) : IA := fun j => if j < i then 0 else rst v j
def clO (v : RS) (i : Nat) : IA := fun j => if j < i then -1 else ron v j
def rClear (v : RS) : RS := zron (zrst v (clS v 15)) (clO v 4)
def rEmpty (v : RS) : Int32 := if rst v 0 = 0 then 1 else 0
/-- the place that pick looks at in its round i -/
def rPl (v : RS) (i : Nat) : Nat := (ix (rla v) + (i + 1)) % 15
def rPick (v : RS) (q : Int32) : Int32 × RS := if q < 0 then (-1, v) else if q < rpr v then (if ron v (ix q) = -1 then (if fst (fun j => rst v (rPl v j) = 1) 15 < 15 then (nI (rPl v (fst (fun j => rst v (rPl v j) = 1) 15)), rTake v q (nI (rPl v (fst (fun j => rst v (rPl v j) = 1) 15)))) else (-1, v)) else (ron v (ix q), v)) else (-1, v)
abbrev rIs (v : RS) (kd wh : Int32) (j : Nat) : Prop := rst v j = 3 ∧ rwa v j = kd ∧ ((kd = 3 ∧ ¬ wh < rwd v j) ∨ (¬ kd = 3 ∧ rwd v j = wh))
def wkS (v : RS) (kd wh : Int32) (i : Nat) : IA := fun j => if j < i ∧ rIs v kd wh j then 1 else rst v j
def rWake (v : RS) (kd wh : Int32) : Int32 × RS := (cnt (rIs v kd wh) 15, zrst v (wkS v kd wh 15))
def rTickL (v : RS) : Nat → RS
  | 0 => zrti v (rti v + 1)
  | n + 1 => (rLeave (rTickL v n) (nI n) 1).2
def rTick (v : RS) : Int32 × RS := (rti v + 1, (rWake (rTickL v (ix (rpr v))) 3 (rti v + 1)).2)
def rFork (v : RS) (q : Int32) : Int32 × RS := if rAt v q = -1 then (-1, v) else if fst (fun j => rst v j = 0) 15 = 15 then (-1, v) else (nI (fst (fun j => rst v j = 0) 15), rPut v (nI (fst (fun j => rst v j = 0) 15)) (rnu v (ix (rAt v q))))
abbrev rKid (v : RS) (n : Int32) (j : Nat) : Prop := ¬ rst v j = 0 ∧ rpa v j = n
def rpP (v : RS) (n : Int32) (i : Nat) : IA := fun j => if j < i ∧ rKid v n j then 1 else rpa v j
/-- a process' end, its place p not 0 (the ring as leave left it, its status written) -/
def rEnd (w : RS) (p : Nat) : RS := if any1 (fun j => rKid w (rnu w p) j ∧ rst w j = 4) 15 = 0 then (rWake (zrpa w (rpP w (rnu w p) 15)) 2 (rpP w (rnu w p) 15 p)).2 else (rWake (rWake (zrpa w (rpP w (rnu w p) 15)) 2 (rpP w (rnu w p) 15 p)).2 2 1).2
def rExit (v : RS) (q x : Int32) : Int32 × RS := if (rLeave v q 4).1 = -1 then (-1, (rLeave v q 4).2) else if (rLeave v q 4).1 = 0 then (0, rClear (zrsu (rLeave v q 4).2 x)) else ((rLeave v q 4).1, rEnd (zrsa (rLeave v q 4).2 (upd (rsa (rLeave v q 4).2) (ix (rLeave v q 4).1) x)) (ix (rLeave v q 4).1))
def rReap (v : RS) (k : Int32) : Int32 × RS := (rnu v (ix k), zrst (zrsu v (rsa v (ix k))) (upd (rst v) (ix k) 0))
def rAwait (v : RS) (q : Int32) : Int32 × RS := if rAt v q = -1 then (-1, v) else if fst (fun j => rKid v (rnu v (ix (rAt v q))) j ∧ rst v j = 4) 15 < 15 then rReap v (nI (fst (fun j => rKid v (rnu v (ix (rAt v q))) j ∧ rst v j = 4) 15)) else if any1 (rKid v (rnu v (ix (rAt v q)))) 15 = 0 then (-1, v) else (0, (rWaitFor v q 2 (rnu v (ix (rAt v q)))).2)
abbrev rLive (v : RS) (n : Int32) (j : Nat) : Prop := ¬ rst v j = 0 ∧ ¬ rst v j = 4 ∧ rnu v j = n
def rKillAt (v : RS) (i : Nat) : RS := zrst (zrki v (upd (rki v) i 1)) (upd (rst v) i (if rst v i = 3 then 1 else rst v i))
def rKill (v : RS) (n : Int32) : Int32 × RS := if fst (rLive v n) 15 < 15 then (1, rKillAt v (fst (rLive v n) 15)) else (0, v)
def rProcOf (v : RS) (pl : Int32) : Int32 := lst (fun j => ron v j = pl) (ix (rpr v))
abbrev rHas (v : RS) (s : Int32) (j : Nat) : Prop := (s = 0 ∧ ¬ rst v j = 0) ∨ (¬ s = 0 ∧ rst v j = s)
def rCount (v : RS) (s : Int32) : Int32 := cnt (rHas v s) 15
/-! the outer object -/
def pFirst (v : RS) : Int32 × RS := if rEmpty v = 0 then (0, v) else (1, rFirst v)
def pTick (v : RS) : Int32 × RS := if rEmpty v = 0 then rTick v else (-1, v)
def pCount (v : RS) (s : Int32) : Int32 := if s < 0 then -1 else if s ≤ 4 then rCount v s else -1
def pAboutIn (v : RS) (p w : Int32) : Int32 := if w = 1 then rst v (ix p) else if rst v (ix p) = 0 then -1 else if w = 0 then rnu v (ix p) else if w = 2 then rpa v (ix p) else if w = 3 then (if rki v (ix p) = 0 then 0 else 1) else if w = 4 then (if rst v (ix p) = 4 then rsa v (ix p) else 0) else rProcOf v p
def pAbout (v : RS) (p w : Int32) : Int32 := if p < 0 then -1 else if 15 ≤ p then -1 else if w < 0 then -1 else if w ≤ 5 then pAboutIn v p w else -1
end
section
/-! what keeps the ring's indices within -/
theorem pl_in {x : Int32} (h : isPl x) (c : ¬ x = -1) : vp_in x 15 := by
  rcases h with h | ⟨i, hi, rfl⟩
  · exact absurd h c
  · exact vp_in_nI hi (by decide)
theorem ix_lt {x : Int32} {n : Nat} (h : vp_in x n) : ix x < n := Nat.not_le.mp fun q => h (Or.inr q)
theorem rok_pr {v : RS} {q : Int32} (h : Rok v) (c1 : ¬ q < 0) (c2 : ¬ rpr v ≤ q) : vp_in q 4 := by
  obtain ⟨⟨n, -, hn, e⟩, -⟩ := h
  rw [e] at c2
  rcases pk_ix q (n := 4) (by decide) with h | h | ⟨j, hj, rfl⟩
  · exact absurd h c1
  · exact absurd (Int32.le_trans (nI_le hn (by decide)) h) c2
  · exact vp_in_nI hj (by decide)
theorem rok_at {v : RS} {q : Int32} (h : Rok v) : isPl (rAt v q) := by
  unfold rAt
  split
  · exact Or.inl rfl
  · split
    · exact Or.inl rfl
    · rename_i c1 c2
      exact h.2.1 _ (ix_lt (rok_pr h c1 c2))
theorem rok_atq {v : RS} {q : Int32} (h : Rok v) (c : ¬ rAt v q = -1) : vp_in q 4 := by
  unfold rAt at c
  split at c
  · exact absurd rfl c
  · split at c
    · exact absurd rfl c
    · rename_i c1 c2
      exact rok_pr h c1 c2
theorem rok_leave1 {v : RS} {q s : Int32} (h : Rok v) : isPl (rLeave v q s).1 := by
  unfold rLeave
  split
  · exact Or.inl rfl
  · exact rok_at h
theorem rok_leave {v : RS} {q s : Int32} (h : Rok v) : Rok (rLeave v q s).2 := by
  unfold rLeave
  split
  · exact h
  · rename_i c
    obtain ⟨h1, h2, h3⟩ := h
    refine ⟨h1, fun j hj => ?_, h3⟩
    by_cases e : j = ix q
    · subst e
      simp only [ron, zron, zrst, upd_self]
      exact Or.inl rfl
    · show isPl (upd (ron v) (ix q) (-1) j)
      rw [upd_ne e]
      exact h2 j hj
theorem rok_st {v : RS} {f : IA} (h : Rok v) : Rok (zrst v f) := h
theorem rok_wake {v : RS} {kd wh : Int32} (h : Rok v) : Rok (rWake v kd wh).2 := h
theorem rok_ti {v : RS} {x : Int32} (h : Rok v) : Rok (zrti v x) := h
theorem rok_tickL {v : RS} (h : Rok v) : ∀ n, Rok (rTickL v n)
  | 0 => rok_ti h
  | n + 1 => rok_leave (rok_tickL h n)
theorem rPl_lt (v : RS) (i : Nat) : rPl v i < 15 := Nat.mod_lt _ (by decide)
end
section
abbrev rm_Ring_isEmpty : Room := { frames := 0, cells := 0, slots := 0, locals := 0 }
set_option maxHeartbeats 4000000 in
set_option maxRecDepth 100000 in
theorem c_Ring_isEmpty (l : Launch) (D : va_G) (a k : Nat → Nat) (v : RS)  : MCi l y_Ring_isEmpty b_Ring_isEmpty 1 .boolean rm_Ring_isEmpty [.ref (a 0)] D (rT k) false (rW a k) v (fun r u => u = v ∧ r = (rEmpty v)) := by
  refine MCi.of R_Ring rfl (by decide +kernel) (Nat.le_of_ble_eq_true rfl) ?_
  intro p e s m args below meth c A Q ls H locs C hX hl hret
  have hx := C.1.1
  have hb := C.1.2.1
  have hl : lv_has ls 1 [(0, .ref (a 0))] := hl
  refine lv_aload_n hx hb d_Ring_isEmpty_0 rfl (lv_at hl 0 rfl) ?_
  refine rg_st C hX d_Ring_isEmpty_1 ?_
  refine lv_iconst (v := 0) hx hb d_Ring_isEmpty_4 (by decide) ?_
  refine ra_st C hX (by unfold vp_in; decide) rfl d_Ring_isEmpty_5 ?_
  refine lv_if_ne (tgt := 13) hx hb d_Ring_isEmpty_6 (by decide) (fun (c1 : ¬ (rst v 0) = 0) => ?_) (fun (c1 : (rst v 0) = 0) => ?_)
  · -- Ring_isEmpty 6 T
    refine lv_iconst (v := 0) hx hb d_Ring_isEmpty_13 (by decide) ?_
    exact hret H locs 0 v 14 ls rfl (⟨rfl, by simp only [rEmpty, if_neg c1]⟩) hX d_Ring_isEmpty_14
  · -- Ring_isEmpty 6 F
    refine lv_iconst (v := 1) hx hb d_Ring_isEmpty_9 (by decide) ?_
    refine lv_goto (tgt := 14) hx hb d_Ring_isEmpty_10 (by decide) ?_
    exact hret H locs 1 v 14 ls rfl (⟨rfl, by simp only [rEmpty, if_pos c1]⟩) hX d_Ring_isEmpty_14
abbrev rm_Ring_put : Room := { frames := 0, cells := 0, slots := 0, locals := 0 }
set_option maxHeartbeats 4000000 in
set_option maxRecDepth 100000 in
theorem c_Ring_put (l : Launch) (D : va_G) (a k : Nat → Nat) (v : RS) (pl : Int32) (par : Int32) (hp : vp_in pl 15) : MCv l y_Ring_put b_Ring_put 3 rm_Ring_put [.ref (a 0), .int pl, .int par] D (rT k) false (rW a k) v (fun u => u = (rPut v pl par)) := by
  refine MCv.of R_Ring rfl (by decide +kernel) (Nat.le_of_ble_eq_true rfl) ?_
  intro p e s m args below meth c A Q ls H locs C hX hl hret
  have hx := C.1.1
  have hb := C.1.2.1
  have hl : lv_has ls 3 [(0, .ref (a 0)), (1, .int pl), (2, .int par)] := hl
  refine lv_aload_n hx hb d_Ring_put_0 rfl (lv_at hl 0 rfl) ?_
  refine rg_nu C hX d_Ring_put_1 ?_
  refine lv_iload_n hx hb d_Ring_put_4 rfl (lv_at hl 1 rfl) ?_
  refine lv_aload_n hx hb d_Ring_put_5 rfl (lv_at hl 0 rfl) ?_
  refine lv_dup hx hb d_Ring_put_6 rfl ?_
  refine rg_ne C hX d_Ring_put_7 ?_
  refine lv_dup_x1 hx hb d_Ring_put_10 rfl rfl ?_
  refine lv_iconst (v := 1) hx hb d_Ring_put_11 (by decide) ?_
  refine lv_iadd hx hb d_Ring_put_12 ?_
  refine rp_ne C hX d_Ring_put_13 (fun H locs (hX : VX D A s.heap (rW a k (zrne v ((rne v) + 1))) H locs) => ?_)
  refine rs_nu C hX hp rfl d_Ring_put_16 (fun H locs (hX : VX D A s.heap (rW a k (zrnu (zrne v ((rne v) + 1)) (upd (rnu v) (ix pl) (rne v)))) H locs) => ?_)
  refine lv_aload_n hx hb d_Ring_put_17 rfl (lv_at hl 0 rfl) ?_
  refine rg_pa C hX d_Ring_put_18 ?_
  refine lv_iload_n hx hb d_Ring_put_21 rfl (lv_at hl 1 rfl) ?_
  refine lv_iload_n hx hb d_Ring_put_22 rfl (lv_at hl 2 rfl) ?_
  refine rs_pa C hX hp rfl d_Ring_put_23 (fun H locs (hX : VX D A s.heap (rW a k (zrpa (zrnu (zrne v ((rne v) + 1)) (upd (rnu v) (ix pl) (rne v))) (upd (rpa v) (ix pl) par))) H locs) => ?_)
  refine lv_aload_n hx hb d_Ring_put_24 rfl (lv_at hl 0 rfl) ?_
  refine rg_ki C hX d_Ring_put_25 ?_
  refine lv_iload_n hx hb d_Ring_put_28 rfl (lv_at hl 1 rfl) ?_
  refine lv_iconst (v := 0) hx hb d_Ring_put_29 (by decide) ?_
  refine rs_ki C hX hp rfl rfl d_Ring_put_30 (fun H locs (hX : VX D A s.heap (rW a k (zrki (zrpa (zrnu (zrne v ((rne v) + 1)) (upd (rnu v) (ix pl) (rne v))) (upd (rpa v) (ix pl) par)) (upd (rki v) (ix pl) 0))) H locs) => ?_)
  refine lv_aload_n hx hb d_Ring_put_31 rfl (lv_at hl 0 rfl) ?_
  refine rg_st C hX d_Ring_put_32 ?_
  refine lv_iload_n hx hb d_Ring_put_35 rfl (lv_at hl 1 rfl) ?_
  refine lv_iconst (v := 1) hx hb d_Ring_put_36 (by decide) ?_
  refine rs_st C hX hp rfl d_Ring_put_37 (fun H locs (hX : VX D A s.heap (rW a k (zrst (zrki (zrpa (zrnu (zrne v ((rne v) + 1)) (upd (rnu v) (ix pl) (rne v))) (upd (rpa v) (ix pl) par)) (upd (rki v) (ix pl) 0)) (upd (rst v) (ix pl) 1))) H locs) => ?_)
  exact hret H locs (zrst (zrki (zrpa (zrnu (zrne v ((rne v) + 1)) (upd (rnu v) (ix pl) (rne v))) (upd (rpa v) (ix pl) par)) (upd (rki v) (ix pl) 0)) (upd (rst v) (ix pl) 1)) 38 ls (by simp only [rPut]) hX d_Ring_put_38
abbrev rm_Ring_take : Room := { frames := 0, cells := 0, slots := 0, locals := 0 }
set_option maxHeartbeats 4000000 in
set_option maxRecDepth 100000 in
theorem c_Ring_take (l : Launch) (D : va_G) (a k : Nat → Nat) (v : RS) (q : Int32) (pl : Int32) (hq : vp_in q 4) (hp : vp_in pl 15) : MCv l y_Ring_take b_Ring_take 3 rm_Ring_take [.ref (a 0), .int q, .int pl] D (rT k) false (rW a k) v (fun u => u = (rTake v q pl)) := by
  refine MCv.of R_Ring rfl (by decide +kernel) (Nat.le_of_ble_eq_true rfl) ?_
  intro p e s m args below meth c A Q ls H locs C hX hl hret
  have hx := C.1.1
  have hb := C.1.2.1
  have hl : lv_has ls 3 [(0, .ref (a 0)), (1, .int q), (2, .int pl)] := hl
  refine lv_aload_n hx hb d_Ring_take_0 rfl (lv_at hl 0 rfl) ?_
  refine rg_on C hX d_Ring_take_1 ?_
  refine lv_iload_n hx hb d_Ring_take_4 rfl (lv_at hl 1 rfl) ?_
  refine lv_iload_n hx hb d_Ring_take_5 rfl (lv_at hl 2 rfl) ?_
  refine rs_on C hX hq rfl d_Ring_take_6 (fun H locs (hX : VX D A s.heap (rW a k (zron v (upd (ron v) (ix q) pl))) H locs) => ?_)
  refine lv_aload_n hx hb d_Ring_take_7 rfl (lv_at hl 0 rfl) ?_
  refine rg_st C hX d_Ring_take_8 ?_
  refine lv_iload_n hx hb d_Ring_take_11 rfl (lv_at hl 2 rfl) ?_
  refine lv_iconst (v := 2) hx hb d_Ring_take_12 (by decide) ?_
  refine rs_st C hX hp rfl d_Ring_take_13 (fun H locs (hX : VX D A s.heap (rW a k (zrst (zron v (upd (ron v) (ix q) pl)) (upd (rst v) (ix pl) 2))) H locs) => ?_)
  refine lv_aload_n hx hb d_Ring_take_14 rfl (lv_at hl 0 rfl) ?_
  refine lv_iload_n hx hb d_Ring_take_15 rfl (lv_at hl 2 rfl) ?_
  refine rp_la C hX d_Ring_take_16 (fun H locs (hX : VX D A s.heap (rW a k (zrla (zrst (zron v (upd (ron v) (ix q) pl)) (upd (rst v) (ix pl) 2)) pl)) H locs) => ?_)
  exact hret H locs (zrla (zrst (zron v (upd (ron v) (ix q) pl)) (upd (rst v) (ix pl) 2)) pl) 19 ls (by simp only [rTake]) hX d_Ring_take_19
abbrev rm_Ring_first : Room := { frames := 1, cells := 0, slots := 0, locals := 22 }
set_option maxHeartbeats 4000000 in
set_option maxRecDepth 100000 in
theorem c_Ring_first (l : Launch) (D : va_G) (a k : Nat → Nat) (v : RS)  : MCv l y_Ring_first b_Ring_first 1 rm_Ring_first [.ref (a 0)] D (rT k) false (rW a k) v (fun u => u = (rFirst v)) := by
  refine MCv.of R_Ring rfl (by decide +kernel) (Nat.le_of_ble_eq_true rfl) ?_
  intro p e s m args below meth c A Q ls H locs C hX hl hret
  have hx := C.1.1
  have hb := C.1.2.1
  have hl : lv_has ls 1 [(0, .ref (a 0))] := hl
  refine lv_aload_n hx hb d_Ring_first_0 rfl (lv_at hl 0 rfl) ?_
  refine lv_iconst (v := 1) hx hb d_Ring_first_1 (by decide) ?_
  refine rp_ne C hX d_Ring_first_2 (fun H locs (hX : VX D A s.heap (rW a k (zrne v 1)) H locs) => ?_)
  refine lv_aload_n hx hb d_Ring_first_5 rfl (lv_at hl 0 rfl) ?_
  refine lv_iconst (v := 0) hx hb d_Ring_first_6 (by decide) ?_
  refine rp_ti C hX d_Ring_first_7 (fun H locs (hX : VX D A s.heap (rW a k (zrti (zrne v 1) 0)) H locs) => ?_)
  refine lv_aload_n hx hb d_Ring_first_10 rfl (lv_at hl 0 rfl) ?_
  refine lv_bipush (v := 14) hx hb d_Ring_first_11 (by decide) ?_
  refine rp_la C hX d_Ring_first_13 (fun H locs (hX : VX D A s.heap (rW a k (zrla (zrti (zrne v 1) 0) 14)) H locs) => ?_)
  refine lv_aload_n hx hb d_Ring_first_16 rfl (lv_at hl 0 rfl) ?_
  refine lv_iconst (v := 0) hx hb d_Ring_first_17 (by decide) ?_
  refine lv_iconst (v := 0) hx hb d_Ring_first_18 (by decide) ?_
  refine rr_v C hX (c_Ring_put l D a k (zrla (zrti (zrne v 1) 0) 14) 0 0 (by unfold vp_in; decide)) mi_Ring_53 ⟨⟨rfl, rfl⟩, Nat.le_of_ble_eq_true rfl, Nat.le_of_ble_eq_true rfl⟩ rfl rfl hl.1 (Nat.le_of_ble_eq_true rfl) d_Ring_first_19 ⟨Nat.zero_le _, Nat.zero_le _⟩ (fun H locs (hX : VX D A s.heap (rW a k (rPut (zrla (zrti (zrne v 1) 0) 14) 0 0)) H locs) => ?_)
  exact hret H locs (rPut (zrla (zrti (zrne v 1) 0) 14) 0 0) 22 ls (by simp only [rFirst]) hX d_Ring_first_22
abbrev rm_Ring_at : Room := { frames := 0, cells := 0, slots := 0, locals := 0 }
set_option maxHeartbeats 4000000 in
set_option maxRecDepth 100000 in
theorem c_Ring_at (l : Launch) (D : va_G) (a k : Nat → Nat) (v : RS) (q : Int32) (hg : Rok v) : MCi l y_Ring_at b_Ring_at 2 .int rm_Ring_at [.ref (a 0), .int q] D (rT k) false (rW a k) v (fun r u => u = v ∧ r = (rAt v q)) := by
  refine MCi.of R_Ring rfl (by decide +kernel) (Nat.le_of_ble_eq_true rfl) ?_
  intro p e s m args below meth c A Q ls H locs C hX hl hret
  have hx := C.1.1
  have hb := C.1.2.1
  have hl : lv_has ls 2 [(0, .ref (a 0)), (1, .int q)] := hl
  refine lv_iload_n hx hb d_Ring_at_0 rfl (lv_at hl 1 rfl) ?_
  refine lv_if_lt (tgt := 21) hx hb d_Ring_at_1 (by decide) (fun (c1 : q < 0) => ?_) (fun (c1 : ¬ q < 0) => ?_)
  · -- Ring_at 1 T
    refine lv_iconst (v := (-1)) hx hb d_Ring_at_21 (by decide) ?_
    exact hret H locs (-1) v 22 ls (vp_nar_int _) (⟨rfl, by simp only [rAt, if_pos c1]⟩) hX d_Ring_at_22
  · -- Ring_at 1 F
    refine lv_iload_n hx hb d_Ring_at_4 rfl (lv_at hl 1 rfl) ?_
    refine lv_aload_n hx hb d_Ring_at_5 rfl (lv_at hl 0 rfl) ?_
    refine rg_pr C hX d_Ring_at_6 ?_
    refine lv_icmp_ge (tgt := 21) hx hb d_Ring_at_9 (by decide) (fun (c2 : (rpr v) ≤ q) => ?_) (fun (c2 : ¬ (rpr v) ≤ q) => ?_)
    · -- Ring_at 9 T
      refine lv_iconst (v := (-1)) hx hb d_Ring_at_21 (by decide) ?_
      exact hret H locs (-1) v 22 ls (vp_nar_int _) (⟨rfl, by simp only [rAt, if_neg c1, if_pos c2]⟩) hX d_Ring_at_22
    · -- Ring_at 9 F
      refine lv_aload_n hx hb d_Ring_at_12 rfl (lv_at hl 0 rfl) ?_
      refine rg_on C hX d_Ring_at_13 ?_
      refine lv_iload_n hx hb d_Ring_at_16 rfl (lv_at hl 1 rfl) ?_
      refine ra_on C hX (rok_pr hg c1 c2) rfl d_Ring_at_17 ?_
      refine lv_goto (tgt := 22) hx hb d_Ring_at_18 (by decide) ?_
      exact hret H locs (ron v (ix q)) v 22 ls (vp_nar_int _) (⟨rfl, by simp only [rAt, if_neg c1, if_neg c2]⟩) hX d_Ring_at_22
abbrev rm_Ring_reap : Room := { frames := 0, cells := 0, slots := 0, locals := 0 }
set_option maxHeartbeats 4000000 in
set_option maxRecDepth 100000 in
theorem c_Ring_reap (l : Launch) (D : va_G) (a k : Nat → Nat) (v : RS) (j : Int32) (hp : vp_in j 15) : MCi l y_Ring_reap b_Ring_reap 2 .int rm_Ring_reap [.ref (a 0), .int j] D (rT k) false (rW a k) v (fun r u => (r, u) = (rReap v j)) := by
  refine MCi.of R_Ring rfl (by decide +kernel) (Nat.le_of_ble_eq_true rfl) ?_
  intro p e s m args below meth c A Q ls H locs C hX hl hret
  have hx := C.1.1
  have hb := C.1.2.1
  have hl : lv_has ls 2 [(0, .ref (a 0)), (1, .int j)] := hl
  refine lv_aload_n hx hb d_Ring_reap_0 rfl (lv_at hl 0 rfl) ?_
  refine lv_aload_n hx hb d_Ring_reap_1 rfl (lv_at hl 0 rfl) ?_
  refine rg_sa C hX d_Ring_reap_2 ?_
  refine lv_iload_n hx hb d_Ring_reap_5 rfl (lv_at hl 1 rfl) ?_
  refine ra_sa C hX hp rfl d_Ring_reap_6 ?_
  refine rp_su C hX d_Ring_reap_7 (fun H locs (hX : VX D A s.heap (rW a k (zrsu v (rsa v (ix j)))) H locs) => ?_)
  refine lv_aload_n hx hb d_Ring_reap_10 rfl (lv_at hl 0 rfl) ?_
  refine rg_st C hX d_Ring_reap_11 ?_
  refine lv_iload_n hx hb d_Ring_reap_14 rfl (lv_at hl 1 rfl) ?_
  refine lv_iconst (v := 0) hx hb d_Ring_reap_15 (by decide) ?_
  refine rs_st C hX hp rfl d_Ring_reap_16 (fun H locs (hX : VX D A s.heap (rW a k (zrst (zrsu v (rsa v (ix j))) (upd (rst v) (ix j) 0))) H locs) => ?_)
  refine lv_aload_n hx hb d_Ring_reap_17 rfl (lv_at hl 0 rfl) ?_
  refine rg_nu C hX d_Ring_reap_18 ?_
  refine lv_iload_n hx hb d_Ring_reap_21 rfl (lv_at hl 1 rfl) ?_
  refine ra_nu C hX hp rfl d_Ring_reap_22 ?_
  exact hret H locs (rnu v (ix j)) (zrst (zrsu v (rsa v (ix j))) (upd (rst v) (ix j) 0)) 23 ls (vp_nar_int _) (by simp only [rReap]) hX d_Ring_reap_23
abbrev rm_Ring_leave : Room := { frames := 1, cells := 0, slots := 0, locals := 21 }
set_option maxHeartbeats 4000000 in
set_option maxRecDepth 100000 in
theorem c_Ring_leave (l : Launch) (D : va_G) (a k : Nat → Nat) (v : RS) (q : Int32) (x : Int32) (hg : Rok v) : MCi l y_Ring_leave b_Ring_leave 4 .int rm_Ring_leave [.ref (a 0), .int q, .int x] D (rT k) false (rW a k) v (fun r u => (r, u) = (rLeave v q x)) := by
  refine MCi.of R_Ring rfl (by decide +kernel) (Nat.le_of_ble_eq_true rfl) ?_
  intro p e s m args below meth c A Q ls H locs C hX hl hret
  have hx := C.1.1
  have hb := C.1.2.1
  have hl : lv_has ls 4 [(0, .ref (a 0)), (1, .int q), (2, .int x)] := hl
  refine lv_aload_n hx hb d_Ring_leave_0 rfl (lv_at hl 0 rfl) ?_
  refine lv_iload_n hx hb d_Ring_leave_1 rfl (lv_at hl 1 rfl) ?_
  refine rr_r C hX (c_Ring_at l D a k v q hg) mi_Ring_60 ⟨⟨rfl, rfl⟩, Nat.le_of_ble_eq_true rfl, Nat.le_of_ble_eq_true rfl⟩ rfl rfl hl.1 (Nat.le_of_ble_eq_true rfl) d_Ring_leave_2 ⟨Nat.zero_le _, Nat.zero_le _⟩ (fun H locs (hX : VX D A s.heap (rW a k v) H locs) => ?_)
  refine lv_istore_n (lv' := [(3, .int (rAt v q)), (0, .ref (a 0)), (1, .int q), (2, .int x)]) hx hb d_Ring_leave_5 rfl hl (by decide) rfl (fun ls hl => ?_)
  refine lv_iload_n hx hb d_Ring_leave_6 rfl (lv_at hl 0 rfl) ?_
  refine lv_iconst (v := (-1)) hx hb d_Ring_leave_7 (by decide) ?_
  refine lv_icmp_ne (tgt := 13) hx hb d_Ring_leave_8 (by decide) (fun (c1 : ¬ (rAt v q) = (-1)) => ?_) (fun (c1 : (rAt v q) = (-1)) => ?_)
  · -- Ring_leave 8 T
    refine lv_aload_n hx hb d_Ring_leave_13 rfl (lv_at hl 1 rfl) ?_
    refine rg_on C hX d_Ring_leave_14 ?_
    refine lv_iload_n hx hb d_Ring_leave_17 rfl (lv_at hl 2 rfl) ?_
    refine lv_iconst (v := (-1)) hx hb d_Ring_leave_18 (by decide) ?_
    refine rs_on C hX (rok_atq hg c1) rfl d_Ring_leave_19 (fun H locs (hX : VX D A s.heap (rW a k (zron v (upd (ron v) (ix q) (-1)))) H locs) => ?_)
    refine lv_aload_n hx hb d_Ring_leave_20 rfl (lv_at hl 1 rfl) ?_
    refine rg_st C hX d_Ring_leave_21 ?_
    refine lv_iload_n hx hb d_Ring_leave_24 rfl (lv_at hl 0 rfl) ?_
    refine lv_iload_n hx hb d_Ring_leave_25 rfl (lv_at hl 3 rfl) ?_
    refine rs_st C hX (pl_in (rok_at hg) c1) rfl d_Ring_leave_26 (fun H locs (hX : VX D A s.heap (rW a k (zrst (zron v (upd (ron v) (ix q) (-1))) (upd (rst v) (ix (rAt v q)) x))) H locs) => ?_)
    refine lv_iload_n hx hb d_Ring_leave_27 rfl (lv_at hl 0 rfl) ?_
    exact hret H locs (rAt v q) (zrst (zron v (upd (ron v) (ix q) (-1))) (upd (rst v) (ix (rAt v q)) x)) 28 ls (vp_nar_int _) (by simp only [rLeave, if_neg c1]) hX d_Ring_leave_28
  · -- Ring_leave 8 F
    refine lv_iconst (v := (-1)) hx hb d_Ring_leave_11 (by decide) ?_
    exact hret H locs (-1) v 12 ls (vp_nar_int _) (by simp only [rLeave, if_pos c1]) hX d_Ring_leave_12
abbrev rm_Ring_waitFor : Room := { frames := 2, cells := 0, slots := 0, locals := 44 }
set_option maxHeartbeats 4000000 in
set_option maxRecDepth 100000 in
theorem c_Ring_waitFor (l : Launch) (D : va_G) (a k : Nat → Nat) (v : RS) (q : Int32) (kd : Int32) (wh : Int32) (hg : Rok v) : MCi l y_Ring_waitFor b_Ring_waitFor 5 .int rm_Ring_waitFor [.ref (a 0), .int q, .int kd, .int wh] D (rT k) false (rW a k) v (fun r u => (r, u) = (rWaitFor v q kd wh)) := by
  refine MCi.of R_Ring rfl (by decide +kernel) (Nat.le_of_ble_eq_true rfl) ?_
  intro p e s m args below meth c A Q ls H locs C hX hl hret
  have hx := C.1.1
  have hb := C.1.2.1
  have hl : lv_has ls 5 [(0, .ref (a 0)), (1, .int q), (2, .int kd), (3, .int wh)] := hl
  refine lv_aload_n hx hb d_Ring_waitFor_0 rfl (lv_at hl 0 rfl) ?_
  refine lv_iload_n hx hb d_Ring_waitFor_1 rfl (lv_at hl 1 rfl) ?_
  refine lv_iconst (v := 3) hx hb d_Ring_waitFor_2 (by decide) ?_
  refine rr_w C hX (c_Ring_leave l D a k v q 3 hg) mi_Ring_64 ⟨⟨rfl, rfl⟩, Nat.le_of_ble_eq_true rfl, Nat.le_of_ble_eq_true rfl⟩ rfl rfl hl.1 (Nat.le_of_ble_eq_true rfl) d_Ring_waitFor_3 ⟨Nat.zero_le _, Nat.zero_le _⟩ (fun H locs (hX : VX D A s.heap (rW a k (rLeave v q 3).2) H locs) => ?_)
  refine lv_istore (lv' := [(4, .int (rLeave v q 3).1), (0, .ref (a 0)), (1, .int q), (2, .int kd), (3, .int wh)]) hx hb d_Ring_waitFor_6 hl (by decide) rfl (fun ls hl => ?_)
  refine lv_iload hx hb d_Ring_waitFor_8 (lv_at hl 0 rfl) ?_
  refine lv_iconst (v := (-1)) hx hb d_Ring_waitFor_10 (by decide) ?_
  refine lv_icmp_ne (tgt := 16) hx hb d_Ring_waitFor_11 (by decide) (fun (c1 : ¬ (rLeave v q 3).1 = (-1)) => ?_) (fun (c1 : (rLeave v q 3).1 = (-1)) => ?_)
  · -- Ring_waitFor 11 T
    refine lv_aload_n hx hb d_Ring_waitFor_16 rfl (lv_at hl 1 rfl) ?_
    refine rg_wa C hX d_Ring_waitFor_17 ?_
    refine lv_iload hx hb d_Ring_waitFor_20 (lv_at hl 0 rfl) ?_
    refine lv_iload_n hx hb d_Ring_waitFor_22 rfl (lv_at hl 3 rfl) ?_
    refine rs_wa C hX (pl_in (rok_leave1 hg) c1) rfl d_Ring_waitFor_23 (fun H locs (hX : VX D A s.heap (rW a k (zrwa (rLeave v q 3).2 (upd (rwa (rLeave v q 3).2) (ix (rLeave v q 3).1) kd))) H locs) => ?_)
    refine lv_aload_n hx hb d_Ring_waitFor_24 rfl (lv_at hl 1 rfl) ?_
    refine rg_wd C hX d_Ring_waitFor_25 ?_
    refine lv_iload hx hb d_Ring_waitFor_28 (lv_at hl 0 rfl) ?_
    refine lv_iload_n hx hb d_Ring_waitFor_30 rfl (lv_at hl 4 rfl) ?_
    refine rs_wd C hX (pl_in (rok_leave1 hg) c1) rfl d_Ring_waitFor_31 (fun H locs (hX : VX D A s.heap (rW a k (zrwd (zrwa (rLeave v q 3).2 (upd (rwa (rLeave v q 3).2) (ix (rLeave v q 3).1) kd)) (upd (rwd (rLeave v q 3).2) (ix (rLeave v q 3).1) wh))) H locs) => ?_)
    refine lv_iload hx hb d_Ring_waitFor_32 (lv_at hl 0 rfl) ?_
    exact hret H locs (rLeave v q 3).1 (zrwd (zrwa (rLeave v q 3).2 (upd (rwa (rLeave v q 3).2) (ix (rLeave v q 3).1) kd)) (upd (rwd (rLeave v q 3).2) (ix (rLeave v q 3).1) wh)) 34 ls (vp_nar_int _) (by simp only [rWaitFor, if_neg c1]) hX d_Ring_waitFor_34
  · -- Ring_waitFor 11 F
    refine lv_iconst (v := (-1)) hx hb d_Ring_waitFor_14 (by decide) ?_
    exact hret H locs (-1) (rLeave v q 3).2 15 ls (vp_nar_int _) (by simp only [rWaitFor, if_pos c1]) hX d_Ring_waitFor_15
abbrev rm_Ring_block : Room := { frames := 3, cells := 0, slots := 0, locals := 68 }
set_option maxHeartbeats 4000000 in
set_option maxRecDepth 100000 in
theorem c_Ring_block (l : Launch) (D : va_G) (a k : Nat → Nat) (v : RS) (q : Int32) (ch : Int32) (hg : Rok v) : MCi l y_Ring_block b_Ring_block 3 .int rm_Ring_block [.ref (a 0), .int q, .int ch] D (rT k) false (rW a k) v (fun r u => (r, u) = (rWaitFor v q 1 ch)) := by
  refine MCi.of R_Ring rfl (by decide +kernel) (Nat.le_of_ble_eq_true rfl) ?_
  intro p e s m args below meth c A Q ls H locs C hX hl hret
  have hx := C.1.1
  have hb := C.1.2.1
  have hl : lv_has ls 3 [(0, .ref (a 0)), (1, .int q), (2, .int ch)] := hl
  refine lv_aload_n hx hb d_Ring_block_0 rfl (lv_at hl 0 rfl) ?_
  refine lv_iload_n hx hb d_Ring_block_1 rfl (lv_at hl 1 rfl) ?_
  refine lv_iconst (v := 1) hx hb d_Ring_block_2 (by decide) ?_
  refine lv_iload_n hx hb d_Ring_block_3 rfl (lv_at hl 2 rfl) ?_
  refine rr_w C hX (c_Ring_waitFor l D a k v q 1 ch hg) mi_Ring_68 ⟨⟨rfl, rfl⟩, Nat.le_of_ble_eq_true rfl, Nat.le_of_ble_eq_true rfl⟩ rfl rfl hl.1 (Nat.le_of_ble_eq_true rfl) d_Ring_block_4 ⟨Nat.zero_le _, Nat.zero_le _⟩ (fun H locs (hX : VX D A s.heap (rW a k (rWaitFor v q 1 ch).2) H locs) => ?_)
  exact hret H locs (rWaitFor v q 1 ch).1 (rWaitFor v q 1 ch).2 7 ls (vp_nar_int _) (rfl) hX d_Ring_block_7
abbrev rm_Ring_until : Room := { frames := 0, cells := 0, slots := 0, locals := 0 }
set_option maxHeartbeats 4000000 in
set_option maxRecDepth 100000 in
theorem c_Ring_until (l : Launch) (D : va_G) (a k : Nat → Nat) (v : RS) (n : Int32)  : MCi l y_Ring_until b_Ring_until 2 .int rm_Ring_until [.ref (a 0), .int n] D (rT k) false (rW a k) v (fun r u => u = v ∧ r = (rUntil v n)) := by
  refine MCi.of R_Ring rfl (by decide +kernel) (Nat.le_of_ble_eq_true rfl) ?_
  intro p e s m args below meth c A Q ls H locs C hX hl hret
  have hx := C.1.1
  have hb := C.1.2.1
  have hown := C.1.2.2.2.1
  have hts := C.1.2.2.2.2
  have hl : lv_has ls 2 [(0, .ref (a 0)), (1, .int n)] := hl
  refine lv_aload_n hx hb d_Ring_until_0 rfl (lv_at hl 0 rfl) ?_
  refine rg_ti C hX d_Ring_until_1 ?_
  refine lv_ldc (v := 2147483647) hx hb hown (hts _ k_kc_Ring_77) d_Ring_until_4 ?_
  refine lv_iload_n hx hb d_Ring_until_6 rfl (lv_at hl 1 rfl) ?_
  refine lv_isub hx hb d_Ring_until_7 ?_
  refine lv_icmp_le (tgt := 16) hx hb d_Ring_until_8 (by decide) (fun (c1 : (rti v) ≤ (2147483647 - n)) => ?_) (fun (c1 : ¬ (rti v) ≤ (2147483647 - n)) => ?_)
  · -- Ring_until 8 T
    refine lv_aload_n hx hb d_Ring_until_16 rfl (lv_at hl 0 rfl) ?_
    refine rg_ti C hX d_Ring_until_17 ?_
    refine lv_iload_n hx hb d_Ring_until_20 rfl (lv_at hl 1 rfl) ?_
    refine lv_iadd hx hb d_Ring_until_21 ?_
    exact hret H locs ((rti v) + n) v 22 ls (vp_nar_int _) (⟨rfl, by simp only [rUntil, if_pos c1]⟩) hX d_Ring_until_22
  · -- Ring_until 8 F
    refine lv_ldc (v := 2147483647) hx hb hown (hts _ k_kc_Ring_77) d_Ring_until_11 ?_
    refine lv_goto (tgt := 22) hx hb d_Ring_until_13 (by decide) ?_
    exact hret H locs 2147483647 v 22 ls (vp_nar_int _) (⟨rfl, by simp only [rUntil, if_neg c1]⟩) hX d_Ring_until_22
abbrev rm_Ring_sleep : Room := { frames := 3, cells := 0, slots := 0, locals := 68 }
set_option maxHeartbeats 4000000 in
set_option maxRecDepth 100000 in
theorem c_Ring_sleep (l : Launch) (D : va_G) (a k : Nat → Nat) (v : RS) (q : Int32) (n : Int32) (hg : Rok v) : MCi l y_Ring_sleep b_Ring_sleep 3 .int rm_Ring_sleep [.ref (a 0), .int q, .int n] D (rT k) false (rW a k) v (fun r u => (r, u) = (rSleep v q n)) := by
  refine MCi.of R_Ring rfl (by decide +kernel) (Nat.le_of_ble_eq_true rfl) ?_
  intro p e s m args below meth c A Q ls H locs C hX hl hret
  have hx := C.1.1
  have hb := C.1.2.1
  have hl : lv_has ls 3 [(0, .ref (a 0)), (1, .int q), (2, .int n)] := hl
  refine lv_iload_n hx hb d_Ring_sleep_0 rfl (lv_at hl 2 rfl) ?_
  refine lv_iconst (v := 1) hx hb d_Ring_sleep_1 (by decide) ?_
  refine lv_icmp_ge (tgt := 13) hx hb d_Ring_sleep_2 (by decide) (fun (c1 : (1 : Int32) ≤ n) => ?_) (fun (c1 : ¬ (1 : Int32) ≤ n) => ?_)
  · -- Ring_sleep 2 T
    refine lv_aload_n hx hb d_Ring_sleep_13 rfl (lv_at hl 0 rfl) ?_
    refine lv_iload_n hx hb d_Ring_sleep_14 rfl (lv_at hl 1 rfl) ?_
    refine lv_iconst (v := 3) hx hb d_Ring_sleep_15 (by decide) ?_
    refine lv_aload_n hx hb d_Ring_sleep_16 rfl (lv_at hl 0 rfl) ?_
    refine lv_iload_n hx hb d_Ring_sleep_17 rfl (lv_at hl 2 rfl) ?_
    refine rr_r C hX (c_Ring_until l D a k v n ) mi_Ring_72 ⟨⟨rfl, rfl⟩, Nat.le_of_ble_eq_true rfl, Nat.le_of_ble_eq_true rfl⟩ rfl rfl hl.1 (Nat.le_of_ble_eq_true rfl) d_Ring_sleep_18 ⟨Nat.zero_le _, Nat.zero_le _⟩ (fun H locs (hX : VX D A s.heap (rW a k v) H locs) => ?_)
    refine rr_w C hX (c_Ring_waitFor l D a k v q 3 (rUntil v n) hg) mi_Ring_68 ⟨⟨rfl, rfl⟩, Nat.le_of_ble_eq_true rfl, Nat.le_of_ble_eq_true rfl⟩ rfl rfl hl.1 (Nat.le_of_ble_eq_true rfl) d_Ring_sleep_21 ⟨Nat.zero_le _, Nat.zero_le _⟩ (fun H locs (hX : VX D A s.heap (rW a k (rWaitFor v q 3 (rUntil v n)).2) H locs) => ?_)
    exact hret H locs (rWaitFor v q 3 (rUntil v n)).1 (rWaitFor v q 3 (rUntil v n)).2 24 ls (vp_nar_int _) (by simp only [rSleep, if_pos c1]) hX d_Ring_sleep_24
  · -- Ring_sleep 2 F
    refine lv_aload_n hx hb d_Ring_sleep_5 rfl (lv_at hl 0 rfl) ?_
    refine lv_iload_n hx hb d_Ring_sleep_6 rfl (lv_at hl 1 rfl) ?_
    refine rr_r C hX (c_Ring_at l D a k v q hg) mi_Ring_60 ⟨⟨rfl, rfl⟩, Nat.le_of_ble_eq_true rfl, Nat.le_of_ble_eq_true rfl⟩ rfl rfl hl.1 (Nat.le_of_ble_eq_true rfl) d_Ring_sleep_7 ⟨Nat.zero_le _, Nat.zero_le _⟩ (fun H locs (hX : VX D A s.heap (rW a k v) H locs) => ?_)
    refine lv_goto (tgt := 24) hx hb d_Ring_sleep_10 (by decide) ?_
    exact hret H locs (rAt v q) v 24 ls (vp_nar_int _) (by simp only [rSleep, if_neg c1]) hX d_Ring_sleep_24
abbrev rm_Ring_rest : Room := { frames := 2, cells := 0, slots := 0, locals := 44 }
set_option maxHeartbeats 4000000 in
set_option maxRecDepth 100000 in
theorem c_Ring_rest (l : Launch) (D : va_G) (a k : Nat → Nat) (v : RS) (q : Int32) (hg : Rok v) : MCi l y_Ring_rest b_Ring_rest 2 .int rm_Ring_rest [.ref (a 0), .int q] D (rT k) false (rW a k) v (fun r u => (r, u) = (rLeave v q 1)) := by
  refine MCi.of R_Ring rfl (by decide +kernel) (Nat.le_of_ble_eq_true rfl) ?_
  intro p e s m args below meth c A Q ls H locs C hX hl hret
  have hx := C.1.1
  have hb := C.1.2.1
  have hl : lv_has ls 2 [(0, .ref (a 0)), (1, .int q)] := hl
  refine lv_aload_n hx hb d_Ring_rest_0 rfl (lv_at hl 0 rfl) ?_
  refine lv_iload_n hx hb d_Ring_rest_1 rfl (lv_at hl 1 rfl) ?_
  refine lv_iconst (v := 1) hx hb d_Ring_rest_2 (by decide) ?_
  refine rr_w C hX (c_Ring_leave l D a k v q 1 hg) mi_Ring_64 ⟨⟨rfl, rfl⟩, Nat.le_of_ble_eq_true rfl, Nat.le_of_ble_eq_true rfl⟩ rfl rfl hl.1 (Nat.le_of_ble_eq_true rfl) d_Ring_rest_3 ⟨Nat.zero_le _, Nat.zero_le _⟩ (fun H locs (hX : VX D A s.heap (rW a k (rLeave v q 1).2) H locs) => ?_)
  exact hret H locs (rLeave v q 1).1 (rLeave v q 1).2 6 ls (vp_nar_int _) (rfl) hX d_Ring_rest_6
end
section
/-! steps of the ring's loops -/
theorem cnt_yes {C : Nat → Prop} [DecidablePred C] {n : Nat} (h : C n) : cnt C n + 1 = cnt C (n + 1) := by simp only [cnt, if_pos h]
theorem cnt_no {C : Nat → Prop} [DecidablePred C] {n : Nat} (h : ¬ C n) : cnt C n = cnt C (n + 1) := by simp only [cnt, if_neg h]
theorem lst_yes {C : Nat → Prop} [DecidablePred C] {n : Nat} (h : C n) : nI n = lst C (n + 1) := by simp only [lst, if_pos h]
theorem lst_no {C : Nat → Prop} [DecidablePred C] {n : Nat} (h : ¬ C n) : lst C n = lst C (n + 1) := by simp only [lst, if_neg h]
theorem any_01 (C : Nat → Prop) [DecidablePred C] (n : Nat) : any1 C n = 0 ∨ any1 C n = 1 := by
  induction n with
  | zero => exact Or.inl rfl
  | succ n ih =>
    simp only [any1]
    split
    · exact Or.inr rfl
    · exact ih
theorem any_yes {C : Nat → Prop} [DecidablePred C] {n : Nat} (h : C n) : any1 C n ||| 1 = any1 C (n + 1) := by
  simp only [any1, if_pos h]
  rcases any_01 C n with e | e <;> rw [e] <;> decide
theorem any_no {C : Nat → Prop} [DecidablePred C] {n : Nat} (h : ¬ C n) : any1 C n ||| 0 = any1 C (n + 1) := by
  simp only [any1, if_neg h]
  rcases any_01 C n with e | e <;> rw [e] <;> decide
theorem any_no' {C : Nat → Prop} [DecidablePred C] {n : Nat} (h : ¬ C n) : any1 C n = any1 C (n + 1) := by
  simp only [any1, if_neg h]
theorem add0 (x : Int32) : x + 0 = x := by simp
theorem gt_N {i : Nat} (hi : i ≤ 15) (c : (15 : Int32) < nI (i + 1)) : i = 15 := by
  rcases Nat.lt_or_ge i 15 with h | h
  · exact absurd c (nI_nlt (a := 15) (b := i + 1) (by omega) (by decide))
  · omega
theorem ngt_N {i : Nat} (hi : i ≤ 15) (c : ¬ (15 : Int32) < nI (i + 1)) : i < 15 := by
  rcases Nat.lt_or_ge i 15 with h | h
  · exact h
  · exact absurd (nI_lt (a := 15) (b := i + 1) (by omega) (by omega)) c
theorem wkS_self {v : RS} {kd wh : Int32} {i : Nat} : wkS v kd wh i i = rst v i := by simp [wkS]
theorem wk_0 {v : RS} {kd wh : Int32} : v = zrst v (wkS v kd wh 0) := by
  have e : wkS v kd wh 0 = rst v := by funext j; simp [wkS]
  rw [e]
theorem wk_iff {v w : RS} {kd wh : Int32} {i : Nat} (e : w = zrst v (wkS v kd wh i)) : rIs w kd wh i ↔ rIs v kd wh i := by
  subst e
  show (wkS v kd wh i i = 3 ∧ _) ↔ _
  rw [wkS_self]
theorem wk_yes {v w : RS} {kd wh : Int32} {i : Nat} (e : w = zrst v (wkS v kd wh i)) (h : rIs w kd wh i) : zrst w (upd (rst w) i 1) = zrst v (wkS v kd wh (i + 1)) := by
  replace h := (wk_iff e).mp h
  subst e
  have e : upd (wkS v kd wh i) i 1 = wkS v kd wh (i + 1) := by
    funext j
    by_cases hj : j = i
    · subst hj
      rw [upd_self]
      simp only [wkS, if_pos (show j < j + 1 ∧ rIs v kd wh j from ⟨Nat.lt_succ_self _, h⟩)]
    · rw [upd_ne hj]
      have e2 : j < i + 1 ↔ j < i := by omega
      simp only [wkS, e2]
  show zrst v (upd (wkS v kd wh i) i 1) = _
  rw [e]
theorem wk_no {v w : RS} {kd wh : Int32} {i : Nat} (e : w = zrst v (wkS v kd wh i)) (h : ¬ rIs w kd wh i) : w = zrst v (wkS v kd wh (i + 1)) := by
  replace h := fun z => h ((wk_iff e).mpr z)
  rw [e]
  have e : wkS v kd wh i = wkS v kd wh (i + 1) := by
    funext j
    by_cases hj : j = i
    · subst hj
      simp only [wkS, if_neg (show ¬ (j < j + 1 ∧ rIs v kd wh j) from fun z => h z.2), if_neg (show ¬ (j < j ∧ rIs v kd wh j) from fun z => h z.2)]
    · have e2 : j < i + 1 ↔ j < i := by omega
      simp only [wkS, e2]
  rw [e]
theorem clS_0 {v : RS} : v = zrst v (clS v 0) := by
  have e : clS v 0 = rst v := by funext j; simp [clS]
  rw [e]
theorem clS_s {v : RS} {i : Nat} : upd (clS v i) i 0 = clS v (i + 1) := by
  funext j
  by_cases hj : j = i
  · subst hj
    simp [upd, clS]
  · have e2 : j < i + 1 ↔ j < i := by omega
    simp only [clS, upd, if_neg hj, e2]
theorem clO_0 {v w : RS} (e : w = zrst v (clS v 15)) : w = zron (zrst v (clS v 15)) (clO v 0) := by
  have e2 : clO v 0 = ron v := by funext j; simp [clO]
  rw [e2, e]
theorem clO_s {v : RS} {i : Nat} : upd (clO v i) i (-1) = clO v (i + 1) := by
  funext j
  by_cases hj : j = i
  · subst hj
    simp [upd, clO]
  · have e2 : j < i + 1 ↔ j < i := by omega
    simp only [clO, upd, if_neg hj, e2]
/-! pick -/
def PI (v : RS) (q : Int32) (i : Nat) (w : RS) : Prop := (w = v ∧ ∀ j, j < i → ¬ rst v (rPl v j) = 1) ∨ (∃ j, j < i ∧ ron v (ix q) = -1 ∧ rst v (rPl v j) = 1 ∧ (∀ j', j' < j → ¬ rst v (rPl v j') = 1) ∧ w = rTake v q (nI (rPl v j)))
theorem nI_m1 {i : Nat} (h : i < 2 ^ 31) : ¬ nI i = -1 := by
  intro e
  have h1 := nI_toInt h
  rw [e] at h1
  have h2 : (-1 : Int32).toInt = -1 := by decide
  rw [h2] at h1
  omega
theorem pick_v {v w : RS} {q : Int32} {i : Nat} (h : PI v q i w) (c : ron w (ix q) = -1) : w = v := by
  rcases h with h | ⟨j, -, -, -, -, rfl⟩
  · exact h.1
  · exfalso
    have c : upd (ron v) (ix q) (nI (rPl v j)) (ix q) = -1 := c
    rw [upd_self] at c
    exact nI_m1 (Nat.lt_of_lt_of_le (rPl_lt v j) (by decide)) c
theorem pick_no {v w : RS} {q : Int32} {i : Nat} (h : PI v q i w) (e : w = v) (c : ron w (ix q) = -1) (c2 : ¬ rst w (rPl w i) = 1) : PI v q (i + 1) w := by
  subst e
  rcases h with h | ⟨j, -, -, -, -, he⟩
  · exact Or.inl ⟨rfl, lt_s h.2 c2⟩
  · exfalso
    have c : upd (ron w) (ix q) (nI (rPl w j)) (ix q) = -1 := by
      have := congrArg (fun u => ron u (ix q)) he
      exact this.symm.trans c
    rw [upd_self] at c
    exact nI_m1 (Nat.lt_of_lt_of_le (rPl_lt w j) (by decide)) c
theorem pick_take {v w : RS} {q : Int32} {i : Nat} (h : PI v q i w) (e : w = v) (c : ron w (ix q) = -1) (c2 : rst w (rPl w i) = 1) : PI v q (i + 1) (rTake w q (nI (rPl w i))) := by
  subst e
  rcases h with h | ⟨j, -, -, -, -, he⟩
  · exact Or.inr ⟨i, Nat.lt_succ_self _, c, c2, h.2, rfl⟩
  · exfalso
    have c : upd (ron w) (ix q) (nI (rPl w j)) (ix q) = -1 := by
      have := congrArg (fun u => ron u (ix q)) he
      exact this.symm.trans c
    rw [upd_self] at c
    exact nI_m1 (Nat.lt_of_lt_of_le (rPl_lt w j) (by decide)) c
theorem pick_end {v w : RS} {q : Int32} {i : Nat} (h : PI v q i w) (hi : i ≤ 15) (c : i = 15 ∨ ¬ ron w (ix q) = -1) (d1 : ¬ q < 0) (d2 : q < rpr v) : (ron w (ix q), w) = rPick v q := by
  simp only [rPick, if_neg d1, if_pos d2]
  rcases h with ⟨rfl, h⟩ | ⟨j, h1, h2, h3, h4, rfl⟩
  · by_cases ho : ron w (ix q) = -1
    · rw [if_pos ho]
      rcases c with rfl | c
      · rw [fst_is (Nat.le_refl _) h (Or.inl rfl), if_neg (Nat.lt_irrefl _), ho]
      · exact absurd ho c
    · rw [if_neg ho]
  · rw [if_pos h2, fst_is (C := fun j => rst v (rPl v j) = 1) (n := 15) (i := j) (by omega) h4 (Or.inr h3), if_pos (by omega)]
    show (upd (ron v) (ix q) (nI (rPl v j)) (ix q), _) = _
    rw [upd_self]
theorem rem_pl {w : RS} (h : Rok w) (i : Nat) (hi : i < 15) : rla w + nI (i + 1) - (rla w + nI (i + 1)) / 15 * 15 = nI (rPl w i) := by
  obtain ⟨-, -, j, hj, e⟩ := h
  rw [rPl, e, nI_add, show ix (nI j) = j from nI_clamp (by omega)]
  exact pk_rem (a := j + (i + 1)) (d := 15) (by omega) (by decide) (by decide)
/-! tick -/
theorem leave_pr (v : RS) (q s : Int32) : rpr (rLeave v q s).2 = rpr v := by
  unfold rLeave
  split <;> rfl
theorem leave_ti (v : RS) (q s : Int32) : rti (rLeave v q s).2 = rti v := by
  unfold rLeave
  split <;> rfl
theorem tickL_pr (v : RS) : ∀ n, rpr (rTickL v n) = rpr v
  | 0 => rfl
  | n + 1 => (leave_pr _ _ _).trans (tickL_pr v n)
theorem tickL_ti (v : RS) : ∀ n, rti (rTickL v n) = rti v + 1
  | 0 => rfl
  | n + 1 => (leave_ti _ _ _).trans (tickL_ti v n)
theorem tick_end {v w : RS} {i n : Nat} (hn : rpr v = nI n) (hi : i = n) (h4 : n ≤ 4) (ew : w = rTickL v i) : (rti (rWake w 3 (rti w)).2, (rWake w 3 (rti w)).2) = rTick v := by
  subst ew
  have e : ix (rpr v) = i := by rw [hn, hi]; exact nI_clamp (by omega)
  show (rti (rTickL v i), _) = _
  simp only [rTick, e, tickL_ti]
/-! exit -/
theorem rpP_0 {v : RS} {n : Int32} : v = zrpa v (rpP v n 0) := by
  have e : rpP v n 0 = rpa v := by funext j; simp [rpP]
  rw [e]
theorem rpP_self {v : RS} {n : Int32} {i : Nat} : rpP v n i i = rpa v i := by simp [rpP]
theorem rp_yes {u w : RS} {n : Int32} {i : Nat} (e : w = zrpa u (rpP u n i)) (h1 : ¬ rst w i = 0) (h2 : rpa w i = n) : zrpa w (upd (rpa w) i 1) = zrpa u (rpP u n (i + 1)) := by
  subst e
  have h2 : rpP u n i i = n := h2
  rw [rpP_self] at h2
  have e : upd (rpP u n i) i 1 = rpP u n (i + 1) := by
    funext j
    by_cases hj : j = i
    · subst hj
      rw [upd_self]
      simp only [rpP, if_pos (show j < j + 1 ∧ rKid u n j from ⟨Nat.lt_succ_self _, h1, h2⟩)]
    · rw [upd_ne hj]
      have e2 : j < i + 1 ↔ j < i := by omega
      simp only [rpP, e2]
  show zrpa u (upd (rpP u n i) i 1) = _
  rw [e]
theorem rp_no {u w : RS} {n : Int32} {i : Nat} (e : w = zrpa u (rpP u n i)) (h : rst w i = 0 ∨ ¬ rpa w i = n) : w = zrpa u (rpP u n (i + 1)) := by
  subst e
  have h : rst u i = 0 ∨ ¬ rpP u n i i = n := h
  rw [rpP_self] at h
  have e : rpP u n i = rpP u n (i + 1) := by
    funext j
    by_cases hj : j = i
    · subst hj
      have hk : ¬ rKid u n j := fun z => h.elim (fun a => z.1 a) (fun a => a z.2)
      simp only [rpP, if_neg (show ¬ (j < j + 1 ∧ rKid u n j) from fun z => hk z.2), if_neg (show ¬ (j < j ∧ rKid u n j) from fun z => hk z.2)]
    · have e2 : j < i + 1 ↔ j < i := by omega
      simp only [rpP, e2]
  rw [← e]
theorem rp_kid {u w : RS} {n : Int32} {i : Nat} (e : w = zrpa u (rpP u n i)) : (rKid u n i ∧ rst u i = 4) ↔ ((¬ rst w i = 0 ∧ rpa w i = n) ∧ rst w i = 4) := by
  subst e
  show _ ↔ ((¬ rst u i = 0 ∧ rpP u n i i = n) ∧ _)
  rw [rpP_self]
/-! await -/
theorem aw_ne {v : RS} {q z : Int32} {i : Nat} {C : Nat → Prop} [DecidablePred C] (h : rAt v q = -1 → i = 0) (hz : z = any1 C i) (c : ¬ z = 0) : ¬ rAt v q = -1 := by
  intro e
  rw [h e] at hz
  exact c hz
end
section
abbrev rm_Ring_wake2 : Room := { frames := 0, cells := 0, slots := 0, locals := 0 }
set_option maxHeartbeats 4000000 in
set_option maxRecDepth 100000 in
theorem c_Ring_wake2 (l : Launch) (D : va_G) (a k : Nat → Nat) (v : RS) (kd : Int32) (wh : Int32)  : MCi l y_Ring_wake2 b_Ring_wake2 6 .int rm_Ring_wake2 [.ref (a 0), .int kd, .int wh] D (rT k) false (rW a k) v (fun r u => (r, u) = (rWake v kd wh)) := by
  refine MCi.of R_Ring rfl (by decide +kernel) (Nat.le_of_ble_eq_true rfl) ?_
  intro p e s m args below meth c A Q ls H locs C hX hl hret
  have hx := C.1.1
  have hb := C.1.2.1
  have hl : lv_has ls 6 [(0, .ref (a 0)), (1, .int kd), (2, .int wh)] := hl
  have L5 : ∀ (n : Nat) (i : Nat) (x3 : Int32) (w : RS) (H : Heap) (locs : List Loc) (ls : Array Slot), (i ≤ 15) → (x3 = cnt (rIs v kd wh) i) → (w = zrst v (wkS v kd wh i)) → 15 - i < n → VX D A s.heap (rW a k w) H locs → lv_has ls 6 [(0, .ref (a 0)), (1, .int kd), (2, .int wh), (3, .int x3), (4, .int (nI i))] → W p l e rm_Ring_wake2 s m args below meth c H locs 0 0 Q (F0 m 5 ls []) := by
    intro n
    induction n with
    | zero => intro i x3 w H locs ls hi e3 ew hm; exact absurd hm (Nat.not_lt_zero _)
    | succ n ih =>
      intro i x3 w H locs ls hi e3 ew hm hX hl
      refine lv_iload hx hb d_Ring_wake2_5 (lv_at hl 4 rfl) ?_
      refine lv_bipush (v := 15) hx hb d_Ring_wake2_7 (by decide) ?_
      refine lv_icmp_ge (tgt := 96) hx hb d_Ring_wake2_9 (by decide) (fun (c1 : (15 : Int32) ≤ (nI i)) => ?_) (fun (c1 : ¬ (15 : Int32) ≤ (nI i)) => ?_)
      · -- Ring_wake2 9 T
        have h15 : i = 15 := ge_N (n := 15) rfl hi (by decide) c1
        refine lv_iload_n hx hb d_Ring_wake2_96 rfl (lv_at hl 3 rfl) ?_
        exact hret H locs x3 w 97 ls (vp_nar_int _) (by subst h15; subst e3; subst ew; rfl) hX d_Ring_wake2_97
      · -- Ring_wake2 9 F
        have hlt : i < 15 := lt_N (n := 15) rfl (by omega) c1
        refine lv_aload_n hx hb d_Ring_wake2_12 rfl (lv_at hl 0 rfl) ?_
        refine rg_st C hX d_Ring_wake2_13 ?_
        refine lv_iload hx hb d_Ring_wake2_16 (lv_at hl 4 rfl) ?_
        refine ra_st C hX (vp_in_nI hlt (by decide)) (nI_clamp (by omega)) d_Ring_wake2_18 ?_
        refine lv_iconst (v := 3) hx hb d_Ring_wake2_19 (by decide) ?_
        refine lv_icmp_ne (tgt := 68) hx hb d_Ring_wake2_20 (by decide) (fun (c2 : ¬ (rst w i) = 3) => ?_) (fun (c2 : (rst w i) = 3) => ?_)
        · -- Ring_wake2 20 T
          refine lv_iconst (v := 0) hx hb d_Ring_wake2_68 (by decide) ?_
          refine lv_istore (lv' := [(5, .int 0), (0, .ref (a 0)), (1, .int kd), (2, .int wh), (3, .int x3), (4, .int (nI i))]) hx hb d_Ring_wake2_69 hl (by decide) rfl (fun ls hl => ?_)
          refine lv_iload hx hb d_Ring_wake2_71 (lv_at hl 0 rfl) ?_
          refine lv_if_ne (tgt := 79) hx hb d_Ring_wake2_73 (by decide) (fun (c3 : ¬ (0 : Int32) = 0) => ?_) (fun (c3 : (0 : Int32) = 0) => ?_)
          · -- Ring_wake2 73 T
            exact absurd c3 (by decide)
          · -- Ring_wake2 73 F
            refine lv_goto (tgt := 90) hx hb d_Ring_wake2_76 (by decide) ?_
            refine lv_iinc (v := (nI (i + 1))) (lv' := [(4, .int (nI (i + 1))), (5, .int 0), (0, .ref (a 0)), (1, .int kd), (2, .int wh), (3, .int x3)]) hx hb d_Ring_wake2_90 hl (k := 5) rfl (nI_1 i) (by decide) rfl (fun ls hl => ?_)
            refine lv_goto (tgt := 5) hx hb d_Ring_wake2_93 (by decide) ?_
            exact ih (i + 1) x3 w H locs ls (by omega) (by rw [e3]; first | exact cnt_yes ((wk_iff ew).mp (by simp [rIs, c1, c2])) | exact cnt_no (fun z => absurd ((wk_iff ew).mpr z) (by simp [rIs, c1, c2]))) (by first | exact wk_yes ew (by simp [rIs, c1, c2]) | exact wk_no ew (by simp [rIs, c1, c2])) (by omega) hX (lv_sub hl [2, 3, 4, 5, 0] rfl)
        · -- Ring_wake2 20 F
          refine lv_aload_n hx hb d_Ring_wake2_23 rfl (lv_at hl 0 rfl) ?_
          refine rg_wa C hX d_Ring_wake2_24 ?_
          refine lv_iload hx hb d_Ring_wake2_27 (lv_at hl 4 rfl) ?_
          refine ra_wa C hX (vp_in_nI hlt (by decide)) (nI_clamp (by omega)) d_Ring_wake2_29 ?_
          refine lv_iload_n hx hb d_Ring_wake2_30 rfl (lv_at hl 1 rfl) ?_
          refine lv_icmp_ne (tgt := 68) hx hb d_Ring_wake2_31 (by decide) (fun (c4 : ¬ (rwa w i) = kd) => ?_) (fun (c4 : (rwa w i) = kd) => ?_)
          · -- Ring_wake2 31 T
            refine lv_iconst (v := 0) hx hb d_Ring_wake2_68 (by decide) ?_
            refine lv_istore (lv' := [(5, .int 0), (0, .ref (a 0)), (1, .int kd), (2, .int wh), (3, .int x3), (4, .int (nI i))]) hx hb d_Ring_wake2_69 hl (by decide) rfl (fun ls hl => ?_)
            refine lv_iload hx hb d_Ring_wake2_71 (lv_at hl 0 rfl) ?_
            refine lv_if_ne (tgt := 79) hx hb d_Ring_wake2_73 (by decide) (fun (c5 : ¬ (0 : Int32) = 0) => ?_) (fun (c5 : (0 : Int32) = 0) => ?_)
            · -- Ring_wake2 73 T
              exact absurd c5 (by decide)
            · -- Ring_wake2 73 F
              refine lv_goto (tgt := 90) hx hb d_Ring_wake2_76 (by decide) ?_
              refine lv_iinc (v := (nI (i + 1))) (lv' := [(4, .int (nI (i + 1))), (5, .int 0), (0, .ref (a 0)), (1, .int kd), (2, .int wh), (3, .int x3)]) hx hb d_Ring_wake2_90 hl (k := 5) rfl (nI_1 i) (by decide) rfl (fun ls hl => ?_)
              refine lv_goto (tgt := 5) hx hb d_Ring_wake2_93 (by decide) ?_
              exact ih (i + 1) x3 w H locs ls (by omega) (by rw [e3]; first | exact cnt_yes ((wk_iff ew).mp (by simp [rIs, c1, c2, c4])) | exact cnt_no (fun z => absurd ((wk_iff ew).mpr z) (by simp [rIs, c1, c2, c4]))) (by first | exact wk_yes ew (by simp [rIs, c1, c2, c4]) | exact wk_no ew (by simp [rIs, c1, c2, c4])) (by omega) hX (lv_sub hl [2, 3, 4, 5, 0] rfl)
          · -- Ring_wake2 31 F
            refine lv_iload_n hx hb d_Ring_wake2_34 rfl (lv_at hl 1 rfl) ?_
            refine lv_iconst (v := 3) hx hb d_Ring_wake2_35 (by decide) ?_
            refine lv_icmp_ne (tgt := 53) hx hb d_Ring_wake2_36 (by decide) (fun (c6 : ¬ kd = 3) => ?_) (fun (c6 : kd = 3) => ?_)
            · -- Ring_wake2 36 T
              refine lv_aload_n hx hb d_Ring_wake2_53 rfl (lv_at hl 0 rfl) ?_
              refine rg_wd C hX d_Ring_wake2_54 ?_
              refine lv_iload hx hb d_Ring_wake2_57 (lv_at hl 4 rfl) ?_
              refine ra_wd C hX (vp_in_nI hlt (by decide)) (nI_clamp (by omega)) d_Ring_wake2_59 ?_
              refine lv_iload_n hx hb d_Ring_wake2_60 rfl (lv_at hl 2 rfl) ?_
              refine lv_icmp_ne (tgt := 68) hx hb d_Ring_wake2_61 (by decide) (fun (c7 : ¬ (rwd w i) = wh) => ?_) (fun (c7 : (rwd w i) = wh) => ?_)
              · -- Ring_wake2 61 T
                refine lv_iconst (v := 0) hx hb d_Ring_wake2_68 (by decide) ?_
                refine lv_istore (lv' := [(5, .int 0), (0, .ref (a 0)), (1, .int kd), (2, .int wh), (3, .int x3), (4, .int (nI i))]) hx hb d_Ring_wake2_69 hl (by decide) rfl (fun ls hl => ?_)
                refine lv_iload hx hb d_Ring_wake2_71 (lv_at hl 0 rfl) ?_
                refine lv_if_ne (tgt := 79) hx hb d_Ring_wake2_73 (by decide) (fun (c8 : ¬ (0 : Int32) = 0) => ?_) (fun (c8 : (0 : Int32) = 0) => ?_)
                · -- Ring_wake2 73 T
                  exact absurd c8 (by decide)
                · -- Ring_wake2 73 F
                  refine lv_goto (tgt := 90) hx hb d_Ring_wake2_76 (by decide) ?_
                  refine lv_iinc (v := (nI (i + 1))) (lv' := [(4, .int (nI (i + 1))), (5, .int 0), (0, .ref (a 0)), (1, .int kd), (2, .int wh), (3, .int x3)]) hx hb d_Ring_wake2_90 hl (k := 5) rfl (nI_1 i) (by decide) rfl (fun ls hl => ?_)
                  refine lv_goto (tgt := 5) hx hb d_Ring_wake2_93 (by decide) ?_
                  exact ih (i + 1) x3 w H locs ls (by omega) (by rw [e3]; first | exact cnt_yes ((wk_iff ew).mp (by simp [rIs, c1, c2, c4, c6, c7])) | exact cnt_no (fun z => absurd ((wk_iff ew).mpr z) (by simp [rIs, c1, c2, c4, c6, c7]))) (by first | exact wk_yes ew (by simp [rIs, c1, c2, c4, c6, c7]) | exact wk_no ew (by simp [rIs, c1, c2, c4, c6, c7])) (by omega) hX (lv_sub hl [2, 3, 4, 5, 0] rfl)
              · -- Ring_wake2 61 F
                refine lv_iconst (v := 1) hx hb d_Ring_wake2_64 (by decide) ?_
                refine lv_goto (tgt := 69) hx hb d_Ring_wake2_65 (by decide) ?_
                refine lv_istore (lv' := [(5, .int 1), (0, .ref (a 0)), (1, .int kd), (2, .int wh), (3, .int x3), (4, .int (nI i))]) hx hb d_Ring_wake2_69 hl (by decide) rfl (fun ls hl => ?_)
                refine lv_iload hx hb d_Ring_wake2_71 (lv_at hl 0 rfl) ?_
                refine lv_if_ne (tgt := 79) hx hb d_Ring_wake2_73 (by decide) (fun (c9 : ¬ (1 : Int32) = 0) => ?_) (fun (c9 : (1 : Int32) = 0) => ?_)
                · -- Ring_wake2 73 T
                  refine lv_aload_n hx hb d_Ring_wake2_79 rfl (lv_at hl 1 rfl) ?_
                  refine rg_st C hX d_Ring_wake2_80 ?_
                  refine lv_iload hx hb d_Ring_wake2_83 (lv_at hl 5 rfl) ?_
                  refine lv_iconst (v := 1) hx hb d_Ring_wake2_85 (by decide) ?_
                  refine rs_st C hX (vp_in_nI hlt (by decide)) (nI_clamp (by omega)) d_Ring_wake2_86 (fun H locs (hX : VX D A s.heap (rW a k (zrst w (upd (rst w) i 1))) H locs) => ?_)
                  refine lv_iinc (v := (x3 + 1)) (lv' := [(3, .int (x3 + 1)), (5, .int 1), (0, .ref (a 0)), (1, .int kd), (2, .int wh), (4, .int (nI i))]) hx hb d_Ring_wake2_87 hl (k := 4) rfl rfl (by decide) rfl (fun ls hl => ?_)
                  refine lv_iinc (v := (nI (i + 1))) (lv' := [(4, .int (nI (i + 1))), (3, .int (x3 + 1)), (5, .int 1), (0, .ref (a 0)), (1, .int kd), (2, .int wh)]) hx hb d_Ring_wake2_90 hl (k := 5) rfl (nI_1 i) (by decide) rfl (fun ls hl => ?_)
                  refine lv_goto (tgt := 5) hx hb d_Ring_wake2_93 (by decide) ?_
                  exact ih (i + 1) (x3 + 1) (zrst w (upd (rst w) i 1)) H locs ls (by omega) (by rw [e3]; first | exact cnt_yes ((wk_iff ew).mp (by simp [rIs, c1, c2, c4, c6, c7])) | exact cnt_no (fun z => absurd ((wk_iff ew).mpr z) (by simp [rIs, c1, c2, c4, c6, c7]))) (by first | exact wk_yes ew (by simp [rIs, c1, c2, c4, c6, c7]) | exact wk_no ew (by simp [rIs, c1, c2, c4, c6, c7])) (by omega) hX (lv_sub hl [3, 4, 5, 1, 0] rfl)
                · -- Ring_wake2 73 F
                  exact absurd c9 (by decide)
            · -- Ring_wake2 36 F
              refine lv_aload_n hx hb d_Ring_wake2_39 rfl (lv_at hl 0 rfl) ?_
              refine rg_wd C hX d_Ring_wake2_40 ?_
              refine lv_iload hx hb d_Ring_wake2_43 (lv_at hl 4 rfl) ?_
              refine ra_wd C hX (vp_in_nI hlt (by decide)) (nI_clamp (by omega)) d_Ring_wake2_45 ?_
              refine lv_iload_n hx hb d_Ring_wake2_46 rfl (lv_at hl 2 rfl) ?_
              refine lv_icmp_gt (tgt := 68) hx hb d_Ring_wake2_47 (by decide) (fun (c10 : wh < (rwd w i)) => ?_) (fun (c10 : ¬ wh < (rwd w i)) => ?_)
              · -- Ring_wake2 47 T
                refine lv_iconst (v := 0) hx hb d_Ring_wake2_68 (by decide) ?_
                refine lv_istore (lv' := [(5, .int 0), (0, .ref (a 0)), (1, .int kd), (2, .int wh), (3, .int x3), (4, .int (nI i))]) hx hb d_Ring_wake2_69 hl (by decide) rfl (fun ls hl => ?_)
                refine lv_iload hx hb d_Ring_wake2_71 (lv_at hl 0 rfl) ?_
                refine lv_if_ne (tgt := 79) hx hb d_Ring_wake2_73 (by decide) (fun (c11 : ¬ (0 : Int32) = 0) => ?_) (fun (c11 : (0 : Int32) = 0) => ?_)
                · -- Ring_wake2 73 T
                  exact absurd c11 (by decide)
                · -- Ring_wake2 73 F
                  refine lv_goto (tgt := 90) hx hb d_Ring_wake2_76 (by decide) ?_
                  refine lv_iinc (v := (nI (i + 1))) (lv' := [(4, .int (nI (i + 1))), (5, .int 0), (0, .ref (a 0)), (1, .int kd), (2, .int wh), (3, .int x3)]) hx hb d_Ring_wake2_90 hl (k := 5) rfl (nI_1 i) (by decide) rfl (fun ls hl => ?_)
                  refine lv_goto (tgt := 5) hx hb d_Ring_wake2_93 (by decide) ?_
                  exact ih (i + 1) x3 w H locs ls (by omega) (by rw [e3]; first | exact cnt_yes ((wk_iff ew).mp (by simp [rIs, c1, c2, c4, c6, c10])) | exact cnt_no (fun z => absurd ((wk_iff ew).mpr z) (by simp [rIs, c1, c2, c4, c6, c10]))) (by first | exact wk_yes ew (by simp [rIs, c1, c2, c4, c6, c10]) | exact wk_no ew (by simp [rIs, c1, c2, c4, c6, c10])) (by omega) hX (lv_sub hl [2, 3, 4, 5, 0] rfl)
              · -- Ring_wake2 47 F
                refine lv_goto (tgt := 64) hx hb d_Ring_wake2_50 (by decide) ?_
                refine lv_iconst (v := 1) hx hb d_Ring_wake2_64 (by decide) ?_
                refine lv_goto (tgt := 69) hx hb d_Ring_wake2_65 (by decide) ?_
                refine lv_istore (lv' := [(5, .int 1), (0, .ref (a 0)), (1, .int kd), (2, .int wh), (3, .int x3), (4, .int (nI i))]) hx hb d_Ring_wake2_69 hl (by decide) rfl (fun ls hl => ?_)
                refine lv_iload hx hb d_Ring_wake2_71 (lv_at hl 0 rfl) ?_
                refine lv_if_ne (tgt := 79) hx hb d_Ring_wake2_73 (by decide) (fun (c12 : ¬ (1 : Int32) = 0) => ?_) (fun (c12 : (1 : Int32) = 0) => ?_)
                · -- Ring_wake2 73 T
                  refine lv_aload_n hx hb d_Ring_wake2_79 rfl (lv_at hl 1 rfl) ?_
                  refine rg_st C hX d_Ring_wake2_80 ?_
                  refine lv_iload hx hb d_Ring_wake2_83 (lv_at hl 5 rfl) ?_
                  refine lv_iconst (v := 1) hx hb d_Ring_wake2_85 (by decide) ?_
                  refine rs_st C hX (vp_in_nI hlt (by decide)) (nI_clamp (by omega)) d_Ring_wake2_86 (fun H locs (hX : VX D A s.heap (rW a k (zrst w (upd (rst w) i 1))) H locs) => ?_)
                  refine lv_iinc (v := (x3 + 1)) (lv' := [(3, .int (x3 + 1)), (5, .int 1), (0, .ref (a 0)), (1, .int kd), (2, .int wh), (4, .int (nI i))]) hx hb d_Ring_wake2_87 hl (k := 4) rfl rfl (by decide) rfl (fun ls hl => ?_)
                  refine lv_iinc (v := (nI (i + 1))) (lv' := [(4, .int (nI (i + 1))), (3, .int (x3 + 1)), (5, .int 1), (0, .ref (a 0)), (1, .int kd), (2, .int wh)]) hx hb d_Ring_wake2_90 hl (k := 5) rfl (nI_1 i) (by decide) rfl (fun ls hl => ?_)
                  refine lv_goto (tgt := 5) hx hb d_Ring_wake2_93 (by decide) ?_
                  exact ih (i + 1) (x3 + 1) (zrst w (upd (rst w) i 1)) H locs ls (by omega) (by rw [e3]; first | exact cnt_yes ((wk_iff ew).mp (by simp [rIs, c1, c2, c4, c6, c10])) | exact cnt_no (fun z => absurd ((wk_iff ew).mpr z) (by simp [rIs, c1, c2, c4, c6, c10]))) (by first | exact wk_yes ew (by simp [rIs, c1, c2, c4, c6, c10]) | exact wk_no ew (by simp [rIs, c1, c2, c4, c6, c10])) (by omega) hX (lv_sub hl [3, 4, 5, 1, 0] rfl)
                · -- Ring_wake2 73 F
                  exact absurd c12 (by decide)
  refine lv_iconst (v := 0) hx hb d_Ring_wake2_0 (by decide) ?_
  refine lv_istore_n (lv' := [(3, .int 0), (0, .ref (a 0)), (1, .int kd), (2, .int wh)]) hx hb d_Ring_wake2_1 rfl hl (by decide) rfl (fun ls hl => ?_)
  refine lv_iconst (v := 0) hx hb d_Ring_wake2_2 (by decide) ?_
  refine lv_istore (lv' := [(4, .int 0), (3, .int 0), (0, .ref (a 0)), (1, .int kd), (2, .int wh)]) hx hb d_Ring_wake2_3 hl (by decide) rfl (fun ls hl => ?_)
  exact L5 _ 0 0 v H locs ls (by omega) (rfl) (wk_0) (Nat.lt_succ_self _) hX (lv_sub hl [2, 3, 4, 1, 0] rfl)
abbrev rm_Ring_wake1 : Room := { frames := 1, cells := 0, slots := 0, locals := 25 }
set_option maxHeartbeats 4000000 in
set_option maxRecDepth 100000 in
theorem c_Ring_wake1 (l : Launch) (D : va_G) (a k : Nat → Nat) (v : RS) (ch : Int32)  : MCi l y_Ring_wake1 b_Ring_wake1 2 .int rm_Ring_wake1 [.ref (a 0), .int ch] D (rT k) false (rW a k) v (fun r u => (r, u) = (rWake v 1 ch)) := by
  refine MCi.of R_Ring rfl (by decide +kernel) (Nat.le_of_ble_eq_true rfl) ?_
  intro p e s m args below meth c A Q ls H locs C hX hl hret
  have hx := C.1.1
  have hb := C.1.2.1
  have hl : lv_has ls 2 [(0, .ref (a 0)), (1, .int ch)] := hl
  refine lv_aload_n hx hb d_Ring_wake1_0 rfl (lv_at hl 0 rfl) ?_
  refine lv_iconst (v := 1) hx hb d_Ring_wake1_1 (by decide) ?_
  refine lv_iload_n hx hb d_Ring_wake1_2 rfl (lv_at hl 1 rfl) ?_
  refine rr_w C hX (c_Ring_wake2 l D a k v 1 ch ) mi_Ring_78 ⟨⟨rfl, rfl⟩, Nat.le_of_ble_eq_true rfl, Nat.le_of_ble_eq_true rfl⟩ rfl rfl hl.1 (Nat.le_of_ble_eq_true rfl) d_Ring_wake1_3 ⟨Nat.zero_le _, Nat.zero_le _⟩ (fun H locs (hX : VX D A s.heap (rW a k (rWake v 1 ch).2) H locs) => ?_)
  exact hret H locs (rWake v 1 ch).1 (rWake v 1 ch).2 6 ls (vp_nar_int _) (rfl) hX d_Ring_wake1_6
abbrev rm_Ring_clear : Room := { frames := 0, cells := 0, slots := 0, locals := 0 }
set_option maxHeartbeats 4000000 in
set_option maxRecDepth 100000 in
theorem c_Ring_clear (l : Launch) (D : va_G) (a k : Nat → Nat) (v : RS)  : MCv l y_Ring_clear b_Ring_clear 2 rm_Ring_clear [.ref (a 0)] D (rT k) false (rW a k) v (fun u => u = (rClear v)) := by
  refine MCv.of R_Ring rfl (by decide +kernel) (Nat.le_of_ble_eq_true rfl) ?_
  intro p e s m args below meth c A Q ls H locs C hX hl hret
  have hx := C.1.1
  have hb := C.1.2.1
  have hl : lv_has ls 2 [(0, .ref (a 0))] := hl
  have L23 : ∀ (n : Nat) (i : Nat) (w : RS) (H : Heap) (locs : List Loc) (ls : Array Slot), (i ≤ 4) → (w = zron (zrst v (clS v 15)) (clO v i)) → 4 - i < n → VX D A s.heap (rW a k w) H locs → lv_has ls 2 [(0, .ref (a 0)), (1, .int (nI i))] → W p l e rm_Ring_clear s m args below meth c H locs 0 0 Q (F0 m 23 ls []) := by
    intro n
    induction n with
    | zero => intro i w H locs ls hi ew hm; exact absurd hm (Nat.not_lt_zero _)
    | succ n ih =>
      intro i w H locs ls hi ew hm hX hl
      refine lv_iload_n hx hb d_Ring_clear_23 rfl (lv_at hl 1 rfl) ?_
      refine lv_aload_n hx hb d_Ring_clear_24 rfl (lv_at hl 0 rfl) ?_
      refine rg_on C hX d_Ring_clear_25 ?_
      refine rl_on C hX d_Ring_clear_28 ?_
      refine lv_icmp_ge (tgt := 45) hx hb d_Ring_clear_29 (by decide) (fun (c1 : (4 : Int32) ≤ (nI i)) => ?_) (fun (c1 : ¬ (4 : Int32) ≤ (nI i)) => ?_)
      · -- Ring_clear 29 T
        have h4 : i = 4 := ge_N (n := 4) rfl hi (by decide) c1
        exact hret H locs w 45 ls (by subst h4; rw [ew]; rfl) hX d_Ring_clear_45
      · -- Ring_clear 29 F
        have hlt : i < 4 := lt_N (n := 4) rfl (by omega) c1
        refine lv_aload_n hx hb d_Ring_clear_32 rfl (lv_at hl 0 rfl) ?_
        refine rg_on C hX d_Ring_clear_33 ?_
        refine lv_iload_n hx hb d_Ring_clear_36 rfl (lv_at hl 1 rfl) ?_
        refine lv_iconst (v := (-1)) hx hb d_Ring_clear_37 (by decide) ?_
        refine rs_on C hX (vp_in_nI hlt (by decide)) (nI_clamp (by omega)) d_Ring_clear_38 (fun H locs (hX : VX D A s.heap (rW a k (zron w (upd (ron w) i (-1)))) H locs) => ?_)
        refine lv_iinc (v := (nI (i + 1))) (lv' := [(1, .int (nI (i + 1))), (0, .ref (a 0))]) hx hb d_Ring_clear_39 hl (k := 1) rfl (nI_1 i) (by decide) rfl (fun ls hl => ?_)
        refine lv_goto (tgt := 23) hx hb d_Ring_clear_42 (by decide) ?_
        exact ih (i + 1) (zron w (upd (ron w) i (-1))) H locs ls (by omega) (by rw [← clO_s, ew]) (by omega) hX (lv_sub hl [1, 0] rfl)
  have L2 : ∀ (n : Nat) (i : Nat) (w : RS) (H : Heap) (locs : List Loc) (ls : Array Slot), (i ≤ 15) → (w = zrst v (clS v i)) → 15 - i < n → VX D A s.heap (rW a k w) H locs → lv_has ls 2 [(0, .ref (a 0)), (1, .int (nI i))] → W p l e rm_Ring_clear s m args below meth c H locs 0 0 Q (F0 m 2 ls []) := by
    intro n
    induction n with
    | zero => intro i w H locs ls hi ew hm; exact absurd hm (Nat.not_lt_zero _)
    | succ n ih =>
      intro i w H locs ls hi ew hm hX hl
      refine lv_iload_n hx hb d_Ring_clear_2 rfl (lv_at hl 1 rfl) ?_
      refine lv_bipush (v := 15) hx hb d_Ring_clear_3 (by decide) ?_
      refine lv_icmp_ge (tgt := 21) hx hb d_Ring_clear_5 (by decide) (fun (c2 : (15 : Int32) ≤ (nI i)) => ?_) (fun (c2 : ¬ (15 : Int32) ≤ (nI i)) => ?_)
      · -- Ring_clear 5 T
        have h15 : i = 15 := ge_N (n := 15) rfl hi (by decide) c2
        refine lv_iconst (v := 0) hx hb d_Ring_clear_21 (by decide) ?_
        refine lv_istore_n (lv' := [(1, .int 0), (0, .ref (a 0))]) hx hb d_Ring_clear_22 rfl hl (by decide) rfl (fun ls hl => ?_)
        exact L23 _ 0 w H locs ls (by omega) (by subst h15; exact clO_0 ew) (Nat.lt_succ_self _) hX (lv_sub hl [1, 0] rfl)
      · -- Ring_clear 5 F
        have hlt : i < 15 := lt_N (n := 15) rfl (by omega) c2
        refine lv_aload_n hx hb d_Ring_clear_8 rfl (lv_at hl 0 rfl) ?_
        refine rg_st C hX d_Ring_clear_9 ?_
        refine lv_iload_n hx hb d_Ring_clear_12 rfl (lv_at hl 1 rfl) ?_
        refine lv_iconst (v := 0) hx hb d_Ring_clear_13 (by decide) ?_
        refine rs_st C hX (vp_in_nI hlt (by decide)) (nI_clamp (by omega)) d_Ring_clear_14 (fun H locs (hX : VX D A s.heap (rW a k (zrst w (upd (rst w) i 0))) H locs) => ?_)
        refine lv_iinc (v := (nI (i + 1))) (lv' := [(1, .int (nI (i + 1))), (0, .ref (a 0))]) hx hb d_Ring_clear_15 hl (k := 1) rfl (nI_1 i) (by decide) rfl (fun ls hl => ?_)
        refine lv_goto (tgt := 2) hx hb d_Ring_clear_18 (by decide) ?_
        exact ih (i + 1) (zrst w (upd (rst w) i 0)) H locs ls (by omega) (by rw [← clS_s, ew]) (by omega) hX (lv_sub hl [1, 0] rfl)
  refine lv_iconst (v := 0) hx hb d_Ring_clear_0 (by decide) ?_
  refine lv_istore_n (lv' := [(1, .int 0), (0, .ref (a 0))]) hx hb d_Ring_clear_1 rfl hl (by decide) rfl (fun ls hl => ?_)
  exact L2 _ 0 v H locs ls (by omega) (clS_0) (Nat.lt_succ_self _) hX (lv_sub hl [1, 0] rfl)
abbrev rm_Ring_processorOf : Room := { frames := 0, cells := 0, slots := 0, locals := 0 }
set_option maxHeartbeats 4000000 in
set_option maxRecDepth 100000 in
theorem c_Ring_processorOf (l : Launch) (D : va_G) (a k : Nat → Nat) (v : RS) (pl : Int32) (hg : Rok v) : MCi l y_Ring_processorOf b_Ring_processorOf 4 .int rm_Ring_processorOf [.ref (a 0), .int pl] D (rT k) false (rW a k) v (fun r u => u = v ∧ r = (rProcOf v pl)) := by
  obtain ⟨⟨n0, hn1, hn4, hn⟩, hr2, hr3⟩ := id hg
  refine MCi.of R_Ring rfl (by decide +kernel) (Nat.le_of_ble_eq_true rfl) ?_
  intro p e s m args below meth c A Q ls H locs C hX hl hret
  have hx := C.1.1
  have hb := C.1.2.1
  have hl : lv_has ls 4 [(0, .ref (a 0)), (1, .int pl)] := hl
  have L4 : ∀ (n : Nat) (i : Nat) (x2 : Int32) (H : Heap) (locs : List Loc) (ls : Array Slot), (i ≤ n0) → (x2 = lst (fun j => ron v j = pl) i) → n0 - i < n → VX D A s.heap (rW a k v) H locs → lv_has ls 4 [(0, .ref (a 0)), (1, .int pl), (2, .int x2), (3, .int (nI i))] → W p l e rm_Ring_processorOf s m args below meth c H locs 0 0 Q (F0 m 4 ls []) := by
    intro n
    induction n with
    | zero => intro i x2 H locs ls hi e2 hm; exact absurd hm (Nat.not_lt_zero _)
    | succ n ih =>
      intro i x2 H locs ls hi e2 hm hX hl
      refine lv_iload_n hx hb d_Ring_processorOf_4 rfl (lv_at hl 3 rfl) ?_
      refine lv_aload_n hx hb d_Ring_processorOf_5 rfl (lv_at hl 0 rfl) ?_
      refine rg_pr C hX d_Ring_processorOf_6 ?_
      refine lv_icmp_ge (tgt := 34) hx hb d_Ring_processorOf_9 (by decide) (fun (c1 : (rpr v) ≤ (nI i)) => ?_) (fun (c1 : ¬ (rpr v) ≤ (nI i)) => ?_)
      · -- Ring_processorOf 9 T
        have h15 : i = n0 := ge_N hn hi (by omega) c1
        refine lv_iload_n hx hb d_Ring_processorOf_34 rfl (lv_at hl 2 rfl) ?_
        exact hret H locs x2 v 35 ls (vp_nar_int _) (⟨rfl, by rw [e2, h15, rProcOf, hn, show ix (nI n0) = n0 from nI_clamp (by omega)]⟩) hX d_Ring_processorOf_35
      · -- Ring_processorOf 9 F
        have hlt : i < n0 := lt_N hn (by omega) c1
        refine lv_aload_n hx hb d_Ring_processorOf_12 rfl (lv_at hl 0 rfl) ?_
        refine rg_on C hX d_Ring_processorOf_13 ?_
        refine lv_iload_n hx hb d_Ring_processorOf_16 rfl (lv_at hl 3 rfl) ?_
        refine ra_on C hX (vp_in_nI (by omega) (by decide)) (nI_clamp (by omega)) d_Ring_processorOf_17 ?_
        refine lv_iload_n hx hb d_Ring_processorOf_18 rfl (lv_at hl 1 rfl) ?_
        refine lv_icmp_ne (tgt := 26) hx hb d_Ring_processorOf_19 (by decide) (fun (c2 : ¬ (ron v i) = pl) => ?_) (fun (c2 : (ron v i) = pl) => ?_)
        · -- Ring_processorOf 19 T
          refine lv_iload_n hx hb d_Ring_processorOf_26 rfl (lv_at hl 2 rfl) ?_
          refine lv_istore_n (lv' := [(2, .int x2), (0, .ref (a 0)), (1, .int pl), (3, .int (nI i))]) hx hb d_Ring_processorOf_27 rfl hl (by decide) rfl (fun ls hl => ?_)
          refine lv_iinc (v := (nI (i + 1))) (lv' := [(3, .int (nI (i + 1))), (2, .int x2), (0, .ref (a 0)), (1, .int pl)]) hx hb d_Ring_processorOf_28 hl (k := 3) rfl (nI_1 i) (by decide) rfl (fun ls hl => ?_)
          refine lv_goto (tgt := 4) hx hb d_Ring_processorOf_31 (by decide) ?_
          exact ih (i + 1) x2 H locs ls (by omega) (by rw [e2]; exact lst_no c2) (by omega) hX (lv_sub hl [2, 3, 1, 0] rfl)
        · -- Ring_processorOf 19 F
          refine lv_iload_n hx hb d_Ring_processorOf_22 rfl (lv_at hl 3 rfl) ?_
          refine lv_goto (tgt := 27) hx hb d_Ring_processorOf_23 (by decide) ?_
          refine lv_istore_n (lv' := [(2, .int (nI i)), (0, .ref (a 0)), (1, .int pl), (3, .int (nI i))]) hx hb d_Ring_processorOf_27 rfl hl (by decide) rfl (fun ls hl => ?_)
          refine lv_iinc (v := (nI (i + 1))) (lv' := [(3, .int (nI (i + 1))), (2, .int (nI i)), (0, .ref (a 0)), (1, .int pl)]) hx hb d_Ring_processorOf_28 hl (k := 3) rfl (nI_1 i) (by decide) rfl (fun ls hl => ?_)
          refine lv_goto (tgt := 4) hx hb d_Ring_processorOf_31 (by decide) ?_
          exact ih (i + 1) (nI i) H locs ls (by omega) (lst_yes c2) (by omega) hX (lv_sub hl [2, 3, 1, 0] rfl)
  refine lv_iconst (v := (-1)) hx hb d_Ring_processorOf_0 (by decide) ?_
  refine lv_istore_n (lv' := [(2, .int (-1)), (0, .ref (a 0)), (1, .int pl)]) hx hb d_Ring_processorOf_1 rfl hl (by decide) rfl (fun ls hl => ?_)
  refine lv_iconst (v := 0) hx hb d_Ring_processorOf_2 (by decide) ?_
  refine lv_istore_n (lv' := [(3, .int 0), (2, .int (-1)), (0, .ref (a 0)), (1, .int pl)]) hx hb d_Ring_processorOf_3 rfl hl (by decide) rfl (fun ls hl => ?_)
  exact L4 _ 0 (-1) H locs ls (by omega) (rfl) (Nat.lt_succ_self _) hX (lv_sub hl [2, 3, 1, 0] rfl)
abbrev rm_Ring_count : Room := { frames := 0, cells := 0, slots := 0, locals := 0 }
set_option maxHeartbeats 4000000 in
set_option maxRecDepth 100000 in
theorem c_Ring_count (l : Launch) (D : va_G) (a k : Nat → Nat) (v : RS) (s0 : Int32)  : MCi l y_Ring_count b_Ring_count 4 .int rm_Ring_count [.ref (a 0), .int s0] D (rT k) false (rW a k) v (fun r u => u = v ∧ r = (rCount v s0)) := by
  refine MCi.of R_Ring rfl (by decide +kernel) (Nat.le_of_ble_eq_true rfl) ?_
  intro p e s m args below meth c A Q ls H locs C hX hl hret
  have hx := C.1.1
  have hb := C.1.2.1
  have hl : lv_has ls 4 [(0, .ref (a 0)), (1, .int s0)] := hl
  have L4 : ∀ (n : Nat) (i : Nat) (x2 : Int32) (H : Heap) (locs : List Loc) (ls : Array Slot), (i ≤ 15) → (x2 = cnt (rHas v s0) i) → 15 - i < n → VX D A s.heap (rW a k v) H locs → lv_has ls 4 [(0, .ref (a 0)), (1, .int s0), (2, .int x2), (3, .int (nI i))] → W p l e rm_Ring_count s m args below meth c H locs 0 0 Q (F0 m 4 ls []) := by
    intro n
    induction n with
    | zero => intro i x2 H locs ls hi e2 hm; exact absurd hm (Nat.not_lt_zero _)
    | succ n ih =>
      intro i x2 H locs ls hi e2 hm hX hl
      refine lv_iload_n hx hb d_Ring_count_4 rfl (lv_at hl 3 rfl) ?_
      refine lv_bipush (v := 15) hx hb d_Ring_count_5 (by decide) ?_
      refine lv_icmp_ge (tgt := 50) hx hb d_Ring_count_7 (by decide) (fun (c1 : (15 : Int32) ≤ (nI i)) => ?_) (fun (c1 : ¬ (15 : Int32) ≤ (nI i)) => ?_)
      · -- Ring_count 7 T
        have h15 : i = 15 := ge_N (n := 15) rfl hi (by decide) c1
        refine lv_iload_n hx hb d_Ring_count_50 rfl (lv_at hl 2 rfl) ?_
        exact hret H locs x2 v 51 ls (vp_nar_int _) (⟨rfl, by rw [e2, h15]; rfl⟩) hX d_Ring_count_51
      · -- Ring_count 7 F
        have hlt : i < 15 := lt_N (n := 15) rfl (by omega) c1
        refine lv_iload_n hx hb d_Ring_count_10 rfl (lv_at hl 2 rfl) ?_
        refine lv_iload_n hx hb d_Ring_count_11 rfl (lv_at hl 1 rfl) ?_
        refine lv_if_ne (tgt := 27) hx hb d_Ring_count_12 (by decide) (fun (c2 : ¬ s0 = 0) => ?_) (fun (c2 : s0 = 0) => ?_)
        · -- Ring_count 12 T
          refine lv_aload_n hx hb d_Ring_count_27 rfl (lv_at hl 0 rfl) ?_
          refine rg_st C hX d_Ring_count_28 ?_
          refine lv_iload_n hx hb d_Ring_count_31 rfl (lv_at hl 3 rfl) ?_
          refine ra_st C hX (vp_in_nI hlt (by decide)) (nI_clamp (by omega)) d_Ring_count_32 ?_
          refine lv_iload_n hx hb d_Ring_count_33 rfl (lv_at hl 1 rfl) ?_
          refine lv_icmp_ne (tgt := 41) hx hb d_Ring_count_34 (by decide) (fun (c3 : ¬ (rst v i) = s0) => ?_) (fun (c3 : (rst v i) = s0) => ?_)
          · -- Ring_count 34 T
            refine lv_iconst (v := 0) hx hb d_Ring_count_41 (by decide) ?_
            refine lv_iadd hx hb d_Ring_count_42 ?_
            refine lv_istore_n (lv' := [(2, .int (x2 + 0)), (0, .ref (a 0)), (1, .int s0), (3, .int (nI i))]) hx hb d_Ring_count_43 rfl hl (by decide) rfl (fun ls hl => ?_)
            refine lv_iinc (v := (nI (i + 1))) (lv' := [(3, .int (nI (i + 1))), (2, .int (x2 + 0)), (0, .ref (a 0)), (1, .int s0)]) hx hb d_Ring_count_44 hl (k := 3) rfl (nI_1 i) (by decide) rfl (fun ls hl => ?_)
            refine lv_goto (tgt := 4) hx hb d_Ring_count_47 (by decide) ?_
            exact ih (i + 1) (x2 + 0) H locs ls (by omega) (by rw [e2]; first | exact cnt_yes (by simp [rHas, c1, c2, c3]) | (rw [add0]; exact cnt_no (by simp [rHas, c1, c2, c3]))) (by omega) hX (lv_sub hl [2, 3, 1, 0] rfl)
          · -- Ring_count 34 F
            refine lv_iconst (v := 1) hx hb d_Ring_count_37 (by decide) ?_
            refine lv_goto (tgt := 42) hx hb d_Ring_count_38 (by decide) ?_
            refine lv_iadd hx hb d_Ring_count_42 ?_
            refine lv_istore_n (lv' := [(2, .int (x2 + 1)), (0, .ref (a 0)), (1, .int s0), (3, .int (nI i))]) hx hb d_Ring_count_43 rfl hl (by decide) rfl (fun ls hl => ?_)
            refine lv_iinc (v := (nI (i + 1))) (lv' := [(3, .int (nI (i + 1))), (2, .int (x2 + 1)), (0, .ref (a 0)), (1, .int s0)]) hx hb d_Ring_count_44 hl (k := 3) rfl (nI_1 i) (by decide) rfl (fun ls hl => ?_)
            refine lv_goto (tgt := 4) hx hb d_Ring_count_47 (by decide) ?_
            exact ih (i + 1) (x2 + 1) H locs ls (by omega) (by rw [e2]; first | exact cnt_yes (by simp [rHas, c1, c2, c3]) | (rw [add0]; exact cnt_no (by simp [rHas, c1, c2, c3]))) (by omega) hX (lv_sub hl [2, 3, 1, 0] rfl)
        · -- Ring_count 12 F
          refine lv_aload_n hx hb d_Ring_count_15 rfl (lv_at hl 0 rfl) ?_
          refine rg_st C hX d_Ring_count_16 ?_
          refine lv_iload_n hx hb d_Ring_count_19 rfl (lv_at hl 3 rfl) ?_
          refine ra_st C hX (vp_in_nI hlt (by decide)) (nI_clamp (by omega)) d_Ring_count_20 ?_
          refine lv_if_eq (tgt := 41) hx hb d_Ring_count_21 (by decide) (fun (c4 : (rst v i) = 0) => ?_) (fun (c4 : ¬ (rst v i) = 0) => ?_)
          · -- Ring_count 21 T
            refine lv_iconst (v := 0) hx hb d_Ring_count_41 (by decide) ?_
            refine lv_iadd hx hb d_Ring_count_42 ?_
            refine lv_istore_n (lv' := [(2, .int (x2 + 0)), (0, .ref (a 0)), (1, .int s0), (3, .int (nI i))]) hx hb d_Ring_count_43 rfl hl (by decide) rfl (fun ls hl => ?_)
            refine lv_iinc (v := (nI (i + 1))) (lv' := [(3, .int (nI (i + 1))), (2, .int (x2 + 0)), (0, .ref (a 0)), (1, .int s0)]) hx hb d_Ring_count_44 hl (k := 3) rfl (nI_1 i) (by decide) rfl (fun ls hl => ?_)
            refine lv_goto (tgt := 4) hx hb d_Ring_count_47 (by decide) ?_
            exact ih (i + 1) (x2 + 0) H locs ls (by omega) (by rw [e2]; first | exact cnt_yes (by simp [rHas, c1, c2, c4]) | (rw [add0]; exact cnt_no (by simp [rHas, c1, c2, c4]))) (by omega) hX (lv_sub hl [2, 3, 1, 0] rfl)
          · -- Ring_count 21 F
            refine lv_goto (tgt := 37) hx hb d_Ring_count_24 (by decide) ?_
            refine lv_iconst (v := 1) hx hb d_Ring_count_37 (by decide) ?_
            refine lv_goto (tgt := 42) hx hb d_Ring_count_38 (by decide) ?_
            refine lv_iadd hx hb d_Ring_count_42 ?_
            refine lv_istore_n (lv' := [(2, .int (x2 + 1)), (0, .ref (a 0)), (1, .int s0), (3, .int (nI i))]) hx hb d_Ring_count_43 rfl hl (by decide) rfl (fun ls hl => ?_)
            refine lv_iinc (v := (nI (i + 1))) (lv' := [(3, .int (nI (i + 1))), (2, .int (x2 + 1)), (0, .ref (a 0)), (1, .int s0)]) hx hb d_Ring_count_44 hl (k := 3) rfl (nI_1 i) (by decide) rfl (fun ls hl => ?_)
            refine lv_goto (tgt := 4) hx hb d_Ring_count_47 (by decide) ?_
            exact ih (i + 1) (x2 + 1) H locs ls (by omega) (by rw [e2]; first | exact cnt_yes (by simp [rHas, c1, c2, c4]) | (rw [add0]; exact cnt_no (by simp [rHas, c1, c2, c4]))) (by omega) hX (lv_sub hl [2, 3, 1, 0] rfl)
  refine lv_iconst (v := 0) hx hb d_Ring_count_0 (by decide) ?_
  refine lv_istore_n (lv' := [(2, .int 0), (0, .ref (a 0)), (1, .int s0)]) hx hb d_Ring_count_1 rfl hl (by decide) rfl (fun ls hl => ?_)
  refine lv_iconst (v := 0) hx hb d_Ring_count_2 (by decide) ?_
  refine lv_istore_n (lv' := [(3, .int 0), (2, .int 0), (0, .ref (a 0)), (1, .int s0)]) hx hb d_Ring_count_3 rfl hl (by decide) rfl (fun ls hl => ?_)
  exact L4 _ 0 0 H locs ls (by omega) (rfl) (Nat.lt_succ_self _) hX (lv_sub hl [2, 3, 1, 0] rfl)
abbrev rm_Ring_kill : Room := { frames := 0, cells := 0, slots := 0, locals := 0 }
set_option maxHeartbeats 4000000 in
set_option maxRecDepth 100000 in
theorem c_Ring_kill (l : Launch) (D : va_G) (a k : Nat → Nat) (v : RS) (nn : Int32)  : MCi l y_Ring_kill b_Ring_kill 3 .boolean rm_Ring_kill [.ref (a 0), .int nn] D (rT k) false (rW a k) v (fun r u => (r, u) = (rKill v nn)) := by
  refine MCi.of R_Ring rfl (by decide +kernel) (Nat.le_of_ble_eq_true rfl) ?_
  intro p e s m args below meth c A Q ls H locs C hX hl hret
  have hx := C.1.1
  have hb := C.1.2.1
  have hl : lv_has ls 3 [(0, .ref (a 0)), (1, .int nn)] := hl
  have L2 : ∀ (n : Nat) (i : Nat) (H : Heap) (locs : List Loc) (ls : Array Slot), (i ≤ 15) → (∀ j, j < i → ¬ rLive v nn j) → 15 - i < n → VX D A s.heap (rW a k v) H locs → lv_has ls 3 [(0, .ref (a 0)), (1, .int nn), (2, .int (nI i))] → W p l e rm_Ring_kill s m args below meth c H locs 0 0 Q (F0 m 2 ls []) := by
    intro n
    induction n with
    | zero => intro i H locs ls hi hz hm; exact absurd hm (Nat.not_lt_zero _)
    | succ n ih =>
      intro i H locs ls hi hz hm hX hl
      refine lv_iload_n hx hb d_Ring_kill_2 rfl (lv_at hl 2 rfl) ?_
      refine lv_bipush (v := 15) hx hb d_Ring_kill_3 (by decide) ?_
      refine lv_icmp_ge (tgt := 81) hx hb d_Ring_kill_5 (by decide) (fun (c1 : (15 : Int32) ≤ (nI i)) => ?_) (fun (c1 : ¬ (15 : Int32) ≤ (nI i)) => ?_)
      · -- Ring_kill 5 T
        have h15 : i = 15 := ge_N (n := 15) rfl hi (by decide) c1
        refine lv_iconst (v := 0) hx hb d_Ring_kill_81 (by decide) ?_
        exact hret H locs 0 v 82 ls rfl (by subst h15; simp only [rKill, fst_is (Nat.le_refl _) hz (Or.inl rfl), if_neg (Nat.lt_irrefl _)]) hX d_Ring_kill_82
      · -- Ring_kill 5 F
        have hlt : i < 15 := lt_N (n := 15) rfl (by omega) c1
        refine lv_aload_n hx hb d_Ring_kill_8 rfl (lv_at hl 0 rfl) ?_
        refine rg_st C hX d_Ring_kill_9 ?_
        refine lv_iload_n hx hb d_Ring_kill_12 rfl (lv_at hl 2 rfl) ?_
        refine ra_st C hX (vp_in_nI hlt (by decide)) (nI_clamp (by omega)) d_Ring_kill_13 ?_
        refine lv_if_eq (tgt := 75) hx hb d_Ring_kill_14 (by decide) (fun (c2 : (rst v i) = 0) => ?_) (fun (c2 : ¬ (rst v i) = 0) => ?_)
        · -- Ring_kill 14 T
          refine lv_iinc (v := (nI (i + 1))) (lv' := [(2, .int (nI (i + 1))), (0, .ref (a 0)), (1, .int nn)]) hx hb d_Ring_kill_75 hl (k := 2) rfl (nI_1 i) (by decide) rfl (fun ls hl => ?_)
          refine lv_goto (tgt := 2) hx hb d_Ring_kill_78 (by decide) ?_
          exact ih (i + 1) H locs ls (by omega) (lt_s hz (by simp [rLive, c1, c2])) (by omega) hX (lv_sub hl [1, 2, 0] rfl)
        · -- Ring_kill 14 F
          refine lv_aload_n hx hb d_Ring_kill_17 rfl (lv_at hl 0 rfl) ?_
          refine rg_st C hX d_Ring_kill_18 ?_
          refine lv_iload_n hx hb d_Ring_kill_21 rfl (lv_at hl 2 rfl) ?_
          refine ra_st C hX (vp_in_nI hlt (by decide)) (nI_clamp (by omega)) d_Ring_kill_22 ?_
          refine lv_iconst (v := 4) hx hb d_Ring_kill_23 (by decide) ?_
          refine lv_icmp_eq (tgt := 75) hx hb d_Ring_kill_24 (by decide) (fun (c3 : (rst v i) = 4) => ?_) (fun (c3 : ¬ (rst v i) = 4) => ?_)
          · -- Ring_kill 24 T
            refine lv_iinc (v := (nI (i + 1))) (lv' := [(2, .int (nI (i + 1))), (0, .ref (a 0)), (1, .int nn)]) hx hb d_Ring_kill_75 hl (k := 2) rfl (nI_1 i) (by decide) rfl (fun ls hl => ?_)
            refine lv_goto (tgt := 2) hx hb d_Ring_kill_78 (by decide) ?_
            exact ih (i + 1) H locs ls (by omega) (lt_s hz (by simp [rLive, c1, c2, c3])) (by omega) hX (lv_sub hl [1, 2, 0] rfl)
          · -- Ring_kill 24 F
            refine lv_aload_n hx hb d_Ring_kill_27 rfl (lv_at hl 0 rfl) ?_
            refine rg_nu C hX d_Ring_kill_28 ?_
            refine lv_iload_n hx hb d_Ring_kill_31 rfl (lv_at hl 2 rfl) ?_
            refine ra_nu C hX (vp_in_nI hlt (by decide)) (nI_clamp (by omega)) d_Ring_kill_32 ?_
            refine lv_iload_n hx hb d_Ring_kill_33 rfl (lv_at hl 1 rfl) ?_
            refine lv_icmp_eq (tgt := 40) hx hb d_Ring_kill_34 (by decide) (fun (c4 : (rnu v i) = nn) => ?_) (fun (c4 : ¬ (rnu v i) = nn) => ?_)
            · -- Ring_kill 34 T
              have hf : fst (rLive v nn) 15 = i := fst_is hi hz (Or.inr (by simp [rLive, c1, c2, c3, c4]))
              refine lv_aload_n hx hb d_Ring_kill_40 rfl (lv_at hl 0 rfl) ?_
              refine rg_ki C hX d_Ring_kill_41 ?_
              refine lv_iload_n hx hb d_Ring_kill_44 rfl (lv_at hl 2 rfl) ?_
              refine lv_iconst (v := 1) hx hb d_Ring_kill_45 (by decide) ?_
              refine rs_ki C hX (vp_in_nI hlt (by decide)) (nI_clamp (by omega)) rfl d_Ring_kill_46 (fun H locs (hX : VX D A s.heap (rW a k (zrki v (upd (rki v) i 1))) H locs) => ?_)
              refine lv_aload_n hx hb d_Ring_kill_47 rfl (lv_at hl 0 rfl) ?_
              refine rg_st C hX d_Ring_kill_48 ?_
              refine lv_iload_n hx hb d_Ring_kill_51 rfl (lv_at hl 2 rfl) ?_
              refine lv_aload_n hx hb d_Ring_kill_52 rfl (lv_at hl 0 rfl) ?_
              refine rg_st C hX d_Ring_kill_53 ?_
              refine lv_iload_n hx hb d_Ring_kill_56 rfl (lv_at hl 2 rfl) ?_
              refine ra_st C hX (vp_in_nI hlt (by decide)) (nI_clamp (by omega)) d_Ring_kill_57 ?_
              refine lv_iconst (v := 3) hx hb d_Ring_kill_58 (by decide) ?_
              refine lv_icmp_ne (tgt := 66) hx hb d_Ring_kill_59 (by decide) (fun (c5 : ¬ (rst v i) = 3) => ?_) (fun (c5 : (rst v i) = 3) => ?_)
              · -- Ring_kill 59 T
                refine lv_aload_n hx hb d_Ring_kill_66 rfl (lv_at hl 0 rfl) ?_
                refine rg_st C hX d_Ring_kill_67 ?_
                refine lv_iload_n hx hb d_Ring_kill_70 rfl (lv_at hl 2 rfl) ?_
                refine ra_st C hX (vp_in_nI hlt (by decide)) (nI_clamp (by omega)) d_Ring_kill_71 ?_
                refine rs_st C hX (vp_in_nI hlt (by decide)) (nI_clamp (by omega)) d_Ring_kill_72 (fun H locs (hX : VX D A s.heap (rW a k (zrst (zrki v (upd (rki v) i 1)) (upd (rst v) i (rst v i)))) H locs) => ?_)
                refine lv_iconst (v := 1) hx hb d_Ring_kill_73 (by decide) ?_
                exact hret H locs 1 (zrst (zrki v (upd (rki v) i 1)) (upd (rst v) i (rst v i))) 74 ls rfl (by simp only [rKill, hf, if_pos hlt, rKillAt, if_neg c1, if_neg c2, if_neg c3, if_pos c4, if_neg c5]) hX d_Ring_kill_74
              · -- Ring_kill 59 F
                refine lv_iconst (v := 1) hx hb d_Ring_kill_62 (by decide) ?_
                refine lv_goto (tgt := 72) hx hb d_Ring_kill_63 (by decide) ?_
                refine rs_st C hX (vp_in_nI hlt (by decide)) (nI_clamp (by omega)) d_Ring_kill_72 (fun H locs (hX : VX D A s.heap (rW a k (zrst (zrki v (upd (rki v) i 1)) (upd (rst v) i 1))) H locs) => ?_)
                refine lv_iconst (v := 1) hx hb d_Ring_kill_73 (by decide) ?_
                exact hret H locs 1 (zrst (zrki v (upd (rki v) i 1)) (upd (rst v) i 1)) 74 ls rfl (by simp only [rKill, hf, if_pos hlt, rKillAt, if_neg c1, if_neg c2, if_neg c3, if_pos c4, if_pos c5]) hX d_Ring_kill_74
            · -- Ring_kill 34 F
              refine lv_goto (tgt := 75) hx hb d_Ring_kill_37 (by decide) ?_
              refine lv_iinc (v := (nI (i + 1))) (lv' := [(2, .int (nI (i + 1))), (0, .ref (a 0)), (1, .int nn)]) hx hb d_Ring_kill_75 hl (k := 2) rfl (nI_1 i) (by decide) rfl (fun ls hl => ?_)
              refine lv_goto (tgt := 2) hx hb d_Ring_kill_78 (by decide) ?_
              exact ih (i + 1) H locs ls (by omega) (lt_s hz (by simp [rLive, c1, c2, c3, c4])) (by omega) hX (lv_sub hl [1, 2, 0] rfl)
  refine lv_iconst (v := 0) hx hb d_Ring_kill_0 (by decide) ?_
  refine lv_istore_n (lv' := [(2, .int 0), (0, .ref (a 0)), (1, .int nn)]) hx hb d_Ring_kill_1 rfl hl (by decide) rfl (fun ls hl => ?_)
  exact L2 _ 0 H locs ls (by omega) (lt_0) (Nat.lt_succ_self _) hX (lv_sub hl [1, 2, 0] rfl)
end
section
abbrev rm_Ring_pick : Room := { frames := 1, cells := 0, slots := 0, locals := 22 }
set_option maxHeartbeats 4000000 in
set_option maxRecDepth 100000 in
theorem c_Ring_pick (l : Launch) (D : va_G) (a k : Nat → Nat) (v : RS) (q : Int32) (hg : Rok v) : MCi l y_Ring_pick b_Ring_pick 4 .int rm_Ring_pick [.ref (a 0), .int q] D (rT k) false (rW a k) v (fun r u => (r, u) = (rPick v q)) := by
  refine MCi.of R_Ring rfl (by decide +kernel) (Nat.le_of_ble_eq_true rfl) ?_
  intro p e s m args below meth c A Q ls H locs C hX hl hret
  have hx := C.1.1
  have hb := C.1.2.1
  have hl : lv_has ls 4 [(0, .ref (a 0)), (1, .int q)] := hl
  have L16 : ∀ (n : Nat) (i : Nat) (w : RS) (H : Heap) (locs : List Loc) (ls : Array Slot), (i ≤ 15) → (¬ q < 0) → (q < rpr v) → (vp_in q 4) → (PI v q i w) → 15 - i < n → VX D A s.heap (rW a k w) H locs → lv_has ls 4 [(0, .ref (a 0)), (1, .int q), (2, .int (nI (i + 1)))] → W p l e rm_Ring_pick s m args below meth c H locs 0 0 Q (F0 m 16 ls []) := by
    intro n
    induction n with
    | zero => intro i w H locs ls hi d1 d2 hq hp hm; exact absurd hm (Nat.not_lt_zero _)
    | succ n ih =>
      intro i w H locs ls hi d1 d2 hq hp hm hX hl
      refine lv_iload_n hx hb d_Ring_pick_16 rfl (lv_at hl 2 rfl) ?_
      refine lv_bipush (v := 15) hx hb d_Ring_pick_17 (by decide) ?_
      refine lv_icmp_gt (tgt := 64) hx hb d_Ring_pick_19 (by decide) (fun (c1 : (15 : Int32) < (nI (i + 1))) => ?_) (fun (c1 : ¬ (15 : Int32) < (nI (i + 1))) => ?_)
      · -- Ring_pick 19 T
        have h15 := gt_N hi c1
        refine lv_aload_n hx hb d_Ring_pick_64 rfl (lv_at hl 0 rfl) ?_
        refine rg_on C hX d_Ring_pick_65 ?_
        refine lv_iload_n hx hb d_Ring_pick_68 rfl (lv_at hl 1 rfl) ?_
        refine ra_on C hX hq rfl d_Ring_pick_69 ?_
        exact hret H locs (ron w (ix q)) w 70 ls (vp_nar_int _) (pick_end hp hi (Or.inl h15) d1 d2) hX d_Ring_pick_70
      · -- Ring_pick 19 F
        have hlt := ngt_N hi c1
        refine lv_aload_n hx hb d_Ring_pick_22 rfl (lv_at hl 0 rfl) ?_
        refine rg_on C hX d_Ring_pick_23 ?_
        refine lv_iload_n hx hb d_Ring_pick_26 rfl (lv_at hl 1 rfl) ?_
        refine ra_on C hX hq rfl d_Ring_pick_27 ?_
        refine lv_iconst (v := (-1)) hx hb d_Ring_pick_28 (by decide) ?_
        refine lv_icmp_ne (tgt := 64) hx hb d_Ring_pick_29 (by decide) (fun (c2 : ¬ (ron w (ix q)) = (-1)) => ?_) (fun (c2 : (ron w (ix q)) = (-1)) => ?_)
        · -- Ring_pick 29 T
          have con := c2
          refine lv_aload_n hx hb d_Ring_pick_64 rfl (lv_at hl 0 rfl) ?_
          refine rg_on C hX d_Ring_pick_65 ?_
          refine lv_iload_n hx hb d_Ring_pick_68 rfl (lv_at hl 1 rfl) ?_
          refine ra_on C hX hq rfl d_Ring_pick_69 ?_
          exact hret H locs (ron w (ix q)) w 70 ls (vp_nar_int _) (pick_end hp hi (Or.inr con) d1 d2) hX d_Ring_pick_70
        · -- Ring_pick 29 F
          have con := c2
          have ew := pick_v hp c2
          have hgw : Rok w := by rw [ew]; exact hg
          refine lv_aload_n hx hb d_Ring_pick_32 rfl (lv_at hl 0 rfl) ?_
          refine rg_la C hX d_Ring_pick_33 ?_
          refine lv_iload_n hx hb d_Ring_pick_36 rfl (lv_at hl 2 rfl) ?_
          refine lv_iadd hx hb d_Ring_pick_37 ?_
          refine lv_bipush (v := 15) hx hb d_Ring_pick_38 (by decide) ?_
          refine lv_irem hx hb d_Ring_pick_40 (by decide) ?_
          refine lv_topi (fun y_ ey_ => ?_)
          obtain rfl : y_ = (nI (rPl w i)) := by rw [ey_]; exact rem_pl hgw i hlt
          refine lv_istore_n (lv' := [(3, .int (nI (rPl w i))), (0, .ref (a 0)), (1, .int q), (2, .int (nI (i + 1)))]) hx hb d_Ring_pick_41 rfl hl (by decide) rfl (fun ls hl => ?_)
          refine lv_aload_n hx hb d_Ring_pick_42 rfl (lv_at hl 1 rfl) ?_
          refine rg_st C hX d_Ring_pick_43 ?_
          refine lv_iload_n hx hb d_Ring_pick_46 rfl (lv_at hl 0 rfl) ?_
          refine ra_st C hX (vp_in_nI (rPl_lt w i) (by decide)) (nI_clamp (Nat.lt_of_lt_of_le (rPl_lt w i) (by decide))) d_Ring_pick_47 ?_
          refine lv_iconst (v := 1) hx hb d_Ring_pick_48 (by decide) ?_
          refine lv_icmp_ne (tgt := 58) hx hb d_Ring_pick_49 (by decide) (fun (c3 : ¬ (rst w (rPl w i)) = 1) => ?_) (fun (c3 : (rst w (rPl w i)) = 1) => ?_)
          · -- Ring_pick 49 T
            have cst := c3
            refine lv_iinc (v := (nI (i + 1 + 1))) (lv' := [(2, .int (nI (i + 1 + 1))), (3, .int (nI (rPl w i))), (0, .ref (a 0)), (1, .int q)]) hx hb d_Ring_pick_58 hl (k := 3) rfl (nI_1 (i + 1)) (by decide) rfl (fun ls hl => ?_)
            refine lv_goto (tgt := 16) hx hb d_Ring_pick_61 (by decide) ?_
            exact ih (i + 1) w H locs ls (by omega) (d1) (d2) (hq) (pick_no hp ew con cst) (by omega) hX (lv_sub hl [2, 3, 0] rfl)
          · -- Ring_pick 49 F
            have cst := c3
            refine lv_aload_n hx hb d_Ring_pick_52 rfl (lv_at hl 1 rfl) ?_
            refine lv_iload_n hx hb d_Ring_pick_53 rfl (lv_at hl 2 rfl) ?_
            refine lv_iload_n hx hb d_Ring_pick_54 rfl (lv_at hl 0 rfl) ?_
            refine rr_v C hX (c_Ring_take l D a k w q (nI (rPl w i)) hq (vp_in_nI (rPl_lt w i) (by decide))) mi_Ring_57 ⟨⟨rfl, rfl⟩, Nat.le_of_ble_eq_true rfl, Nat.le_of_ble_eq_true rfl⟩ rfl rfl hl.1 (Nat.le_of_ble_eq_true rfl) d_Ring_pick_55 ⟨Nat.zero_le _, Nat.zero_le _⟩ (fun H locs (hX : VX D A s.heap (rW a k (rTake w q (nI (rPl w i)))) H locs) => ?_)
            refine lv_iinc (v := (nI (i + 1 + 1))) (lv' := [(2, .int (nI (i + 1 + 1))), (3, .int (nI (rPl w i))), (0, .ref (a 0)), (1, .int q)]) hx hb d_Ring_pick_58 hl (k := 3) rfl (nI_1 (i + 1)) (by decide) rfl (fun ls hl => ?_)
            refine lv_goto (tgt := 16) hx hb d_Ring_pick_61 (by decide) ?_
            exact ih (i + 1) (rTake w q (nI (rPl w i))) H locs ls (by omega) (d1) (d2) (hq) (pick_take hp ew con cst) (by omega) hX (lv_sub hl [2, 3, 0] rfl)
  refine lv_iload_n hx hb d_Ring_pick_0 rfl (lv_at hl 1 rfl) ?_
  refine lv_if_lt (tgt := 12) hx hb d_Ring_pick_1 (by decide) (fun (c4 : q < 0) => ?_) (fun (c4 : ¬ q < 0) => ?_)
  · -- Ring_pick 1 T
    refine lv_iconst (v := (-1)) hx hb d_Ring_pick_12 (by decide) ?_
    exact hret H locs (-1) v 13 ls (vp_nar_int _) (by simp only [rPick, if_pos c4, ite_self]) hX d_Ring_pick_13
  · -- Ring_pick 1 F
    have d1 := c4
    refine lv_iload_n hx hb d_Ring_pick_4 rfl (lv_at hl 1 rfl) ?_
    refine lv_aload_n hx hb d_Ring_pick_5 rfl (lv_at hl 0 rfl) ?_
    refine rg_pr C hX d_Ring_pick_6 ?_
    refine lv_icmp_lt (tgt := 14) hx hb d_Ring_pick_9 (by decide) (fun (c5 : q < (rpr v)) => ?_) (fun (c5 : ¬ q < (rpr v)) => ?_)
    · -- Ring_pick 9 T
      have d2 := c5
      refine lv_iconst (v := 1) hx hb d_Ring_pick_14 (by decide) ?_
      refine lv_istore_n (lv' := [(2, .int 1), (0, .ref (a 0)), (1, .int q)]) hx hb d_Ring_pick_15 rfl hl (by decide) rfl (fun ls hl => ?_)
      exact L16 _ 0 v H locs ls (by omega) (d1) (d2) (rok_pr hg d1 (Int32.not_le.mpr d2)) (Or.inl ⟨rfl, lt_0⟩) (Nat.lt_succ_self _) hX (lv_sub hl [1, 2, 0] rfl)
    · -- Ring_pick 9 F
      refine lv_iconst (v := (-1)) hx hb d_Ring_pick_12 (by decide) ?_
      exact hret H locs (-1) v 13 ls (vp_nar_int _) (by simp only [rPick, if_neg c4, if_neg c5, ite_self]) hX d_Ring_pick_13
abbrev rm_Ring_tick : Room := { frames := 3, cells := 0, slots := 0, locals := 65 }
set_option maxHeartbeats 4000000 in
set_option maxRecDepth 100000 in
theorem c_Ring_tick (l : Launch) (D : va_G) (a k : Nat → Nat) (v : RS) (hg : Rok v) : MCi l y_Ring_tick b_Ring_tick 2 .int rm_Ring_tick [.ref (a 0)] D (rT k) false (rW a k) v (fun r u => (r, u) = (rTick v)) := by
  obtain ⟨⟨n0, hn1, hn4, hn⟩, hr2, hr3⟩ := id hg
  refine MCi.of R_Ring rfl (by decide +kernel) (Nat.le_of_ble_eq_true rfl) ?_
  intro p e s m args below meth c A Q ls H locs C hX hl hret
  have hx := C.1.1
  have hb := C.1.2.1
  have hl : lv_has ls 2 [(0, .ref (a 0))] := hl
  have L12 : ∀ (n : Nat) (i : Nat) (w : RS) (H : Heap) (locs : List Loc) (ls : Array Slot), (i ≤ n0) → (w = rTickL v i) → n0 - i < n → VX D A s.heap (rW a k w) H locs → lv_has ls 2 [(0, .ref (a 0)), (1, .int (nI i))] → W p l e rm_Ring_tick s m args below meth c H locs 0 0 Q (F0 m 12 ls []) := by
    intro n
    induction n with
    | zero => intro i w H locs ls hi ew hm; exact absurd hm (Nat.not_lt_zero _)
    | succ n ih =>
      intro i w H locs ls hi ew hm hX hl
      refine lv_iload_n hx hb d_Ring_tick_12 rfl (lv_at hl 1 rfl) ?_
      refine lv_aload_n hx hb d_Ring_tick_13 rfl (lv_at hl 0 rfl) ?_
      refine rg_pr C hX d_Ring_tick_14 ?_
      refine lv_icmp_ge (tgt := 32) hx hb d_Ring_tick_17 (by decide) (fun (c1 : (rpr w) ≤ (nI i)) => ?_) (fun (c1 : ¬ (rpr w) ≤ (nI i)) => ?_)
      · -- Ring_tick 17 T
        have h15 : i = n0 := ge_N (by rw [ew, tickL_pr]; exact hn) hi (by omega) c1
        refine lv_aload_n hx hb d_Ring_tick_32 rfl (lv_at hl 0 rfl) ?_
        refine lv_iconst (v := 3) hx hb d_Ring_tick_33 (by decide) ?_
        refine lv_aload_n hx hb d_Ring_tick_34 rfl (lv_at hl 0 rfl) ?_
        refine rg_ti C hX d_Ring_tick_35 ?_
        refine rr_w C hX (c_Ring_wake2 l D a k w 3 (rti w) ) mi_Ring_78 ⟨⟨rfl, rfl⟩, Nat.le_of_ble_eq_true rfl, Nat.le_of_ble_eq_true rfl⟩ rfl rfl hl.1 (Nat.le_of_ble_eq_true rfl) d_Ring_tick_38 ⟨Nat.zero_le _, Nat.zero_le _⟩ (fun H locs (hX : VX D A s.heap (rW a k (rWake w 3 (rti w)).2) H locs) => ?_)
        refine lv_pop hx hb d_Ring_tick_41 rfl ?_
        refine lv_aload_n hx hb d_Ring_tick_42 rfl (lv_at hl 0 rfl) ?_
        refine rg_ti C hX d_Ring_tick_43 ?_
        exact hret H locs (rti (rWake w 3 (rti w)).2) (rWake w 3 (rti w)).2 46 ls (vp_nar_int _) (tick_end hn h15 hn4 ew) hX d_Ring_tick_46
      · -- Ring_tick 17 F
        have hlt : i < n0 := lt_N (by rw [ew, tickL_pr]; exact hn) (by omega) c1
        refine lv_aload_n hx hb d_Ring_tick_20 rfl (lv_at hl 0 rfl) ?_
        refine lv_iload_n hx hb d_Ring_tick_21 rfl (lv_at hl 1 rfl) ?_
        refine rr_w C hX (c_Ring_rest l D a k w (nI i) (by rw [ew]; exact rok_tickL hg i)) mi_Ring_81 ⟨⟨rfl, rfl⟩, Nat.le_of_ble_eq_true rfl, Nat.le_of_ble_eq_true rfl⟩ rfl rfl hl.1 (Nat.le_of_ble_eq_true rfl) d_Ring_tick_22 ⟨Nat.zero_le _, Nat.zero_le _⟩ (fun H locs (hX : VX D A s.heap (rW a k (rLeave w (nI i) 1).2) H locs) => ?_)
        refine lv_pop hx hb d_Ring_tick_25 rfl ?_
        refine lv_iinc (v := (nI (i + 1))) (lv' := [(1, .int (nI (i + 1))), (0, .ref (a 0))]) hx hb d_Ring_tick_26 hl (k := 1) rfl (nI_1 i) (by decide) rfl (fun ls hl => ?_)
        refine lv_goto (tgt := 12) hx hb d_Ring_tick_29 (by decide) ?_
        exact ih (i + 1) (rLeave w (nI i) 1).2 H locs ls (by omega) (by rw [ew]; rfl) (by omega) hX (lv_sub hl [1, 0] rfl)
  refine lv_aload_n hx hb d_Ring_tick_0 rfl (lv_at hl 0 rfl) ?_
  refine lv_dup hx hb d_Ring_tick_1 rfl ?_
  refine rg_ti C hX d_Ring_tick_2 ?_
  refine lv_iconst (v := 1) hx hb d_Ring_tick_5 (by decide) ?_
  refine lv_iadd hx hb d_Ring_tick_6 ?_
  refine rp_ti C hX d_Ring_tick_7 (fun H locs (hX : VX D A s.heap (rW a k (zrti v ((rti v) + 1))) H locs) => ?_)
  refine lv_iconst (v := 0) hx hb d_Ring_tick_10 (by decide) ?_
  refine lv_istore_n (lv' := [(1, .int 0), (0, .ref (a 0))]) hx hb d_Ring_tick_11 rfl hl (by decide) rfl (fun ls hl => ?_)
  exact L12 _ 0 (zrti v ((rti v) + 1)) H locs ls (by omega) (rfl) (Nat.lt_succ_self _) hX (lv_sub hl [1, 0] rfl)
abbrev rm_Ring_fork : Room := { frames := 1, cells := 0, slots := 0, locals := 22 }
set_option maxHeartbeats 4000000 in
set_option maxRecDepth 100000 in
theorem c_Ring_fork (l : Launch) (D : va_G) (a k : Nat → Nat) (v : RS) (q : Int32) (hg : Rok v) : MCi l y_Ring_fork b_Ring_fork 4 .int rm_Ring_fork [.ref (a 0), .int q] D (rT k) false (rW a k) v (fun r u => (r, u) = (rFork v q)) := by
  refine MCi.of R_Ring rfl (by decide +kernel) (Nat.le_of_ble_eq_true rfl) ?_
  intro p e s m args below meth c A Q ls H locs C hX hl hret
  have hx := C.1.1
  have hb := C.1.2.1
  have hl : lv_has ls 4 [(0, .ref (a 0)), (1, .int q)] := hl
  have L8 : ∀ (n : Nat) (i : Nat) (H : Heap) (locs : List Loc) (ls : Array Slot), (i ≤ 15) → (∀ j, j < i → ¬ rst v j = 0) → 15 - i < n → VX D A s.heap (rW a k v) H locs → lv_has ls 4 [(0, .ref (a 0)), (1, .int q), (2, .int (rAt v q)), (3, .int (nI i))] → W p l e rm_Ring_fork s m args below meth c H locs 0 0 Q (F0 m 8 ls []) := by
    intro n
    induction n with
    | zero => intro i H locs ls hi hz hm; exact absurd hm (Nat.not_lt_zero _)
    | succ n ih =>
      intro i H locs ls hi hz hm hX hl
      refine lv_iload_n hx hb d_Ring_fork_8 rfl (lv_at hl 3 rfl) ?_
      refine lv_bipush (v := 15) hx hb d_Ring_fork_9 (by decide) ?_
      refine lv_icmp_ge (tgt := 29) hx hb d_Ring_fork_11 (by decide) (fun (c1 : (15 : Int32) ≤ (nI i)) => ?_) (fun (c1 : ¬ (15 : Int32) ≤ (nI i)) => ?_)
      · -- Ring_fork 11 T
        have h15 : i = 15 := ge_N (n := 15) rfl hi (by decide) c1
        have hf : fst (fun j => rst v j = 0) 15 = i := fst_is hi hz (Or.inl h15)
        refine lv_iload_n hx hb d_Ring_fork_29 rfl (lv_at hl 2 rfl) ?_
        refine lv_iconst (v := (-1)) hx hb d_Ring_fork_30 (by decide) ?_
        refine lv_icmp_eq (tgt := 40) hx hb d_Ring_fork_31 (by decide) (fun (c2 : (rAt v q) = (-1)) => ?_) (fun (c2 : ¬ (rAt v q) = (-1)) => ?_)
        · -- Ring_fork 31 T
          refine lv_iconst (v := (-1)) hx hb d_Ring_fork_40 (by decide) ?_
          exact hret H locs (-1) v 41 ls (vp_nar_int _) (by simp only [rFork, if_pos c1, if_pos c2]) hX d_Ring_fork_41
        · -- Ring_fork 31 F
          have hat := pl_in (rok_at hg) c2
          refine lv_iload_n hx hb d_Ring_fork_34 rfl (lv_at hl 3 rfl) ?_
          refine lv_bipush (v := 15) hx hb d_Ring_fork_35 (by decide) ?_
          refine lv_icmp_ne (tgt := 42) hx hb d_Ring_fork_37 (by decide) (fun (c3 : ¬ (nI i) = 15) => ?_) (fun (c3 : (nI i) = 15) => ?_)
          · -- Ring_fork 37 T
            have h16 : ¬ i = 15 := fun z => c3 (by rw [z]; rfl)
            refine lv_aload_n hx hb d_Ring_fork_42 rfl (lv_at hl 0 rfl) ?_
            refine lv_iload_n hx hb d_Ring_fork_43 rfl (lv_at hl 3 rfl) ?_
            refine lv_aload_n hx hb d_Ring_fork_44 rfl (lv_at hl 0 rfl) ?_
            refine rg_nu C hX d_Ring_fork_45 ?_
            refine lv_iload_n hx hb d_Ring_fork_48 rfl (lv_at hl 2 rfl) ?_
            refine ra_nu C hX hat rfl d_Ring_fork_49 ?_
            refine rr_v C hX (c_Ring_put l D a k v (nI i) (rnu v (ix (rAt v q))) (vp_in_nI (by omega) (by decide))) mi_Ring_53 ⟨⟨rfl, rfl⟩, Nat.le_of_ble_eq_true rfl, Nat.le_of_ble_eq_true rfl⟩ rfl rfl hl.1 (Nat.le_of_ble_eq_true rfl) d_Ring_fork_50 ⟨Nat.zero_le _, Nat.zero_le _⟩ (fun H locs (hX : VX D A s.heap (rW a k (rPut v (nI i) (rnu v (ix (rAt v q))))) H locs) => ?_)
            refine lv_iload_n hx hb d_Ring_fork_53 rfl (lv_at hl 3 rfl) ?_
            exact hret H locs (nI i) (rPut v (nI i) (rnu v (ix (rAt v q)))) 54 ls (vp_nar_int _) (by simp only [rFork, hf, if_neg h16, if_pos c1, if_neg c2, if_neg c3]) hX d_Ring_fork_54
          · -- Ring_fork 37 F
            have h16 : i = 15 := (nI_eq (by omega) (by decide)).mp c3
            refine lv_iconst (v := (-1)) hx hb d_Ring_fork_40 (by decide) ?_
            exact hret H locs (-1) v 41 ls (vp_nar_int _) (by simp only [rFork, hf, if_pos h16, if_pos c1, if_neg c2, if_pos c3]) hX d_Ring_fork_41
      · -- Ring_fork 11 F
        have hlt : i < 15 := lt_N (n := 15) rfl (by omega) c1
        refine lv_aload_n hx hb d_Ring_fork_14 rfl (lv_at hl 0 rfl) ?_
        refine rg_st C hX d_Ring_fork_15 ?_
        refine lv_iload_n hx hb d_Ring_fork_18 rfl (lv_at hl 3 rfl) ?_
        refine ra_st C hX (vp_in_nI hlt (by decide)) (nI_clamp (by omega)) d_Ring_fork_19 ?_
        refine lv_if_eq (tgt := 29) hx hb d_Ring_fork_20 (by decide) (fun (c4 : (rst v i) = 0) => ?_) (fun (c4 : ¬ (rst v i) = 0) => ?_)
        · -- Ring_fork 20 T
          have hf : fst (fun j => rst v j = 0) 15 = i := fst_is hi hz (Or.inr c4)
          refine lv_iload_n hx hb d_Ring_fork_29 rfl (lv_at hl 2 rfl) ?_
          refine lv_iconst (v := (-1)) hx hb d_Ring_fork_30 (by decide) ?_
          refine lv_icmp_eq (tgt := 40) hx hb d_Ring_fork_31 (by decide) (fun (c5 : (rAt v q) = (-1)) => ?_) (fun (c5 : ¬ (rAt v q) = (-1)) => ?_)
          · -- Ring_fork 31 T
            refine lv_iconst (v := (-1)) hx hb d_Ring_fork_40 (by decide) ?_
            exact hret H locs (-1) v 41 ls (vp_nar_int _) (by simp only [rFork, if_neg c1, if_pos c4, if_pos c5]) hX d_Ring_fork_41
          · -- Ring_fork 31 F
            have hat := pl_in (rok_at hg) c5
            refine lv_iload_n hx hb d_Ring_fork_34 rfl (lv_at hl 3 rfl) ?_
            refine lv_bipush (v := 15) hx hb d_Ring_fork_35 (by decide) ?_
            refine lv_icmp_ne (tgt := 42) hx hb d_Ring_fork_37 (by decide) (fun (c6 : ¬ (nI i) = 15) => ?_) (fun (c6 : (nI i) = 15) => ?_)
            · -- Ring_fork 37 T
              have h16 : ¬ i = 15 := fun z => c6 (by rw [z]; rfl)
              refine lv_aload_n hx hb d_Ring_fork_42 rfl (lv_at hl 0 rfl) ?_
              refine lv_iload_n hx hb d_Ring_fork_43 rfl (lv_at hl 3 rfl) ?_
              refine lv_aload_n hx hb d_Ring_fork_44 rfl (lv_at hl 0 rfl) ?_
              refine rg_nu C hX d_Ring_fork_45 ?_
              refine lv_iload_n hx hb d_Ring_fork_48 rfl (lv_at hl 2 rfl) ?_
              refine ra_nu C hX hat rfl d_Ring_fork_49 ?_
              refine rr_v C hX (c_Ring_put l D a k v (nI i) (rnu v (ix (rAt v q))) (vp_in_nI (by omega) (by decide))) mi_Ring_53 ⟨⟨rfl, rfl⟩, Nat.le_of_ble_eq_true rfl, Nat.le_of_ble_eq_true rfl⟩ rfl rfl hl.1 (Nat.le_of_ble_eq_true rfl) d_Ring_fork_50 ⟨Nat.zero_le _, Nat.zero_le _⟩ (fun H locs (hX : VX D A s.heap (rW a k (rPut v (nI i) (rnu v (ix (rAt v q))))) H locs) => ?_)
              refine lv_iload_n hx hb d_Ring_fork_53 rfl (lv_at hl 3 rfl) ?_
              exact hret H locs (nI i) (rPut v (nI i) (rnu v (ix (rAt v q)))) 54 ls (vp_nar_int _) (by simp only [rFork, hf, if_neg h16, if_neg c1, if_pos c4, if_neg c5, if_neg c6]) hX d_Ring_fork_54
            · -- Ring_fork 37 F
              have h16 : i = 15 := (nI_eq (by omega) (by decide)).mp c6
              refine lv_iconst (v := (-1)) hx hb d_Ring_fork_40 (by decide) ?_
              exact hret H locs (-1) v 41 ls (vp_nar_int _) (by simp only [rFork, hf, if_pos h16, if_neg c1, if_pos c4, if_neg c5, if_pos c6]) hX d_Ring_fork_41
        · -- Ring_fork 20 F
          refine lv_iinc (v := (nI (i + 1))) (lv' := [(3, .int (nI (i + 1))), (0, .ref (a 0)), (1, .int q), (2, .int (rAt v q))]) hx hb d_Ring_fork_23 hl (k := 3) rfl (nI_1 i) (by decide) rfl (fun ls hl => ?_)
          refine lv_goto (tgt := 8) hx hb d_Ring_fork_26 (by decide) ?_
          exact ih (i + 1) H locs ls (by omega) (lt_s hz c4) (by omega) hX (lv_sub hl [1, 2, 3, 0] rfl)
  refine lv_aload_n hx hb d_Ring_fork_0 rfl (lv_at hl 0 rfl) ?_
  refine lv_iload_n hx hb d_Ring_fork_1 rfl (lv_at hl 1 rfl) ?_
  refine rr_r C hX (c_Ring_at l D a k v q hg) mi_Ring_60 ⟨⟨rfl, rfl⟩, Nat.le_of_ble_eq_true rfl, Nat.le_of_ble_eq_true rfl⟩ rfl rfl hl.1 (Nat.le_of_ble_eq_true rfl) d_Ring_fork_2 ⟨Nat.zero_le _, Nat.zero_le _⟩ (fun H locs (hX : VX D A s.heap (rW a k v) H locs) => ?_)
  refine lv_istore_n (lv' := [(2, .int (rAt v q)), (0, .ref (a 0)), (1, .int q)]) hx hb d_Ring_fork_5 rfl hl (by decide) rfl (fun ls hl => ?_)
  refine lv_iconst (v := 0) hx hb d_Ring_fork_6 (by decide) ?_
  refine lv_istore_n (lv' := [(3, .int 0), (2, .int (rAt v q)), (0, .ref (a 0)), (1, .int q)]) hx hb d_Ring_fork_7 rfl hl (by decide) rfl (fun ls hl => ?_)
  exact L8 _ 0 H locs ls (by omega) (lt_0) (Nat.lt_succ_self _) hX (lv_sub hl [2, 3, 1, 0] rfl)
abbrev rm_Ring_exit : Room := { frames := 2, cells := 0, slots := 0, locals := 44 }
set_option maxHeartbeats 4000000 in
set_option maxRecDepth 100000 in
theorem c_Ring_exit (l : Launch) (D : va_G) (a k : Nat → Nat) (v : RS) (q : Int32) (x : Int32) (hg : Rok v) : MCi l y_Ring_exit b_Ring_exit 6 .int rm_Ring_exit [.ref (a 0), .int q, .int x] D (rT k) false (rW a k) v (fun r u => (r, u) = (rExit v q x)) := by
  refine MCi.of R_Ring rfl (by decide +kernel) (Nat.le_of_ble_eq_true rfl) ?_
  intro p e s m args below meth c A Q ls H locs C hX hl hret
  have hx := C.1.1
  have hb := C.1.2.1
  have hl : lv_has ls 6 [(0, .ref (a 0)), (1, .int q), (2, .int x)] := hl
  have L42 : ∀ (n : Nat) (i : Nat) (z : Int32) (w : RS) (H : Heap) (locs : List Loc) (ls : Array Slot), (i ≤ 15) → (¬ (rLeave v q 4).1 = -1) → (¬ (rLeave v q 4).1 = 0) → (vp_in (rLeave v q 4).1 15) → (z = any1 (fun j => rKid (zrsa (rLeave v q 4).2 (upd (rsa (rLeave v q 4).2) (ix (rLeave v q 4).1) x)) (rnu (zrsa (rLeave v q 4).2 (upd (rsa (rLeave v q 4).2) (ix (rLeave v q 4).1) x)) (ix (rLeave v q 4).1)) j ∧ rst (zrsa (rLeave v q 4).2 (upd (rsa (rLeave v q 4).2) (ix (rLeave v q 4).1) x)) j = 4) i) → (w = zrpa (zrsa (rLeave v q 4).2 (upd (rsa (rLeave v q 4).2) (ix (rLeave v q 4).1) x)) (rpP (zrsa (rLeave v q 4).2 (upd (rsa (rLeave v q 4).2) (ix (rLeave v q 4).1) x)) (rnu (zrsa (rLeave v q 4).2 (upd (rsa (rLeave v q 4).2) (ix (rLeave v q 4).1) x)) (ix (rLeave v q 4).1)) i)) → 15 - i < n → VX D A s.heap (rW a k w) H locs → lv_has ls 6 [(0, .ref (a 0)), (1, .int q), (2, .int x), (3, .int (rLeave v q 4).1), (4, .int z), (5, .int (nI i))] → W p l e rm_Ring_exit s m args below meth c H locs 0 0 Q (F0 m 42 ls []) := by
    intro n
    induction n with
    | zero => intro i z w H locs ls hi d1 d2 hp0 ez ew hm; exact absurd hm (Nat.not_lt_zero _)
    | succ n ih =>
      intro i z w H locs ls hi d1 d2 hp0 ez ew hm hX hl
      refine lv_iload hx hb d_Ring_exit_42 (lv_at hl 5 rfl) ?_
      refine lv_bipush (v := 15) hx hb d_Ring_exit_44 (by decide) ?_
      refine lv_icmp_ge (tgt := 113) hx hb d_Ring_exit_46 (by decide) (fun (c1 : (15 : Int32) ≤ (nI i)) => ?_) (fun (c1 : ¬ (15 : Int32) ≤ (nI i)) => ?_)
      · -- Ring_exit 46 T
        have h15 : i = 15 := ge_N (n := 15) rfl hi (by decide) c1
        refine lv_aload_n hx hb d_Ring_exit_113 rfl (lv_at hl 0 rfl) ?_
        refine lv_iconst (v := 2) hx hb d_Ring_exit_114 (by decide) ?_
        refine lv_aload_n hx hb d_Ring_exit_115 rfl (lv_at hl 0 rfl) ?_
        refine rg_pa C hX d_Ring_exit_116 ?_
        refine lv_iload_n hx hb d_Ring_exit_119 rfl (lv_at hl 3 rfl) ?_
        refine ra_pa C hX hp0 rfl d_Ring_exit_120 ?_
        refine rr_w C hX (c_Ring_wake2 l D a k w 2 (rpa w (ix (rLeave v q 4).1)) ) mi_Ring_78 ⟨⟨rfl, rfl⟩, Nat.le_of_ble_eq_true rfl, Nat.le_of_ble_eq_true rfl⟩ rfl rfl hl.1 (Nat.le_of_ble_eq_true rfl) d_Ring_exit_121 ⟨Nat.zero_le _, Nat.zero_le _⟩ (fun H locs (hX : VX D A s.heap (rW a k (rWake w 2 (rpa w (ix (rLeave v q 4).1))).2) H locs) => ?_)
        refine lv_pop hx hb d_Ring_exit_124 rfl ?_
        refine lv_iload hx hb d_Ring_exit_125 (lv_at hl 4 rfl) ?_
        refine lv_if_eq (tgt := 137) hx hb d_Ring_exit_127 (by decide) (fun (c2 : z = 0) => ?_) (fun (c2 : ¬ z = 0) => ?_)
        · -- Ring_exit 127 T
          have k4 := c2
          refine lv_iload_n hx hb d_Ring_exit_137 rfl (lv_at hl 3 rfl) ?_
          exact hret H locs (rLeave v q 4).1 (rWake w 2 (rpa w (ix (rLeave v q 4).1))).2 138 ls (vp_nar_int _) (by subst h15; rw [ez] at k4; simp only [rExit, if_neg d1, if_neg d2, rEnd, if_pos k4]; rw [ew]) hX d_Ring_exit_138
        · -- Ring_exit 127 F
          have k4 := c2
          refine lv_aload_n hx hb d_Ring_exit_130 rfl (lv_at hl 0 rfl) ?_
          refine lv_iconst (v := 2) hx hb d_Ring_exit_131 (by decide) ?_
          refine lv_iconst (v := 1) hx hb d_Ring_exit_132 (by decide) ?_
          refine rr_w C hX (c_Ring_wake2 l D a k (rWake w 2 (rpa w (ix (rLeave v q 4).1))).2 2 1 ) mi_Ring_78 ⟨⟨rfl, rfl⟩, Nat.le_of_ble_eq_true rfl, Nat.le_of_ble_eq_true rfl⟩ rfl rfl hl.1 (Nat.le_of_ble_eq_true rfl) d_Ring_exit_133 ⟨Nat.zero_le _, Nat.zero_le _⟩ (fun H locs (hX : VX D A s.heap (rW a k (rWake (rWake w 2 (rpa w (ix (rLeave v q 4).1))).2 2 1).2) H locs) => ?_)
          refine lv_pop hx hb d_Ring_exit_136 rfl ?_
          refine lv_iload_n hx hb d_Ring_exit_137 rfl (lv_at hl 3 rfl) ?_
          exact hret H locs (rLeave v q 4).1 (rWake (rWake w 2 (rpa w (ix (rLeave v q 4).1))).2 2 1).2 138 ls (vp_nar_int _) (by subst h15; rw [ez] at k4; simp only [rExit, if_neg d1, if_neg d2, rEnd, if_neg k4]; rw [ew]) hX d_Ring_exit_138
      · -- Ring_exit 46 F
        have hlt : i < 15 := lt_N (n := 15) rfl (by omega) c1
        refine lv_aload_n hx hb d_Ring_exit_49 rfl (lv_at hl 0 rfl) ?_
        refine rg_st C hX d_Ring_exit_50 ?_
        refine lv_iload hx hb d_Ring_exit_53 (lv_at hl 5 rfl) ?_
        refine ra_st C hX (vp_in_nI hlt (by decide)) (nI_clamp (by omega)) d_Ring_exit_55 ?_
        refine lv_if_eq (tgt := 107) hx hb d_Ring_exit_56 (by decide) (fun (c3 : (rst w i) = 0) => ?_) (fun (c3 : ¬ (rst w i) = 0) => ?_)
        · -- Ring_exit 56 T
          have k1 := c3
          refine lv_iinc (v := (nI (i + 1))) (lv' := [(5, .int (nI (i + 1))), (0, .ref (a 0)), (1, .int q), (2, .int x), (3, .int (rLeave v q 4).1), (4, .int z)]) hx hb d_Ring_exit_107 hl (k := 5) rfl (nI_1 i) (by decide) rfl (fun ls hl => ?_)
          refine lv_goto (tgt := 42) hx hb d_Ring_exit_110 (by decide) ?_
          exact ih (i + 1) z w H locs ls (by omega) (d1) (d2) (hp0) (by rw [ez]; exact any_no' (fun y => ((rp_kid ew).mp y).1.1 k1)) (rp_no ew (Or.inl k1)) (by omega) hX (lv_sub hl [1, 2, 3, 4, 5, 0] rfl)
        · -- Ring_exit 56 F
          have k1 := c3
          refine lv_aload_n hx hb d_Ring_exit_59 rfl (lv_at hl 0 rfl) ?_
          refine rg_pa C hX d_Ring_exit_60 ?_
          refine lv_iload hx hb d_Ring_exit_63 (lv_at hl 5 rfl) ?_
          refine ra_pa C hX (vp_in_nI hlt (by decide)) (nI_clamp (by omega)) d_Ring_exit_65 ?_
          refine lv_aload_n hx hb d_Ring_exit_66 rfl (lv_at hl 0 rfl) ?_
          refine rg_nu C hX d_Ring_exit_67 ?_
          refine lv_iload_n hx hb d_Ring_exit_70 rfl (lv_at hl 3 rfl) ?_
          refine ra_nu C hX hp0 rfl d_Ring_exit_71 ?_
          refine lv_icmp_eq (tgt := 78) hx hb d_Ring_exit_72 (by decide) (fun (c4 : (rpa w i) = (rnu w (ix (rLeave v q 4).1))) => ?_) (fun (c4 : ¬ (rpa w i) = (rnu w (ix (rLeave v q 4).1))) => ?_)
          · -- Ring_exit 72 T
            have k2 := c4
            refine lv_aload_n hx hb d_Ring_exit_78 rfl (lv_at hl 0 rfl) ?_
            refine rg_pa C hX d_Ring_exit_79 ?_
            refine lv_iload hx hb d_Ring_exit_82 (lv_at hl 5 rfl) ?_
            refine lv_iconst (v := 1) hx hb d_Ring_exit_84 (by decide) ?_
            refine rs_pa C hX (vp_in_nI hlt (by decide)) (nI_clamp (by omega)) d_Ring_exit_85 (fun H locs (hX : VX D A s.heap (rW a k (zrpa w (upd (rpa w) i 1))) H locs) => ?_)
            refine lv_iload hx hb d_Ring_exit_86 (lv_at hl 4 rfl) ?_
            refine lv_aload_n hx hb d_Ring_exit_88 rfl (lv_at hl 0 rfl) ?_
            refine rg_st C hX d_Ring_exit_89 ?_
            refine lv_iload hx hb d_Ring_exit_92 (lv_at hl 5 rfl) ?_
            refine ra_st C hX (vp_in_nI hlt (by decide)) (nI_clamp (by omega)) d_Ring_exit_94 ?_
            refine lv_iconst (v := 4) hx hb d_Ring_exit_95 (by decide) ?_
            refine lv_icmp_ne (tgt := 103) hx hb d_Ring_exit_96 (by decide) (fun (c5 : ¬ (rst w i) = 4) => ?_) (fun (c5 : (rst w i) = 4) => ?_)
            · -- Ring_exit 96 T
              have k3 := c5
              refine lv_iconst (v := 0) hx hb d_Ring_exit_103 (by decide) ?_
              refine lv_ior hx hb d_Ring_exit_104 ?_
              refine lv_istore (lv' := [(4, .int (z ||| 0)), (0, .ref (a 0)), (1, .int q), (2, .int x), (3, .int (rLeave v q 4).1), (5, .int (nI i))]) hx hb d_Ring_exit_105 hl (by decide) rfl (fun ls hl => ?_)
              refine lv_iinc (v := (nI (i + 1))) (lv' := [(5, .int (nI (i + 1))), (4, .int (z ||| 0)), (0, .ref (a 0)), (1, .int q), (2, .int x), (3, .int (rLeave v q 4).1)]) hx hb d_Ring_exit_107 hl (k := 5) rfl (nI_1 i) (by decide) rfl (fun ls hl => ?_)
              refine lv_goto (tgt := 42) hx hb d_Ring_exit_110 (by decide) ?_
              exact ih (i + 1) (z ||| 0) (zrpa w (upd (rpa w) i 1)) H locs ls (by omega) (d1) (d2) (hp0) (by rw [ez]; exact any_no (fun y => k3 ((rp_kid ew).mp y).2)) (rp_yes ew k1 (by rw [k2, ew])) (by omega) hX (lv_sub hl [2, 3, 4, 5, 1, 0] rfl)
            · -- Ring_exit 96 F
              have k3 := c5
              refine lv_iconst (v := 1) hx hb d_Ring_exit_99 (by decide) ?_
              refine lv_goto (tgt := 104) hx hb d_Ring_exit_100 (by decide) ?_
              refine lv_ior hx hb d_Ring_exit_104 ?_
              refine lv_istore (lv' := [(4, .int (z ||| 1)), (0, .ref (a 0)), (1, .int q), (2, .int x), (3, .int (rLeave v q 4).1), (5, .int (nI i))]) hx hb d_Ring_exit_105 hl (by decide) rfl (fun ls hl => ?_)
              refine lv_iinc (v := (nI (i + 1))) (lv' := [(5, .int (nI (i + 1))), (4, .int (z ||| 1)), (0, .ref (a 0)), (1, .int q), (2, .int x), (3, .int (rLeave v q 4).1)]) hx hb d_Ring_exit_107 hl (k := 5) rfl (nI_1 i) (by decide) rfl (fun ls hl => ?_)
              refine lv_goto (tgt := 42) hx hb d_Ring_exit_110 (by decide) ?_
              exact ih (i + 1) (z ||| 1) (zrpa w (upd (rpa w) i 1)) H locs ls (by omega) (d1) (d2) (hp0) (by rw [ez]; exact any_yes ((rp_kid ew).mpr ⟨⟨k1, by rw [k2, ew]⟩, k3⟩)) (rp_yes ew k1 (by rw [k2, ew])) (by omega) hX (lv_sub hl [2, 3, 4, 5, 1, 0] rfl)
          · -- Ring_exit 72 F
            have k2 := c4
            refine lv_goto (tgt := 107) hx hb d_Ring_exit_75 (by decide) ?_
            refine lv_iinc (v := (nI (i + 1))) (lv' := [(5, .int (nI (i + 1))), (0, .ref (a 0)), (1, .int q), (2, .int x), (3, .int (rLeave v q 4).1), (4, .int z)]) hx hb d_Ring_exit_107 hl (k := 5) rfl (nI_1 i) (by decide) rfl (fun ls hl => ?_)
            refine lv_goto (tgt := 42) hx hb d_Ring_exit_110 (by decide) ?_
            exact ih (i + 1) z w H locs ls (by omega) (d1) (d2) (hp0) (by rw [ez]; exact any_no' (fun y => k2 (by rw [((rp_kid ew).mp y).1.2, ew]))) (rp_no ew (Or.inr (fun y => k2 (by rw [y, ew])))) (by omega) hX (lv_sub hl [1, 2, 3, 4, 5, 0] rfl)
  refine lv_aload_n hx hb d_Ring_exit_0 rfl (lv_at hl 0 rfl) ?_
  refine lv_iload_n hx hb d_Ring_exit_1 rfl (lv_at hl 1 rfl) ?_
  refine lv_iconst (v := 4) hx hb d_Ring_exit_2 (by decide) ?_
  refine rr_w C hX (c_Ring_leave l D a k v q 4 hg) mi_Ring_64 ⟨⟨rfl, rfl⟩, Nat.le_of_ble_eq_true rfl, Nat.le_of_ble_eq_true rfl⟩ rfl rfl hl.1 (Nat.le_of_ble_eq_true rfl) d_Ring_exit_3 ⟨Nat.zero_le _, Nat.zero_le _⟩ (fun H locs (hX : VX D A s.heap (rW a k (rLeave v q 4).2) H locs) => ?_)
  refine lv_istore_n (lv' := [(3, .int (rLeave v q 4).1), (0, .ref (a 0)), (1, .int q), (2, .int x)]) hx hb d_Ring_exit_6 rfl hl (by decide) rfl (fun ls hl => ?_)
  refine lv_iload_n hx hb d_Ring_exit_7 rfl (lv_at hl 0 rfl) ?_
  refine lv_iconst (v := (-1)) hx hb d_Ring_exit_8 (by decide) ?_
  refine lv_icmp_ne (tgt := 14) hx hb d_Ring_exit_9 (by decide) (fun (c6 : ¬ (rLeave v q 4).1 = (-1)) => ?_) (fun (c6 : (rLeave v q 4).1 = (-1)) => ?_)
  · -- Ring_exit 9 T
    have d1 := c6
    have hp0 := pl_in (rok_leave1 (s := 4) hg) c6
    refine lv_iload_n hx hb d_Ring_exit_14 rfl (lv_at hl 0 rfl) ?_
    refine lv_if_ne (tgt := 29) hx hb d_Ring_exit_15 (by decide) (fun (c7 : ¬ (rLeave v q 4).1 = 0) => ?_) (fun (c7 : (rLeave v q 4).1 = 0) => ?_)
    · -- Ring_exit 15 T
      have d2 := c7
      refine lv_aload_n hx hb d_Ring_exit_29 rfl (lv_at hl 1 rfl) ?_
      refine rg_sa C hX d_Ring_exit_30 ?_
      refine lv_iload_n hx hb d_Ring_exit_33 rfl (lv_at hl 0 rfl) ?_
      refine lv_iload_n hx hb d_Ring_exit_34 rfl (lv_at hl 3 rfl) ?_
      refine rs_sa C hX hp0 rfl d_Ring_exit_35 (fun H locs (hX : VX D A s.heap (rW a k (zrsa (rLeave v q 4).2 (upd (rsa (rLeave v q 4).2) (ix (rLeave v q 4).1) x))) H locs) => ?_)
      refine lv_iconst (v := 0) hx hb d_Ring_exit_36 (by decide) ?_
      refine lv_istore (lv' := [(4, .int 0), (3, .int (rLeave v q 4).1), (0, .ref (a 0)), (1, .int q), (2, .int x)]) hx hb d_Ring_exit_37 hl (by decide) rfl (fun ls hl => ?_)
      refine lv_iconst (v := 0) hx hb d_Ring_exit_39 (by decide) ?_
      refine lv_istore (lv' := [(5, .int 0), (4, .int 0), (3, .int (rLeave v q 4).1), (0, .ref (a 0)), (1, .int q), (2, .int x)]) hx hb d_Ring_exit_40 hl (by decide) rfl (fun ls hl => ?_)
      exact L42 _ 0 0 (zrsa (rLeave v q 4).2 (upd (rsa (rLeave v q 4).2) (ix (rLeave v q 4).1) x)) H locs ls (by omega) (d1) (d2) (hp0) (rfl) (rpP_0) (Nat.lt_succ_self _) hX (lv_sub hl [3, 4, 5, 2, 1, 0] rfl)
    · -- Ring_exit 15 F
      refine lv_aload_n hx hb d_Ring_exit_18 rfl (lv_at hl 1 rfl) ?_
      refine lv_iload_n hx hb d_Ring_exit_19 rfl (lv_at hl 3 rfl) ?_
      refine rp_su C hX d_Ring_exit_20 (fun H locs (hX : VX D A s.heap (rW a k (zrsu (rLeave v q 4).2 x)) H locs) => ?_)
      refine lv_aload_n hx hb d_Ring_exit_23 rfl (lv_at hl 1 rfl) ?_
      refine rr_v C hX (c_Ring_clear l D a k (zrsu (rLeave v q 4).2 x)  ) mi_Ring_41 ⟨⟨rfl, rfl⟩, Nat.le_of_ble_eq_true rfl, Nat.le_of_ble_eq_true rfl⟩ rfl rfl hl.1 (Nat.le_of_ble_eq_true rfl) d_Ring_exit_24 ⟨Nat.zero_le _, Nat.zero_le _⟩ (fun H locs (hX : VX D A s.heap (rW a k (rClear (zrsu (rLeave v q 4).2 x))) H locs) => ?_)
      refine lv_iconst (v := 0) hx hb d_Ring_exit_27 (by decide) ?_
      exact hret H locs 0 (rClear (zrsu (rLeave v q 4).2 x)) 28 ls (vp_nar_int _) (by simp only [rExit, if_neg c6, if_pos c7]) hX d_Ring_exit_28
  · -- Ring_exit 9 F
    refine lv_iconst (v := (-1)) hx hb d_Ring_exit_12 (by decide) ?_
    exact hret H locs (-1) (rLeave v q 4).2 13 ls (vp_nar_int _) (by simp only [rExit, if_pos c6]) hX d_Ring_exit_13
abbrev rm_Ring_await : Room := { frames := 3, cells := 0, slots := 0, locals := 68 }
set_option maxHeartbeats 4000000 in
set_option maxRecDepth 100000 in
theorem c_Ring_await (l : Launch) (D : va_G) (a k : Nat → Nat) (v : RS) (q : Int32) (hg : Rok v) : MCi l y_Ring_await b_Ring_await 6 .int rm_Ring_await [.ref (a 0), .int q] D (rT k) false (rW a k) v (fun r u => (r, u) = (rAwait v q)) := by
  refine MCi.of R_Ring rfl (by decide +kernel) (Nat.le_of_ble_eq_true rfl) ?_
  intro p e s m args below meth c A Q ls H locs C hX hl hret
  have hx := C.1.1
  have hb := C.1.2.1
  have hl : lv_has ls 6 [(0, .ref (a 0)), (1, .int q)] := hl
  have L11 : ∀ (n : Nat) (i : Nat) (z : Int32) (H : Heap) (locs : List Loc) (ls : Array Slot), (i ≤ 15) → (rAt v q = -1 → i = 0) → (z = any1 (rKid v (rnu v (ix (rAt v q)))) i) → (∀ j, j < i → ¬ (rKid v (rnu v (ix (rAt v q))) j ∧ rst v j = 4)) → 15 - i < n → VX D A s.heap (rW a k v) H locs → lv_has ls 6 [(0, .ref (a 0)), (1, .int q), (2, .int (rAt v q)), (3, .int z), (4, .int (nI i))] → W p l e rm_Ring_await s m args below meth c H locs 0 0 Q (F0 m 11 ls []) := by
    intro n
    induction n with
    | zero => intro i z H locs ls hi h0 ez hz hm; exact absurd hm (Nat.not_lt_zero _)
    | succ n ih =>
      intro i z H locs ls hi h0 ez hz hm hX hl
      refine lv_iload hx hb d_Ring_await_11 (lv_at hl 4 rfl) ?_
      refine lv_bipush (v := 15) hx hb d_Ring_await_13 (by decide) ?_
      refine lv_icmp_ge (tgt := 90) hx hb d_Ring_await_15 (by decide) (fun (c1 : (15 : Int32) ≤ (nI i)) => ?_) (fun (c1 : ¬ (15 : Int32) ≤ (nI i)) => ?_)
      · -- Ring_await 15 T
        have h15 : i = 15 := ge_N (n := 15) rfl hi (by decide) c1
        refine lv_iload_n hx hb d_Ring_await_90 rfl (lv_at hl 3 rfl) ?_
        refine lv_if_ne (tgt := 96) hx hb d_Ring_await_91 (by decide) (fun (c2 : ¬ z = 0) => ?_) (fun (c2 : z = 0) => ?_)
        · -- Ring_await 91 T
          have k4 := c2
          have hne : ¬ rAt v q = -1 := aw_ne h0 ez c2
          have hat := pl_in (rok_at hg) hne
          refine lv_aload_n hx hb d_Ring_await_96 rfl (lv_at hl 0 rfl) ?_
          refine lv_iload_n hx hb d_Ring_await_97 rfl (lv_at hl 1 rfl) ?_
          refine lv_iconst (v := 2) hx hb d_Ring_await_98 (by decide) ?_
          refine lv_aload_n hx hb d_Ring_await_99 rfl (lv_at hl 0 rfl) ?_
          refine rg_nu C hX d_Ring_await_100 ?_
          refine lv_iload_n hx hb d_Ring_await_103 rfl (lv_at hl 2 rfl) ?_
          refine ra_nu C hX hat rfl d_Ring_await_104 ?_
          refine rr_w C hX (c_Ring_waitFor l D a k v q 2 (rnu v (ix (rAt v q))) hg) mi_Ring_68 ⟨⟨rfl, rfl⟩, Nat.le_of_ble_eq_true rfl, Nat.le_of_ble_eq_true rfl⟩ rfl rfl hl.1 (Nat.le_of_ble_eq_true rfl) d_Ring_await_105 ⟨Nat.zero_le _, Nat.zero_le _⟩ (fun H locs (hX : VX D A s.heap (rW a k (rWaitFor v q 2 (rnu v (ix (rAt v q)))).2) H locs) => ?_)
          refine lv_pop hx hb d_Ring_await_108 rfl ?_
          refine lv_iconst (v := 0) hx hb d_Ring_await_109 (by decide) ?_
          exact hret H locs 0 (rWaitFor v q 2 (rnu v (ix (rAt v q)))).2 110 ls (vp_nar_int _) (by subst h15; rw [ez] at k4; have hf := fst_is (C := (fun j => rKid v (rnu v (ix (rAt v q))) j ∧ rst v j = 4)) (Nat.le_refl _) hz (Or.inl rfl); simp only [rAwait, if_neg hne, hf, if_neg (Nat.lt_irrefl _), if_neg k4]) hX d_Ring_await_110
        · -- Ring_await 91 F
          have k4 := c2
          refine lv_iconst (v := (-1)) hx hb d_Ring_await_94 (by decide) ?_
          exact hret H locs (-1) v 95 ls (vp_nar_int _) (by subst h15; rw [ez] at k4; have hf := fst_is (C := (fun j => rKid v (rnu v (ix (rAt v q))) j ∧ rst v j = 4)) (Nat.le_refl _) hz (Or.inl rfl); simp only [rAwait, if_neg (show ¬ rAt v q = -1 from fun y => absurd (h0 y) (by decide)), hf, if_neg (Nat.lt_irrefl _), if_pos k4]) hX d_Ring_await_95
      · -- Ring_await 15 F
        have hlt : i < 15 := lt_N (n := 15) rfl (by omega) c1
        refine lv_iload_n hx hb d_Ring_await_18 rfl (lv_at hl 2 rfl) ?_
        refine lv_iconst (v := (-1)) hx hb d_Ring_await_19 (by decide) ?_
        refine lv_icmp_eq (tgt := 90) hx hb d_Ring_await_20 (by decide) (fun (c3 : (rAt v q) = (-1)) => ?_) (fun (c3 : ¬ (rAt v q) = (-1)) => ?_)
        · -- Ring_await 20 T
          have heq := c3
          refine lv_iload_n hx hb d_Ring_await_90 rfl (lv_at hl 3 rfl) ?_
          refine lv_if_ne (tgt := 96) hx hb d_Ring_await_91 (by decide) (fun (c4 : ¬ z = 0) => ?_) (fun (c4 : z = 0) => ?_)
          · -- Ring_await 91 T
            have k4 := c4
            have hne : ¬ rAt v q = -1 := aw_ne h0 ez c4
            have hat := pl_in (rok_at hg) hne
            refine lv_aload_n hx hb d_Ring_await_96 rfl (lv_at hl 0 rfl) ?_
            refine lv_iload_n hx hb d_Ring_await_97 rfl (lv_at hl 1 rfl) ?_
            refine lv_iconst (v := 2) hx hb d_Ring_await_98 (by decide) ?_
            refine lv_aload_n hx hb d_Ring_await_99 rfl (lv_at hl 0 rfl) ?_
            refine rg_nu C hX d_Ring_await_100 ?_
            refine lv_iload_n hx hb d_Ring_await_103 rfl (lv_at hl 2 rfl) ?_
            refine ra_nu C hX hat rfl d_Ring_await_104 ?_
            refine rr_w C hX (c_Ring_waitFor l D a k v q 2 (rnu v (ix (rAt v q))) hg) mi_Ring_68 ⟨⟨rfl, rfl⟩, Nat.le_of_ble_eq_true rfl, Nat.le_of_ble_eq_true rfl⟩ rfl rfl hl.1 (Nat.le_of_ble_eq_true rfl) d_Ring_await_105 ⟨Nat.zero_le _, Nat.zero_le _⟩ (fun H locs (hX : VX D A s.heap (rW a k (rWaitFor v q 2 (rnu v (ix (rAt v q)))).2) H locs) => ?_)
            refine lv_pop hx hb d_Ring_await_108 rfl ?_
            refine lv_iconst (v := 0) hx hb d_Ring_await_109 (by decide) ?_
            exact hret H locs 0 (rWaitFor v q 2 (rnu v (ix (rAt v q)))).2 110 ls (vp_nar_int _) (absurd heq hne) hX d_Ring_await_110
          · -- Ring_await 91 F
            have k4 := c4
            refine lv_iconst (v := (-1)) hx hb d_Ring_await_94 (by decide) ?_
            exact hret H locs (-1) v 95 ls (vp_nar_int _) (by simp only [rAwait, if_pos heq]) hX d_Ring_await_95
        · -- Ring_await 20 F
          have hne := c3
          have hat := pl_in (rok_at hg) c3
          refine lv_aload_n hx hb d_Ring_await_23 rfl (lv_at hl 0 rfl) ?_
          refine rg_st C hX d_Ring_await_24 ?_
          refine lv_iload hx hb d_Ring_await_27 (lv_at hl 4 rfl) ?_
          refine ra_st C hX (vp_in_nI hlt (by decide)) (nI_clamp (by omega)) d_Ring_await_29 ?_
          refine lv_if_eq (tgt := 53) hx hb d_Ring_await_30 (by decide) (fun (c5 : (rst v i) = 0) => ?_) (fun (c5 : ¬ (rst v i) = 0) => ?_)
          · -- Ring_await 30 T
            have k1 := c5
            refine lv_iconst (v := 0) hx hb d_Ring_await_53 (by decide) ?_
            refine lv_istore (lv' := [(5, .int 0), (0, .ref (a 0)), (1, .int q), (2, .int (rAt v q)), (3, .int z), (4, .int (nI i))]) hx hb d_Ring_await_54 hl (by decide) rfl (fun ls hl => ?_)
            refine lv_iload hx hb d_Ring_await_56 (lv_at hl 0 rfl) ?_
            refine lv_if_eq (tgt := 79) hx hb d_Ring_await_58 (by decide) (fun (c6 : (0 : Int32) = 0) => ?_) (fun (c6 : ¬ (0 : Int32) = 0) => ?_)
            · -- Ring_await 58 T
              refine lv_iload_n hx hb d_Ring_await_79 rfl (lv_at hl 4 rfl) ?_
              refine lv_iload hx hb d_Ring_await_80 (lv_at hl 0 rfl) ?_
              refine lv_ior hx hb d_Ring_await_82 ?_
              refine lv_istore_n (lv' := [(3, .int (z ||| 0)), (5, .int 0), (0, .ref (a 0)), (1, .int q), (2, .int (rAt v q)), (4, .int (nI i))]) hx hb d_Ring_await_83 rfl hl (by decide) rfl (fun ls hl => ?_)
              refine lv_iinc (v := (nI (i + 1))) (lv' := [(4, .int (nI (i + 1))), (3, .int (z ||| 0)), (5, .int 0), (0, .ref (a 0)), (1, .int q), (2, .int (rAt v q))]) hx hb d_Ring_await_84 hl (k := 5) rfl (nI_1 i) (by decide) rfl (fun ls hl => ?_)
              refine lv_goto (tgt := 11) hx hb d_Ring_await_87 (by decide) ?_
              exact ih (i + 1) (z ||| 0) H locs ls (by omega) (fun y => absurd y hne) (by rw [ez]; exact any_no (fun y => y.1 k1)) (lt_s hz (fun y => y.1.1 k1)) (by omega) hX (lv_sub hl [3, 4, 5, 1, 0] rfl)
            · -- Ring_await 58 F
              exact absurd c6 (by decide)
          · -- Ring_await 30 F
            have k1 := c5
            refine lv_aload_n hx hb d_Ring_await_33 rfl (lv_at hl 0 rfl) ?_
            refine rg_pa C hX d_Ring_await_34 ?_
            refine lv_iload hx hb d_Ring_await_37 (lv_at hl 4 rfl) ?_
            refine ra_pa C hX (vp_in_nI hlt (by decide)) (nI_clamp (by omega)) d_Ring_await_39 ?_
            refine lv_aload_n hx hb d_Ring_await_40 rfl (lv_at hl 0 rfl) ?_
            refine rg_nu C hX d_Ring_await_41 ?_
            refine lv_iload_n hx hb d_Ring_await_44 rfl (lv_at hl 2 rfl) ?_
            refine ra_nu C hX hat rfl d_Ring_await_45 ?_
            refine lv_icmp_ne (tgt := 53) hx hb d_Ring_await_46 (by decide) (fun (c7 : ¬ (rpa v i) = (rnu v (ix (rAt v q)))) => ?_) (fun (c7 : (rpa v i) = (rnu v (ix (rAt v q)))) => ?_)
            · -- Ring_await 46 T
              have k2 := c7
              refine lv_iconst (v := 0) hx hb d_Ring_await_53 (by decide) ?_
              refine lv_istore (lv' := [(5, .int 0), (0, .ref (a 0)), (1, .int q), (2, .int (rAt v q)), (3, .int z), (4, .int (nI i))]) hx hb d_Ring_await_54 hl (by decide) rfl (fun ls hl => ?_)
              refine lv_iload hx hb d_Ring_await_56 (lv_at hl 0 rfl) ?_
              refine lv_if_eq (tgt := 79) hx hb d_Ring_await_58 (by decide) (fun (c8 : (0 : Int32) = 0) => ?_) (fun (c8 : ¬ (0 : Int32) = 0) => ?_)
              · -- Ring_await 58 T
                refine lv_iload_n hx hb d_Ring_await_79 rfl (lv_at hl 4 rfl) ?_
                refine lv_iload hx hb d_Ring_await_80 (lv_at hl 0 rfl) ?_
                refine lv_ior hx hb d_Ring_await_82 ?_
                refine lv_istore_n (lv' := [(3, .int (z ||| 0)), (5, .int 0), (0, .ref (a 0)), (1, .int q), (2, .int (rAt v q)), (4, .int (nI i))]) hx hb d_Ring_await_83 rfl hl (by decide) rfl (fun ls hl => ?_)
                refine lv_iinc (v := (nI (i + 1))) (lv' := [(4, .int (nI (i + 1))), (3, .int (z ||| 0)), (5, .int 0), (0, .ref (a 0)), (1, .int q), (2, .int (rAt v q))]) hx hb d_Ring_await_84 hl (k := 5) rfl (nI_1 i) (by decide) rfl (fun ls hl => ?_)
                refine lv_goto (tgt := 11) hx hb d_Ring_await_87 (by decide) ?_
                exact ih (i + 1) (z ||| 0) H locs ls (by omega) (fun y => absurd y hne) (by rw [ez]; exact any_no (fun y => k2 y.2)) (lt_s hz (fun y => k2 y.1.2)) (by omega) hX (lv_sub hl [3, 4, 5, 1, 0] rfl)
              · -- Ring_await 58 F
                exact absurd c8 (by decide)
            · -- Ring_await 46 F
              have k2 := c7
              refine lv_iconst (v := 1) hx hb d_Ring_await_49 (by decide) ?_
              refine lv_goto (tgt := 54) hx hb d_Ring_await_50 (by decide) ?_
              refine lv_istore (lv' := [(5, .int 1), (0, .ref (a 0)), (1, .int q), (2, .int (rAt v q)), (3, .int z), (4, .int (nI i))]) hx hb d_Ring_await_54 hl (by decide) rfl (fun ls hl => ?_)
              refine lv_iload hx hb d_Ring_await_56 (lv_at hl 0 rfl) ?_
              refine lv_if_eq (tgt := 79) hx hb d_Ring_await_58 (by decide) (fun (c9 : (1 : Int32) = 0) => ?_) (fun (c9 : ¬ (1 : Int32) = 0) => ?_)
              · -- Ring_await 58 T
                exact absurd c9 (by decide)
              · -- Ring_await 58 F
                refine lv_aload_n hx hb d_Ring_await_61 rfl (lv_at hl 1 rfl) ?_
                refine rg_st C hX d_Ring_await_62 ?_
                refine lv_iload hx hb d_Ring_await_65 (lv_at hl 5 rfl) ?_
                refine ra_st C hX (vp_in_nI hlt (by decide)) (nI_clamp (by omega)) d_Ring_await_67 ?_
                refine lv_iconst (v := 4) hx hb d_Ring_await_68 (by decide) ?_
                refine lv_icmp_ne (tgt := 79) hx hb d_Ring_await_69 (by decide) (fun (c10 : ¬ (rst v i) = 4) => ?_) (fun (c10 : (rst v i) = 4) => ?_)
                · -- Ring_await 69 T
                  have k3 := c10
                  refine lv_iload_n hx hb d_Ring_await_79 rfl (lv_at hl 4 rfl) ?_
                  refine lv_iload hx hb d_Ring_await_80 (lv_at hl 0 rfl) ?_
                  refine lv_ior hx hb d_Ring_await_82 ?_
                  refine lv_istore_n (lv' := [(3, .int (z ||| 1)), (5, .int 1), (0, .ref (a 0)), (1, .int q), (2, .int (rAt v q)), (4, .int (nI i))]) hx hb d_Ring_await_83 rfl hl (by decide) rfl (fun ls hl => ?_)
                  refine lv_iinc (v := (nI (i + 1))) (lv' := [(4, .int (nI (i + 1))), (3, .int (z ||| 1)), (5, .int 1), (0, .ref (a 0)), (1, .int q), (2, .int (rAt v q))]) hx hb d_Ring_await_84 hl (k := 5) rfl (nI_1 i) (by decide) rfl (fun ls hl => ?_)
                  refine lv_goto (tgt := 11) hx hb d_Ring_await_87 (by decide) ?_
                  exact ih (i + 1) (z ||| 1) H locs ls (by omega) (fun y => absurd y hne) (by rw [ez]; exact any_yes ⟨k1, k2⟩) (lt_s hz (fun y => k3 y.2)) (by omega) hX (lv_sub hl [3, 4, 5, 1, 0] rfl)
                · -- Ring_await 69 F
                  have k3 := c10
                  have hf : fst (fun j => rKid v (rnu v (ix (rAt v q))) j ∧ rst v j = 4) 15 = i := fst_is hi hz (Or.inr ⟨⟨k1, k2⟩, k3⟩)
                  refine lv_aload_n hx hb d_Ring_await_72 rfl (lv_at hl 1 rfl) ?_
                  refine lv_iload hx hb d_Ring_await_73 (lv_at hl 5 rfl) ?_
                  refine rr_w C hX (c_Ring_reap l D a k v (nI i) (vp_in_nI hlt (by decide))) mi_Ring_87 ⟨⟨rfl, rfl⟩, Nat.le_of_ble_eq_true rfl, Nat.le_of_ble_eq_true rfl⟩ rfl rfl hl.1 (Nat.le_of_ble_eq_true rfl) d_Ring_await_75 ⟨Nat.zero_le _, Nat.zero_le _⟩ (fun H locs (hX : VX D A s.heap (rW a k (rReap v (nI i)).2) H locs) => ?_)
                  exact hret H locs (rReap v (nI i)).1 (rReap v (nI i)).2 78 ls (vp_nar_int _) (by simp only [rAwait, if_neg hne, hf, if_pos hlt]) hX d_Ring_await_78
  refine lv_aload_n hx hb d_Ring_await_0 rfl (lv_at hl 0 rfl) ?_
  refine lv_iload_n hx hb d_Ring_await_1 rfl (lv_at hl 1 rfl) ?_
  refine rr_r C hX (c_Ring_at l D a k v q hg) mi_Ring_60 ⟨⟨rfl, rfl⟩, Nat.le_of_ble_eq_true rfl, Nat.le_of_ble_eq_true rfl⟩ rfl rfl hl.1 (Nat.le_of_ble_eq_true rfl) d_Ring_await_2 ⟨Nat.zero_le _, Nat.zero_le _⟩ (fun H locs (hX : VX D A s.heap (rW a k v) H locs) => ?_)
  refine lv_istore_n (lv' := [(2, .int (rAt v q)), (0, .ref (a 0)), (1, .int q)]) hx hb d_Ring_await_5 rfl hl (by decide) rfl (fun ls hl => ?_)
  refine lv_iconst (v := 0) hx hb d_Ring_await_6 (by decide) ?_
  refine lv_istore_n (lv' := [(3, .int 0), (2, .int (rAt v q)), (0, .ref (a 0)), (1, .int q)]) hx hb d_Ring_await_7 rfl hl (by decide) rfl (fun ls hl => ?_)
  refine lv_iconst (v := 0) hx hb d_Ring_await_8 (by decide) ?_
  refine lv_istore (lv' := [(4, .int 0), (3, .int 0), (2, .int (rAt v q)), (0, .ref (a 0)), (1, .int q)]) hx hb d_Ring_await_9 hl (by decide) rfl (fun ls hl => ?_)
  exact L11 _ 0 0 H locs ls (by omega) (fun _ => rfl) (rfl) (lt_0) (Nat.lt_succ_self _) hX (lv_sub hl [3, 4, 2, 1, 0] rfl)
end
section
theorem in15 {x : Int32} (h1 : ¬ x < 0) (h2 : ¬ (15 : Int32) ≤ x) : vp_in x 15 := by
  rcases pk_ix x (n := 15) (by decide) with h | h | ⟨j, hj, rfl⟩
  · exact absurd h h1
  · exact absurd h h2
  · exact vp_in_nI hj (by decide)
theorem le5 {x : Int32} (h1 : ¬ x < 0) (h2 : x ≤ 5) : x = 0 ∨ x = 1 ∨ x = 2 ∨ x = 3 ∨ x = 4 ∨ x = 5 := by
  obtain ⟨j, hj, rfl⟩ := nI_of2 (n := 5) (M := 5) (by decide) h1 h2
  rcases (show j = 0 ∨ j = 1 ∨ j = 2 ∨ j = 3 ∨ j = 4 ∨ j = 5 by omega) with rfl | rfl | rfl | rfl | rfl | rfl <;> decide
theorem kill_nar {v : RS} {n : Int32} : narrow .boolean (.int (rKill v n).1) = .int (rKill v n).1 := by
  unfold rKill
  split
  · exact (rfl : narrow FieldType.boolean (Value.int 1) = Value.int 1)
  · exact (rfl : narrow FieldType.boolean (Value.int 0) = Value.int 0)
theorem pair_eta {α β : Type} (p : α × β) : (p.1, p.2) = p := rfl
end
section
abbrev rm_Proc_first : Room := { frames := 2, cells := 0, slots := 0, locals := 42 }
set_option maxHeartbeats 4000000 in
set_option maxRecDepth 100000 in
theorem c_Proc_first (l : Launch) (D : va_G) (h : Nat) (a k : Nat → Nat) (v : RS)  : MCi l y_Proc_first b_Proc_first 1 .boolean rm_Proc_first [.ref h] D (rT k) true (pW h a k) v (fun r u => (r, u) = (pFirst v)) := by
  refine MCi.of R_Proc rfl (by decide +kernel) (Nat.le_of_ble_eq_true rfl) ?_
  intro p e s m args below meth c A Q ls H locs C hX hl hret
  have hx := C.1.1
  have hb := C.1.2.1
  have hl : lv_has ls 1 [(0, .ref h)] := hl
  refine lv_aload_n hx hb d_Proc_first_0 rfl (lv_at hl 0 rfl) ?_
  refine pg_ring C hX d_Proc_first_1 ?_
  refine pr_r C hX (c_Ring_isEmpty l D a k v  ) mi_Proc_18 ⟨⟨rfl, rfl⟩, Nat.le_of_ble_eq_true rfl, Nat.le_of_ble_eq_true rfl⟩ rfl rfl hl.1 (Nat.le_of_ble_eq_true rfl) d_Proc_first_4 ⟨Nat.zero_le _, Nat.zero_le _⟩ (fun H locs (hX : VX D A s.heap (pW h a k v) H locs) => ?_)
  refine lv_if_ne (tgt := 12) hx hb d_Proc_first_7 (by decide) (fun (c1 : ¬ (rEmpty v) = 0) => ?_) (fun (c1 : (rEmpty v) = 0) => ?_)
  · -- Proc_first 7 T
    refine lv_aload_n hx hb d_Proc_first_12 rfl (lv_at hl 0 rfl) ?_
    refine pg_ring C hX d_Proc_first_13 ?_
    refine pr_v C hX (c_Ring_first l D a k v  ) mi_Proc_22 ⟨⟨rfl, rfl⟩, Nat.le_of_ble_eq_true rfl, Nat.le_of_ble_eq_true rfl⟩ rfl rfl hl.1 (Nat.le_of_ble_eq_true rfl) d_Proc_first_16 ⟨Nat.zero_le _, Nat.zero_le _⟩ (fun H locs (hX : VX D A s.heap (pW h a k (rFirst v)) H locs) => ?_)
    refine lv_iconst (v := 1) hx hb d_Proc_first_19 (by decide) ?_
    exact hret H locs 1 (rFirst v) 20 ls rfl (by simp only [pFirst, if_neg c1]) hX d_Proc_first_20
  · -- Proc_first 7 F
    refine lv_iconst (v := 0) hx hb d_Proc_first_10 (by decide) ?_
    exact hret H locs 0 v 11 ls rfl (by simp only [pFirst, if_pos c1]) hX d_Proc_first_11
abbrev rm_Proc_pick : Room := { frames := 2, cells := 0, slots := 0, locals := 45 }
set_option maxHeartbeats 4000000 in
set_option maxRecDepth 100000 in
theorem c_Proc_pick (l : Launch) (D : va_G) (h : Nat) (a k : Nat → Nat) (v : RS) (q : Int32) (hg : Rok v) : MCi l y_Proc_pick b_Proc_pick 2 .int rm_Proc_pick [.ref h, .int q] D (rT k) true (pW h a k) v (fun r u => (r, u) = (rPick v q)) := by
  refine MCi.of R_Proc rfl (by decide +kernel) (Nat.le_of_ble_eq_true rfl) ?_
  intro p e s m args below meth c A Q ls H locs C hX hl hret
  have hx := C.1.1
  have hb := C.1.2.1
  have hl : lv_has ls 2 [(0, .ref h), (1, .int q)] := hl
  refine lv_aload_n hx hb d_Proc_pick_0 rfl (lv_at hl 0 rfl) ?_
  refine pg_ring C hX d_Proc_pick_1 ?_
  refine lv_iload_n hx hb d_Proc_pick_4 rfl (lv_at hl 1 rfl) ?_
  refine pr_w C hX (c_Ring_pick l D a k v q hg) mi_Proc_25 ⟨⟨rfl, rfl⟩, Nat.le_of_ble_eq_true rfl, Nat.le_of_ble_eq_true rfl⟩ rfl rfl hl.1 (Nat.le_of_ble_eq_true rfl) d_Proc_pick_5 ⟨Nat.zero_le _, Nat.zero_le _⟩ (fun H locs (hX : VX D A s.heap (pW h a k (rPick v q).2) H locs) => ?_)
  exact hret H locs (rPick v q).1 (rPick v q).2 8 ls (vp_nar_int _) (pair_eta _) hX d_Proc_pick_8
abbrev rm_Proc_fork : Room := { frames := 2, cells := 0, slots := 0, locals := 45 }
set_option maxHeartbeats 4000000 in
set_option maxRecDepth 100000 in
theorem c_Proc_fork (l : Launch) (D : va_G) (h : Nat) (a k : Nat → Nat) (v : RS) (q : Int32) (hg : Rok v) : MCi l y_Proc_fork b_Proc_fork 2 .int rm_Proc_fork [.ref h, .int q] D (rT k) true (pW h a k) v (fun r u => (r, u) = (rFork v q)) := by
  refine MCi.of R_Proc rfl (by decide +kernel) (Nat.le_of_ble_eq_true rfl) ?_
  intro p e s m args below meth c A Q ls H locs C hX hl hret
  have hx := C.1.1
  have hb := C.1.2.1
  have hl : lv_has ls 2 [(0, .ref h), (1, .int q)] := hl
  refine lv_aload_n hx hb d_Proc_fork_0 rfl (lv_at hl 0 rfl) ?_
  refine pg_ring C hX d_Proc_fork_1 ?_
  refine lv_iload_n hx hb d_Proc_fork_4 rfl (lv_at hl 1 rfl) ?_
  refine pr_w C hX (c_Ring_fork l D a k v q hg) mi_Proc_29 ⟨⟨rfl, rfl⟩, Nat.le_of_ble_eq_true rfl, Nat.le_of_ble_eq_true rfl⟩ rfl rfl hl.1 (Nat.le_of_ble_eq_true rfl) d_Proc_fork_5 ⟨Nat.zero_le _, Nat.zero_le _⟩ (fun H locs (hX : VX D A s.heap (pW h a k (rFork v q).2) H locs) => ?_)
  exact hret H locs (rFork v q).1 (rFork v q).2 8 ls (vp_nar_int _) (pair_eta _) hX d_Proc_fork_8
abbrev rm_Proc_exit : Room := { frames := 3, cells := 0, slots := 0, locals := 69 }
set_option maxHeartbeats 4000000 in
set_option maxRecDepth 100000 in
theorem c_Proc_exit (l : Launch) (D : va_G) (h : Nat) (a k : Nat → Nat) (v : RS) (q : Int32) (x : Int32) (hg : Rok v) : MCi l y_Proc_exit b_Proc_exit 3 .int rm_Proc_exit [.ref h, .int q, .int x] D (rT k) true (pW h a k) v (fun r u => (r, u) = (rExit v q x)) := by
  refine MCi.of R_Proc rfl (by decide +kernel) (Nat.le_of_ble_eq_true rfl) ?_
  intro p e s m args below meth c A Q ls H locs C hX hl hret
  have hx := C.1.1
  have hb := C.1.2.1
  have hl : lv_has ls 3 [(0, .ref h), (1, .int q), (2, .int x)] := hl
  refine lv_aload_n hx hb d_Proc_exit_0 rfl (lv_at hl 0 rfl) ?_
  refine pg_ring C hX d_Proc_exit_1 ?_
  refine lv_iload_n hx hb d_Proc_exit_4 rfl (lv_at hl 1 rfl) ?_
  refine lv_iload_n hx hb d_Proc_exit_5 rfl (lv_at hl 2 rfl) ?_
  refine pr_w C hX (c_Ring_exit l D a k v q x hg) mi_Proc_32 ⟨⟨rfl, rfl⟩, Nat.le_of_ble_eq_true rfl, Nat.le_of_ble_eq_true rfl⟩ rfl rfl hl.1 (Nat.le_of_ble_eq_true rfl) d_Proc_exit_6 ⟨Nat.zero_le _, Nat.zero_le _⟩ (fun H locs (hX : VX D A s.heap (pW h a k (rExit v q x).2) H locs) => ?_)
  exact hret H locs (rExit v q x).1 (rExit v q x).2 9 ls (vp_nar_int _) (pair_eta _) hX d_Proc_exit_9
abbrev rm_Proc_await : Room := { frames := 4, cells := 0, slots := 0, locals := 93 }
set_option maxHeartbeats 4000000 in
set_option maxRecDepth 100000 in
theorem c_Proc_await (l : Launch) (D : va_G) (h : Nat) (a k : Nat → Nat) (v : RS) (q : Int32) (hg : Rok v) : MCi l y_Proc_await b_Proc_await 2 .int rm_Proc_await [.ref h, .int q] D (rT k) true (pW h a k) v (fun r u => (r, u) = (rAwait v q)) := by
  refine MCi.of R_Proc rfl (by decide +kernel) (Nat.le_of_ble_eq_true rfl) ?_
  intro p e s m args below meth c A Q ls H locs C hX hl hret
  have hx := C.1.1
  have hb := C.1.2.1
  have hl : lv_has ls 2 [(0, .ref h), (1, .int q)] := hl
  refine lv_aload_n hx hb d_Proc_await_0 rfl (lv_at hl 0 rfl) ?_
  refine pg_ring C hX d_Proc_await_1 ?_
  refine lv_iload_n hx hb d_Proc_await_4 rfl (lv_at hl 1 rfl) ?_
  refine pr_w C hX (c_Ring_await l D a k v q hg) mi_Proc_36 ⟨⟨rfl, rfl⟩, Nat.le_of_ble_eq_true rfl, Nat.le_of_ble_eq_true rfl⟩ rfl rfl hl.1 (Nat.le_of_ble_eq_true rfl) d_Proc_await_5 ⟨Nat.zero_le _, Nat.zero_le _⟩ (fun H locs (hX : VX D A s.heap (pW h a k (rAwait v q).2) H locs) => ?_)
  exact hret H locs (rAwait v q).1 (rAwait v q).2 8 ls (vp_nar_int _) (pair_eta _) hX d_Proc_await_8
abbrev rm_Proc_status : Room := { frames := 0, cells := 0, slots := 0, locals := 0 }
set_option maxHeartbeats 4000000 in
set_option maxRecDepth 100000 in
theorem c_Proc_status (l : Launch) (D : va_G) (h : Nat) (a k : Nat → Nat) (v : RS)  : MCi l y_Proc_status b_Proc_status 1 .int rm_Proc_status [.ref h] D (rT k) true (pW h a k) v (fun r u => u = v ∧ r = (rsu v)) := by
  refine MCi.of R_Proc rfl (by decide +kernel) (Nat.le_of_ble_eq_true rfl) ?_
  intro p e s m args below meth c A Q ls H locs C hX hl hret
  have hx := C.1.1
  have hb := C.1.2.1
  have hl : lv_has ls 1 [(0, .ref h)] := hl
  refine lv_aload_n hx hb d_Proc_status_0 rfl (lv_at hl 0 rfl) ?_
  refine pg_ring C hX d_Proc_status_1 ?_
  refine pg_su rfl C hX d_Proc_status_4 ?_
  exact hret H locs (rsu v) v 7 ls (vp_nar_int _) (⟨rfl, rfl⟩) hX d_Proc_status_7
abbrev rm_Proc_block : Room := { frames := 4, cells := 0, slots := 0, locals := 90 }
set_option maxHeartbeats 4000000 in
set_option maxRecDepth 100000 in
theorem c_Proc_block (l : Launch) (D : va_G) (h : Nat) (a k : Nat → Nat) (v : RS) (q : Int32) (ch : Int32) (hg : Rok v) : MCi l y_Proc_block b_Proc_block 3 .int rm_Proc_block [.ref h, .int q, .int ch] D (rT k) true (pW h a k) v (fun r u => (r, u) = (rWaitFor v q 1 ch)) := by
  refine MCi.of R_Proc rfl (by decide +kernel) (Nat.le_of_ble_eq_true rfl) ?_
  intro p e s m args below meth c A Q ls H locs C hX hl hret
  have hx := C.1.1
  have hb := C.1.2.1
  have hl : lv_has ls 3 [(0, .ref h), (1, .int q), (2, .int ch)] := hl
  refine lv_aload_n hx hb d_Proc_block_0 rfl (lv_at hl 0 rfl) ?_
  refine pg_ring C hX d_Proc_block_1 ?_
  refine lv_iload_n hx hb d_Proc_block_4 rfl (lv_at hl 1 rfl) ?_
  refine lv_iload_n hx hb d_Proc_block_5 rfl (lv_at hl 2 rfl) ?_
  refine pr_w C hX (c_Ring_block l D a k v q ch hg) mi_Proc_43 ⟨⟨rfl, rfl⟩, Nat.le_of_ble_eq_true rfl, Nat.le_of_ble_eq_true rfl⟩ rfl rfl hl.1 (Nat.le_of_ble_eq_true rfl) d_Proc_block_6 ⟨Nat.zero_le _, Nat.zero_le _⟩ (fun H locs (hX : VX D A s.heap (pW h a k (rWaitFor v q 1 ch).2) H locs) => ?_)
  exact hret H locs (rWaitFor v q 1 ch).1 (rWaitFor v q 1 ch).2 9 ls (vp_nar_int _) (pair_eta _) hX d_Proc_block_9
abbrev rm_Proc_sleep : Room := { frames := 4, cells := 0, slots := 0, locals := 90 }
set_option maxHeartbeats 4000000 in
set_option maxRecDepth 100000 in
theorem c_Proc_sleep (l : Launch) (D : va_G) (h : Nat) (a k : Nat → Nat) (v : RS) (q : Int32) (n : Int32) (hg : Rok v) : MCi l y_Proc_sleep b_Proc_sleep 3 .int rm_Proc_sleep [.ref h, .int q, .int n] D (rT k) true (pW h a k) v (fun r u => (r, u) = (rSleep v q n)) := by
  refine MCi.of R_Proc rfl (by decide +kernel) (Nat.le_of_ble_eq_true rfl) ?_
  intro p e s m args below meth c A Q ls H locs C hX hl hret
  have hx := C.1.1
  have hb := C.1.2.1
  have hl : lv_has ls 3 [(0, .ref h), (1, .int q), (2, .int n)] := hl
  refine lv_aload_n hx hb d_Proc_sleep_0 rfl (lv_at hl 0 rfl) ?_
  refine pg_ring C hX d_Proc_sleep_1 ?_
  refine lv_iload_n hx hb d_Proc_sleep_4 rfl (lv_at hl 1 rfl) ?_
  refine lv_iload_n hx hb d_Proc_sleep_5 rfl (lv_at hl 2 rfl) ?_
  refine pr_w C hX (c_Ring_sleep l D a k v q n hg) mi_Proc_46 ⟨⟨rfl, rfl⟩, Nat.le_of_ble_eq_true rfl, Nat.le_of_ble_eq_true rfl⟩ rfl rfl hl.1 (Nat.le_of_ble_eq_true rfl) d_Proc_sleep_6 ⟨Nat.zero_le _, Nat.zero_le _⟩ (fun H locs (hX : VX D A s.heap (pW h a k (rSleep v q n).2) H locs) => ?_)
  exact hret H locs (rSleep v q n).1 (rSleep v q n).2 9 ls (vp_nar_int _) (pair_eta _) hX d_Proc_sleep_9
abbrev rm_Proc_wake : Room := { frames := 2, cells := 0, slots := 0, locals := 46 }
set_option maxHeartbeats 4000000 in
set_option maxRecDepth 100000 in
theorem c_Proc_wake (l : Launch) (D : va_G) (h : Nat) (a k : Nat → Nat) (v : RS) (ch : Int32)  : MCi l y_Proc_wake b_Proc_wake 2 .int rm_Proc_wake [.ref h, .int ch] D (rT k) true (pW h a k) v (fun r u => (r, u) = (rWake v 1 ch)) := by
  refine MCi.of R_Proc rfl (by decide +kernel) (Nat.le_of_ble_eq_true rfl) ?_
  intro p e s m args below meth c A Q ls H locs C hX hl hret
  have hx := C.1.1
  have hb := C.1.2.1
  have hl : lv_has ls 2 [(0, .ref h), (1, .int ch)] := hl
  refine lv_aload_n hx hb d_Proc_wake_0 rfl (lv_at hl 0 rfl) ?_
  refine pg_ring C hX d_Proc_wake_1 ?_
  refine lv_iload_n hx hb d_Proc_wake_4 rfl (lv_at hl 1 rfl) ?_
  refine pr_w C hX (c_Ring_wake1 l D a k v ch ) mi_Proc_49 ⟨⟨rfl, rfl⟩, Nat.le_of_ble_eq_true rfl, Nat.le_of_ble_eq_true rfl⟩ rfl rfl hl.1 (Nat.le_of_ble_eq_true rfl) d_Proc_wake_5 ⟨Nat.zero_le _, Nat.zero_le _⟩ (fun H locs (hX : VX D A s.heap (pW h a k (rWake v 1 ch).2) H locs) => ?_)
  exact hret H locs (rWake v 1 ch).1 (rWake v 1 ch).2 8 ls (vp_nar_int _) (pair_eta _) hX d_Proc_wake_8
abbrev rm_Proc_rest : Room := { frames := 3, cells := 0, slots := 0, locals := 65 }
set_option maxHeartbeats 4000000 in
set_option maxRecDepth 100000 in
theorem c_Proc_rest (l : Launch) (D : va_G) (h : Nat) (a k : Nat → Nat) (v : RS) (q : Int32) (hg : Rok v) : MCi l y_Proc_rest b_Proc_rest 2 .int rm_Proc_rest [.ref h, .int q] D (rT k) true (pW h a k) v (fun r u => (r, u) = (rLeave v q 1)) := by
  refine MCi.of R_Proc rfl (by decide +kernel) (Nat.le_of_ble_eq_true rfl) ?_
  intro p e s m args below meth c A Q ls H locs C hX hl hret
  have hx := C.1.1
  have hb := C.1.2.1
  have hl : lv_has ls 2 [(0, .ref h), (1, .int q)] := hl
  refine lv_aload_n hx hb d_Proc_rest_0 rfl (lv_at hl 0 rfl) ?_
  refine pg_ring C hX d_Proc_rest_1 ?_
  refine lv_iload_n hx hb d_Proc_rest_4 rfl (lv_at hl 1 rfl) ?_
  refine pr_w C hX (c_Ring_rest l D a k v q hg) mi_Proc_52 ⟨⟨rfl, rfl⟩, Nat.le_of_ble_eq_true rfl, Nat.le_of_ble_eq_true rfl⟩ rfl rfl hl.1 (Nat.le_of_ble_eq_true rfl) d_Proc_rest_5 ⟨Nat.zero_le _, Nat.zero_le _⟩ (fun H locs (hX : VX D A s.heap (pW h a k (rLeave v q 1).2) H locs) => ?_)
  exact hret H locs (rLeave v q 1).1 (rLeave v q 1).2 8 ls (vp_nar_int _) (pair_eta _) hX d_Proc_rest_8
abbrev rm_Proc_tick : Room := { frames := 4, cells := 0, slots := 0, locals := 86 }
set_option maxHeartbeats 4000000 in
set_option maxRecDepth 100000 in
theorem c_Proc_tick (l : Launch) (D : va_G) (h : Nat) (a k : Nat → Nat) (v : RS) (hg : Rok v) : MCi l y_Proc_tick b_Proc_tick 1 .int rm_Proc_tick [.ref h] D (rT k) true (pW h a k) v (fun r u => (r, u) = (pTick v)) := by
  refine MCi.of R_Proc rfl (by decide +kernel) (Nat.le_of_ble_eq_true rfl) ?_
  intro p e s m args below meth c A Q ls H locs C hX hl hret
  have hx := C.1.1
  have hb := C.1.2.1
  have hl : lv_has ls 1 [(0, .ref h)] := hl
  refine lv_aload_n hx hb d_Proc_tick_0 rfl (lv_at hl 0 rfl) ?_
  refine pg_ring C hX d_Proc_tick_1 ?_
  refine pr_r C hX (c_Ring_isEmpty l D a k v  ) mi_Proc_18 ⟨⟨rfl, rfl⟩, Nat.le_of_ble_eq_true rfl, Nat.le_of_ble_eq_true rfl⟩ rfl rfl hl.1 (Nat.le_of_ble_eq_true rfl) d_Proc_tick_4 ⟨Nat.zero_le _, Nat.zero_le _⟩ (fun H locs (hX : VX D A s.heap (pW h a k v) H locs) => ?_)
  refine lv_if_eq (tgt := 14) hx hb d_Proc_tick_7 (by decide) (fun (c1 : (rEmpty v) = 0) => ?_) (fun (c1 : ¬ (rEmpty v) = 0) => ?_)
  · -- Proc_tick 7 T
    refine lv_aload_n hx hb d_Proc_tick_14 rfl (lv_at hl 0 rfl) ?_
    refine pg_ring C hX d_Proc_tick_15 ?_
    refine pr_w C hX (c_Ring_tick l D a k v  hg) mi_Proc_55 ⟨⟨rfl, rfl⟩, Nat.le_of_ble_eq_true rfl, Nat.le_of_ble_eq_true rfl⟩ rfl rfl hl.1 (Nat.le_of_ble_eq_true rfl) d_Proc_tick_18 ⟨Nat.zero_le _, Nat.zero_le _⟩ (fun H locs (hX : VX D A s.heap (pW h a k (rTick v).2) H locs) => ?_)
    exact hret H locs (rTick v).1 (rTick v).2 21 ls (vp_nar_int _) (by simp only [pTick, if_pos c1]) hX d_Proc_tick_21
  · -- Proc_tick 7 F
    refine lv_iconst (v := (-1)) hx hb d_Proc_tick_10 (by decide) ?_
    refine lv_goto (tgt := 21) hx hb d_Proc_tick_11 (by decide) ?_
    exact hret H locs (-1) v 21 ls (vp_nar_int _) (by simp only [pTick, if_neg c1]) hX d_Proc_tick_21
abbrev rm_Proc_kill : Room := { frames := 1, cells := 0, slots := 0, locals := 22 }
set_option maxHeartbeats 4000000 in
set_option maxRecDepth 100000 in
theorem c_Proc_kill (l : Launch) (D : va_G) (h : Nat) (a k : Nat → Nat) (v : RS) (n : Int32)  : MCi l y_Proc_kill b_Proc_kill 2 .boolean rm_Proc_kill [.ref h, .int n] D (rT k) true (pW h a k) v (fun r u => (r, u) = (rKill v n)) := by
  refine MCi.of R_Proc rfl (by decide +kernel) (Nat.le_of_ble_eq_true rfl) ?_
  intro p e s m args below meth c A Q ls H locs C hX hl hret
  have hx := C.1.1
  have hb := C.1.2.1
  have hl : lv_has ls 2 [(0, .ref h), (1, .int n)] := hl
  refine lv_aload_n hx hb d_Proc_kill_0 rfl (lv_at hl 0 rfl) ?_
  refine pg_ring C hX d_Proc_kill_1 ?_
  refine lv_iload_n hx hb d_Proc_kill_4 rfl (lv_at hl 1 rfl) ?_
  refine pr_w C hX (c_Ring_kill l D a k v n ) mi_Proc_59 ⟨⟨rfl, rfl⟩, Nat.le_of_ble_eq_true rfl, Nat.le_of_ble_eq_true rfl⟩ rfl rfl hl.1 (Nat.le_of_ble_eq_true rfl) d_Proc_kill_5 ⟨Nat.zero_le _, Nat.zero_le _⟩ (fun H locs (hX : VX D A s.heap (pW h a k (rKill v n).2) H locs) => ?_)
  exact hret H locs (rKill v n).1 (rKill v n).2 8 ls kill_nar (pair_eta _) hX d_Proc_kill_8
abbrev rm_Proc_count : Room := { frames := 1, cells := 0, slots := 0, locals := 23 }
set_option maxHeartbeats 4000000 in
set_option maxRecDepth 100000 in
theorem c_Proc_count (l : Launch) (D : va_G) (h : Nat) (a k : Nat → Nat) (v : RS) (s0 : Int32)  : MCi l y_Proc_count b_Proc_count 2 .int rm_Proc_count [.ref h, .int s0] D (rT k) true (pW h a k) v (fun r u => u = v ∧ r = (pCount v s0)) := by
  refine MCi.of R_Proc rfl (by decide +kernel) (Nat.le_of_ble_eq_true rfl) ?_
  intro p e s m args below meth c A Q ls H locs C hX hl hret
  have hx := C.1.1
  have hb := C.1.2.1
  have hl : lv_has ls 2 [(0, .ref h), (1, .int s0)] := hl
  refine lv_iload_n hx hb d_Proc_count_0 rfl (lv_at hl 1 rfl) ?_
  refine lv_if_lt (tgt := 9) hx hb d_Proc_count_1 (by decide) (fun (c1 : s0 < 0) => ?_) (fun (c1 : ¬ s0 < 0) => ?_)
  · -- Proc_count 1 T
    refine lv_iconst (v := (-1)) hx hb d_Proc_count_9 (by decide) ?_
    refine lv_goto (tgt := 21) hx hb d_Proc_count_10 (by decide) ?_
    exact hret H locs (-1) v 21 ls (vp_nar_int _) (⟨rfl, by simp only [pCount, if_pos c1]⟩) hX d_Proc_count_21
  · -- Proc_count 1 F
    refine lv_iload_n hx hb d_Proc_count_4 rfl (lv_at hl 1 rfl) ?_
    refine lv_iconst (v := 4) hx hb d_Proc_count_5 (by decide) ?_
    refine lv_icmp_le (tgt := 13) hx hb d_Proc_count_6 (by decide) (fun (c2 : s0 ≤ 4) => ?_) (fun (c2 : ¬ s0 ≤ 4) => ?_)
    · -- Proc_count 6 T
      refine lv_aload_n hx hb d_Proc_count_13 rfl (lv_at hl 0 rfl) ?_
      refine pg_ring C hX d_Proc_count_14 ?_
      refine lv_iload_n hx hb d_Proc_count_17 rfl (lv_at hl 1 rfl) ?_
      refine pr_r C hX (c_Ring_count l D a k v s0 ) mi_Proc_83 ⟨⟨rfl, rfl⟩, Nat.le_of_ble_eq_true rfl, Nat.le_of_ble_eq_true rfl⟩ rfl rfl hl.1 (Nat.le_of_ble_eq_true rfl) d_Proc_count_18 ⟨Nat.zero_le _, Nat.zero_le _⟩ (fun H locs (hX : VX D A s.heap (pW h a k v) H locs) => ?_)
      exact hret H locs (rCount v s0) v 21 ls (vp_nar_int _) (⟨rfl, by simp only [pCount, if_neg c1, if_pos c2]⟩) hX d_Proc_count_21
    · -- Proc_count 6 F
      refine lv_iconst (v := (-1)) hx hb d_Proc_count_9 (by decide) ?_
      refine lv_goto (tgt := 21) hx hb d_Proc_count_10 (by decide) ?_
      exact hret H locs (-1) v 21 ls (vp_nar_int _) (⟨rfl, by simp only [pCount, if_neg c1, if_neg c2]⟩) hX d_Proc_count_21
abbrev rm_Proc_about : Room := { frames := 1, cells := 0, slots := 0, locals := 23 }
set_option maxHeartbeats 4000000 in
set_option maxRecDepth 100000 in
theorem c_Proc_about (l : Launch) (D : va_G) (h : Nat) (a k : Nat → Nat) (v : RS) (pl : Int32) (wt : Int32) (hg : Rok v) : MCi l y_Proc_about b_Proc_about 4 .int rm_Proc_about [.ref h, .int pl, .int wt] D (rT k) true (pW h a k) v (fun r u => u = v ∧ r = (pAbout v pl wt)) := by
  refine MCi.of R_Proc rfl (by decide +kernel) (Nat.le_of_ble_eq_true rfl) ?_
  intro p e s m args below meth c A Q ls H locs C hX hl hret
  have hx := C.1.1
  have hb := C.1.2.1
  have hl : lv_has ls 4 [(0, .ref h), (1, .int pl), (2, .int wt)] := hl
  refine lv_iload_n hx hb d_Proc_about_0 rfl (lv_at hl 1 rfl) ?_
  refine lv_if_lt (tgt := 19) hx hb d_Proc_about_1 (by decide) (fun (c1 : pl < 0) => ?_) (fun (c1 : ¬ pl < 0) => ?_)
  · -- Proc_about 1 T
    refine lv_iconst (v := (-1)) hx hb d_Proc_about_19 (by decide) ?_
    exact hret H locs (-1) v 20 ls (vp_nar_int _) (⟨rfl, by simp only [pAbout, if_pos c1]⟩) hX d_Proc_about_20
  · -- Proc_about 1 F
    have d1 := c1
    refine lv_iload_n hx hb d_Proc_about_4 rfl (lv_at hl 1 rfl) ?_
    refine lv_bipush (v := 15) hx hb d_Proc_about_5 (by decide) ?_
    refine lv_icmp_ge (tgt := 19) hx hb d_Proc_about_7 (by decide) (fun (c2 : (15 : Int32) ≤ pl) => ?_) (fun (c2 : ¬ (15 : Int32) ≤ pl) => ?_)
    · -- Proc_about 7 T
      refine lv_iconst (v := (-1)) hx hb d_Proc_about_19 (by decide) ?_
      exact hret H locs (-1) v 20 ls (vp_nar_int _) (⟨rfl, by simp only [pAbout, if_neg c1, if_pos c2]⟩) hX d_Proc_about_20
    · -- Proc_about 7 F
      have d2 := c2
      have hin := in15 d1 d2
      refine lv_iload_n hx hb d_Proc_about_10 rfl (lv_at hl 2 rfl) ?_
      refine lv_if_lt (tgt := 19) hx hb d_Proc_about_11 (by decide) (fun (c3 : wt < 0) => ?_) (fun (c3 : ¬ wt < 0) => ?_)
      · -- Proc_about 11 T
        refine lv_iconst (v := (-1)) hx hb d_Proc_about_19 (by decide) ?_
        exact hret H locs (-1) v 20 ls (vp_nar_int _) (⟨rfl, by simp only [pAbout, if_neg c1, if_neg c2, if_pos c3]⟩) hX d_Proc_about_20
      · -- Proc_about 11 F
        have d3 := c3
        refine lv_iload_n hx hb d_Proc_about_14 rfl (lv_at hl 2 rfl) ?_
        refine lv_iconst (v := 5) hx hb d_Proc_about_15 (by decide) ?_
        refine lv_icmp_le (tgt := 21) hx hb d_Proc_about_16 (by decide) (fun (c4 : wt ≤ 5) => ?_) (fun (c4 : ¬ wt ≤ 5) => ?_)
        · -- Proc_about 16 T
          have d4 := c4
          refine lv_aload_n hx hb d_Proc_about_21 rfl (lv_at hl 0 rfl) ?_
          refine pg_ring C hX d_Proc_about_22 ?_
          refine pg_st rfl C hX d_Proc_about_25 ?_
          refine lv_iload_n hx hb d_Proc_about_28 rfl (lv_at hl 1 rfl) ?_
          refine pa_st C hX hin rfl d_Proc_about_29 ?_
          refine lv_istore_n (lv' := [(3, .int (rst v (ix pl))), (0, .ref h), (1, .int pl), (2, .int wt)]) hx hb d_Proc_about_30 rfl hl (by decide) rfl (fun ls hl => ?_)
          refine lv_iload_n hx hb d_Proc_about_31 rfl (lv_at hl 3 rfl) ?_
          refine lv_iconst (v := 1) hx hb d_Proc_about_32 (by decide) ?_
          refine lv_icmp_eq (tgt := 40) hx hb d_Proc_about_33 (by decide) (fun (c5 : wt = 1) => ?_) (fun (c5 : ¬ wt = 1) => ?_)
          · -- Proc_about 33 T
            refine lv_iload_n hx hb d_Proc_about_40 rfl (lv_at hl 3 rfl) ?_
            refine lv_iconst (v := 1) hx hb d_Proc_about_41 (by decide) ?_
            refine lv_icmp_ne (tgt := 49) hx hb d_Proc_about_42 (by decide) (fun (c6 : ¬ wt = 1) => ?_) (fun (c6 : wt = 1) => ?_)
            · -- Proc_about 42 T
              refine lv_iconst (v := (-1)) hx hb d_Proc_about_49 (by decide) ?_
              exact hret H locs (-1) v 50 ls (vp_nar_int _) (⟨rfl, by simp only [pAbout, if_neg d1, if_neg d2, if_neg d3, if_pos d4]; first | (simp [pAboutIn, c1, c2, c3, c4, c5, c6]; done) | exact absurd (show wt = 1 by assumption) (by assumption)⟩) hX d_Proc_about_50
            · -- Proc_about 42 F
              refine lv_iload_n hx hb d_Proc_about_45 rfl (lv_at hl 0 rfl) ?_
              refine lv_goto (tgt := 50) hx hb d_Proc_about_46 (by decide) ?_
              exact hret H locs (rst v (ix pl)) v 50 ls (vp_nar_int _) (⟨rfl, by simp only [pAbout, if_neg d1, if_neg d2, if_neg d3, if_pos d4]; first | (simp [pAboutIn, c1, c2, c3, c4, c5, c6]; done) | exact absurd (show wt = 1 by assumption) (by assumption)⟩) hX d_Proc_about_50
          · -- Proc_about 33 F
            have hw1 := c5
            refine lv_iload_n hx hb d_Proc_about_36 rfl (lv_at hl 0 rfl) ?_
            refine lv_if_ne (tgt := 51) hx hb d_Proc_about_37 (by decide) (fun (c7 : ¬ (rst v (ix pl)) = 0) => ?_) (fun (c7 : (rst v (ix pl)) = 0) => ?_)
            · -- Proc_about 37 T
              have k1 := c7
              refine lv_iload_n hx hb d_Proc_about_51 rfl (lv_at hl 3 rfl) ?_
              rcases le5 d3 d4 with e0 | e0 | e0 | e0 | e0 | e0
              · -- case 0
                refine lv_tableIn (tgt := 88) hx hb d_Proc_about_52 (by rw [e0]; decide) (by rw [e0]; decide) (by rw [e0]; rfl) (by decide) ?_
                refine lv_aload_n hx hb d_Proc_about_88 rfl (lv_at hl 1 rfl) ?_
                refine pg_ring C hX d_Proc_about_89 ?_
                refine pg_nu rfl C hX d_Proc_about_92 ?_
                refine lv_iload_n hx hb d_Proc_about_95 rfl (lv_at hl 2 rfl) ?_
                refine pa_nu C hX hin rfl d_Proc_about_96 ?_
                exact hret H locs (rnu v (ix pl)) v 97 ls (vp_nar_int _) (⟨rfl, by simp only [pAbout, if_neg d1, if_neg d2, if_neg d3, if_pos d4]; simp [pAboutIn, e0, k1, c1, c2, c3, c4, c5, c7]⟩) hX d_Proc_about_97
              · -- case 1
                refine lv_tableIn (tgt := 145) hx hb d_Proc_about_52 (by rw [e0]; decide) (by rw [e0]; decide) (by rw [e0]; rfl) (by decide) ?_
                refine lv_aload_n hx hb d_Proc_about_145 rfl (lv_at hl 1 rfl) ?_
                refine pg_ring C hX d_Proc_about_146 ?_
                refine lv_iload_n hx hb d_Proc_about_149 rfl (lv_at hl 2 rfl) ?_
                refine pr_r C hX (c_Ring_processorOf l D a k v pl hg) mi_Proc_80 ⟨⟨rfl, rfl⟩, Nat.le_of_ble_eq_true rfl, Nat.le_of_ble_eq_true rfl⟩ rfl rfl hl.1 (Nat.le_of_ble_eq_true rfl) d_Proc_about_150 ⟨Nat.zero_le _, Nat.zero_le _⟩ (fun H locs (hX : VX D A s.heap (pW h a k v) H locs) => ?_)
                exact hret H locs (rProcOf v pl) v 153 ls (vp_nar_int _) (⟨rfl, absurd e0 hw1⟩) hX d_Proc_about_153
              · -- case 2
                refine lv_tableIn (tgt := 98) hx hb d_Proc_about_52 (by rw [e0]; decide) (by rw [e0]; decide) (by rw [e0]; rfl) (by decide) ?_
                refine lv_aload_n hx hb d_Proc_about_98 rfl (lv_at hl 1 rfl) ?_
                refine pg_ring C hX d_Proc_about_99 ?_
                refine pg_pa rfl C hX d_Proc_about_102 ?_
                refine lv_iload_n hx hb d_Proc_about_105 rfl (lv_at hl 2 rfl) ?_
                refine pa_pa C hX hin rfl d_Proc_about_106 ?_
                exact hret H locs (rpa v (ix pl)) v 107 ls (vp_nar_int _) (⟨rfl, by simp only [pAbout, if_neg d1, if_neg d2, if_neg d3, if_pos d4]; simp [pAboutIn, e0, k1, c1, c2, c3, c4, c5, c7]⟩) hX d_Proc_about_107
              · -- case 3
                refine lv_tableIn (tgt := 108) hx hb d_Proc_about_52 (by rw [e0]; decide) (by rw [e0]; decide) (by rw [e0]; rfl) (by decide) ?_
                refine lv_aload_n hx hb d_Proc_about_108 rfl (lv_at hl 1 rfl) ?_
                refine pg_ring C hX d_Proc_about_109 ?_
                refine pg_ki rfl C hX d_Proc_about_112 ?_
                refine lv_iload_n hx hb d_Proc_about_115 rfl (lv_at hl 2 rfl) ?_
                refine pa_ki C hX hin rfl d_Proc_about_116 ?_
                refine lv_if_eq (tgt := 124) hx hb d_Proc_about_117 (by decide) (fun (c8 : (rki v (ix pl)) = 0) => ?_) (fun (c8 : ¬ (rki v (ix pl)) = 0) => ?_)
                · -- Proc_about 117 T
                  refine lv_iconst (v := 0) hx hb d_Proc_about_124 (by decide) ?_
                  exact hret H locs 0 v 125 ls (vp_nar_int _) (⟨rfl, by simp only [pAbout, if_neg d1, if_neg d2, if_neg d3, if_pos d4]; simp [pAboutIn, e0, k1, c1, c2, c3, c4, c5, c7, c8]⟩) hX d_Proc_about_125
                · -- Proc_about 117 F
                  refine lv_iconst (v := 1) hx hb d_Proc_about_120 (by decide) ?_
                  refine lv_goto (tgt := 125) hx hb d_Proc_about_121 (by decide) ?_
                  exact hret H locs 1 v 125 ls (vp_nar_int _) (⟨rfl, by simp only [pAbout, if_neg d1, if_neg d2, if_neg d3, if_pos d4]; simp [pAboutIn, e0, k1, c1, c2, c3, c4, c5, c7, c8]⟩) hX d_Proc_about_125
              · -- case 4
                refine lv_tableIn (tgt := 126) hx hb d_Proc_about_52 (by rw [e0]; decide) (by rw [e0]; decide) (by rw [e0]; rfl) (by decide) ?_
                refine lv_iload_n hx hb d_Proc_about_126 rfl (lv_at hl 0 rfl) ?_
                refine lv_iconst (v := 4) hx hb d_Proc_about_127 (by decide) ?_
                refine lv_icmp_ne (tgt := 143) hx hb d_Proc_about_128 (by decide) (fun (c9 : ¬ (rst v (ix pl)) = 4) => ?_) (fun (c9 : (rst v (ix pl)) = 4) => ?_)
                · -- Proc_about 128 T
                  refine lv_iconst (v := 0) hx hb d_Proc_about_143 (by decide) ?_
                  exact hret H locs 0 v 144 ls (vp_nar_int _) (⟨rfl, by simp only [pAbout, if_neg d1, if_neg d2, if_neg d3, if_pos d4]; simp [pAboutIn, e0, k1, c1, c2, c3, c4, c5, c7, c9]⟩) hX d_Proc_about_144
                · -- Proc_about 128 F
                  refine lv_aload_n hx hb d_Proc_about_131 rfl (lv_at hl 1 rfl) ?_
                  refine pg_ring C hX d_Proc_about_132 ?_
                  refine pg_sa rfl C hX d_Proc_about_135 ?_
                  refine lv_iload_n hx hb d_Proc_about_138 rfl (lv_at hl 2 rfl) ?_
                  refine pa_sa C hX hin rfl d_Proc_about_139 ?_
                  refine lv_goto (tgt := 144) hx hb d_Proc_about_140 (by decide) ?_
                  exact hret H locs (rsa v (ix pl)) v 144 ls (vp_nar_int _) (⟨rfl, by simp only [pAbout, if_neg d1, if_neg d2, if_neg d3, if_pos d4]; simp [pAboutIn, e0, k1, c1, c2, c3, c4, c5, c7, c9]⟩) hX d_Proc_about_144
              · -- default
                refine lv_tableOut (tgt := 145) hx hb d_Proc_about_52 (Or.inr (by rw [e0]; decide)) (by decide) ?_
                refine lv_aload_n hx hb d_Proc_about_145 rfl (lv_at hl 1 rfl) ?_
                refine pg_ring C hX d_Proc_about_146 ?_
                refine lv_iload_n hx hb d_Proc_about_149 rfl (lv_at hl 2 rfl) ?_
                refine pr_r C hX (c_Ring_processorOf l D a k v pl hg) mi_Proc_80 ⟨⟨rfl, rfl⟩, Nat.le_of_ble_eq_true rfl, Nat.le_of_ble_eq_true rfl⟩ rfl rfl hl.1 (Nat.le_of_ble_eq_true rfl) d_Proc_about_150 ⟨Nat.zero_le _, Nat.zero_le _⟩ (fun H locs (hX : VX D A s.heap (pW h a k v) H locs) => ?_)
                exact hret H locs (rProcOf v pl) v 153 ls (vp_nar_int _) (⟨rfl, by simp only [pAbout, if_neg d1, if_neg d2, if_neg d3, if_pos d4]; simp [pAboutIn, e0, k1, c1, c2, c3, c4, c5, c7]⟩) hX d_Proc_about_153
            · -- Proc_about 37 F
              refine lv_iload_n hx hb d_Proc_about_40 rfl (lv_at hl 3 rfl) ?_
              refine lv_iconst (v := 1) hx hb d_Proc_about_41 (by decide) ?_
              refine lv_icmp_ne (tgt := 49) hx hb d_Proc_about_42 (by decide) (fun (c10 : ¬ wt = 1) => ?_) (fun (c10 : wt = 1) => ?_)
              · -- Proc_about 42 T
                refine lv_iconst (v := (-1)) hx hb d_Proc_about_49 (by decide) ?_
                exact hret H locs (-1) v 50 ls (vp_nar_int _) (⟨rfl, by simp only [pAbout, if_neg d1, if_neg d2, if_neg d3, if_pos d4]; first | (simp [pAboutIn, c1, c2, c3, c4, c5, c7, c10]; done) | exact absurd (show wt = 1 by assumption) (by assumption)⟩) hX d_Proc_about_50
              · -- Proc_about 42 F
                refine lv_iload_n hx hb d_Proc_about_45 rfl (lv_at hl 0 rfl) ?_
                refine lv_goto (tgt := 50) hx hb d_Proc_about_46 (by decide) ?_
                exact hret H locs (rst v (ix pl)) v 50 ls (vp_nar_int _) (⟨rfl, by simp only [pAbout, if_neg d1, if_neg d2, if_neg d3, if_pos d4]; first | (simp [pAboutIn, c1, c2, c3, c4, c5, c7, c10]; done) | exact absurd (show wt = 1 by assumption) (by assumption)⟩) hX d_Proc_about_50
        · -- Proc_about 16 F
          refine lv_iconst (v := (-1)) hx hb d_Proc_about_19 (by decide) ?_
          exact hret H locs (-1) v 20 ls (vp_nar_int _) (⟨rfl, by simp only [pAbout, if_neg c1, if_neg c2, if_neg c3, if_neg c4]⟩) hX d_Proc_about_20
end
section
/-! the reference's functions -/
abbrev mN (v : MS) : Nat := ix (mma v)
def is01 (x : Int32) : Prop := x = 0 ∨ x = 1
def Mok (v : MS) : Prop := mth v = 0 ∧ (∃ n, n ≤ 15 ∧ mma v = nI n) ∧ (∃ i, i < 15 ∧ mtk v = nI i) ∧ ∀ j, j < 16 → is01 (men v j) ∧ is01 (mki v j)
/-- a row, or none -/
def isRow (v : MS) (x : Int32) : Prop := x = -1 ∨ ∃ i, i < mN v ∧ x = nI i
def mOfPlace (v : MS) (p : Int32) : Int32 := lst (fun j => mpl v j = p) (mN v)
def mOfNumber (v : MS) (n : Int32) : Int32 := lst (fun j => mnu v j = n) (mN v)
def mRunning (v : MS) (q : Int32) : Int32 := if q < 0 then -1 else if mpr v ≤ q then -1 else lst (fun j => mon v j = q) (mN v)
def mVacant (v : MS) : Int32 := nI (fst (fun p => mOfPlace v (nI p) < 0) 15)
def mEndL (v : MS) (row : Int32) : Nat → Int32
  | 0 => -1
  | i + 1 => if mpa v i = mnu v (ix row) ∧ ¬ men v i = 0 ∧ (mEndL v row i < 0 ∨ ¬ mpl v (ix (mEndL v row i)) ≤ mpl v i) then nI i else mEndL v row i
def mEnded (v : MS) (row : Int32) : Int32 := mEndL v row (mN v)
abbrev mStill (v : MS) (row : Int32) : Prop := mwa v (ix row) = 1 ∨ (mwa v (ix row) = 2 ∧ mEnded v row < 0) ∨ (mwa v (ix row) = 3 ∧ ¬ mwh v (ix row) ≤ mti v)
def mState (v : MS) (row : Int32) : Int32 := if men v (ix row) = 0 then (if mon v (ix row) < 0 then (if mStill v row then 3 else 1) else 2) else 4
def mAdd (v : MS) (p par : Int32) : Int32 × MS := (p, (mth v, mpr v, mma v + 1, mti v, mlt v + 1, mtk v, msu v, upd (mnu v) (mN v) (mlt v + 1), upd (mpl v) (mN v) p, upd (mpa v) (mN v) par, upd (men v) (mN v) 0, upd (mre v) (mN v) 0, upd (mki v) (mN v) 0, upd (mon v) (mN v) (-1), upd (mwa v) (mN v) 0, mwh v))
def shf (f : IA) (r i : Nat) : IA := fun j => if r ≤ j ∧ j < i then f (j + 1) else f j
def mShift (v : MS) (r i : Nat) : MS := (mth v, mpr v, mma v - 1, mti v, mlt v, mtk v, msu v, shf (mnu v) r i, shf (mpl v) r i, shf (mpa v) r i, shf (men v) r i, shf (mre v) r i, shf (mki v) r i, shf (mon v) r i, shf (mwa v) r i, shf (mwh v) r i)
def mRemove (v : MS) (row : Int32) : MS := mShift v (ix row) (mN v - 1)
def mFirst (v : MS) : Int32 × MS := if mma v ≤ 0 then (1, (mAdd (zmtk (zmlt (zmti v 0) 0) 14) 0 0).2) else (0, v)
def mPl (v : MS) (i : Nat) : Nat := (ix (mtk v) + (i + 1)) % 15
abbrev mCan (v : MS) (j : Nat) : Prop := ¬ mOfPlace v (nI (mPl v j)) < 0 ∧ mState v (mOfPlace v (nI (mPl v j))) = 1
def mFound (v : MS) : Int32 := if fst (mCan v) 15 < 15 then mOfPlace v (nI (mPl v (fst (mCan v) 15))) else -1
def mRow (v : MS) (q : Int32) : Int32 := if 0 ≤ mRunning v q then mRunning v q else mFound v
def mTaken (v : MS) (q row : Int32) : MS := (mth v, mpr v, mma v, mti v, mlt v, mpl v (ix row), msu v, mnu v, mpl v, mpa v, men v, mre v, mki v, upd (mon v) (ix row) q, upd (mwa v) (ix row) 0, mwh v)
def mPick (v : MS) (q : Int32) : Int32 × MS := if q < 0 then (-1, v) else if q < mpr v then (if 0 ≤ mRow v q then (if mon v (ix (mRow v q)) = q then (mpl v (ix (mRow v q)), v) else (mpl v (ix (mRow v q)), mTaken v q (mRow v q))) else (-1, v)) else (-1, v)
def mFork (v : MS) (q : Int32) : Int32 × MS := if mRunning v q < 0 then (-1, v) else if mVacant v = 15 then (-1, v) else mAdd v (mVacant v) (mnu v (ix (mRunning v q)))
def mpP (v : MS) (n : Int32) (i : Nat) : IA := fun j => if j < i ∧ mpa v j = n then 1 else mpa v j
def mEnd (v : MS) (r : Nat) (x : Int32) : MS := (mth v, mpr v, mma v, mti v, mlt v, mtk v, msu v, mnu v, mpl v, mpP v (mnu v r) (mN v), upd (men v) r 1, upd (mre v) r x, mki v, upd (mon v) r (-1), mwa v, mwh v)
def mExit (v : MS) (q x : Int32) : Int32 × MS := if 0 ≤ mRunning v q then (if mnu v (ix (mRunning v q)) = 1 then (mpl v (ix (mRunning v q)), zmma (zmsu v x) 0) else (mpl v (ix (mRunning v q)), mEnd v (ix (mRunning v q)) x)) else (-1, v)
def mWaitsFor (v : MS) (row wt wh : Int32) : Int32 × MS := (mpl v (ix row), (mth v, mpr v, mma v, mti v, mlt v, mtk v, msu v, mnu v, mpl v, mpa v, men v, mre v, mki v, upd (mon v) (ix row) (-1), upd (mwa v) (ix row) wt, upd (mwh v) (ix row) wh))
abbrev mKid (v : MS) (n : Int32) (j : Nat) : Prop := mpa v j = n
def mAwait (v : MS) (q : Int32) : Int32 × MS := if mRunning v q < 0 then (-1, v) else if any1 (mKid v (mnu v (ix (mRunning v q)))) (mN v) = 0 then (-1, v) else if 0 ≤ mEnded v (mRunning v q) then (mnu v (ix (mEnded v (mRunning v q))), mRemove (zmsu v (mre v (ix (mEnded v (mRunning v q))))) (mEnded v (mRunning v q))) else (0, (mWaitsFor v (mRunning v q) 2 0).2)
def mBlock (v : MS) (q ch : Int32) : Int32 × MS := if 0 ≤ mRunning v q then mWaitsFor v (mRunning v q) 1 ch else (-1, v)
def mUntil (v : MS) (n : Int32) : Int32 := if mti v ≤ 2147483647 - n then mti v + n else 2147483647
def mSleep (v : MS) (q n : Int32) : Int32 × MS := if 0 ≤ mRunning v q then (if 1 ≤ n then mWaitsFor v (mRunning v q) 3 (mUntil v n) else (mpl v (ix (mRunning v q)), v)) else (-1, v)
abbrev mIs (v : MS) (ch : Int32) (j : Nat) : Prop := men v j = 0 ∧ ¬ 0 ≤ mon v j ∧ mwa v j = 1 ∧ mwh v j = ch
def mwS (v : MS) (ch : Int32) (i : Nat) : IA := fun j => if j < i ∧ mIs v ch j then 0 else mwa v j
def mWake (v : MS) (ch : Int32) : Int32 × MS := (cnt (mIs v ch) (mN v), zmwa v (mwS v ch (mN v)))
def mRest (v : MS) (q : Int32) : Int32 × MS := if 0 ≤ mRunning v q then mWaitsFor v (mRunning v q) 0 0 else (-1, v)
def moF (v : MS) (i : Nat) : IA := fun j => if j < i then -1 else mon v j
def mTick (v : MS) : Int32 × MS := if mma v = 0 then (-1, v) else (mti v + 1, zmon (zmti v (mti v + 1)) (moF v (mN v)))
def mKill (v : MS) (n : Int32) : Int32 × MS := if mOfNumber v n < 0 then (0, v) else if men v (ix (mOfNumber v n)) = 0 then (1, zmwa (zmki v (upd (mki v) (ix (mOfNumber v n)) 1)) (upd (mwa v) (ix (mOfNumber v n)) 0)) else (0, v)
def mAboutIn (v : MS) (row w : Int32) : Int32 := if w = 0 then mnu v (ix row) else if w = 1 then mState v row else if w = 2 then mpa v (ix row) else if w = 3 then (if mki v (ix row) = 0 then 0 else 1) else if w = 4 then (if men v (ix row) = 0 then 0 else mre v (ix row)) else if w = 5 then mon v (ix row) else -1
def mAbout (v : MS) (p w : Int32) : Int32 := if p < 0 then -1 else if 15 ≤ p then -1 else if 0 ≤ mOfPlace v p then mAboutIn v (mOfPlace v p) w else if w = 1 then 0 else -1
abbrev mHas (v : MS) (s : Int32) (j : Nat) : Prop := s = 0 ∨ mState v (nI j) = s
def mCount (v : MS) (s : Int32) : Int32 := if s < 0 then -1 else if s ≤ 4 then cnt (mHas v s) (mN v) else -1
end
section
/-! steps of the reference's loops -/
theorem mp_th0 {p : Program} {l : Launch} {e : Env} {R : Room} {s : State} {m : MethodId} {args : Array Value} {below : List Frame} {meth : Method} {c : Code} {H : Heap} {locs : List Loc} {cells slots : Nat} {Q : State → Prop} {cc : ByteArray} {pc nL : Nat} {ls : Array Slot} {rest : List Value} {D : va_G} {A : Nat → Prop} {nb : Bool} {a k : Nat → Nat} {v : MS} (hz : mth v = 0)
    (C : Cx p m c s args cc nL R_Mod D (mT k) A nb) (hX : VX D A s.heap (mW a k v) H locs) (hd : decode cc pc = .ok (.putfield 42, 3)) (kk : ∀ (H : Heap) (locs : List Loc), VX D A s.heap (mW a k v) H locs → W p l e R s m args below meth c H locs cells slots Q (F0 m (pc + 3) ls rest)) : W p l e R s m args below meth c H locs cells slots Q (F0 m pc ls (.int 0 :: .ref (a 0) :: rest)) :=
  mp_th C hX hd (fun H locs h => kk H locs (by
    have e : zmth v 0 = v := congrArg (fun x => (x, v.2)) hz.symm
    rw [e] at h
    exact h))
theorem lst_spec (C : Nat → Prop) [DecidablePred C] (n : Nat) : (lst C n = -1 ∧ ∀ j, j < n → ¬ C j) ∨ ∃ j, j < n ∧ C j ∧ lst C n = nI j ∧ ∀ j', j < j' → j' < n → ¬ C j' := by
  induction n with
  | zero => exact Or.inl ⟨rfl, lt_0⟩
  | succ n ih =>
    by_cases hc : C n
    · exact Or.inr ⟨n, Nat.lt_succ_self _, hc, by simp only [lst, if_pos hc], fun j' h1 h2 => by omega⟩
    · have e : lst C (n + 1) = lst C n := by simp only [lst, if_neg hc]
      rw [e]
      rcases ih with ⟨h1, h2⟩ | ⟨j, h1, h2, h3, h4⟩
      · exact Or.inl ⟨h1, lt_s h2 hc⟩
      · refine Or.inr ⟨j, by omega, h2, h3, fun j' a b => ?_⟩
        by_cases ej : j' = n
        · rw [ej]; exact hc
        · exact h4 j' a (by omega)
theorem row_lst {v : MS} {C : Nat → Prop} [DecidablePred C] : isRow v (lst C (mN v)) := by
  rcases lst_spec C (mN v) with ⟨h, -⟩ | ⟨j, h1, -, h3, -⟩
  · exact Or.inl h
  · exact Or.inr ⟨j, h1, h3⟩
theorem row_run {v : MS} {q : Int32} : isRow v (mRunning v q) := by
  unfold mRunning
  split
  · exact Or.inl rfl
  · split
    · exact Or.inl rfl
    · exact row_lst
theorem mN_is {v : MS} {n : Nat} (hn : mma v = nI n) (h : n ≤ 15) : mN v = n := by
  show ix (mma v) = n
  rw [hn]
  exact nI_clamp (by omega)
theorem mok_N {v : MS} (h : Mok v) : mN v ≤ 15 := by
  obtain ⟨-, ⟨n, h1, h2⟩, -⟩ := h
  rw [mN_is h2 h1]
  exact h1
theorem mok_ma {v : MS} (h : Mok v) : vp_in (mma v) 16 := by
  obtain ⟨-, ⟨n, h1, h2⟩, -⟩ := h
  rw [h2]
  exact vp_in_nI (by omega) (by decide)
theorem m1_neg : (-1 : Int32) < 0 := by decide
theorem row_is {v : MS} {x : Int32} (h : isRow v x) (c : ¬ x < 0) : ix x < mN v ∧ x = nI (ix x) := by
  have hm : mN v < 2 ^ 31 := by
    show (mma v).toNatClampNeg < 2 ^ 31
    rcases Classical.em (mma v < 0) with hneg | hneg
    · have e : (mma v).toNatClampNeg = 0 := by
        have h1 : (mma v).toInt < 0 := by
          have := Int32.lt_iff_toInt_lt.mp hneg
          simpa using this
        show (mma v).toInt.toNat = 0
        omega
      omega
    · obtain ⟨j, hj, e⟩ := nI_of hneg
      rw [e, nI_clamp hj]
      exact hj
  rcases h with rfl | ⟨i, hi, rfl⟩
  · exact absurd m1_neg c
  · have e : ix (nI i) = i := nI_clamp (by omega)
    rw [e]
    exact ⟨hi, rfl⟩
theorem row_in {v : MS} {x : Int32} (hg : Mok v) (h : isRow v x) (c : ¬ x < 0) : vp_in x 16 := by
  obtain ⟨h1, h2⟩ := row_is h c
  rw [h2]
  have := mok_N hg
  exact vp_in_nI (by omega) (by decide)
theorem nneg {x : Int32} (c : 0 ≤ x) : ¬ x < 0 := Int32.not_lt.mpr c
theorem run_end {v : MS} {q x : Int32} {i : Nat} (h1 : q < 0 → i = 0) (h2 : mpr v ≤ q → i = 0) (e : x = lst (fun j => mon v j = q) i) (hi : i = mN v ∨ q < 0 ∨ mpr v ≤ q) : x = mRunning v q := by
  unfold mRunning
  split
  · rename_i c
    rw [e, h1 c]; rfl
  · split
    · rename_i c
      rw [e, h2 c]; rfl
    · rename_i c1 c2
      rcases hi with hi | hi | hi
      · rw [e, hi]
      · exact absurd hi c1
      · exact absurd hi c2
theorem endL_row (v : MS) (row : Int32) (i : Nat) : mEndL v row i = -1 ∨ ∃ j, j < i ∧ mEndL v row i = nI j := by
  induction i with
  | zero => exact Or.inl rfl
  | succ i ih =>
    simp only [mEndL]
    split
    · exact Or.inr ⟨i, Nat.lt_succ_self _, rfl⟩
    · rcases ih with h | ⟨j, h1, h2⟩
      · exact Or.inl h
      · exact Or.inr ⟨j, by omega, h2⟩
theorem endL_in {v : MS} {row x : Int32} {i : Nat} (e : x = mEndL v row i) (hi : i ≤ 15) (c : ¬ x < 0) : vp_in x 16 := by
  rcases endL_row v row i with h | ⟨j, h1, h2⟩
  · rw [e, h] at c
    exact absurd m1_neg c
  · rw [e, h2]
    exact vp_in_nI (by omega) (by decide)
theorem row_end {v : MS} {row : Int32} : isRow v (mEnded v row) := endL_row v row (mN v)
theorem bz {x : Int32} (h : is01 x) : vp_nar .boolean x = x := by
  rcases h with rfl | rfl
  · exact (rfl : vp_nar FieldType.boolean 0 = 0)
  · exact (rfl : vp_nar FieldType.boolean 1 = 1)
theorem shf_s {f : IA} {r i : Nat} (h : r ≤ i) : upd (shf f r i) i (shf f r i (i + 1)) = shf f r (i + 1) := by
  funext j
  by_cases hj : j = i
  · subst hj
    rw [upd_self]
    have a : ¬ (r ≤ j + 1 ∧ j + 1 < j) := by omega
    have b : r ≤ j ∧ j < j + 1 := by omega
    simp only [shf, if_neg a, if_pos b]
  · rw [upd_ne hj]
    have e : (r ≤ j ∧ j < i + 1) ↔ (r ≤ j ∧ j < i) := by omega
    simp only [shf, e]
theorem shf_0 {f : IA} {r : Nat} : shf f r r = f := by
  funext j
  have a : ¬ (r ≤ j ∧ j < r) := by omega
  simp only [shf, if_neg a]
theorem shift_0 {v : MS} {r : Nat} : zmma v (mma v - 1) = mShift v r r := by
  unfold mShift
  simp only [shf_0]
theorem shift_s {v w : MS} {r i : Nat} (h : r ≤ i) (e : w = mShift v r i) : ((mth w, mpr w, mma w, mti w, mlt w, mtk w, msu w, upd (mnu w) i (mnu w (i + 1)), upd (mpl w) i (mpl w (i + 1)), upd (mpa w) i (mpa w (i + 1)), upd (men w) i (men w (i + 1)), upd (mre w) i (mre w (i + 1)), upd (mki w) i (mki w (i + 1)), upd (mon w) i (mon w (i + 1)), upd (mwa w) i (mwa w (i + 1)), upd (mwh w) i (mwh w (i + 1))) : MS) = mShift v r (i + 1) := by
  subst e
  show ((mth v, mpr v, mma v - 1, mti v, mlt v, mtk v, msu v, upd (shf (mnu v) r i) i (shf (mnu v) r i (i + 1)), upd (shf (mpl v) r i) i (shf (mpl v) r i (i + 1)), upd (shf (mpa v) r i) i (shf (mpa v) r i (i + 1)), upd (shf (men v) r i) i (shf (men v) r i (i + 1)), upd (shf (mre v) r i) i (shf (mre v) r i (i + 1)), upd (shf (mki v) r i) i (shf (mki v) r i (i + 1)), upd (shf (mon v) r i) i (shf (mon v) r i (i + 1)), upd (shf (mwa v) r i) i (shf (mwa v) r i (i + 1)), upd (shf (mwh v) r i) i (shf (mwh v) r i (i + 1))) : MS) = _
  simp only [shf_s h]
  rfl
theorem shift_ma {v w : MS} {r i n : Nat} (e : w = mShift v r i) (hn : mma v = nI n) (h : 0 < n) : mma w = nI (n - 1) := by
  subst e
  show mma v - 1 = _
  rw [hn]
  obtain ⟨k, rfl⟩ : ∃ k, n = k + 1 := ⟨n - 1, by omega⟩
  exact nI_pred k
theorem shift_01 {v w : MS} {r i j : Nat} (hg : Mok v) (e : w = mShift v r i) (hj : j < 15) : is01 (men w j) ∧ is01 (mki w j) := by
  subst e
  show is01 (shf (men v) r i j) ∧ is01 (shf (mki v) r i j)
  unfold shf
  constructor
  · split
    · exact (hg.2.2.2 (j + 1) (by omega)).1
    · exact (hg.2.2.2 j (by omega)).1
  · split
    · exact (hg.2.2.2 (j + 1) (by omega)).2
    · exact (hg.2.2.2 j (by omega)).2
theorem mPl_lt (v : MS) (i : Nat) : mPl v i < 15 := Nat.mod_lt _ (by decide)
theorem rem_mpl {w : MS} (h : Mok w) (i : Nat) (hi : i < 15) : mtk w + nI (i + 1) - (mtk w + nI (i + 1)) / 15 * 15 = nI (mPl w i) := by
  obtain ⟨-, -, ⟨j, hj, e⟩, -⟩ := h
  rw [mPl, e, nI_add, show ix (nI j) = j from nI_clamp (by omega)]
  exact pk_rem (a := j + (i + 1)) (d := 15) (by omega) (by decide) (by decide)
/-! pick -/
def MPI (v : MS) (q : Int32) (i : Nat) (x : Int32) : Prop := (0 ≤ mRunning v q ∧ x = mRunning v q ∧ i = 0) ∨ (¬ 0 ≤ mRunning v q ∧ ((¬ 0 ≤ x ∧ ∀ j, j < i → ¬ mCan v j) ∨ ∃ j, j < i ∧ mCan v j ∧ (∀ j', j' < j → ¬ mCan v j') ∧ x = mOfPlace v (nI (mPl v j))))
theorem mpi_0 {v : MS} {q : Int32} : MPI v q 0 (mRunning v q) := by
  by_cases h : 0 ≤ mRunning v q
  · exact Or.inl ⟨h, rfl, rfl⟩
  · exact Or.inr ⟨h, Or.inl ⟨h, lt_0⟩⟩
theorem mpi_go {v : MS} {q x : Int32} {i : Nat} (h : MPI v q i x) (c : ¬ 0 ≤ x) : ¬ 0 ≤ mRunning v q ∧ ∀ j, j < i → ¬ mCan v j := by
  rcases h with ⟨h1, h2, -⟩ | ⟨h1, h2⟩
  · rw [h2] at c
    exact absurd h1 c
  · refine ⟨h1, ?_⟩
    rcases h2 with h2 | ⟨j, -, h3, -, h4⟩
    · exact h2.2
    · rw [h4] at c
      exact absurd (Int32.not_lt.mp h3.1) c
theorem mpi_no {v : MS} {q x : Int32} {i : Nat} (h : MPI v q i x) (c : ¬ 0 ≤ x) (c2 : ¬ mCan v i) : MPI v q (i + 1) (-1) := by
  obtain ⟨h1, h2⟩ := mpi_go h c
  exact Or.inr ⟨h1, Or.inl ⟨by decide, lt_s h2 c2⟩⟩
theorem mpi_yes {v : MS} {q x : Int32} {i : Nat} (h : MPI v q i x) (c : ¬ 0 ≤ x) (c2 : mCan v i) : MPI v q (i + 1) (mOfPlace v (nI (mPl v i))) := by
  obtain ⟨h1, h2⟩ := mpi_go h c
  exact Or.inr ⟨h1, Or.inr ⟨i, Nat.lt_succ_self _, c2, h2, rfl⟩⟩
theorem mpi_pos {v : MS} {q x : Int32} {i : Nat} (h : MPI v q i x) (hi : i ≤ 15) (c : 0 ≤ x) : mRow v q = x := by
  rcases h with ⟨h1, h2, -⟩ | ⟨h1, h2⟩
  · simp only [mRow, if_pos h1, h2]
  · rcases h2 with h2 | ⟨j, h3, h4, h5, h6⟩
    · exact absurd c h2.1
    · simp only [mRow, if_neg h1, mFound, fst_is (C := mCan v) (n := 15) (i := j) (by omega) h5 (Or.inr h4), if_pos (show j < 15 by omega), h6]
theorem mpi_neg {v : MS} {q x : Int32} {i : Nat} (h : MPI v q i x) (hi : i = 15) (c : ¬ 0 ≤ x) : ¬ 0 ≤ mRow v q := by
  obtain ⟨h1, h2⟩ := mpi_go h c
  subst hi
  simp only [mRow, if_neg h1, mFound, fst_is (C := mCan v) (n := 15) (i := 15) (Nat.le_refl _) h2 (Or.inl rfl), if_neg (Nat.lt_irrefl _)]
  decide
theorem mpi_row {v : MS} {q x : Int32} {i : Nat} (h : MPI v q i x) (hi : i ≤ 15) (c : 0 ≤ x) : isRow v x := by
  rcases h with ⟨h1, h2, -⟩ | ⟨h1, h2⟩
  · rw [h2]; exact row_run
  · rcases h2 with h2 | ⟨j, h3, h4, h5, h6⟩
    · exact absurd c h2.1
    · rw [h6]; exact row_lst
/-! exit -/
theorem mpP_0 {v : MS} {n : Int32} : v = zmpa v (mpP v n 0) := by
  have e : mpP v n 0 = mpa v := by funext j; simp [mpP]
  rw [e]
theorem mpP_self {v : MS} {n : Int32} {i : Nat} : mpP v n i i = mpa v i := by simp [mpP]
theorem mpP_s {v : MS} {n : Int32} {i : Nat} {x : Int32} (h : (mpa v i = n ∧ x = 1) ∨ (¬ mpa v i = n ∧ x = mpa v i)) : upd (mpP v n i) i x = mpP v n (i + 1) := by
  funext j
  by_cases hj : j = i
  · subst hj
    rw [upd_self]
    rcases h with ⟨h1, h2⟩ | ⟨h1, h2⟩
    · simp only [mpP, if_pos (show j < j + 1 ∧ mpa v j = n from ⟨Nat.lt_succ_self _, h1⟩), h2]
    · simp only [mpP, if_neg (show ¬ (j < j + 1 ∧ mpa v j = n) from fun z => h1 z.2), h2]
  · rw [upd_ne hj]
    have e2 : j < i + 1 ↔ j < i := by omega
    simp only [mpP, e2]
theorem mp_yes {v w : MS} {n : Int32} {i : Nat} (e : w = zmpa v (mpP v n i)) (h : mpa w i = n) : zmpa w (upd (mpa w) i 1) = zmpa v (mpP v n (i + 1)) := by
  subst e
  have h : mpP v n i i = n := h
  rw [mpP_self] at h
  rw [← mpP_s (Or.inl ⟨h, rfl⟩)]
theorem mp_no {v w : MS} {n : Int32} {i : Nat} (e : w = zmpa v (mpP v n i)) (h : ¬ mpa w i = n) : zmpa w (upd (mpa w) i (mpa w i)) = zmpa v (mpP v n (i + 1)) := by
  subst e
  have h : ¬ mpP v n i i = n := h
  rw [mpP_self] at h
  show zmpa v (upd (mpP v n i) i (mpP v n i i)) = _
  rw [mpP_self, mpP_s (Or.inr ⟨h, rfl⟩)]
/-! await -/
theorem any_keep {C : Nat → Prop} [DecidablePred C] {n : Nat} (h : ¬ any1 C n = 0) : 1 = any1 C (n + 1) := by
  simp only [any1]
  split
  · rfl
  · exact ((any_01 C n).resolve_left h).symm
theorem any_one {C : Nat → Prop} [DecidablePred C] {n : Nat} (h : C n) : 1 = any1 C (n + 1) := by simp only [any1, if_pos h]
theorem maw_ne {v : MS} {q z : Int32} {i : Nat} {C : Nat → Prop} [DecidablePred C] (h : mRunning v q < 0 → i = 0) (hz : z = any1 C i) (c : ¬ z = 0) : ¬ mRunning v q < 0 := by
  intro e
  rw [h e] at hz
  exact c hz
/-! wake -/
theorem mwS_self {v : MS} {ch : Int32} {i : Nat} : mwS v ch i i = mwa v i := by simp [mwS]
theorem mw_0 {v : MS} {ch : Int32} : v = zmwa v (mwS v ch 0) := by
  have e : mwS v ch 0 = mwa v := by funext j; simp [mwS]
  rw [e]
theorem mw_iff {v w : MS} {ch : Int32} {i : Nat} (e : w = zmwa v (mwS v ch i)) : mIs w ch i ↔ mIs v ch i := by
  subst e
  show (_ ∧ _ ∧ mwS v ch i i = 1 ∧ _) ↔ _
  rw [mwS_self]
theorem mw_yes {v w : MS} {ch : Int32} {i : Nat} (e : w = zmwa v (mwS v ch i)) (h : mIs w ch i) : zmwa w (upd (mwa w) i 0) = zmwa v (mwS v ch (i + 1)) := by
  replace h := (mw_iff e).mp h
  subst e
  have e : upd (mwS v ch i) i 0 = mwS v ch (i + 1) := by
    funext j
    by_cases hj : j = i
    · subst hj
      rw [upd_self]
      simp only [mwS, if_pos (show j < j + 1 ∧ mIs v ch j from ⟨Nat.lt_succ_self _, h⟩)]
    · rw [upd_ne hj]
      have e2 : j < i + 1 ↔ j < i := by omega
      simp only [mwS, e2]
  show zmwa v (upd (mwS v ch i) i 0) = _
  rw [e]
theorem mw_no {v w : MS} {ch : Int32} {i : Nat} (e : w = zmwa v (mwS v ch i)) (h : ¬ mIs w ch i) : w = zmwa v (mwS v ch (i + 1)) := by
  replace h := fun z => h ((mw_iff e).mpr z)
  rw [e]
  have e : mwS v ch i = mwS v ch (i + 1) := by
    funext j
    by_cases hj : j = i
    · subst hj
      simp only [mwS, if_neg (show ¬ (j < j + 1 ∧ mIs v ch j) from fun z => h z.2), if_neg (show ¬ (j < j ∧ mIs v ch j) from fun z => h z.2)]
    · have e2 : j < i + 1 ↔ j < i := by omega
      simp only [mwS, e2]
  rw [e]
theorem moF_0 {v : MS} {x : Int32} : zmti v x = zmon (zmti v x) (moF v 0) := by
  have e : moF v 0 = mon v := by funext j; simp [moF]
  rw [e]
theorem moF_s {v : MS} {i : Nat} : upd (moF v i) i (-1) = moF v (i + 1) := by
  funext j
  by_cases hj : j = i
  · subst hj
    simp [upd, moF]
  · have e2 : j < i + 1 ↔ j < i := by omega
    simp only [moF, upd, if_neg hj, e2]
theorem sw6 (x : Int32) : x = 0 ∨ x = 1 ∨ x = 2 ∨ x = 3 ∨ x = 4 ∨ x = 5 ∨ ((x.toInt < 0 ∨ 5 < x.toInt) ∧ ¬ x = 0 ∧ ¬ x = 1 ∧ ¬ x = 2 ∧ ¬ x = 3 ∧ ¬ x = 4 ∧ ¬ x = 5) := by
  by_cases h1 : x < 0
  · refine Or.inr (Or.inr (Or.inr (Or.inr (Or.inr (Or.inr ⟨Or.inl ?_, ?_⟩)))))
    · have := Int32.lt_iff_toInt_lt.mp h1
      simpa using this
    · refine ⟨?_, ?_, ?_, ?_, ?_, ?_⟩ <;> (rintro rfl; revert h1; decide)
  · by_cases h2 : x ≤ 5
    · rcases le5 h1 h2 with h | h | h | h | h | h <;> simp [h]
    · refine Or.inr (Or.inr (Or.inr (Or.inr (Or.inr (Or.inr ⟨Or.inr ?_, ?_⟩)))))
      · have := Int32.lt_iff_toInt_lt.mp (Int32.not_le.mp h2)
        simpa using this
      · refine ⟨?_, ?_, ?_, ?_, ?_, ?_⟩ <;> (rintro rfl; revert h2; decide)
end
section
abbrev rm_Mod_ofPlace : Room := { frames := 0, cells := 0, slots := 0, locals := 0 }
set_option maxHeartbeats 4000000 in
set_option maxRecDepth 100000 in
theorem c_Mod_ofPlace (l : Launch) (D : va_G) (a k : Nat → Nat) (v : MS) (pp : Int32) (hg : Mok v) : MCi l y_Mod_ofPlace b_Mod_ofPlace 4 .int rm_Mod_ofPlace [.ref (a 0), .int pp] D (mT k) false (mW a k) v (fun r u => u = v ∧ r = (mOfPlace v pp)) := by
  obtain ⟨hth, ⟨n0, hn15, hn⟩, htk, hbo⟩ := id hg
  refine MCi.of R_Mod rfl (by decide +kernel) (Nat.le_of_ble_eq_true rfl) ?_
  intro p e s m args below meth c A Q ls H locs C hX hl hret
  have hx := C.1.1
  have hb := C.1.2.1
  have hl : lv_has ls 4 [(0, .ref (a 0)), (1, .int pp)] := hl
  have L4 : ∀ (n : Nat) (i : Nat) (x2 : Int32) (H : Heap) (locs : List Loc) (ls : Array Slot), (i ≤ n0) → (x2 = lst (fun j => mpl v j = pp) i) → n0 - i < n → VX D A s.heap (mW a k v) H locs → lv_has ls 4 [(0, .ref (a 0)), (1, .int pp), (2, .int x2), (3, .int (nI i))] → W p l e rm_Mod_ofPlace s m args below meth c H locs 0 0 Q (F0 m 4 ls []) := by
    intro n
    induction n with
    | zero => intro i x2 H locs ls hi e2 hm; exact absurd hm (Nat.not_lt_zero _)
    | succ n ih =>
      intro i x2 H locs ls hi e2 hm hX hl
      refine lv_iload_n hx hb d_Mod_ofPlace_4 rfl (lv_at hl 3 rfl) ?_
      refine lv_aload_n hx hb d_Mod_ofPlace_5 rfl (lv_at hl 0 rfl) ?_
      refine mg_ma C hX d_Mod_ofPlace_6 ?_
      refine lv_icmp_ge (tgt := 34) hx hb d_Mod_ofPlace_9 (by decide) (fun (c1 : (mma v) ≤ (nI i)) => ?_) (fun (c1 : ¬ (mma v) ≤ (nI i)) => ?_)
      · -- Mod_ofPlace 9 T
        have h15 : i = n0 := ge_N hn hi (by omega) c1
        refine lv_iload_n hx hb d_Mod_ofPlace_34 rfl (lv_at hl 2 rfl) ?_
        exact hret H locs x2 v 35 ls (vp_nar_int _) (⟨rfl, by rw [e2, h15, mOfPlace, mN_is hn hn15]⟩) hX d_Mod_ofPlace_35
      · -- Mod_ofPlace 9 F
        have hlt : i < n0 := lt_N hn (by omega) c1
        refine lv_aload_n hx hb d_Mod_ofPlace_12 rfl (lv_at hl 0 rfl) ?_
        refine mg_pl C hX d_Mod_ofPlace_13 ?_
        refine lv_iload_n hx hb d_Mod_ofPlace_16 rfl (lv_at hl 3 rfl) ?_
        refine ma_pl C hX (vp_in_nI (by omega) (by decide)) (nI_clamp (by omega)) d_Mod_ofPlace_17 ?_
        refine lv_iload_n hx hb d_Mod_ofPlace_18 rfl (lv_at hl 1 rfl) ?_
        refine lv_icmp_ne (tgt := 26) hx hb d_Mod_ofPlace_19 (by decide) (fun (c2 : ¬ (mpl v i) = pp) => ?_) (fun (c2 : (mpl v i) = pp) => ?_)
        · -- Mod_ofPlace 19 T
          refine lv_iload_n hx hb d_Mod_ofPlace_26 rfl (lv_at hl 2 rfl) ?_
          refine lv_istore_n (lv' := [(2, .int x2), (0, .ref (a 0)), (1, .int pp), (3, .int (nI i))]) hx hb d_Mod_ofPlace_27 rfl hl (by decide) rfl (fun ls hl => ?_)
          refine lv_iinc (v := (nI (i + 1))) (lv' := [(3, .int (nI (i + 1))), (2, .int x2), (0, .ref (a 0)), (1, .int pp)]) hx hb d_Mod_ofPlace_28 hl (k := 3) rfl (nI_1 i) (by decide) rfl (fun ls hl => ?_)
          refine lv_goto (tgt := 4) hx hb d_Mod_ofPlace_31 (by decide) ?_
          exact ih (i + 1) x2 H locs ls (by omega) (by rw [e2]; exact lst_no c2) (by omega) hX (lv_sub hl [2, 3, 1, 0] rfl)
        · -- Mod_ofPlace 19 F
          refine lv_iload_n hx hb d_Mod_ofPlace_22 rfl (lv_at hl 3 rfl) ?_
          refine lv_goto (tgt := 27) hx hb d_Mod_ofPlace_23 (by decide) ?_
          refine lv_istore_n (lv' := [(2, .int (nI i)), (0, .ref (a 0)), (1, .int pp), (3, .int (nI i))]) hx hb d_Mod_ofPlace_27 rfl hl (by decide) rfl (fun ls hl => ?_)
          refine lv_iinc (v := (nI (i + 1))) (lv' := [(3, .int (nI (i + 1))), (2, .int (nI i)), (0, .ref (a 0)), (1, .int pp)]) hx hb d_Mod_ofPlace_28 hl (k := 3) rfl (nI_1 i) (by decide) rfl (fun ls hl => ?_)
          refine lv_goto (tgt := 4) hx hb d_Mod_ofPlace_31 (by decide) ?_
          exact ih (i + 1) (nI i) H locs ls (by omega) (lst_yes c2) (by omega) hX (lv_sub hl [2, 3, 1, 0] rfl)
  refine lv_iconst (v := (-1)) hx hb d_Mod_ofPlace_0 (by decide) ?_
  refine lv_istore_n (lv' := [(2, .int (-1)), (0, .ref (a 0)), (1, .int pp)]) hx hb d_Mod_ofPlace_1 rfl hl (by decide) rfl (fun ls hl => ?_)
  refine lv_iconst (v := 0) hx hb d_Mod_ofPlace_2 (by decide) ?_
  refine lv_istore_n (lv' := [(3, .int 0), (2, .int (-1)), (0, .ref (a 0)), (1, .int pp)]) hx hb d_Mod_ofPlace_3 rfl hl (by decide) rfl (fun ls hl => ?_)
  exact L4 _ 0 (-1) H locs ls (by omega) (rfl) (Nat.lt_succ_self _) hX (lv_sub hl [2, 3, 1, 0] rfl)
abbrev rm_Mod_ofNumber : Room := { frames := 0, cells := 0, slots := 0, locals := 0 }
set_option maxHeartbeats 4000000 in
set_option maxRecDepth 100000 in
theorem c_Mod_ofNumber (l : Launch) (D : va_G) (a k : Nat → Nat) (v : MS) (pp : Int32) (hg : Mok v) : MCi l y_Mod_ofNumber b_Mod_ofNumber 4 .int rm_Mod_ofNumber [.ref (a 0), .int pp] D (mT k) false (mW a k) v (fun r u => u = v ∧ r = (mOfNumber v pp)) := by
  obtain ⟨hth, ⟨n0, hn15, hn⟩, htk, hbo⟩ := id hg
  refine MCi.of R_Mod rfl (by decide +kernel) (Nat.le_of_ble_eq_true rfl) ?_
  intro p e s m args below meth c A Q ls H locs C hX hl hret
  have hx := C.1.1
  have hb := C.1.2.1
  have hl : lv_has ls 4 [(0, .ref (a 0)), (1, .int pp)] := hl
  have L4 : ∀ (n : Nat) (i : Nat) (x2 : Int32) (H : Heap) (locs : List Loc) (ls : Array Slot), (i ≤ n0) → (x2 = lst (fun j => mnu v j = pp) i) → n0 - i < n → VX D A s.heap (mW a k v) H locs → lv_has ls 4 [(0, .ref (a 0)), (1, .int pp), (2, .int x2), (3, .int (nI i))] → W p l e rm_Mod_ofNumber s m args below meth c H locs 0 0 Q (F0 m 4 ls []) := by
    intro n
    induction n with
    | zero => intro i x2 H locs ls hi e2 hm; exact absurd hm (Nat.not_lt_zero _)
    | succ n ih =>
      intro i x2 H locs ls hi e2 hm hX hl
      refine lv_iload_n hx hb d_Mod_ofNumber_4 rfl (lv_at hl 3 rfl) ?_
      refine lv_aload_n hx hb d_Mod_ofNumber_5 rfl (lv_at hl 0 rfl) ?_
      refine mg_ma C hX d_Mod_ofNumber_6 ?_
      refine lv_icmp_ge (tgt := 34) hx hb d_Mod_ofNumber_9 (by decide) (fun (c1 : (mma v) ≤ (nI i)) => ?_) (fun (c1 : ¬ (mma v) ≤ (nI i)) => ?_)
      · -- Mod_ofNumber 9 T
        have h15 : i = n0 := ge_N hn hi (by omega) c1
        refine lv_iload_n hx hb d_Mod_ofNumber_34 rfl (lv_at hl 2 rfl) ?_
        exact hret H locs x2 v 35 ls (vp_nar_int _) (⟨rfl, by rw [e2, h15, mOfNumber, mN_is hn hn15]⟩) hX d_Mod_ofNumber_35
      · -- Mod_ofNumber 9 F
        have hlt : i < n0 := lt_N hn (by omega) c1
        refine lv_aload_n hx hb d_Mod_ofNumber_12 rfl (lv_at hl 0 rfl) ?_
        refine mg_nu C hX d_Mod_ofNumber_13 ?_
        refine lv_iload_n hx hb d_Mod_ofNumber_16 rfl (lv_at hl 3 rfl) ?_
        refine ma_nu C hX (vp_in_nI (by omega) (by decide)) (nI_clamp (by omega)) d_Mod_ofNumber_17 ?_
        refine lv_iload_n hx hb d_Mod_ofNumber_18 rfl (lv_at hl 1 rfl) ?_
        refine lv_icmp_ne (tgt := 26) hx hb d_Mod_ofNumber_19 (by decide) (fun (c2 : ¬ (mnu v i) = pp) => ?_) (fun (c2 : (mnu v i) = pp) => ?_)
        · -- Mod_ofNumber 19 T
          refine lv_iload_n hx hb d_Mod_ofNumber_26 rfl (lv_at hl 2 rfl) ?_
          refine lv_istore_n (lv' := [(2, .int x2), (0, .ref (a 0)), (1, .int pp), (3, .int (nI i))]) hx hb d_Mod_ofNumber_27 rfl hl (by decide) rfl (fun ls hl => ?_)
          refine lv_iinc (v := (nI (i + 1))) (lv' := [(3, .int (nI (i + 1))), (2, .int x2), (0, .ref (a 0)), (1, .int pp)]) hx hb d_Mod_ofNumber_28 hl (k := 3) rfl (nI_1 i) (by decide) rfl (fun ls hl => ?_)
          refine lv_goto (tgt := 4) hx hb d_Mod_ofNumber_31 (by decide) ?_
          exact ih (i + 1) x2 H locs ls (by omega) (by rw [e2]; exact lst_no c2) (by omega) hX (lv_sub hl [2, 3, 1, 0] rfl)
        · -- Mod_ofNumber 19 F
          refine lv_iload_n hx hb d_Mod_ofNumber_22 rfl (lv_at hl 3 rfl) ?_
          refine lv_goto (tgt := 27) hx hb d_Mod_ofNumber_23 (by decide) ?_
          refine lv_istore_n (lv' := [(2, .int (nI i)), (0, .ref (a 0)), (1, .int pp), (3, .int (nI i))]) hx hb d_Mod_ofNumber_27 rfl hl (by decide) rfl (fun ls hl => ?_)
          refine lv_iinc (v := (nI (i + 1))) (lv' := [(3, .int (nI (i + 1))), (2, .int (nI i)), (0, .ref (a 0)), (1, .int pp)]) hx hb d_Mod_ofNumber_28 hl (k := 3) rfl (nI_1 i) (by decide) rfl (fun ls hl => ?_)
          refine lv_goto (tgt := 4) hx hb d_Mod_ofNumber_31 (by decide) ?_
          exact ih (i + 1) (nI i) H locs ls (by omega) (lst_yes c2) (by omega) hX (lv_sub hl [2, 3, 1, 0] rfl)
  refine lv_iconst (v := (-1)) hx hb d_Mod_ofNumber_0 (by decide) ?_
  refine lv_istore_n (lv' := [(2, .int (-1)), (0, .ref (a 0)), (1, .int pp)]) hx hb d_Mod_ofNumber_1 rfl hl (by decide) rfl (fun ls hl => ?_)
  refine lv_iconst (v := 0) hx hb d_Mod_ofNumber_2 (by decide) ?_
  refine lv_istore_n (lv' := [(3, .int 0), (2, .int (-1)), (0, .ref (a 0)), (1, .int pp)]) hx hb d_Mod_ofNumber_3 rfl hl (by decide) rfl (fun ls hl => ?_)
  exact L4 _ 0 (-1) H locs ls (by omega) (rfl) (Nat.lt_succ_self _) hX (lv_sub hl [2, 3, 1, 0] rfl)
abbrev rm_Mod_running : Room := { frames := 0, cells := 0, slots := 0, locals := 0 }
set_option maxHeartbeats 4000000 in
set_option maxRecDepth 100000 in
theorem c_Mod_running (l : Launch) (D : va_G) (a k : Nat → Nat) (v : MS) (q : Int32) (hg : Mok v) : MCi l y_Mod_running b_Mod_running 4 .int rm_Mod_running [.ref (a 0), .int q] D (mT k) false (mW a k) v (fun r u => u = v ∧ r = (mRunning v q)) := by
  obtain ⟨hth, ⟨n0, hn15, hn⟩, htk, hbo⟩ := id hg
  refine MCi.of R_Mod rfl (by decide +kernel) (Nat.le_of_ble_eq_true rfl) ?_
  intro p e s m args below meth c A Q ls H locs C hX hl hret
  have hx := C.1.1
  have hb := C.1.2.1
  have hl : lv_has ls 4 [(0, .ref (a 0)), (1, .int q)] := hl
  have L4 : ∀ (n : Nat) (i : Nat) (x2 : Int32) (H : Heap) (locs : List Loc) (ls : Array Slot), (i ≤ n0) → (q < 0 → i = 0) → (mpr v ≤ q → i = 0) → (x2 = lst (fun j => mon v j = q) i) → n0 - i < n → VX D A s.heap (mW a k v) H locs → lv_has ls 4 [(0, .ref (a 0)), (1, .int q), (2, .int x2), (3, .int (nI i))] → W p l e rm_Mod_running s m args below meth c H locs 0 0 Q (F0 m 4 ls []) := by
    intro n
    induction n with
    | zero => intro i x2 H locs ls hi g1 g2 e2 hm; exact absurd hm (Nat.not_lt_zero _)
    | succ n ih =>
      intro i x2 H locs ls hi g1 g2 e2 hm hX hl
      refine lv_iload_n hx hb d_Mod_running_4 rfl (lv_at hl 3 rfl) ?_
      refine lv_aload_n hx hb d_Mod_running_5 rfl (lv_at hl 0 rfl) ?_
      refine mg_ma C hX d_Mod_running_6 ?_
      refine lv_icmp_ge (tgt := 46) hx hb d_Mod_running_9 (by decide) (fun (c1 : (mma v) ≤ (nI i)) => ?_) (fun (c1 : ¬ (mma v) ≤ (nI i)) => ?_)
      · -- Mod_running 9 T
        have h15 : i = n0 := ge_N hn hi (by omega) c1
        refine lv_iload_n hx hb d_Mod_running_46 rfl (lv_at hl 2 rfl) ?_
        exact hret H locs x2 v 47 ls (vp_nar_int _) (⟨rfl, run_end g1 g2 e2 (Or.inl (by rw [mN_is hn hn15, h15]))⟩) hX d_Mod_running_47
      · -- Mod_running 9 F
        have hlt : i < n0 := lt_N hn (by omega) c1
        refine lv_iload_n hx hb d_Mod_running_12 rfl (lv_at hl 1 rfl) ?_
        refine lv_if_lt (tgt := 46) hx hb d_Mod_running_13 (by decide) (fun (c2 : q < 0) => ?_) (fun (c2 : ¬ q < 0) => ?_)
        · -- Mod_running 13 T
          have k1 := c2
          refine lv_iload_n hx hb d_Mod_running_46 rfl (lv_at hl 2 rfl) ?_
          exact hret H locs x2 v 47 ls (vp_nar_int _) (⟨rfl, run_end g1 g2 e2 (Or.inr (Or.inl k1))⟩) hX d_Mod_running_47
        · -- Mod_running 13 F
          have k1 := c2
          refine lv_iload_n hx hb d_Mod_running_16 rfl (lv_at hl 1 rfl) ?_
          refine lv_aload_n hx hb d_Mod_running_17 rfl (lv_at hl 0 rfl) ?_
          refine mg_pr C hX d_Mod_running_18 ?_
          refine lv_icmp_ge (tgt := 46) hx hb d_Mod_running_21 (by decide) (fun (c3 : (mpr v) ≤ q) => ?_) (fun (c3 : ¬ (mpr v) ≤ q) => ?_)
          · -- Mod_running 21 T
            have k2 := c3
            refine lv_iload_n hx hb d_Mod_running_46 rfl (lv_at hl 2 rfl) ?_
            exact hret H locs x2 v 47 ls (vp_nar_int _) (⟨rfl, run_end g1 g2 e2 (Or.inr (Or.inr k2))⟩) hX d_Mod_running_47
          · -- Mod_running 21 F
            have k2 := c3
            refine lv_aload_n hx hb d_Mod_running_24 rfl (lv_at hl 0 rfl) ?_
            refine mg_on C hX d_Mod_running_25 ?_
            refine lv_iload_n hx hb d_Mod_running_28 rfl (lv_at hl 3 rfl) ?_
            refine ma_on C hX (vp_in_nI (by omega) (by decide)) (nI_clamp (by omega)) d_Mod_running_29 ?_
            refine lv_iload_n hx hb d_Mod_running_30 rfl (lv_at hl 1 rfl) ?_
            refine lv_icmp_ne (tgt := 38) hx hb d_Mod_running_31 (by decide) (fun (c4 : ¬ (mon v i) = q) => ?_) (fun (c4 : (mon v i) = q) => ?_)
            · -- Mod_running 31 T
              refine lv_iload_n hx hb d_Mod_running_38 rfl (lv_at hl 2 rfl) ?_
              refine lv_istore_n (lv' := [(2, .int x2), (0, .ref (a 0)), (1, .int q), (3, .int (nI i))]) hx hb d_Mod_running_39 rfl hl (by decide) rfl (fun ls hl => ?_)
              refine lv_iinc (v := (nI (i + 1))) (lv' := [(3, .int (nI (i + 1))), (2, .int x2), (0, .ref (a 0)), (1, .int q)]) hx hb d_Mod_running_40 hl (k := 3) rfl (nI_1 i) (by decide) rfl (fun ls hl => ?_)
              refine lv_goto (tgt := 4) hx hb d_Mod_running_43 (by decide) ?_
              exact ih (i + 1) x2 H locs ls (by omega) (fun y => absurd y k1) (fun y => absurd y k2) (by rw [e2]; exact lst_no c4) (by omega) hX (lv_sub hl [2, 3, 1, 0] rfl)
            · -- Mod_running 31 F
              refine lv_iload_n hx hb d_Mod_running_34 rfl (lv_at hl 3 rfl) ?_
              refine lv_goto (tgt := 39) hx hb d_Mod_running_35 (by decide) ?_
              refine lv_istore_n (lv' := [(2, .int (nI i)), (0, .ref (a 0)), (1, .int q), (3, .int (nI i))]) hx hb d_Mod_running_39 rfl hl (by decide) rfl (fun ls hl => ?_)
              refine lv_iinc (v := (nI (i + 1))) (lv' := [(3, .int (nI (i + 1))), (2, .int (nI i)), (0, .ref (a 0)), (1, .int q)]) hx hb d_Mod_running_40 hl (k := 3) rfl (nI_1 i) (by decide) rfl (fun ls hl => ?_)
              refine lv_goto (tgt := 4) hx hb d_Mod_running_43 (by decide) ?_
              exact ih (i + 1) (nI i) H locs ls (by omega) (fun y => absurd y k1) (fun y => absurd y k2) (lst_yes c4) (by omega) hX (lv_sub hl [2, 3, 1, 0] rfl)
  refine lv_iconst (v := (-1)) hx hb d_Mod_running_0 (by decide) ?_
  refine lv_istore_n (lv' := [(2, .int (-1)), (0, .ref (a 0)), (1, .int q)]) hx hb d_Mod_running_1 rfl hl (by decide) rfl (fun ls hl => ?_)
  refine lv_iconst (v := 0) hx hb d_Mod_running_2 (by decide) ?_
  refine lv_istore_n (lv' := [(3, .int 0), (2, .int (-1)), (0, .ref (a 0)), (1, .int q)]) hx hb d_Mod_running_3 rfl hl (by decide) rfl (fun ls hl => ?_)
  exact L4 _ 0 (-1) H locs ls (by omega) (fun _ => rfl) (fun _ => rfl) (rfl) (Nat.lt_succ_self _) hX (lv_sub hl [2, 3, 1, 0] rfl)
abbrev rm_Mod_vacant : Room := { frames := 1, cells := 0, slots := 0, locals := 23 }
set_option maxHeartbeats 4000000 in
set_option maxRecDepth 100000 in
theorem c_Mod_vacant (l : Launch) (D : va_G) (a k : Nat → Nat) (v : MS) (hg : Mok v) : MCi l y_Mod_vacant b_Mod_vacant 2 .int rm_Mod_vacant [.ref (a 0)] D (mT k) false (mW a k) v (fun r u => u = v ∧ r = (mVacant v)) := by
  refine MCi.of R_Mod rfl (by decide +kernel) (Nat.le_of_ble_eq_true rfl) ?_
  intro p e s m args below meth c A Q ls H locs C hX hl hret
  have hx := C.1.1
  have hb := C.1.2.1
  have hl : lv_has ls 2 [(0, .ref (a 0))] := hl
  have L2 : ∀ (n : Nat) (i : Nat) (H : Heap) (locs : List Loc) (ls : Array Slot), (i ≤ 15) → (∀ j, j < i → ¬ mOfPlace v (nI j) < 0) → 15 - i < n → VX D A s.heap (mW a k v) H locs → lv_has ls 2 [(0, .ref (a 0)), (1, .int (nI i))] → W p l e rm_Mod_vacant s m args below meth c H locs 0 0 Q (F0 m 2 ls []) := by
    intro n
    induction n with
    | zero => intro i H locs ls hi hz hm; exact absurd hm (Nat.not_lt_zero _)
    | succ n ih =>
      intro i H locs ls hi hz hm hX hl
      refine lv_iload_n hx hb d_Mod_vacant_2 rfl (lv_at hl 1 rfl) ?_
      refine lv_bipush (v := 15) hx hb d_Mod_vacant_3 (by decide) ?_
      refine lv_icmp_ge (tgt := 22) hx hb d_Mod_vacant_5 (by decide) (fun (c1 : (15 : Int32) ≤ (nI i)) => ?_) (fun (c1 : ¬ (15 : Int32) ≤ (nI i)) => ?_)
      · -- Mod_vacant 5 T
        have h15 : i = 15 := ge_N (n := 15) rfl hi (by decide) c1
        refine lv_iload_n hx hb d_Mod_vacant_22 rfl (lv_at hl 1 rfl) ?_
        exact hret H locs (nI i) v 23 ls (vp_nar_int _) (⟨rfl, by rw [mVacant, fst_is hi hz (Or.inl h15)]⟩) hX d_Mod_vacant_23
      · -- Mod_vacant 5 F
        have hlt : i < 15 := lt_N (n := 15) rfl (by omega) c1
        refine lv_aload_n hx hb d_Mod_vacant_8 rfl (lv_at hl 0 rfl) ?_
        refine lv_iload_n hx hb d_Mod_vacant_9 rfl (lv_at hl 1 rfl) ?_
        refine mm_r C hX (c_Mod_ofPlace l D a k v (nI i) hg) mi_Mod_48 ⟨⟨rfl, rfl⟩, Nat.le_of_ble_eq_true rfl, Nat.le_of_ble_eq_true rfl⟩ rfl rfl hl.1 (Nat.le_of_ble_eq_true rfl) d_Mod_vacant_10 ⟨Nat.zero_le _, Nat.zero_le _⟩ (fun H locs (hX : VX D A s.heap (mW a k v) H locs) => ?_)
        refine lv_if_lt (tgt := 22) hx hb d_Mod_vacant_13 (by decide) (fun (c2 : (mOfPlace v (nI i)) < 0) => ?_) (fun (c2 : ¬ (mOfPlace v (nI i)) < 0) => ?_)
        · -- Mod_vacant 13 T
          have k1 := c2
          refine lv_iload_n hx hb d_Mod_vacant_22 rfl (lv_at hl 1 rfl) ?_
          exact hret H locs (nI i) v 23 ls (vp_nar_int _) (⟨rfl, by rw [mVacant, fst_is hi hz (Or.inr k1)]⟩) hX d_Mod_vacant_23
        · -- Mod_vacant 13 F
          refine lv_iinc (v := (nI (i + 1))) (lv' := [(1, .int (nI (i + 1))), (0, .ref (a 0))]) hx hb d_Mod_vacant_16 hl (k := 1) rfl (nI_1 i) (by decide) rfl (fun ls hl => ?_)
          refine lv_goto (tgt := 2) hx hb d_Mod_vacant_19 (by decide) ?_
          exact ih (i + 1) H locs ls (by omega) (lt_s hz c2) (by omega) hX (lv_sub hl [1, 0] rfl)
  refine lv_iconst (v := 0) hx hb d_Mod_vacant_0 (by decide) ?_
  refine lv_istore_n (lv' := [(1, .int 0), (0, .ref (a 0))]) hx hb d_Mod_vacant_1 rfl hl (by decide) rfl (fun ls hl => ?_)
  exact L2 _ 0 H locs ls (by omega) (lt_0) (Nat.lt_succ_self _) hX (lv_sub hl [1, 0] rfl)
abbrev rm_Mod_endedChild : Room := { frames := 0, cells := 0, slots := 0, locals := 0 }
set_option maxHeartbeats 4000000 in
set_option maxRecDepth 100000 in
theorem c_Mod_endedChild (l : Launch) (D : va_G) (a k : Nat → Nat) (v : MS) (row : Int32) (hg : Mok v) (hr : vp_in row 16) : MCi l y_Mod_endedChild b_Mod_endedChild 4 .int rm_Mod_endedChild [.ref (a 0), .int row] D (mT k) false (mW a k) v (fun r u => u = v ∧ r = (mEnded v row)) := by
  obtain ⟨hth, ⟨n0, hn15, hn⟩, htk, hbo⟩ := id hg
  refine MCi.of R_Mod rfl (by decide +kernel) (Nat.le_of_ble_eq_true rfl) ?_
  intro p e s m args below meth c A Q ls H locs C hX hl hret
  have hx := C.1.1
  have hb := C.1.2.1
  have hl : lv_has ls 4 [(0, .ref (a 0)), (1, .int row)] := hl
  have L4 : ∀ (n : Nat) (i : Nat) (x2 : Int32) (H : Heap) (locs : List Loc) (ls : Array Slot), (i ≤ n0) → (x2 = mEndL v row i) → n0 - i < n → VX D A s.heap (mW a k v) H locs → lv_has ls 4 [(0, .ref (a 0)), (1, .int row), (2, .int x2), (3, .int (nI i))] → W p l e rm_Mod_endedChild s m args below meth c H locs 0 0 Q (F0 m 4 ls []) := by
    intro n
    induction n with
    | zero => intro i x2 H locs ls hi e2 hm; exact absurd hm (Nat.not_lt_zero _)
    | succ n ih =>
      intro i x2 H locs ls hi e2 hm hX hl
      refine lv_iload_n hx hb d_Mod_endedChild_4 rfl (lv_at hl 3 rfl) ?_
      refine lv_aload_n hx hb d_Mod_endedChild_5 rfl (lv_at hl 0 rfl) ?_
      refine mg_ma C hX d_Mod_endedChild_6 ?_
      refine lv_icmp_ge (tgt := 63) hx hb d_Mod_endedChild_9 (by decide) (fun (c1 : (mma v) ≤ (nI i)) => ?_) (fun (c1 : ¬ (mma v) ≤ (nI i)) => ?_)
      · -- Mod_endedChild 9 T
        have h15 : i = n0 := ge_N hn hi (by omega) c1
        refine lv_iload_n hx hb d_Mod_endedChild_63 rfl (lv_at hl 2 rfl) ?_
        exact hret H locs x2 v 64 ls (vp_nar_int _) (⟨rfl, by rw [e2, h15, mEnded, mN_is hn hn15]⟩) hX d_Mod_endedChild_64
      · -- Mod_endedChild 9 F
        have hlt : i < n0 := lt_N hn (by omega) c1
        refine lv_aload_n hx hb d_Mod_endedChild_12 rfl (lv_at hl 0 rfl) ?_
        refine mg_pa C hX d_Mod_endedChild_13 ?_
        refine lv_iload_n hx hb d_Mod_endedChild_16 rfl (lv_at hl 3 rfl) ?_
        refine ma_pa C hX (vp_in_nI (by omega) (by decide)) (nI_clamp (by omega)) d_Mod_endedChild_17 ?_
        refine lv_aload_n hx hb d_Mod_endedChild_18 rfl (lv_at hl 0 rfl) ?_
        refine mg_nu C hX d_Mod_endedChild_19 ?_
        refine lv_iload_n hx hb d_Mod_endedChild_22 rfl (lv_at hl 1 rfl) ?_
        refine ma_nu C hX hr rfl d_Mod_endedChild_23 ?_
        refine lv_icmp_ne (tgt := 57) hx hb d_Mod_endedChild_24 (by decide) (fun (c2 : ¬ (mpa v i) = (mnu v (ix row))) => ?_) (fun (c2 : (mpa v i) = (mnu v (ix row))) => ?_)
        · -- Mod_endedChild 24 T
          refine lv_iinc (v := (nI (i + 1))) (lv' := [(3, .int (nI (i + 1))), (0, .ref (a 0)), (1, .int row), (2, .int x2)]) hx hb d_Mod_endedChild_57 hl (k := 3) rfl (nI_1 i) (by decide) rfl (fun ls hl => ?_)
          refine lv_goto (tgt := 4) hx hb d_Mod_endedChild_60 (by decide) ?_
          exact ih (i + 1) x2 H locs ls (by omega) (by subst e2; simp [mEndL, c1, c2]) (by omega) hX (lv_sub hl [1, 2, 3, 0] rfl)
        · -- Mod_endedChild 24 F
          refine lv_aload_n hx hb d_Mod_endedChild_27 rfl (lv_at hl 0 rfl) ?_
          refine mg_en C hX d_Mod_endedChild_28 ?_
          refine lv_iload_n hx hb d_Mod_endedChild_31 rfl (lv_at hl 3 rfl) ?_
          refine ma_en C hX (vp_in_nI (by omega) (by decide)) (nI_clamp (by omega)) d_Mod_endedChild_32 ?_
          refine lv_if_eq (tgt := 57) hx hb d_Mod_endedChild_33 (by decide) (fun (c3 : (men v i) = 0) => ?_) (fun (c3 : ¬ (men v i) = 0) => ?_)
          · -- Mod_endedChild 33 T
            refine lv_iinc (v := (nI (i + 1))) (lv' := [(3, .int (nI (i + 1))), (0, .ref (a 0)), (1, .int row), (2, .int x2)]) hx hb d_Mod_endedChild_57 hl (k := 3) rfl (nI_1 i) (by decide) rfl (fun ls hl => ?_)
            refine lv_goto (tgt := 4) hx hb d_Mod_endedChild_60 (by decide) ?_
            exact ih (i + 1) x2 H locs ls (by omega) (by subst e2; simp [mEndL, c1, c2, c3]) (by omega) hX (lv_sub hl [1, 2, 3, 0] rfl)
          · -- Mod_endedChild 33 F
            refine lv_iload_n hx hb d_Mod_endedChild_36 rfl (lv_at hl 2 rfl) ?_
            refine lv_if_lt (tgt := 55) hx hb d_Mod_endedChild_37 (by decide) (fun (c4 : x2 < 0) => ?_) (fun (c4 : ¬ x2 < 0) => ?_)
            · -- Mod_endedChild 37 T
              refine lv_iload_n hx hb d_Mod_endedChild_55 rfl (lv_at hl 3 rfl) ?_
              refine lv_istore_n (lv' := [(2, .int (nI i)), (0, .ref (a 0)), (1, .int row), (3, .int (nI i))]) hx hb d_Mod_endedChild_56 rfl hl (by decide) rfl (fun ls hl => ?_)
              refine lv_iinc (v := (nI (i + 1))) (lv' := [(3, .int (nI (i + 1))), (2, .int (nI i)), (0, .ref (a 0)), (1, .int row)]) hx hb d_Mod_endedChild_57 hl (k := 3) rfl (nI_1 i) (by decide) rfl (fun ls hl => ?_)
              refine lv_goto (tgt := 4) hx hb d_Mod_endedChild_60 (by decide) ?_
              exact ih (i + 1) (nI i) H locs ls (by omega) (by subst e2; simp [mEndL, c1, c2, c3, c4]) (by omega) hX (lv_sub hl [2, 3, 1, 0] rfl)
            · -- Mod_endedChild 37 F
              have hx2 := endL_in e2 (by omega) c4
              refine lv_aload_n hx hb d_Mod_endedChild_40 rfl (lv_at hl 0 rfl) ?_
              refine mg_pl C hX d_Mod_endedChild_41 ?_
              refine lv_iload_n hx hb d_Mod_endedChild_44 rfl (lv_at hl 3 rfl) ?_
              refine ma_pl C hX (vp_in_nI (by omega) (by decide)) (nI_clamp (by omega)) d_Mod_endedChild_45 ?_
              refine lv_aload_n hx hb d_Mod_endedChild_46 rfl (lv_at hl 0 rfl) ?_
              refine mg_pl C hX d_Mod_endedChild_47 ?_
              refine lv_iload_n hx hb d_Mod_endedChild_50 rfl (lv_at hl 2 rfl) ?_
              refine ma_pl C hX hx2 rfl d_Mod_endedChild_51 ?_
              refine lv_icmp_ge (tgt := 57) hx hb d_Mod_endedChild_52 (by decide) (fun (c5 : (mpl v (ix x2)) ≤ (mpl v i)) => ?_) (fun (c5 : ¬ (mpl v (ix x2)) ≤ (mpl v i)) => ?_)
              · -- Mod_endedChild 52 T
                refine lv_iinc (v := (nI (i + 1))) (lv' := [(3, .int (nI (i + 1))), (0, .ref (a 0)), (1, .int row), (2, .int x2)]) hx hb d_Mod_endedChild_57 hl (k := 3) rfl (nI_1 i) (by decide) rfl (fun ls hl => ?_)
                refine lv_goto (tgt := 4) hx hb d_Mod_endedChild_60 (by decide) ?_
                exact ih (i + 1) x2 H locs ls (by omega) (by subst e2; simp [mEndL, c1, c2, c3, c4, c5]) (by omega) hX (lv_sub hl [1, 2, 3, 0] rfl)
              · -- Mod_endedChild 52 F
                refine lv_iload_n hx hb d_Mod_endedChild_55 rfl (lv_at hl 3 rfl) ?_
                refine lv_istore_n (lv' := [(2, .int (nI i)), (0, .ref (a 0)), (1, .int row), (3, .int (nI i))]) hx hb d_Mod_endedChild_56 rfl hl (by decide) rfl (fun ls hl => ?_)
                refine lv_iinc (v := (nI (i + 1))) (lv' := [(3, .int (nI (i + 1))), (2, .int (nI i)), (0, .ref (a 0)), (1, .int row)]) hx hb d_Mod_endedChild_57 hl (k := 3) rfl (nI_1 i) (by decide) rfl (fun ls hl => ?_)
                refine lv_goto (tgt := 4) hx hb d_Mod_endedChild_60 (by decide) ?_
                exact ih (i + 1) (nI i) H locs ls (by omega) (by subst e2; simp [mEndL, c1, c2, c3, c4, c5]) (by omega) hX (lv_sub hl [2, 3, 1, 0] rfl)
  refine lv_iconst (v := (-1)) hx hb d_Mod_endedChild_0 (by decide) ?_
  refine lv_istore_n (lv' := [(2, .int (-1)), (0, .ref (a 0)), (1, .int row)]) hx hb d_Mod_endedChild_1 rfl hl (by decide) rfl (fun ls hl => ?_)
  refine lv_iconst (v := 0) hx hb d_Mod_endedChild_2 (by decide) ?_
  refine lv_istore_n (lv' := [(3, .int 0), (2, .int (-1)), (0, .ref (a 0)), (1, .int row)]) hx hb d_Mod_endedChild_3 rfl hl (by decide) rfl (fun ls hl => ?_)
  exact L4 _ 0 (-1) H locs ls (by omega) (rfl) (Nat.lt_succ_self _) hX (lv_sub hl [2, 3, 1, 0] rfl)
abbrev rm_Mod_state : Room := { frames := 1, cells := 0, slots := 0, locals := 23 }
set_option maxHeartbeats 4000000 in
set_option maxRecDepth 100000 in
theorem c_Mod_state (l : Launch) (D : va_G) (a k : Nat → Nat) (v : MS) (row : Int32) (hg : Mok v) (hr : vp_in row 16) : MCi l y_Mod_state b_Mod_state 3 .int rm_Mod_state [.ref (a 0), .int row] D (mT k) false (mW a k) v (fun r u => u = v ∧ r = (mState v row)) := by
  refine MCi.of R_Mod rfl (by decide +kernel) (Nat.le_of_ble_eq_true rfl) ?_
  intro p e s m args below meth c A Q ls H locs C hX hl hret
  have hx := C.1.1
  have hb := C.1.2.1
  have hl : lv_has ls 3 [(0, .ref (a 0)), (1, .int row)] := hl
  refine lv_aload_n hx hb d_Mod_state_0 rfl (lv_at hl 0 rfl) ?_
  refine mg_en C hX d_Mod_state_1 ?_
  refine lv_iload_n hx hb d_Mod_state_4 rfl (lv_at hl 1 rfl) ?_
  refine ma_en C hX hr rfl d_Mod_state_5 ?_
  refine lv_if_eq (tgt := 11) hx hb d_Mod_state_6 (by decide) (fun (c1 : (men v (ix row)) = 0) => ?_) (fun (c1 : ¬ (men v (ix row)) = 0) => ?_)
  · -- Mod_state 6 T
    refine lv_aload_n hx hb d_Mod_state_11 rfl (lv_at hl 0 rfl) ?_
    refine mg_on C hX d_Mod_state_12 ?_
    refine lv_iload_n hx hb d_Mod_state_15 rfl (lv_at hl 1 rfl) ?_
    refine ma_on C hX hr rfl d_Mod_state_16 ?_
    refine lv_if_lt (tgt := 22) hx hb d_Mod_state_17 (by decide) (fun (c2 : (mon v (ix row)) < 0) => ?_) (fun (c2 : ¬ (mon v (ix row)) < 0) => ?_)
    · -- Mod_state 17 T
      refine lv_aload_n hx hb d_Mod_state_22 rfl (lv_at hl 0 rfl) ?_
      refine mg_wa C hX d_Mod_state_23 ?_
      refine lv_iload_n hx hb d_Mod_state_26 rfl (lv_at hl 1 rfl) ?_
      refine ma_wa C hX hr rfl d_Mod_state_27 ?_
      refine lv_iconst (v := 1) hx hb d_Mod_state_28 (by decide) ?_
      refine lv_icmp_eq (tgt := 73) hx hb d_Mod_state_29 (by decide) (fun (c3 : (mwa v (ix row)) = 1) => ?_) (fun (c3 : ¬ (mwa v (ix row)) = 1) => ?_)
      · -- Mod_state 29 T
        refine lv_iconst (v := 1) hx hb d_Mod_state_73 (by decide) ?_
        refine lv_goto (tgt := 78) hx hb d_Mod_state_74 (by decide) ?_
        refine lv_istore_n (lv' := [(2, .int 1), (0, .ref (a 0)), (1, .int row)]) hx hb d_Mod_state_78 rfl hl (by decide) rfl (fun ls hl => ?_)
        refine lv_iload_n hx hb d_Mod_state_79 rfl (lv_at hl 0 rfl) ?_
        refine lv_if_eq (tgt := 87) hx hb d_Mod_state_80 (by decide) (fun (c4 : (1 : Int32) = 0) => ?_) (fun (c4 : ¬ (1 : Int32) = 0) => ?_)
        · -- Mod_state 80 T
          exact absurd c4 (by decide)
        · -- Mod_state 80 F
          refine lv_iconst (v := 3) hx hb d_Mod_state_83 (by decide) ?_
          refine lv_goto (tgt := 88) hx hb d_Mod_state_84 (by decide) ?_
          exact hret H locs 3 v 88 ls (vp_nar_int _) (⟨rfl, by first | (simp [mState, mStill, c1, c2, c3]; done) | exact absurd (show mwa v (ix row) = 2 by assumption) (by rw [show mwa v (ix row) = 3 by assumption]; decide)⟩) hX d_Mod_state_88
      · -- Mod_state 29 F
        refine lv_aload_n hx hb d_Mod_state_32 rfl (lv_at hl 0 rfl) ?_
        refine mg_wa C hX d_Mod_state_33 ?_
        refine lv_iload_n hx hb d_Mod_state_36 rfl (lv_at hl 1 rfl) ?_
        refine ma_wa C hX hr rfl d_Mod_state_37 ?_
        refine lv_iconst (v := 2) hx hb d_Mod_state_38 (by decide) ?_
        refine lv_icmp_ne (tgt := 50) hx hb d_Mod_state_39 (by decide) (fun (c5 : ¬ (mwa v (ix row)) = 2) => ?_) (fun (c5 : (mwa v (ix row)) = 2) => ?_)
        · -- Mod_state 39 T
          refine lv_aload_n hx hb d_Mod_state_50 rfl (lv_at hl 0 rfl) ?_
          refine mg_wa C hX d_Mod_state_51 ?_
          refine lv_iload_n hx hb d_Mod_state_54 rfl (lv_at hl 1 rfl) ?_
          refine ma_wa C hX hr rfl d_Mod_state_55 ?_
          refine lv_iconst (v := 3) hx hb d_Mod_state_56 (by decide) ?_
          refine lv_icmp_ne (tgt := 77) hx hb d_Mod_state_57 (by decide) (fun (c6 : ¬ (mwa v (ix row)) = 3) => ?_) (fun (c6 : (mwa v (ix row)) = 3) => ?_)
          · -- Mod_state 57 T
            refine lv_iconst (v := 0) hx hb d_Mod_state_77 (by decide) ?_
            refine lv_istore_n (lv' := [(2, .int 0), (0, .ref (a 0)), (1, .int row)]) hx hb d_Mod_state_78 rfl hl (by decide) rfl (fun ls hl => ?_)
            refine lv_iload_n hx hb d_Mod_state_79 rfl (lv_at hl 0 rfl) ?_
            refine lv_if_eq (tgt := 87) hx hb d_Mod_state_80 (by decide) (fun (c7 : (0 : Int32) = 0) => ?_) (fun (c7 : ¬ (0 : Int32) = 0) => ?_)
            · -- Mod_state 80 T
              refine lv_iconst (v := 1) hx hb d_Mod_state_87 (by decide) ?_
              exact hret H locs 1 v 88 ls (vp_nar_int _) (⟨rfl, by first | (simp [mState, mStill, c1, c2, c3, c5, c6]; done) | exact absurd (show mwa v (ix row) = 2 by assumption) (by rw [show mwa v (ix row) = 3 by assumption]; decide)⟩) hX d_Mod_state_88
            · -- Mod_state 80 F
              exact absurd c7 (by decide)
          · -- Mod_state 57 F
            refine lv_aload_n hx hb d_Mod_state_60 rfl (lv_at hl 0 rfl) ?_
            refine mg_ti C hX d_Mod_state_61 ?_
            refine lv_aload_n hx hb d_Mod_state_64 rfl (lv_at hl 0 rfl) ?_
            refine mg_wh C hX d_Mod_state_65 ?_
            refine lv_iload_n hx hb d_Mod_state_68 rfl (lv_at hl 1 rfl) ?_
            refine ma_wh C hX hr rfl d_Mod_state_69 ?_
            refine lv_icmp_ge (tgt := 77) hx hb d_Mod_state_70 (by decide) (fun (c8 : (mwh v (ix row)) ≤ (mti v)) => ?_) (fun (c8 : ¬ (mwh v (ix row)) ≤ (mti v)) => ?_)
            · -- Mod_state 70 T
              refine lv_iconst (v := 0) hx hb d_Mod_state_77 (by decide) ?_
              refine lv_istore_n (lv' := [(2, .int 0), (0, .ref (a 0)), (1, .int row)]) hx hb d_Mod_state_78 rfl hl (by decide) rfl (fun ls hl => ?_)
              refine lv_iload_n hx hb d_Mod_state_79 rfl (lv_at hl 0 rfl) ?_
              refine lv_if_eq (tgt := 87) hx hb d_Mod_state_80 (by decide) (fun (c9 : (0 : Int32) = 0) => ?_) (fun (c9 : ¬ (0 : Int32) = 0) => ?_)
              · -- Mod_state 80 T
                refine lv_iconst (v := 1) hx hb d_Mod_state_87 (by decide) ?_
                exact hret H locs 1 v 88 ls (vp_nar_int _) (⟨rfl, by first | (simp [mState, mStill, c1, c2, c3, c5, c6, c8]; done) | exact absurd (show mwa v (ix row) = 2 by assumption) (by rw [show mwa v (ix row) = 3 by assumption]; decide)⟩) hX d_Mod_state_88
              · -- Mod_state 80 F
                exact absurd c9 (by decide)
            · -- Mod_state 70 F
              refine lv_iconst (v := 1) hx hb d_Mod_state_73 (by decide) ?_
              refine lv_goto (tgt := 78) hx hb d_Mod_state_74 (by decide) ?_
              refine lv_istore_n (lv' := [(2, .int 1), (0, .ref (a 0)), (1, .int row)]) hx hb d_Mod_state_78 rfl hl (by decide) rfl (fun ls hl => ?_)
              refine lv_iload_n hx hb d_Mod_state_79 rfl (lv_at hl 0 rfl) ?_
              refine lv_if_eq (tgt := 87) hx hb d_Mod_state_80 (by decide) (fun (c10 : (1 : Int32) = 0) => ?_) (fun (c10 : ¬ (1 : Int32) = 0) => ?_)
              · -- Mod_state 80 T
                exact absurd c10 (by decide)
              · -- Mod_state 80 F
                refine lv_iconst (v := 3) hx hb d_Mod_state_83 (by decide) ?_
                refine lv_goto (tgt := 88) hx hb d_Mod_state_84 (by decide) ?_
                exact hret H locs 3 v 88 ls (vp_nar_int _) (⟨rfl, by first | (simp [mState, mStill, c1, c2, c3, c5, c6, c8]; done) | exact absurd (show mwa v (ix row) = 2 by assumption) (by rw [show mwa v (ix row) = 3 by assumption]; decide)⟩) hX d_Mod_state_88
        · -- Mod_state 39 F
          refine lv_aload_n hx hb d_Mod_state_42 rfl (lv_at hl 0 rfl) ?_
          refine lv_iload_n hx hb d_Mod_state_43 rfl (lv_at hl 1 rfl) ?_
          refine mm_r C hX (c_Mod_endedChild l D a k v row hg hr) mi_Mod_52 ⟨⟨rfl, rfl⟩, Nat.le_of_ble_eq_true rfl, Nat.le_of_ble_eq_true rfl⟩ rfl rfl hl.1 (Nat.le_of_ble_eq_true rfl) d_Mod_state_44 ⟨Nat.zero_le _, Nat.zero_le _⟩ (fun H locs (hX : VX D A s.heap (mW a k v) H locs) => ?_)
          refine lv_if_lt (tgt := 73) hx hb d_Mod_state_47 (by decide) (fun (c11 : (mEnded v row) < 0) => ?_) (fun (c11 : ¬ (mEnded v row) < 0) => ?_)
          · -- Mod_state 47 T
            refine lv_iconst (v := 1) hx hb d_Mod_state_73 (by decide) ?_
            refine lv_goto (tgt := 78) hx hb d_Mod_state_74 (by decide) ?_
            refine lv_istore_n (lv' := [(2, .int 1), (0, .ref (a 0)), (1, .int row)]) hx hb d_Mod_state_78 rfl hl (by decide) rfl (fun ls hl => ?_)
            refine lv_iload_n hx hb d_Mod_state_79 rfl (lv_at hl 0 rfl) ?_
            refine lv_if_eq (tgt := 87) hx hb d_Mod_state_80 (by decide) (fun (c12 : (1 : Int32) = 0) => ?_) (fun (c12 : ¬ (1 : Int32) = 0) => ?_)
            · -- Mod_state 80 T
              exact absurd c12 (by decide)
            · -- Mod_state 80 F
              refine lv_iconst (v := 3) hx hb d_Mod_state_83 (by decide) ?_
              refine lv_goto (tgt := 88) hx hb d_Mod_state_84 (by decide) ?_
              exact hret H locs 3 v 88 ls (vp_nar_int _) (⟨rfl, by first | (simp [mState, mStill, c1, c2, c3, c5, c11]; done) | exact absurd (show mwa v (ix row) = 2 by assumption) (by rw [show mwa v (ix row) = 3 by assumption]; decide)⟩) hX d_Mod_state_88
          · -- Mod_state 47 F
            refine lv_aload_n hx hb d_Mod_state_50 rfl (lv_at hl 0 rfl) ?_
            refine mg_wa C hX d_Mod_state_51 ?_
            refine lv_iload_n hx hb d_Mod_state_54 rfl (lv_at hl 1 rfl) ?_
            refine ma_wa C hX hr rfl d_Mod_state_55 ?_
            refine lv_iconst (v := 3) hx hb d_Mod_state_56 (by decide) ?_
            refine lv_icmp_ne (tgt := 77) hx hb d_Mod_state_57 (by decide) (fun (c13 : ¬ (mwa v (ix row)) = 3) => ?_) (fun (c13 : (mwa v (ix row)) = 3) => ?_)
            · -- Mod_state 57 T
              refine lv_iconst (v := 0) hx hb d_Mod_state_77 (by decide) ?_
              refine lv_istore_n (lv' := [(2, .int 0), (0, .ref (a 0)), (1, .int row)]) hx hb d_Mod_state_78 rfl hl (by decide) rfl (fun ls hl => ?_)
              refine lv_iload_n hx hb d_Mod_state_79 rfl (lv_at hl 0 rfl) ?_
              refine lv_if_eq (tgt := 87) hx hb d_Mod_state_80 (by decide) (fun (c14 : (0 : Int32) = 0) => ?_) (fun (c14 : ¬ (0 : Int32) = 0) => ?_)
              · -- Mod_state 80 T
                refine lv_iconst (v := 1) hx hb d_Mod_state_87 (by decide) ?_
                exact hret H locs 1 v 88 ls (vp_nar_int _) (⟨rfl, by first | (simp [mState, mStill, c1, c2, c3, c5, c11, c13]; done) | exact absurd (show mwa v (ix row) = 2 by assumption) (by rw [show mwa v (ix row) = 3 by assumption]; decide)⟩) hX d_Mod_state_88
              · -- Mod_state 80 F
                exact absurd c14 (by decide)
            · -- Mod_state 57 F
              refine lv_aload_n hx hb d_Mod_state_60 rfl (lv_at hl 0 rfl) ?_
              refine mg_ti C hX d_Mod_state_61 ?_
              refine lv_aload_n hx hb d_Mod_state_64 rfl (lv_at hl 0 rfl) ?_
              refine mg_wh C hX d_Mod_state_65 ?_
              refine lv_iload_n hx hb d_Mod_state_68 rfl (lv_at hl 1 rfl) ?_
              refine ma_wh C hX hr rfl d_Mod_state_69 ?_
              refine lv_icmp_ge (tgt := 77) hx hb d_Mod_state_70 (by decide) (fun (c15 : (mwh v (ix row)) ≤ (mti v)) => ?_) (fun (c15 : ¬ (mwh v (ix row)) ≤ (mti v)) => ?_)
              · -- Mod_state 70 T
                refine lv_iconst (v := 0) hx hb d_Mod_state_77 (by decide) ?_
                refine lv_istore_n (lv' := [(2, .int 0), (0, .ref (a 0)), (1, .int row)]) hx hb d_Mod_state_78 rfl hl (by decide) rfl (fun ls hl => ?_)
                refine lv_iload_n hx hb d_Mod_state_79 rfl (lv_at hl 0 rfl) ?_
                refine lv_if_eq (tgt := 87) hx hb d_Mod_state_80 (by decide) (fun (c16 : (0 : Int32) = 0) => ?_) (fun (c16 : ¬ (0 : Int32) = 0) => ?_)
                · -- Mod_state 80 T
                  refine lv_iconst (v := 1) hx hb d_Mod_state_87 (by decide) ?_
                  exact hret H locs 1 v 88 ls (vp_nar_int _) (⟨rfl, by first | (simp [mState, mStill, c1, c2, c3, c5, c11, c13, c15]; done) | exact absurd (show mwa v (ix row) = 2 by assumption) (by rw [show mwa v (ix row) = 3 by assumption]; decide)⟩) hX d_Mod_state_88
                · -- Mod_state 80 F
                  exact absurd c16 (by decide)
              · -- Mod_state 70 F
                refine lv_iconst (v := 1) hx hb d_Mod_state_73 (by decide) ?_
                refine lv_goto (tgt := 78) hx hb d_Mod_state_74 (by decide) ?_
                refine lv_istore_n (lv' := [(2, .int 1), (0, .ref (a 0)), (1, .int row)]) hx hb d_Mod_state_78 rfl hl (by decide) rfl (fun ls hl => ?_)
                refine lv_iload_n hx hb d_Mod_state_79 rfl (lv_at hl 0 rfl) ?_
                refine lv_if_eq (tgt := 87) hx hb d_Mod_state_80 (by decide) (fun (c17 : (1 : Int32) = 0) => ?_) (fun (c17 : ¬ (1 : Int32) = 0) => ?_)
                · -- Mod_state 80 T
                  exact absurd c17 (by decide)
                · -- Mod_state 80 F
                  refine lv_iconst (v := 3) hx hb d_Mod_state_83 (by decide) ?_
                  refine lv_goto (tgt := 88) hx hb d_Mod_state_84 (by decide) ?_
                  exact hret H locs 3 v 88 ls (vp_nar_int _) (⟨rfl, by first | (simp [mState, mStill, c1, c2, c3, c5, c11, c13, c15]; done) | exact absurd (show mwa v (ix row) = 2 by assumption) (by rw [show mwa v (ix row) = 3 by assumption]; decide)⟩) hX d_Mod_state_88
    · -- Mod_state 17 F
      refine lv_iconst (v := 2) hx hb d_Mod_state_20 (by decide) ?_
      exact hret H locs 2 v 21 ls (vp_nar_int _) (⟨rfl, by first | (simp [mState, mStill, c1, c2]; done) | exact absurd (show mwa v (ix row) = 2 by assumption) (by rw [show mwa v (ix row) = 3 by assumption]; decide)⟩) hX d_Mod_state_21
  · -- Mod_state 6 F
    refine lv_iconst (v := 4) hx hb d_Mod_state_9 (by decide) ?_
    exact hret H locs 4 v 10 ls (vp_nar_int _) (⟨rfl, by first | (simp [mState, mStill, c1]; done) | exact absurd (show mwa v (ix row) = 2 by assumption) (by rw [show mwa v (ix row) = 3 by assumption]; decide)⟩) hX d_Mod_state_10
abbrev rm_Mod_add : Room := { frames := 0, cells := 0, slots := 0, locals := 0 }
set_option maxHeartbeats 4000000 in
set_option maxRecDepth 100000 in
theorem c_Mod_add (l : Launch) (D : va_G) (a k : Nat → Nat) (v : MS) (pp : Int32) (par : Int32) (hm : vp_in (mma v) 16) : MCi l y_Mod_add b_Mod_add 3 .int rm_Mod_add [.ref (a 0), .int pp, .int par] D (mT k) false (mW a k) v (fun r u => (r, u) = (mAdd v pp par)) := by
  refine MCi.of R_Mod rfl (by decide +kernel) (Nat.le_of_ble_eq_true rfl) ?_
  intro p e s m args below meth c A Q ls H locs C hX hl hret
  have hx := C.1.1
  have hb := C.1.2.1
  have hl : lv_has ls 3 [(0, .ref (a 0)), (1, .int pp), (2, .int par)] := hl
  refine lv_aload_n hx hb d_Mod_add_0 rfl (lv_at hl 0 rfl) ?_
  refine lv_dup hx hb d_Mod_add_1 rfl ?_
  refine mg_lt C hX d_Mod_add_2 ?_
  refine lv_iconst (v := 1) hx hb d_Mod_add_5 (by decide) ?_
  refine lv_iadd hx hb d_Mod_add_6 ?_
  refine mp_lt C hX d_Mod_add_7 (fun H locs (hX : VX D A s.heap (mW a k (zmlt v ((mlt v) + 1))) H locs) => ?_)
  refine lv_aload_n hx hb d_Mod_add_10 rfl (lv_at hl 0 rfl) ?_
  refine mg_nu C hX d_Mod_add_11 ?_
  refine lv_aload_n hx hb d_Mod_add_14 rfl (lv_at hl 0 rfl) ?_
  refine mg_ma C hX d_Mod_add_15 ?_
  refine lv_aload_n hx hb d_Mod_add_18 rfl (lv_at hl 0 rfl) ?_
  refine mg_lt C hX d_Mod_add_19 ?_
  refine ms_nu C hX hm rfl d_Mod_add_22 (fun H locs (hX : VX D A s.heap (mW a k ((mth v), (mpr v), (mma v), (mti v), ((mlt v) + 1), (mtk v), (msu v), (upd (mnu v) (mN v) ((mlt v) + 1)), (mpl v), (mpa v), (men v), (mre v), (mki v), (mon v), (mwa v), (mwh v))) H locs) => ?_)
  refine lv_aload_n hx hb d_Mod_add_23 rfl (lv_at hl 0 rfl) ?_
  refine mg_pl C hX d_Mod_add_24 ?_
  refine lv_aload_n hx hb d_Mod_add_27 rfl (lv_at hl 0 rfl) ?_
  refine mg_ma C hX d_Mod_add_28 ?_
  refine lv_iload_n hx hb d_Mod_add_31 rfl (lv_at hl 1 rfl) ?_
  refine ms_pl C hX hm rfl d_Mod_add_32 (fun H locs (hX : VX D A s.heap (mW a k ((mth v), (mpr v), (mma v), (mti v), ((mlt v) + 1), (mtk v), (msu v), (upd (mnu v) (mN v) ((mlt v) + 1)), (upd (mpl v) (mN v) pp), (mpa v), (men v), (mre v), (mki v), (mon v), (mwa v), (mwh v))) H locs) => ?_)
  refine lv_aload_n hx hb d_Mod_add_33 rfl (lv_at hl 0 rfl) ?_
  refine mg_pa C hX d_Mod_add_34 ?_
  refine lv_aload_n hx hb d_Mod_add_37 rfl (lv_at hl 0 rfl) ?_
  refine mg_ma C hX d_Mod_add_38 ?_
  refine lv_iload_n hx hb d_Mod_add_41 rfl (lv_at hl 2 rfl) ?_
  refine ms_pa C hX hm rfl d_Mod_add_42 (fun H locs (hX : VX D A s.heap (mW a k ((mth v), (mpr v), (mma v), (mti v), ((mlt v) + 1), (mtk v), (msu v), (upd (mnu v) (mN v) ((mlt v) + 1)), (upd (mpl v) (mN v) pp), (upd (mpa v) (mN v) par), (men v), (mre v), (mki v), (mon v), (mwa v), (mwh v))) H locs) => ?_)
  refine lv_aload_n hx hb d_Mod_add_43 rfl (lv_at hl 0 rfl) ?_
  refine mg_en C hX d_Mod_add_44 ?_
  refine lv_aload_n hx hb d_Mod_add_47 rfl (lv_at hl 0 rfl) ?_
  refine mg_ma C hX d_Mod_add_48 ?_
  refine lv_iconst (v := 0) hx hb d_Mod_add_51 (by decide) ?_
  refine ms_en C hX hm rfl rfl d_Mod_add_52 (fun H locs (hX : VX D A s.heap (mW a k ((mth v), (mpr v), (mma v), (mti v), ((mlt v) + 1), (mtk v), (msu v), (upd (mnu v) (mN v) ((mlt v) + 1)), (upd (mpl v) (mN v) pp), (upd (mpa v) (mN v) par), (upd (men v) (mN v) 0), (mre v), (mki v), (mon v), (mwa v), (mwh v))) H locs) => ?_)
  refine lv_aload_n hx hb d_Mod_add_53 rfl (lv_at hl 0 rfl) ?_
  refine mg_re C hX d_Mod_add_54 ?_
  refine lv_aload_n hx hb d_Mod_add_57 rfl (lv_at hl 0 rfl) ?_
  refine mg_ma C hX d_Mod_add_58 ?_
  refine lv_iconst (v := 0) hx hb d_Mod_add_61 (by decide) ?_
  refine ms_re C hX hm rfl d_Mod_add_62 (fun H locs (hX : VX D A s.heap (mW a k ((mth v), (mpr v), (mma v), (mti v), ((mlt v) + 1), (mtk v), (msu v), (upd (mnu v) (mN v) ((mlt v) + 1)), (upd (mpl v) (mN v) pp), (upd (mpa v) (mN v) par), (upd (men v) (mN v) 0), (upd (mre v) (mN v) 0), (mki v), (mon v), (mwa v), (mwh v))) H locs) => ?_)
  refine lv_aload_n hx hb d_Mod_add_63 rfl (lv_at hl 0 rfl) ?_
  refine mg_ki C hX d_Mod_add_64 ?_
  refine lv_aload_n hx hb d_Mod_add_67 rfl (lv_at hl 0 rfl) ?_
  refine mg_ma C hX d_Mod_add_68 ?_
  refine lv_iconst (v := 0) hx hb d_Mod_add_71 (by decide) ?_
  refine ms_ki C hX hm rfl rfl d_Mod_add_72 (fun H locs (hX : VX D A s.heap (mW a k ((mth v), (mpr v), (mma v), (mti v), ((mlt v) + 1), (mtk v), (msu v), (upd (mnu v) (mN v) ((mlt v) + 1)), (upd (mpl v) (mN v) pp), (upd (mpa v) (mN v) par), (upd (men v) (mN v) 0), (upd (mre v) (mN v) 0), (upd (mki v) (mN v) 0), (mon v), (mwa v), (mwh v))) H locs) => ?_)
  refine lv_aload_n hx hb d_Mod_add_73 rfl (lv_at hl 0 rfl) ?_
  refine mg_on C hX d_Mod_add_74 ?_
  refine lv_aload_n hx hb d_Mod_add_77 rfl (lv_at hl 0 rfl) ?_
  refine mg_ma C hX d_Mod_add_78 ?_
  refine lv_iconst (v := (-1)) hx hb d_Mod_add_81 (by decide) ?_
  refine ms_on C hX hm rfl d_Mod_add_82 (fun H locs (hX : VX D A s.heap (mW a k ((mth v), (mpr v), (mma v), (mti v), ((mlt v) + 1), (mtk v), (msu v), (upd (mnu v) (mN v) ((mlt v) + 1)), (upd (mpl v) (mN v) pp), (upd (mpa v) (mN v) par), (upd (men v) (mN v) 0), (upd (mre v) (mN v) 0), (upd (mki v) (mN v) 0), (upd (mon v) (mN v) (-1)), (mwa v), (mwh v))) H locs) => ?_)
  refine lv_aload_n hx hb d_Mod_add_83 rfl (lv_at hl 0 rfl) ?_
  refine mg_wa C hX d_Mod_add_84 ?_
  refine lv_aload_n hx hb d_Mod_add_87 rfl (lv_at hl 0 rfl) ?_
  refine mg_ma C hX d_Mod_add_88 ?_
  refine lv_iconst (v := 0) hx hb d_Mod_add_91 (by decide) ?_
  refine ms_wa C hX hm rfl d_Mod_add_92 (fun H locs (hX : VX D A s.heap (mW a k ((mth v), (mpr v), (mma v), (mti v), ((mlt v) + 1), (mtk v), (msu v), (upd (mnu v) (mN v) ((mlt v) + 1)), (upd (mpl v) (mN v) pp), (upd (mpa v) (mN v) par), (upd (men v) (mN v) 0), (upd (mre v) (mN v) 0), (upd (mki v) (mN v) 0), (upd (mon v) (mN v) (-1)), (upd (mwa v) (mN v) 0), (mwh v))) H locs) => ?_)
  refine lv_aload_n hx hb d_Mod_add_93 rfl (lv_at hl 0 rfl) ?_
  refine lv_dup hx hb d_Mod_add_94 rfl ?_
  refine mg_ma C hX d_Mod_add_95 ?_
  refine lv_iconst (v := 1) hx hb d_Mod_add_98 (by decide) ?_
  refine lv_iadd hx hb d_Mod_add_99 ?_
  refine mp_ma C hX d_Mod_add_100 (fun H locs (hX : VX D A s.heap (mW a k ((mth v), (mpr v), ((mma v) + 1), (mti v), ((mlt v) + 1), (mtk v), (msu v), (upd (mnu v) (mN v) ((mlt v) + 1)), (upd (mpl v) (mN v) pp), (upd (mpa v) (mN v) par), (upd (men v) (mN v) 0), (upd (mre v) (mN v) 0), (upd (mki v) (mN v) 0), (upd (mon v) (mN v) (-1)), (upd (mwa v) (mN v) 0), (mwh v))) H locs) => ?_)
  refine lv_iload_n hx hb d_Mod_add_103 rfl (lv_at hl 1 rfl) ?_
  exact hret H locs pp ((mth v), (mpr v), ((mma v) + 1), (mti v), ((mlt v) + 1), (mtk v), (msu v), (upd (mnu v) (mN v) ((mlt v) + 1)), (upd (mpl v) (mN v) pp), (upd (mpa v) (mN v) par), (upd (men v) (mN v) 0), (upd (mre v) (mN v) 0), (upd (mki v) (mN v) 0), (upd (mon v) (mN v) (-1)), (upd (mwa v) (mN v) 0), (mwh v)) 104 ls (vp_nar_int _) (rfl) hX d_Mod_add_104
abbrev rm_Mod_remove : Room := { frames := 0, cells := 0, slots := 0, locals := 0 }
set_option maxHeartbeats 4000000 in
set_option maxRecDepth 100000 in
theorem c_Mod_remove (l : Launch) (D : va_G) (a k : Nat → Nat) (v : MS) (r0 : Nat) (hg : Mok v) (hr : r0 < mN v) : MCv l y_Mod_remove b_Mod_remove 3 rm_Mod_remove [.ref (a 0), .int (nI r0)] D (mT k) false (mW a k) v (fun u => u = (mShift v r0 (mN v - 1))) := by
  obtain ⟨hth, ⟨n0, hn15, hn⟩, htk, hbo⟩ := id hg
  have hN := mN_is hn hn15
  rw [hN] at hr
  refine MCv.of R_Mod rfl (by decide +kernel) (Nat.le_of_ble_eq_true rfl) ?_
  intro p e s m args below meth c A Q ls H locs C hX hl hret
  have hx := C.1.1
  have hb := C.1.2.1
  have hl : lv_has ls 3 [(0, .ref (a 0)), (1, .int (nI r0))] := hl
  have L12 : ∀ (n : Nat) (i : Nat) (w : MS) (H : Heap) (locs : List Loc) (ls : Array Slot), (r0 ≤ i) → (i ≤ n0 - 1) → (w = mShift v r0 i) → n0 - i < n → VX D A s.heap (mW a k w) H locs → lv_has ls 3 [(0, .ref (a 0)), (2, .int (nI i))] → W p l e rm_Mod_remove s m args below meth c H locs 0 0 Q (F0 m 12 ls []) := by
    intro n
    induction n with
    | zero => intro i w H locs ls hri hi ew hm; exact absurd hm (Nat.not_lt_zero _)
    | succ n ih =>
      intro i w H locs ls hri hi ew hm hX hl
      refine lv_iload_n hx hb d_Mod_remove_12 rfl (lv_at hl 1 rfl) ?_
      refine lv_aload_n hx hb d_Mod_remove_13 rfl (lv_at hl 0 rfl) ?_
      refine mg_ma C hX d_Mod_remove_14 ?_
      refine lv_icmp_ge (tgt := 152) hx hb d_Mod_remove_17 (by decide) (fun (c1 : (mma w) ≤ (nI i)) => ?_) (fun (c1 : ¬ (mma w) ≤ (nI i)) => ?_)
      · -- Mod_remove 17 T
        have h15 : i = n0 - 1 := ge_N (shift_ma ew hn (by omega)) hi (by omega) c1
        exact hret H locs w 152 ls (by rw [ew, hN, h15]) hX d_Mod_remove_152
      · -- Mod_remove 17 F
        have hlt : i < n0 - 1 := lt_N (shift_ma ew hn (by omega)) (by omega) c1
        refine lv_aload_n hx hb d_Mod_remove_20 rfl (lv_at hl 0 rfl) ?_
        refine mg_nu C hX d_Mod_remove_21 ?_
        refine lv_iload_n hx hb d_Mod_remove_24 rfl (lv_at hl 1 rfl) ?_
        refine lv_aload_n hx hb d_Mod_remove_25 rfl (lv_at hl 0 rfl) ?_
        refine mg_nu C hX d_Mod_remove_26 ?_
        refine lv_iload_n hx hb d_Mod_remove_29 rfl (lv_at hl 1 rfl) ?_
        refine lv_iconst (v := 1) hx hb d_Mod_remove_30 (by decide) ?_
        refine lv_iadd hx hb d_Mod_remove_31 ?_
        refine lv_topi (fun y_ ey_ => ?_)
        obtain rfl : y_ = (nI (i + 1)) := by rw [ey_]; exact nI_1 i
        refine ma_nu C hX (vp_in_nI (by omega) (by decide)) (nI_clamp (by omega)) d_Mod_remove_32 ?_
        refine ms_nu C hX (vp_in_nI (by omega) (by decide)) (nI_clamp (by omega)) d_Mod_remove_33 (fun H locs (hX : VX D A s.heap (mW a k (zmnu w (upd (mnu w) i (mnu w (i + 1))))) H locs) => ?_)
        refine lv_aload_n hx hb d_Mod_remove_34 rfl (lv_at hl 0 rfl) ?_
        refine mg_pl C hX d_Mod_remove_35 ?_
        refine lv_iload_n hx hb d_Mod_remove_38 rfl (lv_at hl 1 rfl) ?_
        refine lv_aload_n hx hb d_Mod_remove_39 rfl (lv_at hl 0 rfl) ?_
        refine mg_pl C hX d_Mod_remove_40 ?_
        refine lv_iload_n hx hb d_Mod_remove_43 rfl (lv_at hl 1 rfl) ?_
        refine lv_iconst (v := 1) hx hb d_Mod_remove_44 (by decide) ?_
        refine lv_iadd hx hb d_Mod_remove_45 ?_
        refine lv_topi (fun y_ ey_ => ?_)
        obtain rfl : y_ = (nI (i + 1)) := by rw [ey_]; exact nI_1 i
        refine ma_pl C hX (vp_in_nI (by omega) (by decide)) (nI_clamp (by omega)) d_Mod_remove_46 ?_
        refine ms_pl C hX (vp_in_nI (by omega) (by decide)) (nI_clamp (by omega)) d_Mod_remove_47 (fun H locs (hX : VX D A s.heap (mW a k ((mth w), (mpr w), (mma w), (mti w), (mlt w), (mtk w), (msu w), (upd (mnu w) i (mnu w (i + 1))), (upd (mpl w) i (mpl w (i + 1))), (mpa w), (men w), (mre w), (mki w), (mon w), (mwa w), (mwh w))) H locs) => ?_)
        refine lv_aload_n hx hb d_Mod_remove_48 rfl (lv_at hl 0 rfl) ?_
        refine mg_pa C hX d_Mod_remove_49 ?_
        refine lv_iload_n hx hb d_Mod_remove_52 rfl (lv_at hl 1 rfl) ?_
        refine lv_aload_n hx hb d_Mod_remove_53 rfl (lv_at hl 0 rfl) ?_
        refine mg_pa C hX d_Mod_remove_54 ?_
        refine lv_iload_n hx hb d_Mod_remove_57 rfl (lv_at hl 1 rfl) ?_
        refine lv_iconst (v := 1) hx hb d_Mod_remove_58 (by decide) ?_
        refine lv_iadd hx hb d_Mod_remove_59 ?_
        refine lv_topi (fun y_ ey_ => ?_)
        obtain rfl : y_ = (nI (i + 1)) := by rw [ey_]; exact nI_1 i
        refine ma_pa C hX (vp_in_nI (by omega) (by decide)) (nI_clamp (by omega)) d_Mod_remove_60 ?_
        refine ms_pa C hX (vp_in_nI (by omega) (by decide)) (nI_clamp (by omega)) d_Mod_remove_61 (fun H locs (hX : VX D A s.heap (mW a k ((mth w), (mpr w), (mma w), (mti w), (mlt w), (mtk w), (msu w), (upd (mnu w) i (mnu w (i + 1))), (upd (mpl w) i (mpl w (i + 1))), (upd (mpa w) i (mpa w (i + 1))), (men w), (mre w), (mki w), (mon w), (mwa w), (mwh w))) H locs) => ?_)
        refine lv_aload_n hx hb d_Mod_remove_62 rfl (lv_at hl 0 rfl) ?_
        refine mg_en C hX d_Mod_remove_63 ?_
        refine lv_iload_n hx hb d_Mod_remove_66 rfl (lv_at hl 1 rfl) ?_
        refine lv_aload_n hx hb d_Mod_remove_67 rfl (lv_at hl 0 rfl) ?_
        refine mg_en C hX d_Mod_remove_68 ?_
        refine lv_iload_n hx hb d_Mod_remove_71 rfl (lv_at hl 1 rfl) ?_
        refine lv_iconst (v := 1) hx hb d_Mod_remove_72 (by decide) ?_
        refine lv_iadd hx hb d_Mod_remove_73 ?_
        refine lv_topi (fun y_ ey_ => ?_)
        obtain rfl : y_ = (nI (i + 1)) := by rw [ey_]; exact nI_1 i
        refine ma_en C hX (vp_in_nI (by omega) (by decide)) (nI_clamp (by omega)) d_Mod_remove_74 ?_
        refine ms_en C hX (vp_in_nI (by omega) (by decide)) (nI_clamp (by omega)) (bz (shift_01 hg ew (by omega)).1) d_Mod_remove_75 (fun H locs (hX : VX D A s.heap (mW a k ((mth w), (mpr w), (mma w), (mti w), (mlt w), (mtk w), (msu w), (upd (mnu w) i (mnu w (i + 1))), (upd (mpl w) i (mpl w (i + 1))), (upd (mpa w) i (mpa w (i + 1))), (upd (men w) i (men w (i + 1))), (mre w), (mki w), (mon w), (mwa w), (mwh w))) H locs) => ?_)
        refine lv_aload_n hx hb d_Mod_remove_76 rfl (lv_at hl 0 rfl) ?_
        refine mg_re C hX d_Mod_remove_77 ?_
        refine lv_iload_n hx hb d_Mod_remove_80 rfl (lv_at hl 1 rfl) ?_
        refine lv_aload_n hx hb d_Mod_remove_81 rfl (lv_at hl 0 rfl) ?_
        refine mg_re C hX d_Mod_remove_82 ?_
        refine lv_iload_n hx hb d_Mod_remove_85 rfl (lv_at hl 1 rfl) ?_
        refine lv_iconst (v := 1) hx hb d_Mod_remove_86 (by decide) ?_
        refine lv_iadd hx hb d_Mod_remove_87 ?_
        refine lv_topi (fun y_ ey_ => ?_)
        obtain rfl : y_ = (nI (i + 1)) := by rw [ey_]; exact nI_1 i
        refine ma_re C hX (vp_in_nI (by omega) (by decide)) (nI_clamp (by omega)) d_Mod_remove_88 ?_
        refine ms_re C hX (vp_in_nI (by omega) (by decide)) (nI_clamp (by omega)) d_Mod_remove_89 (fun H locs (hX : VX D A s.heap (mW a k ((mth w), (mpr w), (mma w), (mti w), (mlt w), (mtk w), (msu w), (upd (mnu w) i (mnu w (i + 1))), (upd (mpl w) i (mpl w (i + 1))), (upd (mpa w) i (mpa w (i + 1))), (upd (men w) i (men w (i + 1))), (upd (mre w) i (mre w (i + 1))), (mki w), (mon w), (mwa w), (mwh w))) H locs) => ?_)
        refine lv_aload_n hx hb d_Mod_remove_90 rfl (lv_at hl 0 rfl) ?_
        refine mg_ki C hX d_Mod_remove_91 ?_
        refine lv_iload_n hx hb d_Mod_remove_94 rfl (lv_at hl 1 rfl) ?_
        refine lv_aload_n hx hb d_Mod_remove_95 rfl (lv_at hl 0 rfl) ?_
        refine mg_ki C hX d_Mod_remove_96 ?_
        refine lv_iload_n hx hb d_Mod_remove_99 rfl (lv_at hl 1 rfl) ?_
        refine lv_iconst (v := 1) hx hb d_Mod_remove_100 (by decide) ?_
        refine lv_iadd hx hb d_Mod_remove_101 ?_
        refine lv_topi (fun y_ ey_ => ?_)
        obtain rfl : y_ = (nI (i + 1)) := by rw [ey_]; exact nI_1 i
        refine ma_ki C hX (vp_in_nI (by omega) (by decide)) (nI_clamp (by omega)) d_Mod_remove_102 ?_
        refine ms_ki C hX (vp_in_nI (by omega) (by decide)) (nI_clamp (by omega)) (bz (shift_01 hg ew (by omega)).2) d_Mod_remove_103 (fun H locs (hX : VX D A s.heap (mW a k ((mth w), (mpr w), (mma w), (mti w), (mlt w), (mtk w), (msu w), (upd (mnu w) i (mnu w (i + 1))), (upd (mpl w) i (mpl w (i + 1))), (upd (mpa w) i (mpa w (i + 1))), (upd (men w) i (men w (i + 1))), (upd (mre w) i (mre w (i + 1))), (upd (mki w) i (mki w (i + 1))), (mon w), (mwa w), (mwh w))) H locs) => ?_)
        refine lv_aload_n hx hb d_Mod_remove_104 rfl (lv_at hl 0 rfl) ?_
        refine mg_on C hX d_Mod_remove_105 ?_
        refine lv_iload_n hx hb d_Mod_remove_108 rfl (lv_at hl 1 rfl) ?_
        refine lv_aload_n hx hb d_Mod_remove_109 rfl (lv_at hl 0 rfl) ?_
        refine mg_on C hX d_Mod_remove_110 ?_
        refine lv_iload_n hx hb d_Mod_remove_113 rfl (lv_at hl 1 rfl) ?_
        refine lv_iconst (v := 1) hx hb d_Mod_remove_114 (by decide) ?_
        refine lv_iadd hx hb d_Mod_remove_115 ?_
        refine lv_topi (fun y_ ey_ => ?_)
        obtain rfl : y_ = (nI (i + 1)) := by rw [ey_]; exact nI_1 i
        refine ma_on C hX (vp_in_nI (by omega) (by decide)) (nI_clamp (by omega)) d_Mod_remove_116 ?_
        refine ms_on C hX (vp_in_nI (by omega) (by decide)) (nI_clamp (by omega)) d_Mod_remove_117 (fun H locs (hX : VX D A s.heap (mW a k ((mth w), (mpr w), (mma w), (mti w), (mlt w), (mtk w), (msu w), (upd (mnu w) i (mnu w (i + 1))), (upd (mpl w) i (mpl w (i + 1))), (upd (mpa w) i (mpa w (i + 1))), (upd (men w) i (men w (i + 1))), (upd (mre w) i (mre w (i + 1))), (upd (mki w) i (mki w (i + 1))), (upd (mon w) i (mon w (i + 1))), (mwa w), (mwh w))) H locs) => ?_)
        refine lv_aload_n hx hb d_Mod_remove_118 rfl (lv_at hl 0 rfl) ?_
        refine mg_wa C hX d_Mod_remove_119 ?_
        refine lv_iload_n hx hb d_Mod_remove_122 rfl (lv_at hl 1 rfl) ?_
        refine lv_aload_n hx hb d_Mod_remove_123 rfl (lv_at hl 0 rfl) ?_
        refine mg_wa C hX d_Mod_remove_124 ?_
        refine lv_iload_n hx hb d_Mod_remove_127 rfl (lv_at hl 1 rfl) ?_
        refine lv_iconst (v := 1) hx hb d_Mod_remove_128 (by decide) ?_
        refine lv_iadd hx hb d_Mod_remove_129 ?_
        refine lv_topi (fun y_ ey_ => ?_)
        obtain rfl : y_ = (nI (i + 1)) := by rw [ey_]; exact nI_1 i
        refine ma_wa C hX (vp_in_nI (by omega) (by decide)) (nI_clamp (by omega)) d_Mod_remove_130 ?_
        refine ms_wa C hX (vp_in_nI (by omega) (by decide)) (nI_clamp (by omega)) d_Mod_remove_131 (fun H locs (hX : VX D A s.heap (mW a k ((mth w), (mpr w), (mma w), (mti w), (mlt w), (mtk w), (msu w), (upd (mnu w) i (mnu w (i + 1))), (upd (mpl w) i (mpl w (i + 1))), (upd (mpa w) i (mpa w (i + 1))), (upd (men w) i (men w (i + 1))), (upd (mre w) i (mre w (i + 1))), (upd (mki w) i (mki w (i + 1))), (upd (mon w) i (mon w (i + 1))), (upd (mwa w) i (mwa w (i + 1))), (mwh w))) H locs) => ?_)
        refine lv_aload_n hx hb d_Mod_remove_132 rfl (lv_at hl 0 rfl) ?_
        refine mg_wh C hX d_Mod_remove_133 ?_
        refine lv_iload_n hx hb d_Mod_remove_136 rfl (lv_at hl 1 rfl) ?_
        refine lv_aload_n hx hb d_Mod_remove_137 rfl (lv_at hl 0 rfl) ?_
        refine mg_wh C hX d_Mod_remove_138 ?_
        refine lv_iload_n hx hb d_Mod_remove_141 rfl (lv_at hl 1 rfl) ?_
        refine lv_iconst (v := 1) hx hb d_Mod_remove_142 (by decide) ?_
        refine lv_iadd hx hb d_Mod_remove_143 ?_
        refine lv_topi (fun y_ ey_ => ?_)
        obtain rfl : y_ = (nI (i + 1)) := by rw [ey_]; exact nI_1 i
        refine ma_wh C hX (vp_in_nI (by omega) (by decide)) (nI_clamp (by omega)) d_Mod_remove_144 ?_
        refine ms_wh C hX (vp_in_nI (by omega) (by decide)) (nI_clamp (by omega)) d_Mod_remove_145 (fun H locs (hX : VX D A s.heap (mW a k ((mth w), (mpr w), (mma w), (mti w), (mlt w), (mtk w), (msu w), (upd (mnu w) i (mnu w (i + 1))), (upd (mpl w) i (mpl w (i + 1))), (upd (mpa w) i (mpa w (i + 1))), (upd (men w) i (men w (i + 1))), (upd (mre w) i (mre w (i + 1))), (upd (mki w) i (mki w (i + 1))), (upd (mon w) i (mon w (i + 1))), (upd (mwa w) i (mwa w (i + 1))), (upd (mwh w) i (mwh w (i + 1))))) H locs) => ?_)
        refine lv_iinc (v := (nI (i + 1))) (lv' := [(2, .int (nI (i + 1))), (0, .ref (a 0))]) hx hb d_Mod_remove_146 hl (k := 1) rfl (nI_1 i) (by decide) rfl (fun ls hl => ?_)
        refine lv_goto (tgt := 12) hx hb d_Mod_remove_149 (by decide) ?_
        exact ih (i + 1) ((mth w), (mpr w), (mma w), (mti w), (mlt w), (mtk w), (msu w), (upd (mnu w) i (mnu w (i + 1))), (upd (mpl w) i (mpl w (i + 1))), (upd (mpa w) i (mpa w (i + 1))), (upd (men w) i (men w (i + 1))), (upd (mre w) i (mre w (i + 1))), (upd (mki w) i (mki w (i + 1))), (upd (mon w) i (mon w (i + 1))), (upd (mwa w) i (mwa w (i + 1))), (upd (mwh w) i (mwh w (i + 1)))) H locs ls (by omega) (by omega) (shift_s hri ew) (by omega) hX (lv_sub hl [1, 0] rfl)
  refine lv_aload_n hx hb d_Mod_remove_0 rfl (lv_at hl 0 rfl) ?_
  refine lv_dup hx hb d_Mod_remove_1 rfl ?_
  refine mg_ma C hX d_Mod_remove_2 ?_
  refine lv_iconst (v := 1) hx hb d_Mod_remove_5 (by decide) ?_
  refine lv_isub hx hb d_Mod_remove_6 ?_
  refine mp_ma C hX d_Mod_remove_7 (fun H locs (hX : VX D A s.heap (mW a k (zmma v ((mma v) - 1))) H locs) => ?_)
  refine lv_iload_n hx hb d_Mod_remove_10 rfl (lv_at hl 1 rfl) ?_
  refine lv_istore_n (lv' := [(2, .int (nI r0)), (0, .ref (a 0)), (1, .int (nI r0))]) hx hb d_Mod_remove_11 rfl hl (by decide) rfl (fun ls hl => ?_)
  exact L12 _ r0 (zmma v ((mma v) - 1)) H locs ls (Nat.le_refl _) (by omega) (shift_0) (Nat.lt_succ_self _) hX (lv_sub hl [1, 0] rfl)
end
section
theorem c_Mod_removeI (l : Launch) (D : va_G) (a k : Nat → Nat) (v : MS) (row : Int32) (hg : Mok v) (hrow : row = nI (ix row)) (hr : ix row < mN v) : MCv l y_Mod_remove b_Mod_remove 3 rm_Mod_remove [.ref (a 0), .int row] D (mT k) false (mW a k) v (fun u => u = mRemove v row) := by
  have h := c_Mod_remove l D a k v (ix row) hg hr
  rw [← hrow] at h
  exact h
end
section
abbrev rm_Mod_first : Room := { frames := 1, cells := 0, slots := 0, locals := 22 }
set_option maxHeartbeats 4000000 in
set_option maxRecDepth 100000 in
theorem c_Mod_first (l : Launch) (D : va_G) (a k : Nat → Nat) (v : MS) (hg : Mok v) : MCi l y_Mod_first b_Mod_first 2 .boolean rm_Mod_first [.ref (a 0)] D (mT k) false (mW a k) v (fun r u => (r, u) = (mFirst v)) := by
  refine MCi.of R_Mod rfl (by decide +kernel) (Nat.le_of_ble_eq_true rfl) ?_
  intro p e s m args below meth c A Q ls H locs C hX hl hret
  have hx := C.1.1
  have hb := C.1.2.1
  have hl : lv_has ls 2 [(0, .ref (a 0))] := hl
  refine lv_aload_n hx hb d_Mod_first_0 rfl (lv_at hl 0 rfl) ?_
  refine lv_iconst (v := 0) hx hb d_Mod_first_1 (by decide) ?_
  refine mp_th0 hg.1 C hX d_Mod_first_2 (fun H locs (hX : VX D A s.heap (mW a k v) H locs) => ?_)
  refine lv_aload_n hx hb d_Mod_first_5 rfl (lv_at hl 0 rfl) ?_
  refine mg_ma C hX d_Mod_first_6 ?_
  refine lv_if_le (tgt := 14) hx hb d_Mod_first_9 (by decide) (fun (c1 : (mma v) ≤ 0) => ?_) (fun (c1 : ¬ (mma v) ≤ 0) => ?_)
  · -- Mod_first 9 T
    refine lv_aload_n hx hb d_Mod_first_14 rfl (lv_at hl 0 rfl) ?_
    refine lv_iconst (v := 0) hx hb d_Mod_first_15 (by decide) ?_
    refine mp_ti C hX d_Mod_first_16 (fun H locs (hX : VX D A s.heap (mW a k (zmti v 0)) H locs) => ?_)
    refine lv_aload_n hx hb d_Mod_first_19 rfl (lv_at hl 0 rfl) ?_
    refine lv_iconst (v := 0) hx hb d_Mod_first_20 (by decide) ?_
    refine mp_lt C hX d_Mod_first_21 (fun H locs (hX : VX D A s.heap (mW a k ((mth v), (mpr v), (mma v), 0, 0, (mtk v), (msu v), (mnu v), (mpl v), (mpa v), (men v), (mre v), (mki v), (mon v), (mwa v), (mwh v))) H locs) => ?_)
    refine lv_aload_n hx hb d_Mod_first_24 rfl (lv_at hl 0 rfl) ?_
    refine lv_bipush (v := 14) hx hb d_Mod_first_25 (by decide) ?_
    refine mp_tk C hX d_Mod_first_27 (fun H locs (hX : VX D A s.heap (mW a k ((mth v), (mpr v), (mma v), 0, 0, 14, (msu v), (mnu v), (mpl v), (mpa v), (men v), (mre v), (mki v), (mon v), (mwa v), (mwh v))) H locs) => ?_)
    refine lv_aload_n hx hb d_Mod_first_30 rfl (lv_at hl 0 rfl) ?_
    refine lv_iconst (v := 0) hx hb d_Mod_first_31 (by decide) ?_
    refine lv_iconst (v := 0) hx hb d_Mod_first_32 (by decide) ?_
    refine mm_w C hX (c_Mod_add l D a k ((mth v), (mpr v), (mma v), 0, 0, 14, (msu v), (mnu v), (mpl v), (mpa v), (men v), (mre v), (mki v), (mon v), (mwa v), (mwh v)) 0 0 (show vp_in (mma v) 16 from mok_ma hg)) mi_Mod_64 ⟨⟨rfl, rfl⟩, Nat.le_of_ble_eq_true rfl, Nat.le_of_ble_eq_true rfl⟩ rfl rfl hl.1 (Nat.le_of_ble_eq_true rfl) d_Mod_first_33 ⟨Nat.zero_le _, Nat.zero_le _⟩ (fun H locs (hX : VX D A s.heap (mW a k (mAdd ((mth v), (mpr v), (mma v), 0, 0, 14, (msu v), (mnu v), (mpl v), (mpa v), (men v), (mre v), (mki v), (mon v), (mwa v), (mwh v)) 0 0).2) H locs) => ?_)
    refine lv_istore_n (lv' := [(1, .int (mAdd ((mth v), (mpr v), (mma v), 0, 0, 14, (msu v), (mnu v), (mpl v), (mpa v), (men v), (mre v), (mki v), (mon v), (mwa v), (mwh v)) 0 0).1), (0, .ref (a 0))]) hx hb d_Mod_first_36 rfl hl (by decide) rfl (fun ls hl => ?_)
    refine lv_iconst (v := 1) hx hb d_Mod_first_37 (by decide) ?_
    exact hret H locs 1 (mAdd ((mth v), (mpr v), (mma v), 0, 0, 14, (msu v), (mnu v), (mpl v), (mpa v), (men v), (mre v), (mki v), (mon v), (mwa v), (mwh v)) 0 0).2 38 ls rfl (by simp only [mFirst, if_pos c1]) hX d_Mod_first_38
  · -- Mod_first 9 F
    refine lv_iconst (v := 0) hx hb d_Mod_first_12 (by decide) ?_
    exact hret H locs 0 v 13 ls rfl (by simp only [mFirst, if_neg c1]) hX d_Mod_first_13
abbrev rm_Mod_pick : Room := { frames := 2, cells := 0, slots := 0, locals := 45 }
set_option maxHeartbeats 4000000 in
set_option maxRecDepth 100000 in
theorem c_Mod_pick (l : Launch) (D : va_G) (a k : Nat → Nat) (v : MS) (q : Int32) (hg : Mok v) : MCi l y_Mod_pick b_Mod_pick 5 .int rm_Mod_pick [.ref (a 0), .int q] D (mT k) false (mW a k) v (fun r u => (r, u) = (mPick v q)) := by
  refine MCi.of R_Mod rfl (by decide +kernel) (Nat.le_of_ble_eq_true rfl) ?_
  intro p e s m args below meth c A Q ls H locs C hX hl hret
  have hx := C.1.1
  have hb := C.1.2.1
  have hl : lv_has ls 5 [(0, .ref (a 0)), (1, .int q)] := hl
  have L27 : ∀ (n : Nat) (i : Nat) (x2 : Int32) (H : Heap) (locs : List Loc) (ls : Array Slot), (i ≤ 15) → (¬ q < 0) → (q < mpr v) → (MPI v q i x2) → 15 - i < n → VX D A s.heap (mW a k v) H locs → lv_has ls 5 [(0, .ref (a 0)), (1, .int q), (2, .int x2), (3, .int (nI (i + 1)))] → W p l e rm_Mod_pick s m args below meth c H locs 0 0 Q (F0 m 27 ls []) := by
    intro n
    induction n with
    | zero => intro i x2 H locs ls hi d1 d2 hp hm; exact absurd hm (Nat.not_lt_zero _)
    | succ n ih =>
      intro i x2 H locs ls hi d1 d2 hp hm hX hl
      refine lv_iload_n hx hb d_Mod_pick_27 rfl (lv_at hl 3 rfl) ?_
      refine lv_bipush (v := 15) hx hb d_Mod_pick_28 (by decide) ?_
      refine lv_icmp_gt (tgt := 80) hx hb d_Mod_pick_30 (by decide) (fun (c1 : (15 : Int32) < (nI (i + 1))) => ?_) (fun (c1 : ¬ (15 : Int32) < (nI (i + 1))) => ?_)
      · -- Mod_pick 30 T
        have h15 := gt_N hi c1
        refine lv_iload_n hx hb d_Mod_pick_80 rfl (lv_at hl 2 rfl) ?_
        refine lv_if_ge (tgt := 86) hx hb d_Mod_pick_81 (by decide) (fun (c2 : (0 : Int32) ≤ x2) => ?_) (fun (c2 : ¬ (0 : Int32) ≤ x2) => ?_)
        · -- Mod_pick 81 T
          have k3 := c2
          have er := mpi_pos hp hi c2
          have hin2 := row_in hg (mpi_row hp hi c2) (nneg c2)
          refine lv_aload_n hx hb d_Mod_pick_86 rfl (lv_at hl 0 rfl) ?_
          refine mg_on C hX d_Mod_pick_87 ?_
          refine lv_iload_n hx hb d_Mod_pick_90 rfl (lv_at hl 2 rfl) ?_
          refine ma_on C hX hin2 rfl d_Mod_pick_91 ?_
          refine lv_iload_n hx hb d_Mod_pick_92 rfl (lv_at hl 1 rfl) ?_
          refine lv_icmp_eq (tgt := 120) hx hb d_Mod_pick_93 (by decide) (fun (c3 : (mon v (ix x2)) = q) => ?_) (fun (c3 : ¬ (mon v (ix x2)) = q) => ?_)
          · -- Mod_pick 93 T
            have k4 := c3
            refine lv_aload_n hx hb d_Mod_pick_120 rfl (lv_at hl 0 rfl) ?_
            refine mg_pl C hX d_Mod_pick_121 ?_
            refine lv_iload_n hx hb d_Mod_pick_124 rfl (lv_at hl 2 rfl) ?_
            refine ma_pl C hX hin2 rfl d_Mod_pick_125 ?_
            exact hret H locs (mpl v (ix x2)) v 126 ls (vp_nar_int _) (by simp only [mPick, if_neg d1, if_pos d2, er, if_pos k3, if_pos k4]) hX d_Mod_pick_126
          · -- Mod_pick 93 F
            have k4 := c3
            refine lv_aload_n hx hb d_Mod_pick_96 rfl (lv_at hl 0 rfl) ?_
            refine mg_on C hX d_Mod_pick_97 ?_
            refine lv_iload_n hx hb d_Mod_pick_100 rfl (lv_at hl 2 rfl) ?_
            refine lv_iload_n hx hb d_Mod_pick_101 rfl (lv_at hl 1 rfl) ?_
            refine ms_on C hX hin2 rfl d_Mod_pick_102 (fun H locs (hX : VX D A s.heap (mW a k (zmon v (upd (mon v) (ix x2) q))) H locs) => ?_)
            refine lv_aload_n hx hb d_Mod_pick_103 rfl (lv_at hl 0 rfl) ?_
            refine mg_wa C hX d_Mod_pick_104 ?_
            refine lv_iload_n hx hb d_Mod_pick_107 rfl (lv_at hl 2 rfl) ?_
            refine lv_iconst (v := 0) hx hb d_Mod_pick_108 (by decide) ?_
            refine ms_wa C hX hin2 rfl d_Mod_pick_109 (fun H locs (hX : VX D A s.heap (mW a k ((mth v), (mpr v), (mma v), (mti v), (mlt v), (mtk v), (msu v), (mnu v), (mpl v), (mpa v), (men v), (mre v), (mki v), (upd (mon v) (ix x2) q), (upd (mwa v) (ix x2) 0), (mwh v))) H locs) => ?_)
            refine lv_aload_n hx hb d_Mod_pick_110 rfl (lv_at hl 0 rfl) ?_
            refine lv_aload_n hx hb d_Mod_pick_111 rfl (lv_at hl 0 rfl) ?_
            refine mg_pl C hX d_Mod_pick_112 ?_
            refine lv_iload_n hx hb d_Mod_pick_115 rfl (lv_at hl 2 rfl) ?_
            refine ma_pl C hX hin2 rfl d_Mod_pick_116 ?_
            refine mp_tk C hX d_Mod_pick_117 (fun H locs (hX : VX D A s.heap (mW a k ((mth v), (mpr v), (mma v), (mti v), (mlt v), (mpl v (ix x2)), (msu v), (mnu v), (mpl v), (mpa v), (men v), (mre v), (mki v), (upd (mon v) (ix x2) q), (upd (mwa v) (ix x2) 0), (mwh v))) H locs) => ?_)
            refine lv_aload_n hx hb d_Mod_pick_120 rfl (lv_at hl 0 rfl) ?_
            refine mg_pl C hX d_Mod_pick_121 ?_
            refine lv_iload_n hx hb d_Mod_pick_124 rfl (lv_at hl 2 rfl) ?_
            refine ma_pl C hX hin2 rfl d_Mod_pick_125 ?_
            exact hret H locs (mpl v (ix x2)) ((mth v), (mpr v), (mma v), (mti v), (mlt v), (mpl v (ix x2)), (msu v), (mnu v), (mpl v), (mpa v), (men v), (mre v), (mki v), (upd (mon v) (ix x2) q), (upd (mwa v) (ix x2) 0), (mwh v)) 126 ls (vp_nar_int _) (by simp only [mPick, if_neg d1, if_pos d2, er, if_pos k3, if_neg k4, mTaken]) hX d_Mod_pick_126
        · -- Mod_pick 81 F
          have k3 := c2
          refine lv_iconst (v := (-1)) hx hb d_Mod_pick_84 (by decide) ?_
          exact hret H locs (-1) v 85 ls (vp_nar_int _) (by simp only [mPick, if_neg d1, if_pos d2, if_neg (mpi_neg hp h15 k3)]) hX d_Mod_pick_85
      · -- Mod_pick 30 F
        have hlt := ngt_N hi c1
        refine lv_iload_n hx hb d_Mod_pick_33 rfl (lv_at hl 2 rfl) ?_
        refine lv_if_ge (tgt := 80) hx hb d_Mod_pick_34 (by decide) (fun (c4 : (0 : Int32) ≤ x2) => ?_) (fun (c4 : ¬ (0 : Int32) ≤ x2) => ?_)
        · -- Mod_pick 34 T
          have kx := c4
          refine lv_iload_n hx hb d_Mod_pick_80 rfl (lv_at hl 2 rfl) ?_
          refine lv_if_ge (tgt := 86) hx hb d_Mod_pick_81 (by decide) (fun (c5 : (0 : Int32) ≤ x2) => ?_) (fun (c5 : ¬ (0 : Int32) ≤ x2) => ?_)
          · -- Mod_pick 81 T
            have k3 := c5
            have er := mpi_pos hp hi c5
            have hin2 := row_in hg (mpi_row hp hi c5) (nneg c5)
            refine lv_aload_n hx hb d_Mod_pick_86 rfl (lv_at hl 0 rfl) ?_
            refine mg_on C hX d_Mod_pick_87 ?_
            refine lv_iload_n hx hb d_Mod_pick_90 rfl (lv_at hl 2 rfl) ?_
            refine ma_on C hX hin2 rfl d_Mod_pick_91 ?_
            refine lv_iload_n hx hb d_Mod_pick_92 rfl (lv_at hl 1 rfl) ?_
            refine lv_icmp_eq (tgt := 120) hx hb d_Mod_pick_93 (by decide) (fun (c6 : (mon v (ix x2)) = q) => ?_) (fun (c6 : ¬ (mon v (ix x2)) = q) => ?_)
            · -- Mod_pick 93 T
              have k4 := c6
              refine lv_aload_n hx hb d_Mod_pick_120 rfl (lv_at hl 0 rfl) ?_
              refine mg_pl C hX d_Mod_pick_121 ?_
              refine lv_iload_n hx hb d_Mod_pick_124 rfl (lv_at hl 2 rfl) ?_
              refine ma_pl C hX hin2 rfl d_Mod_pick_125 ?_
              exact hret H locs (mpl v (ix x2)) v 126 ls (vp_nar_int _) (by simp only [mPick, if_neg d1, if_pos d2, er, if_pos k3, if_pos k4]) hX d_Mod_pick_126
            · -- Mod_pick 93 F
              have k4 := c6
              refine lv_aload_n hx hb d_Mod_pick_96 rfl (lv_at hl 0 rfl) ?_
              refine mg_on C hX d_Mod_pick_97 ?_
              refine lv_iload_n hx hb d_Mod_pick_100 rfl (lv_at hl 2 rfl) ?_
              refine lv_iload_n hx hb d_Mod_pick_101 rfl (lv_at hl 1 rfl) ?_
              refine ms_on C hX hin2 rfl d_Mod_pick_102 (fun H locs (hX : VX D A s.heap (mW a k (zmon v (upd (mon v) (ix x2) q))) H locs) => ?_)
              refine lv_aload_n hx hb d_Mod_pick_103 rfl (lv_at hl 0 rfl) ?_
              refine mg_wa C hX d_Mod_pick_104 ?_
              refine lv_iload_n hx hb d_Mod_pick_107 rfl (lv_at hl 2 rfl) ?_
              refine lv_iconst (v := 0) hx hb d_Mod_pick_108 (by decide) ?_
              refine ms_wa C hX hin2 rfl d_Mod_pick_109 (fun H locs (hX : VX D A s.heap (mW a k ((mth v), (mpr v), (mma v), (mti v), (mlt v), (mtk v), (msu v), (mnu v), (mpl v), (mpa v), (men v), (mre v), (mki v), (upd (mon v) (ix x2) q), (upd (mwa v) (ix x2) 0), (mwh v))) H locs) => ?_)
              refine lv_aload_n hx hb d_Mod_pick_110 rfl (lv_at hl 0 rfl) ?_
              refine lv_aload_n hx hb d_Mod_pick_111 rfl (lv_at hl 0 rfl) ?_
              refine mg_pl C hX d_Mod_pick_112 ?_
              refine lv_iload_n hx hb d_Mod_pick_115 rfl (lv_at hl 2 rfl) ?_
              refine ma_pl C hX hin2 rfl d_Mod_pick_116 ?_
              refine mp_tk C hX d_Mod_pick_117 (fun H locs (hX : VX D A s.heap (mW a k ((mth v), (mpr v), (mma v), (mti v), (mlt v), (mpl v (ix x2)), (msu v), (mnu v), (mpl v), (mpa v), (men v), (mre v), (mki v), (upd (mon v) (ix x2) q), (upd (mwa v) (ix x2) 0), (mwh v))) H locs) => ?_)
              refine lv_aload_n hx hb d_Mod_pick_120 rfl (lv_at hl 0 rfl) ?_
              refine mg_pl C hX d_Mod_pick_121 ?_
              refine lv_iload_n hx hb d_Mod_pick_124 rfl (lv_at hl 2 rfl) ?_
              refine ma_pl C hX hin2 rfl d_Mod_pick_125 ?_
              exact hret H locs (mpl v (ix x2)) ((mth v), (mpr v), (mma v), (mti v), (mlt v), (mpl v (ix x2)), (msu v), (mnu v), (mpl v), (mpa v), (men v), (mre v), (mki v), (upd (mon v) (ix x2) q), (upd (mwa v) (ix x2) 0), (mwh v)) 126 ls (vp_nar_int _) (by simp only [mPick, if_neg d1, if_pos d2, er, if_pos k3, if_neg k4, mTaken]) hX d_Mod_pick_126
          · -- Mod_pick 81 F
            have k3 := c5
            refine lv_iconst (v := (-1)) hx hb d_Mod_pick_84 (by decide) ?_
            exact hret H locs (-1) v 85 ls (vp_nar_int _) (absurd kx k3) hX d_Mod_pick_85
        · -- Mod_pick 34 F
          have kx := c4
          refine lv_aload_n hx hb d_Mod_pick_37 rfl (lv_at hl 0 rfl) ?_
          refine lv_aload_n hx hb d_Mod_pick_38 rfl (lv_at hl 0 rfl) ?_
          refine mg_tk C hX d_Mod_pick_39 ?_
          refine lv_iload_n hx hb d_Mod_pick_42 rfl (lv_at hl 3 rfl) ?_
          refine lv_iadd hx hb d_Mod_pick_43 ?_
          refine lv_bipush (v := 15) hx hb d_Mod_pick_44 (by decide) ?_
          refine lv_irem hx hb d_Mod_pick_46 (by decide) ?_
          refine lv_topi (fun y_ ey_ => ?_)
          obtain rfl : y_ = (nI (mPl v i)) := by rw [ey_]; exact rem_mpl hg i hlt
          refine mm_r C hX (c_Mod_ofPlace l D a k v (nI (mPl v i)) hg) mi_Mod_48 ⟨⟨rfl, rfl⟩, Nat.le_of_ble_eq_true rfl, Nat.le_of_ble_eq_true rfl⟩ rfl rfl hl.1 (Nat.le_of_ble_eq_true rfl) d_Mod_pick_47 ⟨Nat.zero_le _, Nat.zero_le _⟩ (fun H locs (hX : VX D A s.heap (mW a k v) H locs) => ?_)
          refine lv_istore (lv' := [(4, .int (mOfPlace v (nI (mPl v i)))), (0, .ref (a 0)), (1, .int q), (2, .int x2), (3, .int (nI (i + 1)))]) hx hb d_Mod_pick_50 hl (by decide) rfl (fun ls hl => ?_)
          refine lv_iload hx hb d_Mod_pick_52 (lv_at hl 0 rfl) ?_
          refine lv_if_lt (tgt := 72) hx hb d_Mod_pick_54 (by decide) (fun (c7 : (mOfPlace v (nI (mPl v i))) < 0) => ?_) (fun (c7 : ¬ (mOfPlace v (nI (mPl v i))) < 0) => ?_)
          · -- Mod_pick 54 T
            have k1 := c7
            refine lv_iconst (v := (-1)) hx hb d_Mod_pick_72 (by decide) ?_
            refine lv_istore_n (lv' := [(2, .int (-1)), (4, .int (mOfPlace v (nI (mPl v i)))), (0, .ref (a 0)), (1, .int q), (3, .int (nI (i + 1)))]) hx hb d_Mod_pick_73 rfl hl (by decide) rfl (fun ls hl => ?_)
            refine lv_iinc (v := (nI (i + 1 + 1))) (lv' := [(3, .int (nI (i + 1 + 1))), (2, .int (-1)), (4, .int (mOfPlace v (nI (mPl v i)))), (0, .ref (a 0)), (1, .int q)]) hx hb d_Mod_pick_74 hl (k := 4) rfl (nI_1 (i + 1)) (by decide) rfl (fun ls hl => ?_)
            refine lv_goto (tgt := 27) hx hb d_Mod_pick_77 (by decide) ?_
            exact ih (i + 1) (-1) H locs ls (by omega) (d1) (d2) (mpi_no hp kx (fun y => y.1 k1)) (by omega) hX (lv_sub hl [3, 4, 1, 0] rfl)
          · -- Mod_pick 54 F
            have k1 := c7
            have hin := row_in hg row_lst k1
            refine lv_aload_n hx hb d_Mod_pick_57 rfl (lv_at hl 1 rfl) ?_
            refine lv_iload hx hb d_Mod_pick_58 (lv_at hl 0 rfl) ?_
            refine mm_r C hX (c_Mod_state l D a k v (mOfPlace v (nI (mPl v i))) hg hin) mi_Mod_71 ⟨⟨rfl, rfl⟩, Nat.le_of_ble_eq_true rfl, Nat.le_of_ble_eq_true rfl⟩ rfl rfl hl.1 (Nat.le_of_ble_eq_true rfl) d_Mod_pick_60 ⟨Nat.zero_le _, Nat.zero_le _⟩ (fun H locs (hX : VX D A s.heap (mW a k v) H locs) => ?_)
            refine lv_iconst (v := 1) hx hb d_Mod_pick_63 (by decide) ?_
            refine lv_icmp_ne (tgt := 72) hx hb d_Mod_pick_64 (by decide) (fun (c8 : ¬ (mState v (mOfPlace v (nI (mPl v i)))) = 1) => ?_) (fun (c8 : (mState v (mOfPlace v (nI (mPl v i)))) = 1) => ?_)
            · -- Mod_pick 64 T
              have k2 := c8
              refine lv_iconst (v := (-1)) hx hb d_Mod_pick_72 (by decide) ?_
              refine lv_istore_n (lv' := [(2, .int (-1)), (4, .int (mOfPlace v (nI (mPl v i)))), (0, .ref (a 0)), (1, .int q), (3, .int (nI (i + 1)))]) hx hb d_Mod_pick_73 rfl hl (by decide) rfl (fun ls hl => ?_)
              refine lv_iinc (v := (nI (i + 1 + 1))) (lv' := [(3, .int (nI (i + 1 + 1))), (2, .int (-1)), (4, .int (mOfPlace v (nI (mPl v i)))), (0, .ref (a 0)), (1, .int q)]) hx hb d_Mod_pick_74 hl (k := 4) rfl (nI_1 (i + 1)) (by decide) rfl (fun ls hl => ?_)
              refine lv_goto (tgt := 27) hx hb d_Mod_pick_77 (by decide) ?_
              exact ih (i + 1) (-1) H locs ls (by omega) (d1) (d2) (mpi_no hp kx (fun y => k2 y.2)) (by omega) hX (lv_sub hl [3, 4, 1, 0] rfl)
            · -- Mod_pick 64 F
              have k2 := c8
              refine lv_iload hx hb d_Mod_pick_67 (lv_at hl 0 rfl) ?_
              refine lv_goto (tgt := 73) hx hb d_Mod_pick_69 (by decide) ?_
              refine lv_istore_n (lv' := [(2, .int (mOfPlace v (nI (mPl v i)))), (4, .int (mOfPlace v (nI (mPl v i)))), (0, .ref (a 0)), (1, .int q), (3, .int (nI (i + 1)))]) hx hb d_Mod_pick_73 rfl hl (by decide) rfl (fun ls hl => ?_)
              refine lv_iinc (v := (nI (i + 1 + 1))) (lv' := [(3, .int (nI (i + 1 + 1))), (2, .int (mOfPlace v (nI (mPl v i)))), (4, .int (mOfPlace v (nI (mPl v i)))), (0, .ref (a 0)), (1, .int q)]) hx hb d_Mod_pick_74 hl (k := 4) rfl (nI_1 (i + 1)) (by decide) rfl (fun ls hl => ?_)
              refine lv_goto (tgt := 27) hx hb d_Mod_pick_77 (by decide) ?_
              exact ih (i + 1) (mOfPlace v (nI (mPl v i))) H locs ls (by omega) (d1) (d2) (mpi_yes hp kx ⟨k1, k2⟩) (by omega) hX (lv_sub hl [3, 4, 1, 0] rfl)
  refine lv_aload_n hx hb d_Mod_pick_0 rfl (lv_at hl 0 rfl) ?_
  refine lv_iconst (v := 0) hx hb d_Mod_pick_1 (by decide) ?_
  refine mp_th0 hg.1 C hX d_Mod_pick_2 (fun H locs (hX : VX D A s.heap (mW a k v) H locs) => ?_)
  refine lv_iload_n hx hb d_Mod_pick_5 rfl (lv_at hl 1 rfl) ?_
  refine lv_if_lt (tgt := 17) hx hb d_Mod_pick_6 (by decide) (fun (c9 : q < 0) => ?_) (fun (c9 : ¬ q < 0) => ?_)
  · -- Mod_pick 6 T
    refine lv_iconst (v := (-1)) hx hb d_Mod_pick_17 (by decide) ?_
    exact hret H locs (-1) v 18 ls (vp_nar_int _) (by simp only [mPick, if_pos c9, ite_self]) hX d_Mod_pick_18
  · -- Mod_pick 6 F
    have d1 := c9
    refine lv_iload_n hx hb d_Mod_pick_9 rfl (lv_at hl 1 rfl) ?_
    refine lv_aload_n hx hb d_Mod_pick_10 rfl (lv_at hl 0 rfl) ?_
    refine mg_pr C hX d_Mod_pick_11 ?_
    refine lv_icmp_lt (tgt := 19) hx hb d_Mod_pick_14 (by decide) (fun (c10 : q < (mpr v)) => ?_) (fun (c10 : ¬ q < (mpr v)) => ?_)
    · -- Mod_pick 14 T
      have d2 := c10
      refine lv_aload_n hx hb d_Mod_pick_19 rfl (lv_at hl 0 rfl) ?_
      refine lv_iload_n hx hb d_Mod_pick_20 rfl (lv_at hl 1 rfl) ?_
      refine mm_r C hX (c_Mod_running l D a k v q hg) mi_Mod_68 ⟨⟨rfl, rfl⟩, Nat.le_of_ble_eq_true rfl, Nat.le_of_ble_eq_true rfl⟩ rfl rfl hl.1 (Nat.le_of_ble_eq_true rfl) d_Mod_pick_21 ⟨Nat.zero_le _, Nat.zero_le _⟩ (fun H locs (hX : VX D A s.heap (mW a k v) H locs) => ?_)
      refine lv_istore_n (lv' := [(2, .int (mRunning v q)), (0, .ref (a 0)), (1, .int q)]) hx hb d_Mod_pick_24 rfl hl (by decide) rfl (fun ls hl => ?_)
      refine lv_iconst (v := 1) hx hb d_Mod_pick_25 (by decide) ?_
      refine lv_istore_n (lv' := [(3, .int 1), (2, .int (mRunning v q)), (0, .ref (a 0)), (1, .int q)]) hx hb d_Mod_pick_26 rfl hl (by decide) rfl (fun ls hl => ?_)
      exact L27 _ 0 (mRunning v q) H locs ls (by omega) (d1) (d2) (mpi_0) (Nat.lt_succ_self _) hX (lv_sub hl [2, 3, 1, 0] rfl)
    · -- Mod_pick 14 F
      refine lv_iconst (v := (-1)) hx hb d_Mod_pick_17 (by decide) ?_
      exact hret H locs (-1) v 18 ls (vp_nar_int _) (by simp only [mPick, if_neg c9, if_neg c10, ite_self]) hX d_Mod_pick_18
abbrev rm_Mod_fork : Room := { frames := 2, cells := 0, slots := 0, locals := 44 }
set_option maxHeartbeats 4000000 in
set_option maxRecDepth 100000 in
theorem c_Mod_fork (l : Launch) (D : va_G) (a k : Nat → Nat) (v : MS) (q : Int32) (hg : Mok v) : MCi l y_Mod_fork b_Mod_fork 4 .int rm_Mod_fork [.ref (a 0), .int q] D (mT k) false (mW a k) v (fun r u => (r, u) = (mFork v q)) := by
  refine MCi.of R_Mod rfl (by decide +kernel) (Nat.le_of_ble_eq_true rfl) ?_
  intro p e s m args below meth c A Q ls H locs C hX hl hret
  have hx := C.1.1
  have hb := C.1.2.1
  have hl : lv_has ls 4 [(0, .ref (a 0)), (1, .int q)] := hl
  refine lv_aload_n hx hb d_Mod_fork_0 rfl (lv_at hl 0 rfl) ?_
  refine lv_iconst (v := 0) hx hb d_Mod_fork_1 (by decide) ?_
  refine mp_th0 hg.1 C hX d_Mod_fork_2 (fun H locs (hX : VX D A s.heap (mW a k v) H locs) => ?_)
  refine lv_aload_n hx hb d_Mod_fork_5 rfl (lv_at hl 0 rfl) ?_
  refine lv_iload_n hx hb d_Mod_fork_6 rfl (lv_at hl 1 rfl) ?_
  refine mm_r C hX (c_Mod_running l D a k v q hg) mi_Mod_68 ⟨⟨rfl, rfl⟩, Nat.le_of_ble_eq_true rfl, Nat.le_of_ble_eq_true rfl⟩ rfl rfl hl.1 (Nat.le_of_ble_eq_true rfl) d_Mod_fork_7 ⟨Nat.zero_le _, Nat.zero_le _⟩ (fun H locs (hX : VX D A s.heap (mW a k v) H locs) => ?_)
  refine lv_istore_n (lv' := [(2, .int (mRunning v q)), (0, .ref (a 0)), (1, .int q)]) hx hb d_Mod_fork_10 rfl hl (by decide) rfl (fun ls hl => ?_)
  refine lv_aload_n hx hb d_Mod_fork_11 rfl (lv_at hl 1 rfl) ?_
  refine mm_r C hX (c_Mod_vacant l D a k v  hg) mi_Mod_74 ⟨⟨rfl, rfl⟩, Nat.le_of_ble_eq_true rfl, Nat.le_of_ble_eq_true rfl⟩ rfl rfl hl.1 (Nat.le_of_ble_eq_true rfl) d_Mod_fork_12 ⟨Nat.zero_le _, Nat.zero_le _⟩ (fun H locs (hX : VX D A s.heap (mW a k v) H locs) => ?_)
  refine lv_istore_n (lv' := [(3, .int (mVacant v)), (2, .int (mRunning v q)), (0, .ref (a 0)), (1, .int q)]) hx hb d_Mod_fork_15 rfl hl (by decide) rfl (fun ls hl => ?_)
  refine lv_iload_n hx hb d_Mod_fork_16 rfl (lv_at hl 1 rfl) ?_
  refine lv_if_lt (tgt := 26) hx hb d_Mod_fork_17 (by decide) (fun (c1 : (mRunning v q) < 0) => ?_) (fun (c1 : ¬ (mRunning v q) < 0) => ?_)
  · -- Mod_fork 17 T
    refine lv_iconst (v := (-1)) hx hb d_Mod_fork_26 (by decide) ?_
    refine lv_goto (tgt := 41) hx hb d_Mod_fork_27 (by decide) ?_
    exact hret H locs (-1) v 41 ls (vp_nar_int _) (by simp only [mFork, if_pos c1]) hX d_Mod_fork_41
  · -- Mod_fork 17 F
    have hrow := row_in hg row_run c1
    refine lv_iload_n hx hb d_Mod_fork_20 rfl (lv_at hl 0 rfl) ?_
    refine lv_bipush (v := 15) hx hb d_Mod_fork_21 (by decide) ?_
    refine lv_icmp_ne (tgt := 30) hx hb d_Mod_fork_23 (by decide) (fun (c2 : ¬ (mVacant v) = 15) => ?_) (fun (c2 : (mVacant v) = 15) => ?_)
    · -- Mod_fork 23 T
      refine lv_aload_n hx hb d_Mod_fork_30 rfl (lv_at hl 2 rfl) ?_
      refine lv_iload_n hx hb d_Mod_fork_31 rfl (lv_at hl 0 rfl) ?_
      refine lv_aload_n hx hb d_Mod_fork_32 rfl (lv_at hl 2 rfl) ?_
      refine mg_nu C hX d_Mod_fork_33 ?_
      refine lv_iload_n hx hb d_Mod_fork_36 rfl (lv_at hl 1 rfl) ?_
      refine ma_nu C hX hrow rfl d_Mod_fork_37 ?_
      refine mm_w C hX (c_Mod_add l D a k v (mVacant v) (mnu v (ix (mRunning v q))) (mok_ma hg)) mi_Mod_64 ⟨⟨rfl, rfl⟩, Nat.le_of_ble_eq_true rfl, Nat.le_of_ble_eq_true rfl⟩ rfl rfl hl.1 (Nat.le_of_ble_eq_true rfl) d_Mod_fork_38 ⟨Nat.zero_le _, Nat.zero_le _⟩ (fun H locs (hX : VX D A s.heap (mW a k (mAdd v (mVacant v) (mnu v (ix (mRunning v q)))).2) H locs) => ?_)
      exact hret H locs (mAdd v (mVacant v) (mnu v (ix (mRunning v q)))).1 (mAdd v (mVacant v) (mnu v (ix (mRunning v q)))).2 41 ls (vp_nar_int _) (by simp only [mFork, if_neg c1, if_neg c2]) hX d_Mod_fork_41
    · -- Mod_fork 23 F
      refine lv_iconst (v := (-1)) hx hb d_Mod_fork_26 (by decide) ?_
      refine lv_goto (tgt := 41) hx hb d_Mod_fork_27 (by decide) ?_
      exact hret H locs (-1) v 41 ls (vp_nar_int _) (by simp only [mFork, if_neg c1, if_pos c2]) hX d_Mod_fork_41
abbrev rm_Mod_exit : Room := { frames := 1, cells := 0, slots := 0, locals := 23 }
set_option maxHeartbeats 4000000 in
set_option maxRecDepth 100000 in
theorem c_Mod_exit (l : Launch) (D : va_G) (a k : Nat → Nat) (v : MS) (q : Int32) (x : Int32) (hg : Mok v) : MCi l y_Mod_exit b_Mod_exit 6 .int rm_Mod_exit [.ref (a 0), .int q, .int x] D (mT k) false (mW a k) v (fun r u => (r, u) = (mExit v q x)) := by
  obtain ⟨hth, ⟨n0, hn15, hn⟩, htk, hbo⟩ := id hg
  refine MCi.of R_Mod rfl (by decide +kernel) (Nat.le_of_ble_eq_true rfl) ?_
  intro p e s m args below meth c A Q ls H locs C hX hl hret
  have hx := C.1.1
  have hb := C.1.2.1
  have hl : lv_has ls 6 [(0, .ref (a 0)), (1, .int q), (2, .int x)] := hl
  have L51 : ∀ (n : Nat) (i : Nat) (w : MS) (H : Heap) (locs : List Loc) (ls : Array Slot), (i ≤ n0) → (0 ≤ mRunning v q) → (¬ (mnu v (ix (mRunning v q))) = 1) → (vp_in (mRunning v q) 16) → (w = zmpa v (mpP v (mnu v (ix (mRunning v q))) i)) → n0 - i < n → VX D A s.heap (mW a k w) H locs → lv_has ls 6 [(0, .ref (a 0)), (1, .int q), (2, .int x), (3, .int (mRunning v q)), (4, .int (mpl v (ix (mRunning v q)))), (5, .int (nI i))] → W p l e rm_Mod_exit s m args below meth c H locs 0 0 Q (F0 m 51 ls []) := by
    intro n
    induction n with
    | zero => intro i w H locs ls hi d1 d2 hrow ew hm; exact absurd hm (Nat.not_lt_zero _)
    | succ n ih =>
      intro i w H locs ls hi d1 d2 hrow ew hm hX hl
      refine lv_iload hx hb d_Mod_exit_51 (lv_at hl 5 rfl) ?_
      refine lv_aload_n hx hb d_Mod_exit_53 rfl (lv_at hl 0 rfl) ?_
      refine mg_ma C hX d_Mod_exit_54 ?_
      refine lv_icmp_ge (tgt := 100) hx hb d_Mod_exit_57 (by decide) (fun (c1 : (mma w) ≤ (nI i)) => ?_) (fun (c1 : ¬ (mma w) ≤ (nI i)) => ?_)
      · -- Mod_exit 57 T
        have h15 : i = n0 := ge_N (by rw [ew]; exact hn) hi (by omega) c1
        refine lv_aload_n hx hb d_Mod_exit_100 rfl (lv_at hl 0 rfl) ?_
        refine mg_en C hX d_Mod_exit_101 ?_
        refine lv_iload_n hx hb d_Mod_exit_104 rfl (lv_at hl 3 rfl) ?_
        refine lv_iconst (v := 1) hx hb d_Mod_exit_105 (by decide) ?_
        refine ms_en C hX hrow rfl rfl d_Mod_exit_106 (fun H locs (hX : VX D A s.heap (mW a k (zmen w (upd (men w) (ix (mRunning v q)) 1))) H locs) => ?_)
        refine lv_aload_n hx hb d_Mod_exit_107 rfl (lv_at hl 0 rfl) ?_
        refine mg_re C hX d_Mod_exit_108 ?_
        refine lv_iload_n hx hb d_Mod_exit_111 rfl (lv_at hl 3 rfl) ?_
        refine lv_iload_n hx hb d_Mod_exit_112 rfl (lv_at hl 2 rfl) ?_
        refine ms_re C hX hrow rfl d_Mod_exit_113 (fun H locs (hX : VX D A s.heap (mW a k ((mth w), (mpr w), (mma w), (mti w), (mlt w), (mtk w), (msu w), (mnu w), (mpl w), (mpa w), (upd (men w) (ix (mRunning v q)) 1), (upd (mre w) (ix (mRunning v q)) x), (mki w), (mon w), (mwa w), (mwh w))) H locs) => ?_)
        refine lv_aload_n hx hb d_Mod_exit_114 rfl (lv_at hl 0 rfl) ?_
        refine mg_on C hX d_Mod_exit_115 ?_
        refine lv_iload_n hx hb d_Mod_exit_118 rfl (lv_at hl 3 rfl) ?_
        refine lv_iconst (v := (-1)) hx hb d_Mod_exit_119 (by decide) ?_
        refine ms_on C hX hrow rfl d_Mod_exit_120 (fun H locs (hX : VX D A s.heap (mW a k ((mth w), (mpr w), (mma w), (mti w), (mlt w), (mtk w), (msu w), (mnu w), (mpl w), (mpa w), (upd (men w) (ix (mRunning v q)) 1), (upd (mre w) (ix (mRunning v q)) x), (mki w), (upd (mon w) (ix (mRunning v q)) (-1)), (mwa w), (mwh w))) H locs) => ?_)
        refine lv_iload hx hb d_Mod_exit_121 (lv_at hl 4 rfl) ?_
        exact hret H locs (mpl v (ix (mRunning v q))) ((mth w), (mpr w), (mma w), (mti w), (mlt w), (mtk w), (msu w), (mnu w), (mpl w), (mpa w), (upd (men w) (ix (mRunning v q)) 1), (upd (mre w) (ix (mRunning v q)) x), (mki w), (upd (mon w) (ix (mRunning v q)) (-1)), (mwa w), (mwh w)) 123 ls (vp_nar_int _) (by simp only [mExit, if_pos d1, if_neg d2, mEnd]; rw [mN_is hn hn15, ← h15, ew]) hX d_Mod_exit_123
      · -- Mod_exit 57 F
        have hlt : i < n0 := lt_N (by rw [ew]; exact hn) (by omega) c1
        refine lv_aload_n hx hb d_Mod_exit_60 rfl (lv_at hl 0 rfl) ?_
        refine mg_pa C hX d_Mod_exit_61 ?_
        refine lv_iload hx hb d_Mod_exit_64 (lv_at hl 5 rfl) ?_
        refine lv_aload_n hx hb d_Mod_exit_66 rfl (lv_at hl 0 rfl) ?_
        refine mg_pa C hX d_Mod_exit_67 ?_
        refine lv_iload hx hb d_Mod_exit_70 (lv_at hl 5 rfl) ?_
        refine ma_pa C hX (vp_in_nI (by omega) (by decide)) (nI_clamp (by omega)) d_Mod_exit_72 ?_
        refine lv_aload_n hx hb d_Mod_exit_73 rfl (lv_at hl 0 rfl) ?_
        refine mg_nu C hX d_Mod_exit_74 ?_
        refine lv_iload_n hx hb d_Mod_exit_77 rfl (lv_at hl 3 rfl) ?_
        refine ma_nu C hX hrow rfl d_Mod_exit_78 ?_
        refine lv_icmp_ne (tgt := 86) hx hb d_Mod_exit_79 (by decide) (fun (c2 : ¬ (mpa w i) = (mnu w (ix (mRunning v q)))) => ?_) (fun (c2 : (mpa w i) = (mnu w (ix (mRunning v q)))) => ?_)
        · -- Mod_exit 79 T
          have k1 := c2
          refine lv_aload_n hx hb d_Mod_exit_86 rfl (lv_at hl 0 rfl) ?_
          refine mg_pa C hX d_Mod_exit_87 ?_
          refine lv_iload hx hb d_Mod_exit_90 (lv_at hl 5 rfl) ?_
          refine ma_pa C hX (vp_in_nI (by omega) (by decide)) (nI_clamp (by omega)) d_Mod_exit_92 ?_
          refine ms_pa C hX (vp_in_nI (by omega) (by decide)) (nI_clamp (by omega)) d_Mod_exit_93 (fun H locs (hX : VX D A s.heap (mW a k (zmpa w (upd (mpa w) i (mpa w i)))) H locs) => ?_)
          refine lv_iinc (v := (nI (i + 1))) (lv' := [(5, .int (nI (i + 1))), (0, .ref (a 0)), (1, .int q), (2, .int x), (3, .int (mRunning v q)), (4, .int (mpl v (ix (mRunning v q))))]) hx hb d_Mod_exit_94 hl (k := 5) rfl (nI_1 i) (by decide) rfl (fun ls hl => ?_)
          refine lv_goto (tgt := 51) hx hb d_Mod_exit_97 (by decide) ?_
          exact ih (i + 1) (zmpa w (upd (mpa w) i (mpa w i))) H locs ls (by omega) (d1) (d2) (hrow) (mp_no ew (fun y => k1 (by rw [y, ew]))) (by omega) hX (lv_sub hl [1, 2, 3, 4, 5, 0] rfl)
        · -- Mod_exit 79 F
          have k1 := c2
          refine lv_iconst (v := 1) hx hb d_Mod_exit_82 (by decide) ?_
          refine lv_goto (tgt := 93) hx hb d_Mod_exit_83 (by decide) ?_
          refine ms_pa C hX (vp_in_nI (by omega) (by decide)) (nI_clamp (by omega)) d_Mod_exit_93 (fun H locs (hX : VX D A s.heap (mW a k (zmpa w (upd (mpa w) i 1))) H locs) => ?_)
          refine lv_iinc (v := (nI (i + 1))) (lv' := [(5, .int (nI (i + 1))), (0, .ref (a 0)), (1, .int q), (2, .int x), (3, .int (mRunning v q)), (4, .int (mpl v (ix (mRunning v q))))]) hx hb d_Mod_exit_94 hl (k := 5) rfl (nI_1 i) (by decide) rfl (fun ls hl => ?_)
          refine lv_goto (tgt := 51) hx hb d_Mod_exit_97 (by decide) ?_
          exact ih (i + 1) (zmpa w (upd (mpa w) i 1)) H locs ls (by omega) (d1) (d2) (hrow) (mp_yes ew (by rw [k1, ew])) (by omega) hX (lv_sub hl [1, 2, 3, 4, 5, 0] rfl)
  refine lv_aload_n hx hb d_Mod_exit_0 rfl (lv_at hl 0 rfl) ?_
  refine lv_iconst (v := 0) hx hb d_Mod_exit_1 (by decide) ?_
  refine mp_th0 hg.1 C hX d_Mod_exit_2 (fun H locs (hX : VX D A s.heap (mW a k v) H locs) => ?_)
  refine lv_aload_n hx hb d_Mod_exit_5 rfl (lv_at hl 0 rfl) ?_
  refine lv_iload_n hx hb d_Mod_exit_6 rfl (lv_at hl 1 rfl) ?_
  refine mm_r C hX (c_Mod_running l D a k v q hg) mi_Mod_68 ⟨⟨rfl, rfl⟩, Nat.le_of_ble_eq_true rfl, Nat.le_of_ble_eq_true rfl⟩ rfl rfl hl.1 (Nat.le_of_ble_eq_true rfl) d_Mod_exit_7 ⟨Nat.zero_le _, Nat.zero_le _⟩ (fun H locs (hX : VX D A s.heap (mW a k v) H locs) => ?_)
  refine lv_istore_n (lv' := [(3, .int (mRunning v q)), (0, .ref (a 0)), (1, .int q), (2, .int x)]) hx hb d_Mod_exit_10 rfl hl (by decide) rfl (fun ls hl => ?_)
  refine lv_iload_n hx hb d_Mod_exit_11 rfl (lv_at hl 0 rfl) ?_
  refine lv_if_ge (tgt := 17) hx hb d_Mod_exit_12 (by decide) (fun (c3 : (0 : Int32) ≤ (mRunning v q)) => ?_) (fun (c3 : ¬ (0 : Int32) ≤ (mRunning v q)) => ?_)
  · -- Mod_exit 12 T
    have d1 := c3
    have hrow := row_in hg row_run (nneg c3)
    refine lv_aload_n hx hb d_Mod_exit_17 rfl (lv_at hl 1 rfl) ?_
    refine mg_pl C hX d_Mod_exit_18 ?_
    refine lv_iload_n hx hb d_Mod_exit_21 rfl (lv_at hl 0 rfl) ?_
    refine ma_pl C hX hrow rfl d_Mod_exit_22 ?_
    refine lv_istore (lv' := [(4, .int (mpl v (ix (mRunning v q)))), (3, .int (mRunning v q)), (0, .ref (a 0)), (1, .int q), (2, .int x)]) hx hb d_Mod_exit_23 hl (by decide) rfl (fun ls hl => ?_)
    refine lv_aload_n hx hb d_Mod_exit_25 rfl (lv_at hl 2 rfl) ?_
    refine mg_nu C hX d_Mod_exit_26 ?_
    refine lv_iload_n hx hb d_Mod_exit_29 rfl (lv_at hl 1 rfl) ?_
    refine ma_nu C hX hrow rfl d_Mod_exit_30 ?_
    refine lv_iconst (v := 1) hx hb d_Mod_exit_31 (by decide) ?_
    refine lv_icmp_ne (tgt := 48) hx hb d_Mod_exit_32 (by decide) (fun (c4 : ¬ (mnu v (ix (mRunning v q))) = 1) => ?_) (fun (c4 : (mnu v (ix (mRunning v q))) = 1) => ?_)
    · -- Mod_exit 32 T
      have d2 := c4
      refine lv_iconst (v := 0) hx hb d_Mod_exit_48 (by decide) ?_
      refine lv_istore (lv' := [(5, .int 0), (4, .int (mpl v (ix (mRunning v q)))), (3, .int (mRunning v q)), (0, .ref (a 0)), (1, .int q), (2, .int x)]) hx hb d_Mod_exit_49 hl (by decide) rfl (fun ls hl => ?_)
      exact L51 _ 0 v H locs ls (by omega) (d1) (d2) (hrow) (mpP_0) (Nat.lt_succ_self _) hX (lv_sub hl [3, 4, 5, 2, 1, 0] rfl)
    · -- Mod_exit 32 F
      refine lv_aload_n hx hb d_Mod_exit_35 rfl (lv_at hl 2 rfl) ?_
      refine lv_iload_n hx hb d_Mod_exit_36 rfl (lv_at hl 4 rfl) ?_
      refine mp_su C hX d_Mod_exit_37 (fun H locs (hX : VX D A s.heap (mW a k (zmsu v x)) H locs) => ?_)
      refine lv_aload_n hx hb d_Mod_exit_40 rfl (lv_at hl 2 rfl) ?_
      refine lv_iconst (v := 0) hx hb d_Mod_exit_41 (by decide) ?_
      refine mp_ma C hX d_Mod_exit_42 (fun H locs (hX : VX D A s.heap (mW a k ((mth v), (mpr v), 0, (mti v), (mlt v), (mtk v), x, (mnu v), (mpl v), (mpa v), (men v), (mre v), (mki v), (mon v), (mwa v), (mwh v))) H locs) => ?_)
      refine lv_iload hx hb d_Mod_exit_45 (lv_at hl 0 rfl) ?_
      exact hret H locs (mpl v (ix (mRunning v q))) ((mth v), (mpr v), 0, (mti v), (mlt v), (mtk v), x, (mnu v), (mpl v), (mpa v), (men v), (mre v), (mki v), (mon v), (mwa v), (mwh v)) 47 ls (vp_nar_int _) (by simp only [mExit, if_pos c3, if_pos c4]) hX d_Mod_exit_47
  · -- Mod_exit 12 F
    refine lv_iconst (v := (-1)) hx hb d_Mod_exit_15 (by decide) ?_
    exact hret H locs (-1) v 16 ls (vp_nar_int _) (by simp only [mExit, if_neg c3]) hX d_Mod_exit_16
abbrev rm_Mod_waitsFor : Room := { frames := 0, cells := 0, slots := 0, locals := 0 }
set_option maxHeartbeats 4000000 in
set_option maxRecDepth 100000 in
theorem c_Mod_waitsFor (l : Launch) (D : va_G) (a k : Nat → Nat) (v : MS) (row : Int32) (wt : Int32) (wh : Int32) (hr : vp_in row 16) : MCi l y_Mod_waitsFor b_Mod_waitsFor 4 .int rm_Mod_waitsFor [.ref (a 0), .int row, .int wt, .int wh] D (mT k) false (mW a k) v (fun r u => (r, u) = (mWaitsFor v row wt wh)) := by
  refine MCi.of R_Mod rfl (by decide +kernel) (Nat.le_of_ble_eq_true rfl) ?_
  intro p e s m args below meth c A Q ls H locs C hX hl hret
  have hx := C.1.1
  have hb := C.1.2.1
  have hl : lv_has ls 4 [(0, .ref (a 0)), (1, .int row), (2, .int wt), (3, .int wh)] := hl
  refine lv_aload_n hx hb d_Mod_waitsFor_0 rfl (lv_at hl 0 rfl) ?_
  refine mg_on C hX d_Mod_waitsFor_1 ?_
  refine lv_iload_n hx hb d_Mod_waitsFor_4 rfl (lv_at hl 1 rfl) ?_
  refine lv_iconst (v := (-1)) hx hb d_Mod_waitsFor_5 (by decide) ?_
  refine ms_on C hX hr rfl d_Mod_waitsFor_6 (fun H locs (hX : VX D A s.heap (mW a k (zmon v (upd (mon v) (ix row) (-1)))) H locs) => ?_)
  refine lv_aload_n hx hb d_Mod_waitsFor_7 rfl (lv_at hl 0 rfl) ?_
  refine mg_wa C hX d_Mod_waitsFor_8 ?_
  refine lv_iload_n hx hb d_Mod_waitsFor_11 rfl (lv_at hl 1 rfl) ?_
  refine lv_iload_n hx hb d_Mod_waitsFor_12 rfl (lv_at hl 2 rfl) ?_
  refine ms_wa C hX hr rfl d_Mod_waitsFor_13 (fun H locs (hX : VX D A s.heap (mW a k ((mth v), (mpr v), (mma v), (mti v), (mlt v), (mtk v), (msu v), (mnu v), (mpl v), (mpa v), (men v), (mre v), (mki v), (upd (mon v) (ix row) (-1)), (upd (mwa v) (ix row) wt), (mwh v))) H locs) => ?_)
  refine lv_aload_n hx hb d_Mod_waitsFor_14 rfl (lv_at hl 0 rfl) ?_
  refine mg_wh C hX d_Mod_waitsFor_15 ?_
  refine lv_iload_n hx hb d_Mod_waitsFor_18 rfl (lv_at hl 1 rfl) ?_
  refine lv_iload_n hx hb d_Mod_waitsFor_19 rfl (lv_at hl 3 rfl) ?_
  refine ms_wh C hX hr rfl d_Mod_waitsFor_20 (fun H locs (hX : VX D A s.heap (mW a k ((mth v), (mpr v), (mma v), (mti v), (mlt v), (mtk v), (msu v), (mnu v), (mpl v), (mpa v), (men v), (mre v), (mki v), (upd (mon v) (ix row) (-1)), (upd (mwa v) (ix row) wt), (upd (mwh v) (ix row) wh))) H locs) => ?_)
  refine lv_aload_n hx hb d_Mod_waitsFor_21 rfl (lv_at hl 0 rfl) ?_
  refine mg_pl C hX d_Mod_waitsFor_22 ?_
  refine lv_iload_n hx hb d_Mod_waitsFor_25 rfl (lv_at hl 1 rfl) ?_
  refine ma_pl C hX hr rfl d_Mod_waitsFor_26 ?_
  exact hret H locs (mpl v (ix row)) ((mth v), (mpr v), (mma v), (mti v), (mlt v), (mtk v), (msu v), (mnu v), (mpl v), (mpa v), (men v), (mre v), (mki v), (upd (mon v) (ix row) (-1)), (upd (mwa v) (ix row) wt), (upd (mwh v) (ix row) wh)) 27 ls (vp_nar_int _) (rfl) hX d_Mod_waitsFor_27
abbrev rm_Mod_await : Room := { frames := 1, cells := 0, slots := 0, locals := 23 }
set_option maxHeartbeats 4000000 in
set_option maxRecDepth 100000 in
theorem c_Mod_await (l : Launch) (D : va_G) (a k : Nat → Nat) (v : MS) (q : Int32) (hg : Mok v) : MCi l y_Mod_await b_Mod_await 6 .int rm_Mod_await [.ref (a 0), .int q] D (mT k) false (mW a k) v (fun r u => (r, u) = (mAwait v q)) := by
  obtain ⟨hth, ⟨n0, hn15, hn⟩, htk, hbo⟩ := id hg
  refine MCi.of R_Mod rfl (by decide +kernel) (Nat.le_of_ble_eq_true rfl) ?_
  intro p e s m args below meth c A Q ls H locs C hX hl hret
  have hx := C.1.1
  have hb := C.1.2.1
  have hl : lv_has ls 6 [(0, .ref (a 0)), (1, .int q)] := hl
  have L16 : ∀ (n : Nat) (i : Nat) (z : Int32) (H : Heap) (locs : List Loc) (ls : Array Slot), (i ≤ n0) → (mRunning v q < 0 → i = 0) → (z = any1 (mKid v (mnu v (ix (mRunning v q)))) i) → n0 - i < n → VX D A s.heap (mW a k v) H locs → lv_has ls 6 [(0, .ref (a 0)), (1, .int q), (2, .int (mRunning v q)), (3, .int z), (4, .int (nI i))] → W p l e rm_Mod_await s m args below meth c H locs 0 0 Q (F0 m 16 ls []) := by
    intro n
    induction n with
    | zero => intro i z H locs ls hi g0 ez hm; exact absurd hm (Nat.not_lt_zero _)
    | succ n ih =>
      intro i z H locs ls hi g0 ez hm hX hl
      refine lv_iload hx hb d_Mod_await_16 (lv_at hl 4 rfl) ?_
      refine lv_aload_n hx hb d_Mod_await_18 rfl (lv_at hl 0 rfl) ?_
      refine mg_ma C hX d_Mod_await_19 ?_
      refine lv_icmp_ge (tgt := 61) hx hb d_Mod_await_22 (by decide) (fun (c1 : (mma v) ≤ (nI i)) => ?_) (fun (c1 : ¬ (mma v) ≤ (nI i)) => ?_)
      · -- Mod_await 22 T
        have h15 : i = n0 := ge_N hn hi (by omega) c1
        refine lv_iload_n hx hb d_Mod_await_61 rfl (lv_at hl 3 rfl) ?_
        refine lv_if_ne (tgt := 67) hx hb d_Mod_await_62 (by decide) (fun (c2 : ¬ z = 0) => ?_) (fun (c2 : z = 0) => ?_)
        · -- Mod_await 62 T
          have k4 := c2
          have hne := maw_ne g0 ez c2
          have hrow := row_in hg row_run hne
          refine lv_aload_n hx hb d_Mod_await_67 rfl (lv_at hl 0 rfl) ?_
          refine lv_iload_n hx hb d_Mod_await_68 rfl (lv_at hl 2 rfl) ?_
          refine mm_r C hX (c_Mod_endedChild l D a k v (mRunning v q) hg hrow) mi_Mod_52 ⟨⟨rfl, rfl⟩, Nat.le_of_ble_eq_true rfl, Nat.le_of_ble_eq_true rfl⟩ rfl rfl hl.1 (Nat.le_of_ble_eq_true rfl) d_Mod_await_69 ⟨Nat.zero_le _, Nat.zero_le _⟩ (fun H locs (hX : VX D A s.heap (mW a k v) H locs) => ?_)
          refine lv_istore (lv' := [(4, .int (mEnded v (mRunning v q))), (0, .ref (a 0)), (1, .int q), (2, .int (mRunning v q)), (3, .int z)]) hx hb d_Mod_await_72 hl (by decide) rfl (fun ls hl => ?_)
          refine lv_iload hx hb d_Mod_await_74 (lv_at hl 0 rfl) ?_
          refine lv_if_ge (tgt := 90) hx hb d_Mod_await_76 (by decide) (fun (c3 : (0 : Int32) ≤ (mEnded v (mRunning v q))) => ?_) (fun (c3 : ¬ (0 : Int32) ≤ (mEnded v (mRunning v q))) => ?_)
          · -- Mod_await 76 T
            have k5 := c3
            have hch := row_in hg row_end (nneg c3)
            have hrm := row_is (v := v) row_end (nneg c3)
            refine lv_aload_n hx hb d_Mod_await_90 rfl (lv_at hl 1 rfl) ?_
            refine mg_nu C hX d_Mod_await_91 ?_
            refine lv_iload hx hb d_Mod_await_94 (lv_at hl 0 rfl) ?_
            refine ma_nu C hX hch rfl d_Mod_await_96 ?_
            refine lv_istore (lv' := [(5, .int (mnu v (ix (mEnded v (mRunning v q))))), (4, .int (mEnded v (mRunning v q))), (0, .ref (a 0)), (1, .int q), (2, .int (mRunning v q)), (3, .int z)]) hx hb d_Mod_await_97 hl (by decide) rfl (fun ls hl => ?_)
            refine lv_aload_n hx hb d_Mod_await_99 rfl (lv_at hl 2 rfl) ?_
            refine lv_aload_n hx hb d_Mod_await_100 rfl (lv_at hl 2 rfl) ?_
            refine mg_re C hX d_Mod_await_101 ?_
            refine lv_iload hx hb d_Mod_await_104 (lv_at hl 1 rfl) ?_
            refine ma_re C hX hch rfl d_Mod_await_106 ?_
            refine mp_su C hX d_Mod_await_107 (fun H locs (hX : VX D A s.heap (mW a k (zmsu v (mre v (ix (mEnded v (mRunning v q)))))) H locs) => ?_)
            refine lv_aload_n hx hb d_Mod_await_110 rfl (lv_at hl 2 rfl) ?_
            refine lv_iload hx hb d_Mod_await_111 (lv_at hl 1 rfl) ?_
            refine mm_v C hX (c_Mod_removeI l D a k (zmsu v (mre v (ix (mEnded v (mRunning v q))))) (mEnded v (mRunning v q)) hg hrm.2 hrm.1) mi_Mod_85 ⟨⟨rfl, rfl⟩, Nat.le_of_ble_eq_true rfl, Nat.le_of_ble_eq_true rfl⟩ rfl rfl hl.1 (Nat.le_of_ble_eq_true rfl) d_Mod_await_113 ⟨Nat.zero_le _, Nat.zero_le _⟩ (fun H locs (hX : VX D A s.heap (mW a k (mRemove (zmsu v (mre v (ix (mEnded v (mRunning v q))))) (mEnded v (mRunning v q)))) H locs) => ?_)
            refine lv_iload hx hb d_Mod_await_116 (lv_at hl 0 rfl) ?_
            exact hret H locs (mnu v (ix (mEnded v (mRunning v q)))) (mRemove (zmsu v (mre v (ix (mEnded v (mRunning v q))))) (mEnded v (mRunning v q))) 118 ls (vp_nar_int _) (by first | exact absurd heq hne | (subst h15; rw [ez] at k4; rw [← mN_is hn hn15] at k4; simp only [mAwait, if_neg hne, if_neg k4, if_pos k5])) hX d_Mod_await_118
          · -- Mod_await 76 F
            have k5 := c3
            refine lv_aload_n hx hb d_Mod_await_79 rfl (lv_at hl 1 rfl) ?_
            refine lv_iload_n hx hb d_Mod_await_80 rfl (lv_at hl 3 rfl) ?_
            refine lv_iconst (v := 2) hx hb d_Mod_await_81 (by decide) ?_
            refine lv_iconst (v := 0) hx hb d_Mod_await_82 (by decide) ?_
            refine mm_w C hX (c_Mod_waitsFor l D a k v (mRunning v q) 2 0 hrow) mi_Mod_81 ⟨⟨rfl, rfl⟩, Nat.le_of_ble_eq_true rfl, Nat.le_of_ble_eq_true rfl⟩ rfl rfl hl.1 (Nat.le_of_ble_eq_true rfl) d_Mod_await_83 ⟨Nat.zero_le _, Nat.zero_le _⟩ (fun H locs (hX : VX D A s.heap (mW a k (mWaitsFor v (mRunning v q) 2 0).2) H locs) => ?_)
            refine lv_istore (lv' := [(5, .int (mWaitsFor v (mRunning v q) 2 0).1), (4, .int (mEnded v (mRunning v q))), (0, .ref (a 0)), (1, .int q), (2, .int (mRunning v q)), (3, .int z)]) hx hb d_Mod_await_86 hl (by decide) rfl (fun ls hl => ?_)
            refine lv_iconst (v := 0) hx hb d_Mod_await_88 (by decide) ?_
            exact hret H locs 0 (mWaitsFor v (mRunning v q) 2 0).2 89 ls (vp_nar_int _) (by first | exact absurd heq hne | (subst h15; rw [ez] at k4; rw [← mN_is hn hn15] at k4; simp only [mAwait, if_neg hne, if_neg k4, if_neg k5])) hX d_Mod_await_89
        · -- Mod_await 62 F
          have k4 := c2
          refine lv_iconst (v := (-1)) hx hb d_Mod_await_65 (by decide) ?_
          exact hret H locs (-1) v 66 ls (vp_nar_int _) (by subst h15; rw [ez] at k4; by_cases y : mRunning v q < 0 <;> simp only [mAwait, if_pos, if_neg, y, mN_is hn hn15, k4, ite_self, ite_true, if_true, if_false]) hX d_Mod_await_66
      · -- Mod_await 22 F
        have hlt : i < n0 := lt_N hn (by omega) c1
        refine lv_iload_n hx hb d_Mod_await_25 rfl (lv_at hl 2 rfl) ?_
        refine lv_if_lt (tgt := 61) hx hb d_Mod_await_26 (by decide) (fun (c4 : (mRunning v q) < 0) => ?_) (fun (c4 : ¬ (mRunning v q) < 0) => ?_)
        · -- Mod_await 26 T
          have heq := c4
          refine lv_iload_n hx hb d_Mod_await_61 rfl (lv_at hl 3 rfl) ?_
          refine lv_if_ne (tgt := 67) hx hb d_Mod_await_62 (by decide) (fun (c5 : ¬ z = 0) => ?_) (fun (c5 : z = 0) => ?_)
          · -- Mod_await 62 T
            have k4 := c5
            have hne := maw_ne g0 ez c5
            have hrow := row_in hg row_run hne
            refine lv_aload_n hx hb d_Mod_await_67 rfl (lv_at hl 0 rfl) ?_
            refine lv_iload_n hx hb d_Mod_await_68 rfl (lv_at hl 2 rfl) ?_
            refine mm_r C hX (c_Mod_endedChild l D a k v (mRunning v q) hg hrow) mi_Mod_52 ⟨⟨rfl, rfl⟩, Nat.le_of_ble_eq_true rfl, Nat.le_of_ble_eq_true rfl⟩ rfl rfl hl.1 (Nat.le_of_ble_eq_true rfl) d_Mod_await_69 ⟨Nat.zero_le _, Nat.zero_le _⟩ (fun H locs (hX : VX D A s.heap (mW a k v) H locs) => ?_)
            refine lv_istore (lv' := [(4, .int (mEnded v (mRunning v q))), (0, .ref (a 0)), (1, .int q), (2, .int (mRunning v q)), (3, .int z)]) hx hb d_Mod_await_72 hl (by decide) rfl (fun ls hl => ?_)
            refine lv_iload hx hb d_Mod_await_74 (lv_at hl 0 rfl) ?_
            refine lv_if_ge (tgt := 90) hx hb d_Mod_await_76 (by decide) (fun (c6 : (0 : Int32) ≤ (mEnded v (mRunning v q))) => ?_) (fun (c6 : ¬ (0 : Int32) ≤ (mEnded v (mRunning v q))) => ?_)
            · -- Mod_await 76 T
              have k5 := c6
              have hch := row_in hg row_end (nneg c6)
              have hrm := row_is (v := v) row_end (nneg c6)
              refine lv_aload_n hx hb d_Mod_await_90 rfl (lv_at hl 1 rfl) ?_
              refine mg_nu C hX d_Mod_await_91 ?_
              refine lv_iload hx hb d_Mod_await_94 (lv_at hl 0 rfl) ?_
              refine ma_nu C hX hch rfl d_Mod_await_96 ?_
              refine lv_istore (lv' := [(5, .int (mnu v (ix (mEnded v (mRunning v q))))), (4, .int (mEnded v (mRunning v q))), (0, .ref (a 0)), (1, .int q), (2, .int (mRunning v q)), (3, .int z)]) hx hb d_Mod_await_97 hl (by decide) rfl (fun ls hl => ?_)
              refine lv_aload_n hx hb d_Mod_await_99 rfl (lv_at hl 2 rfl) ?_
              refine lv_aload_n hx hb d_Mod_await_100 rfl (lv_at hl 2 rfl) ?_
              refine mg_re C hX d_Mod_await_101 ?_
              refine lv_iload hx hb d_Mod_await_104 (lv_at hl 1 rfl) ?_
              refine ma_re C hX hch rfl d_Mod_await_106 ?_
              refine mp_su C hX d_Mod_await_107 (fun H locs (hX : VX D A s.heap (mW a k (zmsu v (mre v (ix (mEnded v (mRunning v q)))))) H locs) => ?_)
              refine lv_aload_n hx hb d_Mod_await_110 rfl (lv_at hl 2 rfl) ?_
              refine lv_iload hx hb d_Mod_await_111 (lv_at hl 1 rfl) ?_
              refine mm_v C hX (c_Mod_removeI l D a k (zmsu v (mre v (ix (mEnded v (mRunning v q))))) (mEnded v (mRunning v q)) hg hrm.2 hrm.1) mi_Mod_85 ⟨⟨rfl, rfl⟩, Nat.le_of_ble_eq_true rfl, Nat.le_of_ble_eq_true rfl⟩ rfl rfl hl.1 (Nat.le_of_ble_eq_true rfl) d_Mod_await_113 ⟨Nat.zero_le _, Nat.zero_le _⟩ (fun H locs (hX : VX D A s.heap (mW a k (mRemove (zmsu v (mre v (ix (mEnded v (mRunning v q))))) (mEnded v (mRunning v q)))) H locs) => ?_)
              refine lv_iload hx hb d_Mod_await_116 (lv_at hl 0 rfl) ?_
              exact hret H locs (mnu v (ix (mEnded v (mRunning v q)))) (mRemove (zmsu v (mre v (ix (mEnded v (mRunning v q))))) (mEnded v (mRunning v q))) 118 ls (vp_nar_int _) (by first | exact absurd heq hne | (subst h15; rw [ez] at k4; rw [← mN_is hn hn15] at k4; simp only [mAwait, if_neg hne, if_neg k4, if_pos k5])) hX d_Mod_await_118
            · -- Mod_await 76 F
              have k5 := c6
              refine lv_aload_n hx hb d_Mod_await_79 rfl (lv_at hl 1 rfl) ?_
              refine lv_iload_n hx hb d_Mod_await_80 rfl (lv_at hl 3 rfl) ?_
              refine lv_iconst (v := 2) hx hb d_Mod_await_81 (by decide) ?_
              refine lv_iconst (v := 0) hx hb d_Mod_await_82 (by decide) ?_
              refine mm_w C hX (c_Mod_waitsFor l D a k v (mRunning v q) 2 0 hrow) mi_Mod_81 ⟨⟨rfl, rfl⟩, Nat.le_of_ble_eq_true rfl, Nat.le_of_ble_eq_true rfl⟩ rfl rfl hl.1 (Nat.le_of_ble_eq_true rfl) d_Mod_await_83 ⟨Nat.zero_le _, Nat.zero_le _⟩ (fun H locs (hX : VX D A s.heap (mW a k (mWaitsFor v (mRunning v q) 2 0).2) H locs) => ?_)
              refine lv_istore (lv' := [(5, .int (mWaitsFor v (mRunning v q) 2 0).1), (4, .int (mEnded v (mRunning v q))), (0, .ref (a 0)), (1, .int q), (2, .int (mRunning v q)), (3, .int z)]) hx hb d_Mod_await_86 hl (by decide) rfl (fun ls hl => ?_)
              refine lv_iconst (v := 0) hx hb d_Mod_await_88 (by decide) ?_
              exact hret H locs 0 (mWaitsFor v (mRunning v q) 2 0).2 89 ls (vp_nar_int _) (by first | exact absurd heq hne | (subst h15; rw [ez] at k4; rw [← mN_is hn hn15] at k4; simp only [mAwait, if_neg hne, if_neg k4, if_neg k5])) hX d_Mod_await_89
          · -- Mod_await 62 F
            have k4 := c5
            refine lv_iconst (v := (-1)) hx hb d_Mod_await_65 (by decide) ?_
            exact hret H locs (-1) v 66 ls (vp_nar_int _) (by simp only [mAwait, if_pos heq]) hX d_Mod_await_66
        · -- Mod_await 26 F
          have hne := c4
          have hrow := row_in hg row_run c4
          refine lv_iload_n hx hb d_Mod_await_29 rfl (lv_at hl 3 rfl) ?_
          refine lv_if_ne (tgt := 49) hx hb d_Mod_await_30 (by decide) (fun (c7 : ¬ z = 0) => ?_) (fun (c7 : z = 0) => ?_)
          · -- Mod_await 30 T
            have k1 := c7
            refine lv_iconst (v := 1) hx hb d_Mod_await_49 (by decide) ?_
            refine lv_goto (tgt := 54) hx hb d_Mod_await_50 (by decide) ?_
            refine lv_istore_n (lv' := [(3, .int 1), (0, .ref (a 0)), (1, .int q), (2, .int (mRunning v q)), (4, .int (nI i))]) hx hb d_Mod_await_54 rfl hl (by decide) rfl (fun ls hl => ?_)
            refine lv_iinc (v := (nI (i + 1))) (lv' := [(4, .int (nI (i + 1))), (3, .int 1), (0, .ref (a 0)), (1, .int q), (2, .int (mRunning v q))]) hx hb d_Mod_await_55 hl (k := 4) rfl (nI_1 i) (by decide) rfl (fun ls hl => ?_)
            refine lv_goto (tgt := 16) hx hb d_Mod_await_58 (by decide) ?_
            exact ih (i + 1) 1 H locs ls (by omega) (fun y => absurd y hne) (by rw [ez] at k1; exact any_keep k1) (by omega) hX (lv_sub hl [2, 3, 4, 1, 0] rfl)
          · -- Mod_await 30 F
            have k1 := c7
            refine lv_aload_n hx hb d_Mod_await_33 rfl (lv_at hl 0 rfl) ?_
            refine mg_pa C hX d_Mod_await_34 ?_
            refine lv_iload hx hb d_Mod_await_37 (lv_at hl 4 rfl) ?_
            refine ma_pa C hX (vp_in_nI (by omega) (by decide)) (nI_clamp (by omega)) d_Mod_await_39 ?_
            refine lv_aload_n hx hb d_Mod_await_40 rfl (lv_at hl 0 rfl) ?_
            refine mg_nu C hX d_Mod_await_41 ?_
            refine lv_iload_n hx hb d_Mod_await_44 rfl (lv_at hl 2 rfl) ?_
            refine ma_nu C hX hrow rfl d_Mod_await_45 ?_
            refine lv_icmp_ne (tgt := 53) hx hb d_Mod_await_46 (by decide) (fun (c8 : ¬ (mpa v i) = (mnu v (ix (mRunning v q)))) => ?_) (fun (c8 : (mpa v i) = (mnu v (ix (mRunning v q)))) => ?_)
            · -- Mod_await 46 T
              have k2 := c8
              refine lv_iconst (v := 0) hx hb d_Mod_await_53 (by decide) ?_
              refine lv_istore_n (lv' := [(3, .int 0), (0, .ref (a 0)), (1, .int q), (2, .int (mRunning v q)), (4, .int (nI i))]) hx hb d_Mod_await_54 rfl hl (by decide) rfl (fun ls hl => ?_)
              refine lv_iinc (v := (nI (i + 1))) (lv' := [(4, .int (nI (i + 1))), (3, .int 0), (0, .ref (a 0)), (1, .int q), (2, .int (mRunning v q))]) hx hb d_Mod_await_55 hl (k := 4) rfl (nI_1 i) (by decide) rfl (fun ls hl => ?_)
              refine lv_goto (tgt := 16) hx hb d_Mod_await_58 (by decide) ?_
              exact ih (i + 1) 0 H locs ls (by omega) (fun y => absurd y hne) (by rw [← k1, ez]; exact any_no' k2) (by omega) hX (lv_sub hl [2, 3, 4, 1, 0] rfl)
            · -- Mod_await 46 F
              have k2 := c8
              refine lv_iconst (v := 1) hx hb d_Mod_await_49 (by decide) ?_
              refine lv_goto (tgt := 54) hx hb d_Mod_await_50 (by decide) ?_
              refine lv_istore_n (lv' := [(3, .int 1), (0, .ref (a 0)), (1, .int q), (2, .int (mRunning v q)), (4, .int (nI i))]) hx hb d_Mod_await_54 rfl hl (by decide) rfl (fun ls hl => ?_)
              refine lv_iinc (v := (nI (i + 1))) (lv' := [(4, .int (nI (i + 1))), (3, .int 1), (0, .ref (a 0)), (1, .int q), (2, .int (mRunning v q))]) hx hb d_Mod_await_55 hl (k := 4) rfl (nI_1 i) (by decide) rfl (fun ls hl => ?_)
              refine lv_goto (tgt := 16) hx hb d_Mod_await_58 (by decide) ?_
              exact ih (i + 1) 1 H locs ls (by omega) (fun y => absurd y hne) (any_one k2) (by omega) hX (lv_sub hl [2, 3, 4, 1, 0] rfl)
  refine lv_aload_n hx hb d_Mod_await_0 rfl (lv_at hl 0 rfl) ?_
  refine lv_iconst (v := 0) hx hb d_Mod_await_1 (by decide) ?_
  refine mp_th0 hg.1 C hX d_Mod_await_2 (fun H locs (hX : VX D A s.heap (mW a k v) H locs) => ?_)
  refine lv_aload_n hx hb d_Mod_await_5 rfl (lv_at hl 0 rfl) ?_
  refine lv_iload_n hx hb d_Mod_await_6 rfl (lv_at hl 1 rfl) ?_
  refine mm_r C hX (c_Mod_running l D a k v q hg) mi_Mod_68 ⟨⟨rfl, rfl⟩, Nat.le_of_ble_eq_true rfl, Nat.le_of_ble_eq_true rfl⟩ rfl rfl hl.1 (Nat.le_of_ble_eq_true rfl) d_Mod_await_7 ⟨Nat.zero_le _, Nat.zero_le _⟩ (fun H locs (hX : VX D A s.heap (mW a k v) H locs) => ?_)
  refine lv_istore_n (lv' := [(2, .int (mRunning v q)), (0, .ref (a 0)), (1, .int q)]) hx hb d_Mod_await_10 rfl hl (by decide) rfl (fun ls hl => ?_)
  refine lv_iconst (v := 0) hx hb d_Mod_await_11 (by decide) ?_
  refine lv_istore_n (lv' := [(3, .int 0), (2, .int (mRunning v q)), (0, .ref (a 0)), (1, .int q)]) hx hb d_Mod_await_12 rfl hl (by decide) rfl (fun ls hl => ?_)
  refine lv_iconst (v := 0) hx hb d_Mod_await_13 (by decide) ?_
  refine lv_istore (lv' := [(4, .int 0), (3, .int 0), (2, .int (mRunning v q)), (0, .ref (a 0)), (1, .int q)]) hx hb d_Mod_await_14 hl (by decide) rfl (fun ls hl => ?_)
  exact L16 _ 0 0 H locs ls (by omega) (fun _ => rfl) (rfl) (Nat.lt_succ_self _) hX (lv_sub hl [3, 4, 2, 1, 0] rfl)
end
section
abbrev rm_Mod_status : Room := { frames := 0, cells := 0, slots := 0, locals := 0 }
set_option maxHeartbeats 4000000 in
set_option maxRecDepth 100000 in
theorem c_Mod_status (l : Launch) (D : va_G) (a k : Nat → Nat) (v : MS) (hg : Mok v) : MCi l y_Mod_status b_Mod_status 1 .int rm_Mod_status [.ref (a 0)] D (mT k) false (mW a k) v (fun r u => u = v ∧ r = (msu v)) := by
  refine MCi.of R_Mod rfl (by decide +kernel) (Nat.le_of_ble_eq_true rfl) ?_
  intro p e s m args below meth c A Q ls H locs C hX hl hret
  have hx := C.1.1
  have hb := C.1.2.1
  have hl : lv_has ls 1 [(0, .ref (a 0))] := hl
  refine lv_aload_n hx hb d_Mod_status_0 rfl (lv_at hl 0 rfl) ?_
  refine lv_iconst (v := 0) hx hb d_Mod_status_1 (by decide) ?_
  refine mp_th0 hg.1 C hX d_Mod_status_2 (fun H locs (hX : VX D A s.heap (mW a k v) H locs) => ?_)
  refine lv_aload_n hx hb d_Mod_status_5 rfl (lv_at hl 0 rfl) ?_
  refine mg_su C hX d_Mod_status_6 ?_
  exact hret H locs (msu v) v 9 ls (vp_nar_int _) (⟨rfl, rfl⟩) hX d_Mod_status_9
abbrev rm_Mod_block : Room := { frames := 1, cells := 0, slots := 0, locals := 23 }
set_option maxHeartbeats 4000000 in
set_option maxRecDepth 100000 in
theorem c_Mod_block (l : Launch) (D : va_G) (a k : Nat → Nat) (v : MS) (q : Int32) (ch : Int32) (hg : Mok v) : MCi l y_Mod_block b_Mod_block 4 .int rm_Mod_block [.ref (a 0), .int q, .int ch] D (mT k) false (mW a k) v (fun r u => (r, u) = (mBlock v q ch)) := by
  refine MCi.of R_Mod rfl (by decide +kernel) (Nat.le_of_ble_eq_true rfl) ?_
  intro p e s m args below meth c A Q ls H locs C hX hl hret
  have hx := C.1.1
  have hb := C.1.2.1
  have hl : lv_has ls 4 [(0, .ref (a 0)), (1, .int q), (2, .int ch)] := hl
  refine lv_aload_n hx hb d_Mod_block_0 rfl (lv_at hl 0 rfl) ?_
  refine lv_iconst (v := 0) hx hb d_Mod_block_1 (by decide) ?_
  refine mp_th0 hg.1 C hX d_Mod_block_2 (fun H locs (hX : VX D A s.heap (mW a k v) H locs) => ?_)
  refine lv_aload_n hx hb d_Mod_block_5 rfl (lv_at hl 0 rfl) ?_
  refine lv_iload_n hx hb d_Mod_block_6 rfl (lv_at hl 1 rfl) ?_
  refine mm_r C hX (c_Mod_running l D a k v q hg) mi_Mod_68 ⟨⟨rfl, rfl⟩, Nat.le_of_ble_eq_true rfl, Nat.le_of_ble_eq_true rfl⟩ rfl rfl hl.1 (Nat.le_of_ble_eq_true rfl) d_Mod_block_7 ⟨Nat.zero_le _, Nat.zero_le _⟩ (fun H locs (hX : VX D A s.heap (mW a k v) H locs) => ?_)
  refine lv_istore_n (lv' := [(3, .int (mRunning v q)), (0, .ref (a 0)), (1, .int q), (2, .int ch)]) hx hb d_Mod_block_10 rfl hl (by decide) rfl (fun ls hl => ?_)
  refine lv_iload_n hx hb d_Mod_block_11 rfl (lv_at hl 0 rfl) ?_
  refine lv_if_ge (tgt := 19) hx hb d_Mod_block_12 (by decide) (fun (c1 : (0 : Int32) ≤ (mRunning v q)) => ?_) (fun (c1 : ¬ (0 : Int32) ≤ (mRunning v q)) => ?_)
  · -- Mod_block 12 T
    have hrow := row_in hg row_run (nneg c1)
    refine lv_aload_n hx hb d_Mod_block_19 rfl (lv_at hl 1 rfl) ?_
    refine lv_iload_n hx hb d_Mod_block_20 rfl (lv_at hl 0 rfl) ?_
    refine lv_iconst (v := 1) hx hb d_Mod_block_21 (by decide) ?_
    refine lv_iload_n hx hb d_Mod_block_22 rfl (lv_at hl 3 rfl) ?_
    refine mm_w C hX (c_Mod_waitsFor l D a k v (mRunning v q) 1 ch hrow) mi_Mod_81 ⟨⟨rfl, rfl⟩, Nat.le_of_ble_eq_true rfl, Nat.le_of_ble_eq_true rfl⟩ rfl rfl hl.1 (Nat.le_of_ble_eq_true rfl) d_Mod_block_23 ⟨Nat.zero_le _, Nat.zero_le _⟩ (fun H locs (hX : VX D A s.heap (mW a k (mWaitsFor v (mRunning v q) 1 ch).2) H locs) => ?_)
    exact hret H locs (mWaitsFor v (mRunning v q) 1 ch).1 (mWaitsFor v (mRunning v q) 1 ch).2 26 ls (vp_nar_int _) (by simp only [mBlock, if_pos c1]) hX d_Mod_block_26
  · -- Mod_block 12 F
    refine lv_iconst (v := (-1)) hx hb d_Mod_block_15 (by decide) ?_
    refine lv_goto (tgt := 26) hx hb d_Mod_block_16 (by decide) ?_
    exact hret H locs (-1) v 26 ls (vp_nar_int _) (by simp only [mBlock, if_neg c1]) hX d_Mod_block_26
abbrev rm_Mod_rest : Room := { frames := 1, cells := 0, slots := 0, locals := 23 }
set_option maxHeartbeats 4000000 in
set_option maxRecDepth 100000 in
theorem c_Mod_rest (l : Launch) (D : va_G) (a k : Nat → Nat) (v : MS) (q : Int32) (hg : Mok v) : MCi l y_Mod_rest b_Mod_rest 3 .int rm_Mod_rest [.ref (a 0), .int q] D (mT k) false (mW a k) v (fun r u => (r, u) = (mRest v q)) := by
  refine MCi.of R_Mod rfl (by decide +kernel) (Nat.le_of_ble_eq_true rfl) ?_
  intro p e s m args below meth c A Q ls H locs C hX hl hret
  have hx := C.1.1
  have hb := C.1.2.1
  have hl : lv_has ls 3 [(0, .ref (a 0)), (1, .int q)] := hl
  refine lv_aload_n hx hb d_Mod_rest_0 rfl (lv_at hl 0 rfl) ?_
  refine lv_iconst (v := 0) hx hb d_Mod_rest_1 (by decide) ?_
  refine mp_th0 hg.1 C hX d_Mod_rest_2 (fun H locs (hX : VX D A s.heap (mW a k v) H locs) => ?_)
  refine lv_aload_n hx hb d_Mod_rest_5 rfl (lv_at hl 0 rfl) ?_
  refine lv_iload_n hx hb d_Mod_rest_6 rfl (lv_at hl 1 rfl) ?_
  refine mm_r C hX (c_Mod_running l D a k v q hg) mi_Mod_68 ⟨⟨rfl, rfl⟩, Nat.le_of_ble_eq_true rfl, Nat.le_of_ble_eq_true rfl⟩ rfl rfl hl.1 (Nat.le_of_ble_eq_true rfl) d_Mod_rest_7 ⟨Nat.zero_le _, Nat.zero_le _⟩ (fun H locs (hX : VX D A s.heap (mW a k v) H locs) => ?_)
  refine lv_istore_n (lv' := [(2, .int (mRunning v q)), (0, .ref (a 0)), (1, .int q)]) hx hb d_Mod_rest_10 rfl hl (by decide) rfl (fun ls hl => ?_)
  refine lv_iload_n hx hb d_Mod_rest_11 rfl (lv_at hl 0 rfl) ?_
  refine lv_if_ge (tgt := 19) hx hb d_Mod_rest_12 (by decide) (fun (c1 : (0 : Int32) ≤ (mRunning v q)) => ?_) (fun (c1 : ¬ (0 : Int32) ≤ (mRunning v q)) => ?_)
  · -- Mod_rest 12 T
    have hrow := row_in hg row_run (nneg c1)
    refine lv_aload_n hx hb d_Mod_rest_19 rfl (lv_at hl 1 rfl) ?_
    refine lv_iload_n hx hb d_Mod_rest_20 rfl (lv_at hl 0 rfl) ?_
    refine lv_iconst (v := 0) hx hb d_Mod_rest_21 (by decide) ?_
    refine lv_iconst (v := 0) hx hb d_Mod_rest_22 (by decide) ?_
    refine mm_w C hX (c_Mod_waitsFor l D a k v (mRunning v q) 0 0 hrow) mi_Mod_81 ⟨⟨rfl, rfl⟩, Nat.le_of_ble_eq_true rfl, Nat.le_of_ble_eq_true rfl⟩ rfl rfl hl.1 (Nat.le_of_ble_eq_true rfl) d_Mod_rest_23 ⟨Nat.zero_le _, Nat.zero_le _⟩ (fun H locs (hX : VX D A s.heap (mW a k (mWaitsFor v (mRunning v q) 0 0).2) H locs) => ?_)
    exact hret H locs (mWaitsFor v (mRunning v q) 0 0).1 (mWaitsFor v (mRunning v q) 0 0).2 26 ls (vp_nar_int _) (by simp only [mRest, if_pos c1]) hX d_Mod_rest_26
  · -- Mod_rest 12 F
    refine lv_iconst (v := (-1)) hx hb d_Mod_rest_15 (by decide) ?_
    refine lv_goto (tgt := 26) hx hb d_Mod_rest_16 (by decide) ?_
    exact hret H locs (-1) v 26 ls (vp_nar_int _) (by simp only [mRest, if_neg c1]) hX d_Mod_rest_26
abbrev rm_Mod_sleep : Room := { frames := 1, cells := 0, slots := 0, locals := 23 }
set_option maxHeartbeats 4000000 in
set_option maxRecDepth 100000 in
theorem c_Mod_sleep (l : Launch) (D : va_G) (a k : Nat → Nat) (v : MS) (q : Int32) (n : Int32) (hg : Mok v) : MCi l y_Mod_sleep b_Mod_sleep 4 .int rm_Mod_sleep [.ref (a 0), .int q, .int n] D (mT k) false (mW a k) v (fun r u => (r, u) = (mSleep v q n)) := by
  refine MCi.of R_Mod rfl (by decide +kernel) (Nat.le_of_ble_eq_true rfl) ?_
  intro p e s m args below meth c A Q ls H locs C hX hl hret
  have hx := C.1.1
  have hb := C.1.2.1
  have hown := C.1.2.2.2.1
  have hts := C.1.2.2.2.2
  have hl : lv_has ls 4 [(0, .ref (a 0)), (1, .int q), (2, .int n)] := hl
  refine lv_aload_n hx hb d_Mod_sleep_0 rfl (lv_at hl 0 rfl) ?_
  refine lv_iconst (v := 0) hx hb d_Mod_sleep_1 (by decide) ?_
  refine mp_th0 hg.1 C hX d_Mod_sleep_2 (fun H locs (hX : VX D A s.heap (mW a k v) H locs) => ?_)
  refine lv_aload_n hx hb d_Mod_sleep_5 rfl (lv_at hl 0 rfl) ?_
  refine lv_iload_n hx hb d_Mod_sleep_6 rfl (lv_at hl 1 rfl) ?_
  refine mm_r C hX (c_Mod_running l D a k v q hg) mi_Mod_68 ⟨⟨rfl, rfl⟩, Nat.le_of_ble_eq_true rfl, Nat.le_of_ble_eq_true rfl⟩ rfl rfl hl.1 (Nat.le_of_ble_eq_true rfl) d_Mod_sleep_7 ⟨Nat.zero_le _, Nat.zero_le _⟩ (fun H locs (hX : VX D A s.heap (mW a k v) H locs) => ?_)
  refine lv_istore_n (lv' := [(3, .int (mRunning v q)), (0, .ref (a 0)), (1, .int q), (2, .int n)]) hx hb d_Mod_sleep_10 rfl hl (by decide) rfl (fun ls hl => ?_)
  refine lv_iload_n hx hb d_Mod_sleep_11 rfl (lv_at hl 0 rfl) ?_
  refine lv_if_ge (tgt := 19) hx hb d_Mod_sleep_12 (by decide) (fun (c1 : (0 : Int32) ≤ (mRunning v q)) => ?_) (fun (c1 : ¬ (0 : Int32) ≤ (mRunning v q)) => ?_)
  · -- Mod_sleep 12 T
    have hrow := row_in hg row_run (nneg c1)
    refine lv_iload_n hx hb d_Mod_sleep_19 rfl (lv_at hl 3 rfl) ?_
    refine lv_iconst (v := 1) hx hb d_Mod_sleep_20 (by decide) ?_
    refine lv_icmp_ge (tgt := 33) hx hb d_Mod_sleep_21 (by decide) (fun (c2 : (1 : Int32) ≤ n) => ?_) (fun (c2 : ¬ (1 : Int32) ≤ n) => ?_)
    · -- Mod_sleep 21 T
      refine lv_aload_n hx hb d_Mod_sleep_33 rfl (lv_at hl 1 rfl) ?_
      refine lv_iload_n hx hb d_Mod_sleep_34 rfl (lv_at hl 0 rfl) ?_
      refine lv_iconst (v := 3) hx hb d_Mod_sleep_35 (by decide) ?_
      refine lv_aload_n hx hb d_Mod_sleep_36 rfl (lv_at hl 1 rfl) ?_
      refine mg_ti C hX d_Mod_sleep_37 ?_
      refine lv_ldc (v := 2147483647) hx hb hown (hts _ k_kc_Mod_89) d_Mod_sleep_40 ?_
      refine lv_iload_n hx hb d_Mod_sleep_42 rfl (lv_at hl 3 rfl) ?_
      refine lv_isub hx hb d_Mod_sleep_43 ?_
      refine lv_icmp_le (tgt := 52) hx hb d_Mod_sleep_44 (by decide) (fun (c3 : (mti v) ≤ (2147483647 - n)) => ?_) (fun (c3 : ¬ (mti v) ≤ (2147483647 - n)) => ?_)
      · -- Mod_sleep 44 T
        refine lv_aload_n hx hb d_Mod_sleep_52 rfl (lv_at hl 1 rfl) ?_
        refine mg_ti C hX d_Mod_sleep_53 ?_
        refine lv_iload_n hx hb d_Mod_sleep_56 rfl (lv_at hl 3 rfl) ?_
        refine lv_iadd hx hb d_Mod_sleep_57 ?_
        refine mm_w C hX (c_Mod_waitsFor l D a k v (mRunning v q) 3 ((mti v) + n) hrow) mi_Mod_81 ⟨⟨rfl, rfl⟩, Nat.le_of_ble_eq_true rfl, Nat.le_of_ble_eq_true rfl⟩ rfl rfl hl.1 (Nat.le_of_ble_eq_true rfl) d_Mod_sleep_58 ⟨Nat.zero_le _, Nat.zero_le _⟩ (fun H locs (hX : VX D A s.heap (mW a k (mWaitsFor v (mRunning v q) 3 ((mti v) + n)).2) H locs) => ?_)
        exact hret H locs (mWaitsFor v (mRunning v q) 3 ((mti v) + n)).1 (mWaitsFor v (mRunning v q) 3 ((mti v) + n)).2 61 ls (vp_nar_int _) (by simp only [mSleep, mUntil, if_pos c1, if_pos c2, if_pos c3]) hX d_Mod_sleep_61
      · -- Mod_sleep 44 F
        refine lv_ldc (v := 2147483647) hx hb hown (hts _ k_kc_Mod_89) d_Mod_sleep_47 ?_
        refine lv_goto (tgt := 58) hx hb d_Mod_sleep_49 (by decide) ?_
        refine mm_w C hX (c_Mod_waitsFor l D a k v (mRunning v q) 3 2147483647 hrow) mi_Mod_81 ⟨⟨rfl, rfl⟩, Nat.le_of_ble_eq_true rfl, Nat.le_of_ble_eq_true rfl⟩ rfl rfl hl.1 (Nat.le_of_ble_eq_true rfl) d_Mod_sleep_58 ⟨Nat.zero_le _, Nat.zero_le _⟩ (fun H locs (hX : VX D A s.heap (mW a k (mWaitsFor v (mRunning v q) 3 2147483647).2) H locs) => ?_)
        exact hret H locs (mWaitsFor v (mRunning v q) 3 2147483647).1 (mWaitsFor v (mRunning v q) 3 2147483647).2 61 ls (vp_nar_int _) (by simp only [mSleep, mUntil, if_pos c1, if_pos c2, if_neg c3]) hX d_Mod_sleep_61
    · -- Mod_sleep 21 F
      refine lv_aload_n hx hb d_Mod_sleep_24 rfl (lv_at hl 1 rfl) ?_
      refine mg_pl C hX d_Mod_sleep_25 ?_
      refine lv_iload_n hx hb d_Mod_sleep_28 rfl (lv_at hl 0 rfl) ?_
      refine ma_pl C hX hrow rfl d_Mod_sleep_29 ?_
      refine lv_goto (tgt := 61) hx hb d_Mod_sleep_30 (by decide) ?_
      exact hret H locs (mpl v (ix (mRunning v q))) v 61 ls (vp_nar_int _) (by simp only [mSleep, mUntil, if_pos c1, if_neg c2]) hX d_Mod_sleep_61
  · -- Mod_sleep 12 F
    refine lv_iconst (v := (-1)) hx hb d_Mod_sleep_15 (by decide) ?_
    refine lv_goto (tgt := 61) hx hb d_Mod_sleep_16 (by decide) ?_
    exact hret H locs (-1) v 61 ls (vp_nar_int _) (by simp only [mSleep, mUntil, if_neg c1]) hX d_Mod_sleep_61
abbrev rm_Mod_wake : Room := { frames := 0, cells := 0, slots := 0, locals := 0 }
set_option maxHeartbeats 4000000 in
set_option maxRecDepth 100000 in
theorem c_Mod_wake (l : Launch) (D : va_G) (a k : Nat → Nat) (v : MS) (ch : Int32) (hg : Mok v) : MCi l y_Mod_wake b_Mod_wake 4 .int rm_Mod_wake [.ref (a 0), .int ch] D (mT k) false (mW a k) v (fun r u => (r, u) = (mWake v ch)) := by
  obtain ⟨hth, ⟨n0, hn15, hn⟩, htk, hbo⟩ := id hg
  refine MCi.of R_Mod rfl (by decide +kernel) (Nat.le_of_ble_eq_true rfl) ?_
  intro p e s m args below meth c A Q ls H locs C hX hl hret
  have hx := C.1.1
  have hb := C.1.2.1
  have hl : lv_has ls 4 [(0, .ref (a 0)), (1, .int ch)] := hl
  have L9 : ∀ (n : Nat) (i : Nat) (x2 : Int32) (w : MS) (H : Heap) (locs : List Loc) (ls : Array Slot), (i ≤ n0) → (x2 = cnt (mIs v ch) i) → (w = zmwa v (mwS v ch i)) → n0 - i < n → VX D A s.heap (mW a k w) H locs → lv_has ls 4 [(0, .ref (a 0)), (1, .int ch), (2, .int x2), (3, .int (nI i))] → W p l e rm_Mod_wake s m args below meth c H locs 0 0 Q (F0 m 9 ls []) := by
    intro n
    induction n with
    | zero => intro i x2 w H locs ls hi e2 ew hm; exact absurd hm (Nat.not_lt_zero _)
    | succ n ih =>
      intro i x2 w H locs ls hi e2 ew hm hX hl
      refine lv_iload_n hx hb d_Mod_wake_9 rfl (lv_at hl 3 rfl) ?_
      refine lv_aload_n hx hb d_Mod_wake_10 rfl (lv_at hl 0 rfl) ?_
      refine mg_ma C hX d_Mod_wake_11 ?_
      refine lv_icmp_ge (tgt := 71) hx hb d_Mod_wake_14 (by decide) (fun (c1 : (mma w) ≤ (nI i)) => ?_) (fun (c1 : ¬ (mma w) ≤ (nI i)) => ?_)
      · -- Mod_wake 14 T
        have h15 : i = n0 := ge_N (by rw [ew]; exact hn) hi (by omega) c1
        refine lv_iload_n hx hb d_Mod_wake_71 rfl (lv_at hl 2 rfl) ?_
        exact hret H locs x2 w 72 ls (vp_nar_int _) (by rw [mWake, mN_is hn hn15, ← h15, e2, ew]) hX d_Mod_wake_72
      · -- Mod_wake 14 F
        have hlt : i < n0 := lt_N (by rw [ew]; exact hn) (by omega) c1
        refine lv_aload_n hx hb d_Mod_wake_17 rfl (lv_at hl 0 rfl) ?_
        refine mg_en C hX d_Mod_wake_18 ?_
        refine lv_iload_n hx hb d_Mod_wake_21 rfl (lv_at hl 3 rfl) ?_
        refine ma_en C hX (vp_in_nI (by omega) (by decide)) (nI_clamp (by omega)) d_Mod_wake_22 ?_
        refine lv_if_ne (tgt := 65) hx hb d_Mod_wake_23 (by decide) (fun (c2 : ¬ (men w i) = 0) => ?_) (fun (c2 : (men w i) = 0) => ?_)
        · -- Mod_wake 23 T
          refine lv_iinc (v := (nI (i + 1))) (lv' := [(3, .int (nI (i + 1))), (0, .ref (a 0)), (1, .int ch), (2, .int x2)]) hx hb d_Mod_wake_65 hl (k := 3) rfl (nI_1 i) (by decide) rfl (fun ls hl => ?_)
          refine lv_goto (tgt := 9) hx hb d_Mod_wake_68 (by decide) ?_
          exact ih (i + 1) x2 w H locs ls (by omega) (by rw [e2]; first | exact cnt_yes ((mw_iff ew).mp (by simp [mIs, c1, c2])) | exact cnt_no (fun z => absurd ((mw_iff ew).mpr z) (by simp [mIs, c1, c2]))) (by first | exact mw_yes ew (by simp [mIs, c1, c2]) | exact mw_no ew (by simp [mIs, c1, c2])) (by omega) hX (lv_sub hl [1, 2, 3, 0] rfl)
        · -- Mod_wake 23 F
          refine lv_aload_n hx hb d_Mod_wake_26 rfl (lv_at hl 0 rfl) ?_
          refine mg_on C hX d_Mod_wake_27 ?_
          refine lv_iload_n hx hb d_Mod_wake_30 rfl (lv_at hl 3 rfl) ?_
          refine ma_on C hX (vp_in_nI (by omega) (by decide)) (nI_clamp (by omega)) d_Mod_wake_31 ?_
          refine lv_if_ge (tgt := 65) hx hb d_Mod_wake_32 (by decide) (fun (c3 : (0 : Int32) ≤ (mon w i)) => ?_) (fun (c3 : ¬ (0 : Int32) ≤ (mon w i)) => ?_)
          · -- Mod_wake 32 T
            refine lv_iinc (v := (nI (i + 1))) (lv' := [(3, .int (nI (i + 1))), (0, .ref (a 0)), (1, .int ch), (2, .int x2)]) hx hb d_Mod_wake_65 hl (k := 3) rfl (nI_1 i) (by decide) rfl (fun ls hl => ?_)
            refine lv_goto (tgt := 9) hx hb d_Mod_wake_68 (by decide) ?_
            exact ih (i + 1) x2 w H locs ls (by omega) (by rw [e2]; first | exact cnt_yes ((mw_iff ew).mp (by simp [mIs, c1, c2, c3])) | exact cnt_no (fun z => absurd ((mw_iff ew).mpr z) (by simp [mIs, c1, c2, c3]))) (by first | exact mw_yes ew (by simp [mIs, c1, c2, c3]) | exact mw_no ew (by simp [mIs, c1, c2, c3])) (by omega) hX (lv_sub hl [1, 2, 3, 0] rfl)
          · -- Mod_wake 32 F
            refine lv_aload_n hx hb d_Mod_wake_35 rfl (lv_at hl 0 rfl) ?_
            refine mg_wa C hX d_Mod_wake_36 ?_
            refine lv_iload_n hx hb d_Mod_wake_39 rfl (lv_at hl 3 rfl) ?_
            refine ma_wa C hX (vp_in_nI (by omega) (by decide)) (nI_clamp (by omega)) d_Mod_wake_40 ?_
            refine lv_iconst (v := 1) hx hb d_Mod_wake_41 (by decide) ?_
            refine lv_icmp_ne (tgt := 65) hx hb d_Mod_wake_42 (by decide) (fun (c4 : ¬ (mwa w i) = 1) => ?_) (fun (c4 : (mwa w i) = 1) => ?_)
            · -- Mod_wake 42 T
              refine lv_iinc (v := (nI (i + 1))) (lv' := [(3, .int (nI (i + 1))), (0, .ref (a 0)), (1, .int ch), (2, .int x2)]) hx hb d_Mod_wake_65 hl (k := 3) rfl (nI_1 i) (by decide) rfl (fun ls hl => ?_)
              refine lv_goto (tgt := 9) hx hb d_Mod_wake_68 (by decide) ?_
              exact ih (i + 1) x2 w H locs ls (by omega) (by rw [e2]; first | exact cnt_yes ((mw_iff ew).mp (by simp [mIs, c1, c2, c3, c4])) | exact cnt_no (fun z => absurd ((mw_iff ew).mpr z) (by simp [mIs, c1, c2, c3, c4]))) (by first | exact mw_yes ew (by simp [mIs, c1, c2, c3, c4]) | exact mw_no ew (by simp [mIs, c1, c2, c3, c4])) (by omega) hX (lv_sub hl [1, 2, 3, 0] rfl)
            · -- Mod_wake 42 F
              refine lv_aload_n hx hb d_Mod_wake_45 rfl (lv_at hl 0 rfl) ?_
              refine mg_wh C hX d_Mod_wake_46 ?_
              refine lv_iload_n hx hb d_Mod_wake_49 rfl (lv_at hl 3 rfl) ?_
              refine ma_wh C hX (vp_in_nI (by omega) (by decide)) (nI_clamp (by omega)) d_Mod_wake_50 ?_
              refine lv_iload_n hx hb d_Mod_wake_51 rfl (lv_at hl 1 rfl) ?_
              refine lv_icmp_ne (tgt := 65) hx hb d_Mod_wake_52 (by decide) (fun (c5 : ¬ (mwh w i) = ch) => ?_) (fun (c5 : (mwh w i) = ch) => ?_)
              · -- Mod_wake 52 T
                refine lv_iinc (v := (nI (i + 1))) (lv' := [(3, .int (nI (i + 1))), (0, .ref (a 0)), (1, .int ch), (2, .int x2)]) hx hb d_Mod_wake_65 hl (k := 3) rfl (nI_1 i) (by decide) rfl (fun ls hl => ?_)
                refine lv_goto (tgt := 9) hx hb d_Mod_wake_68 (by decide) ?_
                exact ih (i + 1) x2 w H locs ls (by omega) (by rw [e2]; first | exact cnt_yes ((mw_iff ew).mp (by simp [mIs, c1, c2, c3, c4, c5])) | exact cnt_no (fun z => absurd ((mw_iff ew).mpr z) (by simp [mIs, c1, c2, c3, c4, c5]))) (by first | exact mw_yes ew (by simp [mIs, c1, c2, c3, c4, c5]) | exact mw_no ew (by simp [mIs, c1, c2, c3, c4, c5])) (by omega) hX (lv_sub hl [1, 2, 3, 0] rfl)
              · -- Mod_wake 52 F
                refine lv_aload_n hx hb d_Mod_wake_55 rfl (lv_at hl 0 rfl) ?_
                refine mg_wa C hX d_Mod_wake_56 ?_
                refine lv_iload_n hx hb d_Mod_wake_59 rfl (lv_at hl 3 rfl) ?_
                refine lv_iconst (v := 0) hx hb d_Mod_wake_60 (by decide) ?_
                refine ms_wa C hX (vp_in_nI (by omega) (by decide)) (nI_clamp (by omega)) d_Mod_wake_61 (fun H locs (hX : VX D A s.heap (mW a k (zmwa w (upd (mwa w) i 0))) H locs) => ?_)
                refine lv_iinc (v := (x2 + 1)) (lv' := [(2, .int (x2 + 1)), (0, .ref (a 0)), (1, .int ch), (3, .int (nI i))]) hx hb d_Mod_wake_62 hl (k := 2) rfl rfl (by decide) rfl (fun ls hl => ?_)
                refine lv_iinc (v := (nI (i + 1))) (lv' := [(3, .int (nI (i + 1))), (2, .int (x2 + 1)), (0, .ref (a 0)), (1, .int ch)]) hx hb d_Mod_wake_65 hl (k := 3) rfl (nI_1 i) (by decide) rfl (fun ls hl => ?_)
                refine lv_goto (tgt := 9) hx hb d_Mod_wake_68 (by decide) ?_
                exact ih (i + 1) (x2 + 1) (zmwa w (upd (mwa w) i 0)) H locs ls (by omega) (by rw [e2]; first | exact cnt_yes ((mw_iff ew).mp (by simp [mIs, c1, c2, c3, c4, c5])) | exact cnt_no (fun z => absurd ((mw_iff ew).mpr z) (by simp [mIs, c1, c2, c3, c4, c5]))) (by first | exact mw_yes ew (by simp [mIs, c1, c2, c3, c4, c5]) | exact mw_no ew (by simp [mIs, c1, c2, c3, c4, c5])) (by omega) hX (lv_sub hl [2, 3, 1, 0] rfl)
  refine lv_aload_n hx hb d_Mod_wake_0 rfl (lv_at hl 0 rfl) ?_
  refine lv_iconst (v := 0) hx hb d_Mod_wake_1 (by decide) ?_
  refine mp_th0 hg.1 C hX d_Mod_wake_2 (fun H locs (hX : VX D A s.heap (mW a k v) H locs) => ?_)
  refine lv_iconst (v := 0) hx hb d_Mod_wake_5 (by decide) ?_
  refine lv_istore_n (lv' := [(2, .int 0), (0, .ref (a 0)), (1, .int ch)]) hx hb d_Mod_wake_6 rfl hl (by decide) rfl (fun ls hl => ?_)
  refine lv_iconst (v := 0) hx hb d_Mod_wake_7 (by decide) ?_
  refine lv_istore_n (lv' := [(3, .int 0), (2, .int 0), (0, .ref (a 0)), (1, .int ch)]) hx hb d_Mod_wake_8 rfl hl (by decide) rfl (fun ls hl => ?_)
  exact L9 _ 0 0 v H locs ls (by omega) (rfl) (mw_0) (Nat.lt_succ_self _) hX (lv_sub hl [2, 3, 1, 0] rfl)
abbrev rm_Mod_tick : Room := { frames := 0, cells := 0, slots := 0, locals := 0 }
set_option maxHeartbeats 4000000 in
set_option maxRecDepth 100000 in
theorem c_Mod_tick (l : Launch) (D : va_G) (a k : Nat → Nat) (v : MS) (hg : Mok v) : MCi l y_Mod_tick b_Mod_tick 2 .int rm_Mod_tick [.ref (a 0)] D (mT k) false (mW a k) v (fun r u => (r, u) = (mTick v)) := by
  obtain ⟨hth, ⟨n0, hn15, hn⟩, htk, hbo⟩ := id hg
  refine MCi.of R_Mod rfl (by decide +kernel) (Nat.le_of_ble_eq_true rfl) ?_
  intro p e s m args below meth c A Q ls H locs C hX hl hret
  have hx := C.1.1
  have hb := C.1.2.1
  have hl : lv_has ls 2 [(0, .ref (a 0))] := hl
  have L26 : ∀ (n : Nat) (i : Nat) (w : MS) (H : Heap) (locs : List Loc) (ls : Array Slot), (i ≤ n0) → (¬ mma v = 0) → (w = zmon (zmti v (mti v + 1)) (moF v i)) → n0 - i < n → VX D A s.heap (mW a k w) H locs → lv_has ls 2 [(0, .ref (a 0)), (1, .int (nI i))] → W p l e rm_Mod_tick s m args below meth c H locs 0 0 Q (F0 m 26 ls []) := by
    intro n
    induction n with
    | zero => intro i w H locs ls hi d0 ew hm; exact absurd hm (Nat.not_lt_zero _)
    | succ n ih =>
      intro i w H locs ls hi d0 ew hm hX hl
      refine lv_iload_n hx hb d_Mod_tick_26 rfl (lv_at hl 1 rfl) ?_
      refine lv_aload_n hx hb d_Mod_tick_27 rfl (lv_at hl 0 rfl) ?_
      refine mg_ma C hX d_Mod_tick_28 ?_
      refine lv_icmp_ge (tgt := 47) hx hb d_Mod_tick_31 (by decide) (fun (c1 : (mma w) ≤ (nI i)) => ?_) (fun (c1 : ¬ (mma w) ≤ (nI i)) => ?_)
      · -- Mod_tick 31 T
        have h15 : i = n0 := ge_N (by rw [ew]; exact hn) hi (by omega) c1
        refine lv_aload_n hx hb d_Mod_tick_47 rfl (lv_at hl 0 rfl) ?_
        refine mg_ti C hX d_Mod_tick_48 ?_
        exact hret H locs (mti w) w 51 ls (vp_nar_int _) (by rw [mTick, if_neg d0, mN_is hn hn15, ← h15, ew]) hX d_Mod_tick_51
      · -- Mod_tick 31 F
        have hlt : i < n0 := lt_N (by rw [ew]; exact hn) (by omega) c1
        refine lv_aload_n hx hb d_Mod_tick_34 rfl (lv_at hl 0 rfl) ?_
        refine mg_on C hX d_Mod_tick_35 ?_
        refine lv_iload_n hx hb d_Mod_tick_38 rfl (lv_at hl 1 rfl) ?_
        refine lv_iconst (v := (-1)) hx hb d_Mod_tick_39 (by decide) ?_
        refine ms_on C hX (vp_in_nI (by omega) (by decide)) (nI_clamp (by omega)) d_Mod_tick_40 (fun H locs (hX : VX D A s.heap (mW a k (zmon w (upd (mon w) i (-1)))) H locs) => ?_)
        refine lv_iinc (v := (nI (i + 1))) (lv' := [(1, .int (nI (i + 1))), (0, .ref (a 0))]) hx hb d_Mod_tick_41 hl (k := 1) rfl (nI_1 i) (by decide) rfl (fun ls hl => ?_)
        refine lv_goto (tgt := 26) hx hb d_Mod_tick_44 (by decide) ?_
        exact ih (i + 1) (zmon w (upd (mon w) i (-1))) H locs ls (by omega) (d0) (by rw [← moF_s, ew]) (by omega) hX (lv_sub hl [1, 0] rfl)
  refine lv_aload_n hx hb d_Mod_tick_0 rfl (lv_at hl 0 rfl) ?_
  refine lv_iconst (v := 0) hx hb d_Mod_tick_1 (by decide) ?_
  refine mp_th0 hg.1 C hX d_Mod_tick_2 (fun H locs (hX : VX D A s.heap (mW a k v) H locs) => ?_)
  refine lv_aload_n hx hb d_Mod_tick_5 rfl (lv_at hl 0 rfl) ?_
  refine mg_ma C hX d_Mod_tick_6 ?_
  refine lv_if_ne (tgt := 14) hx hb d_Mod_tick_9 (by decide) (fun (c2 : ¬ (mma v) = 0) => ?_) (fun (c2 : (mma v) = 0) => ?_)
  · -- Mod_tick 9 T
    have d0 := c2
    refine lv_aload_n hx hb d_Mod_tick_14 rfl (lv_at hl 0 rfl) ?_
    refine lv_dup hx hb d_Mod_tick_15 rfl ?_
    refine mg_ti C hX d_Mod_tick_16 ?_
    refine lv_iconst (v := 1) hx hb d_Mod_tick_19 (by decide) ?_
    refine lv_iadd hx hb d_Mod_tick_20 ?_
    refine mp_ti C hX d_Mod_tick_21 (fun H locs (hX : VX D A s.heap (mW a k (zmti v ((mti v) + 1))) H locs) => ?_)
    refine lv_iconst (v := 0) hx hb d_Mod_tick_24 (by decide) ?_
    refine lv_istore_n (lv' := [(1, .int 0), (0, .ref (a 0))]) hx hb d_Mod_tick_25 rfl hl (by decide) rfl (fun ls hl => ?_)
    exact L26 _ 0 (zmti v ((mti v) + 1)) H locs ls (by omega) (d0) (moF_0) (Nat.lt_succ_self _) hX (lv_sub hl [1, 0] rfl)
  · -- Mod_tick 9 F
    refine lv_iconst (v := (-1)) hx hb d_Mod_tick_12 (by decide) ?_
    exact hret H locs (-1) v 13 ls (vp_nar_int _) (by simp only [mTick, if_pos c2]) hX d_Mod_tick_13
abbrev rm_Mod_kill : Room := { frames := 1, cells := 0, slots := 0, locals := 23 }
set_option maxHeartbeats 4000000 in
set_option maxRecDepth 100000 in
theorem c_Mod_kill (l : Launch) (D : va_G) (a k : Nat → Nat) (v : MS) (nn : Int32) (hg : Mok v) : MCi l y_Mod_kill b_Mod_kill 3 .boolean rm_Mod_kill [.ref (a 0), .int nn] D (mT k) false (mW a k) v (fun r u => (r, u) = (mKill v nn)) := by
  refine MCi.of R_Mod rfl (by decide +kernel) (Nat.le_of_ble_eq_true rfl) ?_
  intro p e s m args below meth c A Q ls H locs C hX hl hret
  have hx := C.1.1
  have hb := C.1.2.1
  have hl : lv_has ls 3 [(0, .ref (a 0)), (1, .int nn)] := hl
  refine lv_aload_n hx hb d_Mod_kill_0 rfl (lv_at hl 0 rfl) ?_
  refine lv_iconst (v := 0) hx hb d_Mod_kill_1 (by decide) ?_
  refine mp_th0 hg.1 C hX d_Mod_kill_2 (fun H locs (hX : VX D A s.heap (mW a k v) H locs) => ?_)
  refine lv_aload_n hx hb d_Mod_kill_5 rfl (lv_at hl 0 rfl) ?_
  refine lv_iload_n hx hb d_Mod_kill_6 rfl (lv_at hl 1 rfl) ?_
  refine mm_r C hX (c_Mod_ofNumber l D a k v nn hg) mi_Mod_90 ⟨⟨rfl, rfl⟩, Nat.le_of_ble_eq_true rfl, Nat.le_of_ble_eq_true rfl⟩ rfl rfl hl.1 (Nat.le_of_ble_eq_true rfl) d_Mod_kill_7 ⟨Nat.zero_le _, Nat.zero_le _⟩ (fun H locs (hX : VX D A s.heap (mW a k v) H locs) => ?_)
  refine lv_istore_n (lv' := [(2, .int (mOfNumber v nn)), (0, .ref (a 0)), (1, .int nn)]) hx hb d_Mod_kill_10 rfl hl (by decide) rfl (fun ls hl => ?_)
  refine lv_iload_n hx hb d_Mod_kill_11 rfl (lv_at hl 0 rfl) ?_
  refine lv_if_lt (tgt := 24) hx hb d_Mod_kill_12 (by decide) (fun (c1 : (mOfNumber v nn) < 0) => ?_) (fun (c1 : ¬ (mOfNumber v nn) < 0) => ?_)
  · -- Mod_kill 12 T
    refine lv_iconst (v := 0) hx hb d_Mod_kill_24 (by decide) ?_
    exact hret H locs 0 v 25 ls rfl (by simp only [mKill, if_pos c1]) hX d_Mod_kill_25
  · -- Mod_kill 12 F
    have hrow := row_in hg row_lst c1
    refine lv_aload_n hx hb d_Mod_kill_15 rfl (lv_at hl 1 rfl) ?_
    refine mg_en C hX d_Mod_kill_16 ?_
    refine lv_iload_n hx hb d_Mod_kill_19 rfl (lv_at hl 0 rfl) ?_
    refine ma_en C hX hrow rfl d_Mod_kill_20 ?_
    refine lv_if_eq (tgt := 26) hx hb d_Mod_kill_21 (by decide) (fun (c2 : (men v (ix (mOfNumber v nn))) = 0) => ?_) (fun (c2 : ¬ (men v (ix (mOfNumber v nn))) = 0) => ?_)
    · -- Mod_kill 21 T
      refine lv_aload_n hx hb d_Mod_kill_26 rfl (lv_at hl 1 rfl) ?_
      refine mg_ki C hX d_Mod_kill_27 ?_
      refine lv_iload_n hx hb d_Mod_kill_30 rfl (lv_at hl 0 rfl) ?_
      refine lv_iconst (v := 1) hx hb d_Mod_kill_31 (by decide) ?_
      refine ms_ki C hX hrow rfl rfl d_Mod_kill_32 (fun H locs (hX : VX D A s.heap (mW a k (zmki v (upd (mki v) (ix (mOfNumber v nn)) 1))) H locs) => ?_)
      refine lv_aload_n hx hb d_Mod_kill_33 rfl (lv_at hl 1 rfl) ?_
      refine mg_wa C hX d_Mod_kill_34 ?_
      refine lv_iload_n hx hb d_Mod_kill_37 rfl (lv_at hl 0 rfl) ?_
      refine lv_iconst (v := 0) hx hb d_Mod_kill_38 (by decide) ?_
      refine ms_wa C hX hrow rfl d_Mod_kill_39 (fun H locs (hX : VX D A s.heap (mW a k ((mth v), (mpr v), (mma v), (mti v), (mlt v), (mtk v), (msu v), (mnu v), (mpl v), (mpa v), (men v), (mre v), (upd (mki v) (ix (mOfNumber v nn)) 1), (mon v), (upd (mwa v) (ix (mOfNumber v nn)) 0), (mwh v))) H locs) => ?_)
      refine lv_iconst (v := 1) hx hb d_Mod_kill_40 (by decide) ?_
      exact hret H locs 1 ((mth v), (mpr v), (mma v), (mti v), (mlt v), (mtk v), (msu v), (mnu v), (mpl v), (mpa v), (men v), (mre v), (upd (mki v) (ix (mOfNumber v nn)) 1), (mon v), (upd (mwa v) (ix (mOfNumber v nn)) 0), (mwh v)) 41 ls rfl (by simp only [mKill, if_neg c1, if_pos c2]) hX d_Mod_kill_41
    · -- Mod_kill 21 F
      refine lv_iconst (v := 0) hx hb d_Mod_kill_24 (by decide) ?_
      exact hret H locs 0 v 25 ls rfl (by simp only [mKill, if_neg c1, if_neg c2]) hX d_Mod_kill_25
abbrev rm_Mod_about : Room := { frames := 2, cells := 0, slots := 0, locals := 45 }
set_option maxHeartbeats 4000000 in
set_option maxRecDepth 100000 in
theorem c_Mod_about (l : Launch) (D : va_G) (a k : Nat → Nat) (v : MS) (pl : Int32) (wt : Int32) (hg : Mok v) : MCi l y_Mod_about b_Mod_about 4 .int rm_Mod_about [.ref (a 0), .int pl, .int wt] D (mT k) false (mW a k) v (fun r u => u = v ∧ r = (mAbout v pl wt)) := by
  refine MCi.of R_Mod rfl (by decide +kernel) (Nat.le_of_ble_eq_true rfl) ?_
  intro p e s m args below meth c A Q ls H locs C hX hl hret
  have hx := C.1.1
  have hb := C.1.2.1
  have hl : lv_has ls 4 [(0, .ref (a 0)), (1, .int pl), (2, .int wt)] := hl
  refine lv_aload_n hx hb d_Mod_about_0 rfl (lv_at hl 0 rfl) ?_
  refine lv_iconst (v := 0) hx hb d_Mod_about_1 (by decide) ?_
  refine mp_th0 hg.1 C hX d_Mod_about_2 (fun H locs (hX : VX D A s.heap (mW a k v) H locs) => ?_)
  refine lv_iload_n hx hb d_Mod_about_5 rfl (lv_at hl 1 rfl) ?_
  refine lv_if_lt (tgt := 23) hx hb d_Mod_about_6 (by decide) (fun (c1 : pl < 0) => ?_) (fun (c1 : ¬ pl < 0) => ?_)
  · -- Mod_about 6 T
    refine lv_iconst (v := (-1)) hx hb d_Mod_about_23 (by decide) ?_
    refine lv_istore_n (lv' := [(3, .int (-1)), (0, .ref (a 0)), (1, .int pl), (2, .int wt)]) hx hb d_Mod_about_24 rfl hl (by decide) rfl (fun ls hl => ?_)
    refine lv_iload_n hx hb d_Mod_about_25 rfl (lv_at hl 0 rfl) ?_
    refine lv_if_ge (tgt := 50) hx hb d_Mod_about_26 (by decide) (fun (c2 : (0 : Int32) ≤ (-1)) => ?_) (fun (c2 : ¬ (0 : Int32) ≤ (-1)) => ?_)
    · -- Mod_about 26 T
      exact absurd c2 (by decide)
    · -- Mod_about 26 F
      refine lv_iload_n hx hb d_Mod_about_29 rfl (lv_at hl 2 rfl) ?_
      refine lv_if_lt (tgt := 48) hx hb d_Mod_about_30 (by decide) (fun (c3 : pl < 0) => ?_) (fun (c3 : ¬ pl < 0) => ?_)
      · -- Mod_about 30 T
        refine lv_iconst (v := (-1)) hx hb d_Mod_about_48 (by decide) ?_
        exact hret H locs (-1) v 49 ls (vp_nar_int _) (⟨rfl, by first | (simp [mAbout, c1, c3]; done) | exact absurd (show pl < 0 by assumption) (by assumption) | exact absurd (show (15 : Int32) ≤ pl by assumption) (by assumption)⟩) hX d_Mod_about_49
      · -- Mod_about 30 F
        refine lv_iload_n hx hb d_Mod_about_33 rfl (lv_at hl 2 rfl) ?_
        refine lv_bipush (v := 15) hx hb d_Mod_about_34 (by decide) ?_
        refine lv_icmp_ge (tgt := 48) hx hb d_Mod_about_36 (by decide) (fun (c4 : (15 : Int32) ≤ pl) => ?_) (fun (c4 : ¬ (15 : Int32) ≤ pl) => ?_)
        · -- Mod_about 36 T
          refine lv_iconst (v := (-1)) hx hb d_Mod_about_48 (by decide) ?_
          exact hret H locs (-1) v 49 ls (vp_nar_int _) (⟨rfl, by first | (simp [mAbout, c1, c3, c4]; done) | exact absurd (show pl < 0 by assumption) (by assumption) | exact absurd (show (15 : Int32) ≤ pl by assumption) (by assumption)⟩) hX d_Mod_about_49
        · -- Mod_about 36 F
          refine lv_iload_n hx hb d_Mod_about_39 rfl (lv_at hl 3 rfl) ?_
          refine lv_iconst (v := 1) hx hb d_Mod_about_40 (by decide) ?_
          refine lv_icmp_ne (tgt := 48) hx hb d_Mod_about_41 (by decide) (fun (c5 : ¬ wt = 1) => ?_) (fun (c5 : wt = 1) => ?_)
          · -- Mod_about 41 T
            refine lv_iconst (v := (-1)) hx hb d_Mod_about_48 (by decide) ?_
            exact hret H locs (-1) v 49 ls (vp_nar_int _) (⟨rfl, by first | (simp [mAbout, c1, c3, c4, c5]; done) | exact absurd (show pl < 0 by assumption) (by assumption) | exact absurd (show (15 : Int32) ≤ pl by assumption) (by assumption)⟩) hX d_Mod_about_49
          · -- Mod_about 41 F
            refine lv_iconst (v := 0) hx hb d_Mod_about_44 (by decide) ?_
            refine lv_goto (tgt := 49) hx hb d_Mod_about_45 (by decide) ?_
            exact hret H locs 0 v 49 ls (vp_nar_int _) (⟨rfl, by first | (simp [mAbout, c1, c3, c4, c5]; done) | exact absurd (show pl < 0 by assumption) (by assumption) | exact absurd (show (15 : Int32) ≤ pl by assumption) (by assumption)⟩) hX d_Mod_about_49
  · -- Mod_about 6 F
    have d1 := c1
    refine lv_iload_n hx hb d_Mod_about_9 rfl (lv_at hl 1 rfl) ?_
    refine lv_bipush (v := 15) hx hb d_Mod_about_10 (by decide) ?_
    refine lv_icmp_ge (tgt := 23) hx hb d_Mod_about_12 (by decide) (fun (c6 : (15 : Int32) ≤ pl) => ?_) (fun (c6 : ¬ (15 : Int32) ≤ pl) => ?_)
    · -- Mod_about 12 T
      refine lv_iconst (v := (-1)) hx hb d_Mod_about_23 (by decide) ?_
      refine lv_istore_n (lv' := [(3, .int (-1)), (0, .ref (a 0)), (1, .int pl), (2, .int wt)]) hx hb d_Mod_about_24 rfl hl (by decide) rfl (fun ls hl => ?_)
      refine lv_iload_n hx hb d_Mod_about_25 rfl (lv_at hl 0 rfl) ?_
      refine lv_if_ge (tgt := 50) hx hb d_Mod_about_26 (by decide) (fun (c7 : (0 : Int32) ≤ (-1)) => ?_) (fun (c7 : ¬ (0 : Int32) ≤ (-1)) => ?_)
      · -- Mod_about 26 T
        exact absurd c7 (by decide)
      · -- Mod_about 26 F
        refine lv_iload_n hx hb d_Mod_about_29 rfl (lv_at hl 2 rfl) ?_
        refine lv_if_lt (tgt := 48) hx hb d_Mod_about_30 (by decide) (fun (c8 : pl < 0) => ?_) (fun (c8 : ¬ pl < 0) => ?_)
        · -- Mod_about 30 T
          refine lv_iconst (v := (-1)) hx hb d_Mod_about_48 (by decide) ?_
          exact hret H locs (-1) v 49 ls (vp_nar_int _) (⟨rfl, by first | (simp [mAbout, c1, c6, c8]; done) | exact absurd (show pl < 0 by assumption) (by assumption) | exact absurd (show (15 : Int32) ≤ pl by assumption) (by assumption)⟩) hX d_Mod_about_49
        · -- Mod_about 30 F
          refine lv_iload_n hx hb d_Mod_about_33 rfl (lv_at hl 2 rfl) ?_
          refine lv_bipush (v := 15) hx hb d_Mod_about_34 (by decide) ?_
          refine lv_icmp_ge (tgt := 48) hx hb d_Mod_about_36 (by decide) (fun (c9 : (15 : Int32) ≤ pl) => ?_) (fun (c9 : ¬ (15 : Int32) ≤ pl) => ?_)
          · -- Mod_about 36 T
            refine lv_iconst (v := (-1)) hx hb d_Mod_about_48 (by decide) ?_
            exact hret H locs (-1) v 49 ls (vp_nar_int _) (⟨rfl, by first | (simp [mAbout, c1, c6, c8, c9]; done) | exact absurd (show pl < 0 by assumption) (by assumption) | exact absurd (show (15 : Int32) ≤ pl by assumption) (by assumption)⟩) hX d_Mod_about_49
          · -- Mod_about 36 F
            refine lv_iload_n hx hb d_Mod_about_39 rfl (lv_at hl 3 rfl) ?_
            refine lv_iconst (v := 1) hx hb d_Mod_about_40 (by decide) ?_
            refine lv_icmp_ne (tgt := 48) hx hb d_Mod_about_41 (by decide) (fun (c10 : ¬ wt = 1) => ?_) (fun (c10 : wt = 1) => ?_)
            · -- Mod_about 41 T
              refine lv_iconst (v := (-1)) hx hb d_Mod_about_48 (by decide) ?_
              exact hret H locs (-1) v 49 ls (vp_nar_int _) (⟨rfl, by first | (simp [mAbout, c1, c6, c8, c9, c10]; done) | exact absurd (show pl < 0 by assumption) (by assumption) | exact absurd (show (15 : Int32) ≤ pl by assumption) (by assumption)⟩) hX d_Mod_about_49
            · -- Mod_about 41 F
              refine lv_iconst (v := 0) hx hb d_Mod_about_44 (by decide) ?_
              refine lv_goto (tgt := 49) hx hb d_Mod_about_45 (by decide) ?_
              exact hret H locs 0 v 49 ls (vp_nar_int _) (⟨rfl, by first | (simp [mAbout, c1, c6, c8, c9, c10]; done) | exact absurd (show pl < 0 by assumption) (by assumption) | exact absurd (show (15 : Int32) ≤ pl by assumption) (by assumption)⟩) hX d_Mod_about_49
    · -- Mod_about 12 F
      have d2 := c6
      refine lv_aload_n hx hb d_Mod_about_15 rfl (lv_at hl 0 rfl) ?_
      refine lv_iload_n hx hb d_Mod_about_16 rfl (lv_at hl 1 rfl) ?_
      refine mm_r C hX (c_Mod_ofPlace l D a k v pl hg) mi_Mod_48 ⟨⟨rfl, rfl⟩, Nat.le_of_ble_eq_true rfl, Nat.le_of_ble_eq_true rfl⟩ rfl rfl hl.1 (Nat.le_of_ble_eq_true rfl) d_Mod_about_17 ⟨Nat.zero_le _, Nat.zero_le _⟩ (fun H locs (hX : VX D A s.heap (mW a k v) H locs) => ?_)
      refine lv_goto (tgt := 24) hx hb d_Mod_about_20 (by decide) ?_
      refine lv_istore_n (lv' := [(3, .int (mOfPlace v pl)), (0, .ref (a 0)), (1, .int pl), (2, .int wt)]) hx hb d_Mod_about_24 rfl hl (by decide) rfl (fun ls hl => ?_)
      refine lv_iload_n hx hb d_Mod_about_25 rfl (lv_at hl 0 rfl) ?_
      refine lv_if_ge (tgt := 50) hx hb d_Mod_about_26 (by decide) (fun (c11 : (0 : Int32) ≤ (mOfPlace v pl)) => ?_) (fun (c11 : ¬ (0 : Int32) ≤ (mOfPlace v pl)) => ?_)
      · -- Mod_about 26 T
        have d3 := c11
        have hrow := row_in hg row_lst (nneg c11)
        refine lv_iload_n hx hb d_Mod_about_50 rfl (lv_at hl 3 rfl) ?_
        rcases sw6 wt with e0 | e0 | e0 | e0 | e0 | e0 | ⟨e0, e1, e2, e3, e4, e5, e6⟩
        · -- case 0
          refine lv_tableIn (tgt := 88) hx hb d_Mod_about_51 (by rw [e0]; decide) (by rw [e0]; decide) (by rw [e0]; rfl) (by decide) ?_
          refine lv_aload_n hx hb d_Mod_about_88 rfl (lv_at hl 1 rfl) ?_
          refine mg_nu C hX d_Mod_about_89 ?_
          refine lv_iload_n hx hb d_Mod_about_92 rfl (lv_at hl 0 rfl) ?_
          refine ma_nu C hX hrow rfl d_Mod_about_93 ?_
          exact hret H locs (mnu v (ix (mOfPlace v pl))) v 94 ls (vp_nar_int _) (⟨rfl, by simp only [mAbout, if_neg d1, if_neg d2, if_pos d3]; simp [mAboutIn, e0, c1, c6, c11]⟩) hX d_Mod_about_94
        · -- case 1
          refine lv_tableIn (tgt := 95) hx hb d_Mod_about_51 (by rw [e0]; decide) (by rw [e0]; decide) (by rw [e0]; rfl) (by decide) ?_
          refine lv_aload_n hx hb d_Mod_about_95 rfl (lv_at hl 1 rfl) ?_
          refine lv_iload_n hx hb d_Mod_about_96 rfl (lv_at hl 0 rfl) ?_
          refine mm_r C hX (c_Mod_state l D a k v (mOfPlace v pl) hg hrow) mi_Mod_71 ⟨⟨rfl, rfl⟩, Nat.le_of_ble_eq_true rfl, Nat.le_of_ble_eq_true rfl⟩ rfl rfl hl.1 (Nat.le_of_ble_eq_true rfl) d_Mod_about_97 ⟨Nat.zero_le _, Nat.zero_le _⟩ (fun H locs (hX : VX D A s.heap (mW a k v) H locs) => ?_)
          exact hret H locs (mState v (mOfPlace v pl)) v 100 ls (vp_nar_int _) (⟨rfl, by simp only [mAbout, if_neg d1, if_neg d2, if_pos d3]; simp [mAboutIn, e0, c1, c6, c11]⟩) hX d_Mod_about_100
        · -- case 2
          refine lv_tableIn (tgt := 101) hx hb d_Mod_about_51 (by rw [e0]; decide) (by rw [e0]; decide) (by rw [e0]; rfl) (by decide) ?_
          refine lv_aload_n hx hb d_Mod_about_101 rfl (lv_at hl 1 rfl) ?_
          refine mg_pa C hX d_Mod_about_102 ?_
          refine lv_iload_n hx hb d_Mod_about_105 rfl (lv_at hl 0 rfl) ?_
          refine ma_pa C hX hrow rfl d_Mod_about_106 ?_
          exact hret H locs (mpa v (ix (mOfPlace v pl))) v 107 ls (vp_nar_int _) (⟨rfl, by simp only [mAbout, if_neg d1, if_neg d2, if_pos d3]; simp [mAboutIn, e0, c1, c6, c11]⟩) hX d_Mod_about_107
        · -- case 3
          refine lv_tableIn (tgt := 108) hx hb d_Mod_about_51 (by rw [e0]; decide) (by rw [e0]; decide) (by rw [e0]; rfl) (by decide) ?_
          refine lv_aload_n hx hb d_Mod_about_108 rfl (lv_at hl 1 rfl) ?_
          refine mg_ki C hX d_Mod_about_109 ?_
          refine lv_iload_n hx hb d_Mod_about_112 rfl (lv_at hl 0 rfl) ?_
          refine ma_ki C hX hrow rfl d_Mod_about_113 ?_
          refine lv_if_eq (tgt := 121) hx hb d_Mod_about_114 (by decide) (fun (c12 : (mki v (ix (mOfPlace v pl))) = 0) => ?_) (fun (c12 : ¬ (mki v (ix (mOfPlace v pl))) = 0) => ?_)
          · -- Mod_about 114 T
            refine lv_iconst (v := 0) hx hb d_Mod_about_121 (by decide) ?_
            exact hret H locs 0 v 122 ls (vp_nar_int _) (⟨rfl, by simp only [mAbout, if_neg d1, if_neg d2, if_pos d3]; simp [mAboutIn, e0, c1, c6, c11, c12]⟩) hX d_Mod_about_122
          · -- Mod_about 114 F
            refine lv_iconst (v := 1) hx hb d_Mod_about_117 (by decide) ?_
            refine lv_goto (tgt := 122) hx hb d_Mod_about_118 (by decide) ?_
            exact hret H locs 1 v 122 ls (vp_nar_int _) (⟨rfl, by simp only [mAbout, if_neg d1, if_neg d2, if_pos d3]; simp [mAboutIn, e0, c1, c6, c11, c12]⟩) hX d_Mod_about_122
        · -- case 4
          refine lv_tableIn (tgt := 123) hx hb d_Mod_about_51 (by rw [e0]; decide) (by rw [e0]; decide) (by rw [e0]; rfl) (by decide) ?_
          refine lv_aload_n hx hb d_Mod_about_123 rfl (lv_at hl 1 rfl) ?_
          refine mg_en C hX d_Mod_about_124 ?_
          refine lv_iload_n hx hb d_Mod_about_127 rfl (lv_at hl 0 rfl) ?_
          refine ma_en C hX hrow rfl d_Mod_about_128 ?_
          refine lv_if_eq (tgt := 141) hx hb d_Mod_about_129 (by decide) (fun (c13 : (men v (ix (mOfPlace v pl))) = 0) => ?_) (fun (c13 : ¬ (men v (ix (mOfPlace v pl))) = 0) => ?_)
          · -- Mod_about 129 T
            refine lv_iconst (v := 0) hx hb d_Mod_about_141 (by decide) ?_
            exact hret H locs 0 v 142 ls (vp_nar_int _) (⟨rfl, by simp only [mAbout, if_neg d1, if_neg d2, if_pos d3]; simp [mAboutIn, e0, c1, c6, c11, c13]⟩) hX d_Mod_about_142
          · -- Mod_about 129 F
            refine lv_aload_n hx hb d_Mod_about_132 rfl (lv_at hl 1 rfl) ?_
            refine mg_re C hX d_Mod_about_133 ?_
            refine lv_iload_n hx hb d_Mod_about_136 rfl (lv_at hl 0 rfl) ?_
            refine ma_re C hX hrow rfl d_Mod_about_137 ?_
            refine lv_goto (tgt := 142) hx hb d_Mod_about_138 (by decide) ?_
            exact hret H locs (mre v (ix (mOfPlace v pl))) v 142 ls (vp_nar_int _) (⟨rfl, by simp only [mAbout, if_neg d1, if_neg d2, if_pos d3]; simp [mAboutIn, e0, c1, c6, c11, c13]⟩) hX d_Mod_about_142
        · -- case 5
          refine lv_tableIn (tgt := 143) hx hb d_Mod_about_51 (by rw [e0]; decide) (by rw [e0]; decide) (by rw [e0]; rfl) (by decide) ?_
          refine lv_aload_n hx hb d_Mod_about_143 rfl (lv_at hl 1 rfl) ?_
          refine mg_on C hX d_Mod_about_144 ?_
          refine lv_iload_n hx hb d_Mod_about_147 rfl (lv_at hl 0 rfl) ?_
          refine ma_on C hX hrow rfl d_Mod_about_148 ?_
          exact hret H locs (mon v (ix (mOfPlace v pl))) v 149 ls (vp_nar_int _) (⟨rfl, by simp only [mAbout, if_neg d1, if_neg d2, if_pos d3]; simp [mAboutIn, e0, c1, c6, c11]⟩) hX d_Mod_about_149
        · -- default
          refine lv_tableOut (tgt := 150) hx hb d_Mod_about_51 e0 (by decide) ?_
          refine lv_iconst (v := (-1)) hx hb d_Mod_about_150 (by decide) ?_
          exact hret H locs (-1) v 151 ls (vp_nar_int _) (⟨rfl, by simp only [mAbout, if_neg d1, if_neg d2, if_pos d3]; simp [mAboutIn, e1, e2, e3, e4, e5, e6]⟩) hX d_Mod_about_151
      · -- Mod_about 26 F
        refine lv_iload_n hx hb d_Mod_about_29 rfl (lv_at hl 2 rfl) ?_
        refine lv_if_lt (tgt := 48) hx hb d_Mod_about_30 (by decide) (fun (c14 : pl < 0) => ?_) (fun (c14 : ¬ pl < 0) => ?_)
        · -- Mod_about 30 T
          refine lv_iconst (v := (-1)) hx hb d_Mod_about_48 (by decide) ?_
          exact hret H locs (-1) v 49 ls (vp_nar_int _) (⟨rfl, by first | (simp [mAbout, c1, c6, c11, c14]; done) | exact absurd (show pl < 0 by assumption) (by assumption) | exact absurd (show (15 : Int32) ≤ pl by assumption) (by assumption)⟩) hX d_Mod_about_49
        · -- Mod_about 30 F
          refine lv_iload_n hx hb d_Mod_about_33 rfl (lv_at hl 2 rfl) ?_
          refine lv_bipush (v := 15) hx hb d_Mod_about_34 (by decide) ?_
          refine lv_icmp_ge (tgt := 48) hx hb d_Mod_about_36 (by decide) (fun (c15 : (15 : Int32) ≤ pl) => ?_) (fun (c15 : ¬ (15 : Int32) ≤ pl) => ?_)
          · -- Mod_about 36 T
            refine lv_iconst (v := (-1)) hx hb d_Mod_about_48 (by decide) ?_
            exact hret H locs (-1) v 49 ls (vp_nar_int _) (⟨rfl, by first | (simp [mAbout, c1, c6, c11, c14, c15]; done) | exact absurd (show pl < 0 by assumption) (by assumption) | exact absurd (show (15 : Int32) ≤ pl by assumption) (by assumption)⟩) hX d_Mod_about_49
          · -- Mod_about 36 F
            refine lv_iload_n hx hb d_Mod_about_39 rfl (lv_at hl 3 rfl) ?_
            refine lv_iconst (v := 1) hx hb d_Mod_about_40 (by decide) ?_
            refine lv_icmp_ne (tgt := 48) hx hb d_Mod_about_41 (by decide) (fun (c16 : ¬ wt = 1) => ?_) (fun (c16 : wt = 1) => ?_)
            · -- Mod_about 41 T
              refine lv_iconst (v := (-1)) hx hb d_Mod_about_48 (by decide) ?_
              exact hret H locs (-1) v 49 ls (vp_nar_int _) (⟨rfl, by first | (simp [mAbout, c1, c6, c11, c14, c15, c16]; done) | exact absurd (show pl < 0 by assumption) (by assumption) | exact absurd (show (15 : Int32) ≤ pl by assumption) (by assumption)⟩) hX d_Mod_about_49
            · -- Mod_about 41 F
              refine lv_iconst (v := 0) hx hb d_Mod_about_44 (by decide) ?_
              refine lv_goto (tgt := 49) hx hb d_Mod_about_45 (by decide) ?_
              exact hret H locs 0 v 49 ls (vp_nar_int _) (⟨rfl, by first | (simp [mAbout, c1, c6, c11, c14, c15, c16]; done) | exact absurd (show pl < 0 by assumption) (by assumption) | exact absurd (show (15 : Int32) ≤ pl by assumption) (by assumption)⟩) hX d_Mod_about_49
abbrev rm_Mod_count : Room := { frames := 2, cells := 0, slots := 0, locals := 45 }
set_option maxHeartbeats 4000000 in
set_option maxRecDepth 100000 in
theorem c_Mod_count (l : Launch) (D : va_G) (a k : Nat → Nat) (v : MS) (s0 : Int32) (hg : Mok v) : MCi l y_Mod_count b_Mod_count 4 .int rm_Mod_count [.ref (a 0), .int s0] D (mT k) false (mW a k) v (fun r u => u = v ∧ r = (mCount v s0)) := by
  obtain ⟨hth, ⟨n0, hn15, hn⟩, htk, hbo⟩ := id hg
  refine MCi.of R_Mod rfl (by decide +kernel) (Nat.le_of_ble_eq_true rfl) ?_
  intro p e s m args below meth c A Q ls H locs C hX hl hret
  have hx := C.1.1
  have hb := C.1.2.1
  have hl : lv_has ls 4 [(0, .ref (a 0)), (1, .int s0)] := hl
  have L20 : ∀ (n : Nat) (i : Nat) (x2 : Int32) (H : Heap) (locs : List Loc) (ls : Array Slot), (i ≤ n0) → (¬ s0 < 0) → (s0 ≤ 4) → (x2 = cnt (mHas v s0) i) → n0 - i < n → VX D A s.heap (mW a k v) H locs → lv_has ls 4 [(0, .ref (a 0)), (1, .int s0), (2, .int x2), (3, .int (nI i))] → W p l e rm_Mod_count s m args below meth c H locs 0 0 Q (F0 m 20 ls []) := by
    intro n
    induction n with
    | zero => intro i x2 H locs ls hi d1 d2 e2 hm; exact absurd hm (Nat.not_lt_zero _)
    | succ n ih =>
      intro i x2 H locs ls hi d1 d2 e2 hm hX hl
      refine lv_iload_n hx hb d_Mod_count_20 rfl (lv_at hl 3 rfl) ?_
      refine lv_aload_n hx hb d_Mod_count_21 rfl (lv_at hl 0 rfl) ?_
      refine mg_ma C hX d_Mod_count_22 ?_
      refine lv_icmp_ge (tgt := 55) hx hb d_Mod_count_25 (by decide) (fun (c1 : (mma v) ≤ (nI i)) => ?_) (fun (c1 : ¬ (mma v) ≤ (nI i)) => ?_)
      · -- Mod_count 25 T
        have h15 : i = n0 := ge_N hn hi (by omega) c1
        refine lv_iload_n hx hb d_Mod_count_55 rfl (lv_at hl 2 rfl) ?_
        exact hret H locs x2 v 56 ls (vp_nar_int _) (⟨rfl, by rw [e2, h15, mCount, if_neg d1, if_pos d2, mN_is hn hn15]⟩) hX d_Mod_count_56
      · -- Mod_count 25 F
        have hlt : i < n0 := lt_N hn (by omega) c1
        refine lv_iload_n hx hb d_Mod_count_28 rfl (lv_at hl 2 rfl) ?_
        refine lv_iload_n hx hb d_Mod_count_29 rfl (lv_at hl 1 rfl) ?_
        refine lv_if_eq (tgt := 42) hx hb d_Mod_count_30 (by decide) (fun (c2 : s0 = 0) => ?_) (fun (c2 : ¬ s0 = 0) => ?_)
        · -- Mod_count 30 T
          refine lv_iconst (v := 1) hx hb d_Mod_count_42 (by decide) ?_
          refine lv_goto (tgt := 47) hx hb d_Mod_count_43 (by decide) ?_
          refine lv_iadd hx hb d_Mod_count_47 ?_
          refine lv_istore_n (lv' := [(2, .int (x2 + 1)), (0, .ref (a 0)), (1, .int s0), (3, .int (nI i))]) hx hb d_Mod_count_48 rfl hl (by decide) rfl (fun ls hl => ?_)
          refine lv_iinc (v := (nI (i + 1))) (lv' := [(3, .int (nI (i + 1))), (2, .int (x2 + 1)), (0, .ref (a 0)), (1, .int s0)]) hx hb d_Mod_count_49 hl (k := 3) rfl (nI_1 i) (by decide) rfl (fun ls hl => ?_)
          refine lv_goto (tgt := 20) hx hb d_Mod_count_52 (by decide) ?_
          exact ih (i + 1) (x2 + 1) H locs ls (by omega) (d1) (d2) (by rw [e2]; first | exact cnt_yes (by simp [mHas, c1, c2]) | (rw [add0]; exact cnt_no (by simp [mHas, c1, c2]))) (by omega) hX (lv_sub hl [2, 3, 1, 0] rfl)
        · -- Mod_count 30 F
          refine lv_aload_n hx hb d_Mod_count_33 rfl (lv_at hl 0 rfl) ?_
          refine lv_iload_n hx hb d_Mod_count_34 rfl (lv_at hl 3 rfl) ?_
          refine mm_r C hX (c_Mod_state l D a k v (nI i) hg (vp_in_nI (by omega) (by decide))) mi_Mod_71 ⟨⟨rfl, rfl⟩, Nat.le_of_ble_eq_true rfl, Nat.le_of_ble_eq_true rfl⟩ rfl rfl hl.1 (Nat.le_of_ble_eq_true rfl) d_Mod_count_35 ⟨Nat.zero_le _, Nat.zero_le _⟩ (fun H locs (hX : VX D A s.heap (mW a k v) H locs) => ?_)
          refine lv_iload_n hx hb d_Mod_count_38 rfl (lv_at hl 1 rfl) ?_
          refine lv_icmp_ne (tgt := 46) hx hb d_Mod_count_39 (by decide) (fun (c3 : ¬ (mState v (nI i)) = s0) => ?_) (fun (c3 : (mState v (nI i)) = s0) => ?_)
          · -- Mod_count 39 T
            refine lv_iconst (v := 0) hx hb d_Mod_count_46 (by decide) ?_
            refine lv_iadd hx hb d_Mod_count_47 ?_
            refine lv_istore_n (lv' := [(2, .int (x2 + 0)), (0, .ref (a 0)), (1, .int s0), (3, .int (nI i))]) hx hb d_Mod_count_48 rfl hl (by decide) rfl (fun ls hl => ?_)
            refine lv_iinc (v := (nI (i + 1))) (lv' := [(3, .int (nI (i + 1))), (2, .int (x2 + 0)), (0, .ref (a 0)), (1, .int s0)]) hx hb d_Mod_count_49 hl (k := 3) rfl (nI_1 i) (by decide) rfl (fun ls hl => ?_)
            refine lv_goto (tgt := 20) hx hb d_Mod_count_52 (by decide) ?_
            exact ih (i + 1) (x2 + 0) H locs ls (by omega) (d1) (d2) (by rw [e2]; first | exact cnt_yes (by simp [mHas, c1, c2, c3]) | (rw [add0]; exact cnt_no (by simp [mHas, c1, c2, c3]))) (by omega) hX (lv_sub hl [2, 3, 1, 0] rfl)
          · -- Mod_count 39 F
            refine lv_iconst (v := 1) hx hb d_Mod_count_42 (by decide) ?_
            refine lv_goto (tgt := 47) hx hb d_Mod_count_43 (by decide) ?_
            refine lv_iadd hx hb d_Mod_count_47 ?_
            refine lv_istore_n (lv' := [(2, .int (x2 + 1)), (0, .ref (a 0)), (1, .int s0), (3, .int (nI i))]) hx hb d_Mod_count_48 rfl hl (by decide) rfl (fun ls hl => ?_)
            refine lv_iinc (v := (nI (i + 1))) (lv' := [(3, .int (nI (i + 1))), (2, .int (x2 + 1)), (0, .ref (a 0)), (1, .int s0)]) hx hb d_Mod_count_49 hl (k := 3) rfl (nI_1 i) (by decide) rfl (fun ls hl => ?_)
            refine lv_goto (tgt := 20) hx hb d_Mod_count_52 (by decide) ?_
            exact ih (i + 1) (x2 + 1) H locs ls (by omega) (d1) (d2) (by rw [e2]; first | exact cnt_yes (by simp [mHas, c1, c2, c3]) | (rw [add0]; exact cnt_no (by simp [mHas, c1, c2, c3]))) (by omega) hX (lv_sub hl [2, 3, 1, 0] rfl)
  refine lv_aload_n hx hb d_Mod_count_0 rfl (lv_at hl 0 rfl) ?_
  refine lv_iconst (v := 0) hx hb d_Mod_count_1 (by decide) ?_
  refine mp_th0 hg.1 C hX d_Mod_count_2 (fun H locs (hX : VX D A s.heap (mW a k v) H locs) => ?_)
  refine lv_iload_n hx hb d_Mod_count_5 rfl (lv_at hl 1 rfl) ?_
  refine lv_if_lt (tgt := 14) hx hb d_Mod_count_6 (by decide) (fun (c4 : s0 < 0) => ?_) (fun (c4 : ¬ s0 < 0) => ?_)
  · -- Mod_count 6 T
    refine lv_iconst (v := (-1)) hx hb d_Mod_count_14 (by decide) ?_
    exact hret H locs (-1) v 15 ls (vp_nar_int _) (⟨rfl, by simp only [mCount, if_pos c4]⟩) hX d_Mod_count_15
  · -- Mod_count 6 F
    have d1 := c4
    refine lv_iload_n hx hb d_Mod_count_9 rfl (lv_at hl 1 rfl) ?_
    refine lv_iconst (v := 4) hx hb d_Mod_count_10 (by decide) ?_
    refine lv_icmp_le (tgt := 16) hx hb d_Mod_count_11 (by decide) (fun (c5 : s0 ≤ 4) => ?_) (fun (c5 : ¬ s0 ≤ 4) => ?_)
    · -- Mod_count 11 T
      have d2 := c5
      refine lv_iconst (v := 0) hx hb d_Mod_count_16 (by decide) ?_
      refine lv_istore_n (lv' := [(2, .int 0), (0, .ref (a 0)), (1, .int s0)]) hx hb d_Mod_count_17 rfl hl (by decide) rfl (fun ls hl => ?_)
      refine lv_iconst (v := 0) hx hb d_Mod_count_18 (by decide) ?_
      refine lv_istore_n (lv' := [(3, .int 0), (2, .int 0), (0, .ref (a 0)), (1, .int s0)]) hx hb d_Mod_count_19 rfl hl (by decide) rfl (fun ls hl => ?_)
      exact L20 _ 0 0 H locs ls (by omega) (d1) (d2) (rfl) (Nat.lt_succ_self _) hX (lv_sub hl [2, 3, 1, 0] rfl)
    · -- Mod_count 11 F
      refine lv_iconst (v := (-1)) hx hb d_Mod_count_14 (by decide) ?_
      exact hret H locs (-1) v 15 ls (vp_nar_int _) (⟨rfl, by simp only [mCount, if_neg c4, if_neg c5]⟩) hX d_Mod_count_15
end
section
/-! the plain law: what ties the ring to the reference -/
/-- row i has a child that has ended -/
def hasE (w : MS) (i : Nat) : Prop := ∃ k, k < mN w ∧ mpa w k = mnu w i ∧ ¬ men w k = 0
def stl (w : MS) (i : Nat) : Prop := mwa w i = 1 ∨ (mwa w i = 2 ∧ ¬ hasE w i) ∨ (mwa w i = 3 ∧ ¬ mwh w i ≤ mti w)
/-- row i's state is x -/
def stIs (w : MS) (i : Nat) (x : Int32) : Prop := (¬ men w i = 0 ∧ x = 4) ∨ (men w i = 0 ∧ ¬ mon w i < 0 ∧ x = 2) ∨ (men w i = 0 ∧ mon w i < 0 ∧ stl w i ∧ x = 3) ∨ (men w i = 0 ∧ mon w i < 0 ∧ ¬ stl w i ∧ x = 1)
theorem stIs_fun {w : MS} {i : Nat} {x y : Int32} (h1 : stIs w i x) (h2 : stIs w i y) : x = y := by
  rcases h1 with ⟨a, rfl⟩ | ⟨a, b, rfl⟩ | ⟨a, b, c, rfl⟩ | ⟨a, b, c, rfl⟩ <;> rcases h2 with ⟨a', rfl⟩ | ⟨a', b', rfl⟩ | ⟨a', b', c', rfl⟩ | ⟨a', b', c', rfl⟩ <;> first | rfl | exact absurd a' a | exact absurd a a' | exact absurd b' b | exact absurd b b' | exact absurd c' c | exact absurd c c'
theorem stIs_ne0 {w : MS} {i : Nat} {x : Int32} (h : stIs w i x) : ¬ x = 0 := by
  rcases h with ⟨a, rfl⟩ | ⟨a, b, rfl⟩ | ⟨a, b, c, rfl⟩ | ⟨a, b, c, rfl⟩ <;> decide
theorem stIs_4 {w : MS} {i : Nat} {x : Int32} (h : stIs w i x) : x = 4 ↔ ¬ men w i = 0 := by
  rcases h with ⟨a, rfl⟩ | ⟨a, b, rfl⟩ | ⟨a, b, c, rfl⟩ | ⟨a, b, c, rfl⟩
  · exact ⟨fun _ => a, fun _ => rfl⟩
  · exact ⟨fun h => absurd h (by decide), fun h => absurd a h⟩
  · exact ⟨fun h => absurd h (by decide), fun h => absurd a h⟩
  · exact ⟨fun h => absurd h (by decide), fun h => absurd a h⟩
theorem stIs_2 {w : MS} {i : Nat} {x : Int32} (h : stIs w i x) : x = 2 ↔ men w i = 0 ∧ ¬ mon w i < 0 := by
  rcases h with ⟨a, rfl⟩ | ⟨a, b, rfl⟩ | ⟨a, b, c, rfl⟩ | ⟨a, b, c, rfl⟩
  · exact ⟨fun h => absurd h (by decide), fun h => absurd h.1 a⟩
  · exact ⟨fun _ => ⟨a, b⟩, fun _ => rfl⟩
  · exact ⟨fun h => absurd h (by decide), fun h => absurd b h.2⟩
  · exact ⟨fun h => absurd h (by decide), fun h => absurd b h.2⟩
theorem stIs_3 {w : MS} {i : Nat} {x : Int32} (h : stIs w i x) : x = 3 ↔ men w i = 0 ∧ mon w i < 0 ∧ stl w i := by
  rcases h with ⟨a, rfl⟩ | ⟨a, b, rfl⟩ | ⟨a, b, c, rfl⟩ | ⟨a, b, c, rfl⟩
  · exact ⟨fun h => absurd h (by decide), fun h => absurd h.1 a⟩
  · exact ⟨fun h => absurd h (by decide), fun h => absurd h.2.1 b⟩
  · exact ⟨fun _ => ⟨a, b, c⟩, fun _ => rfl⟩
  · exact ⟨fun h => absurd h (by decide), fun h => absurd h.2.2 c⟩
theorem stIs_1 {w : MS} {i : Nat} {x : Int32} (h : stIs w i x) : x = 1 ↔ men w i = 0 ∧ mon w i < 0 ∧ ¬ stl w i := by
  rcases h with ⟨a, rfl⟩ | ⟨a, b, rfl⟩ | ⟨a, b, c, rfl⟩ | ⟨a, b, c, rfl⟩
  · exact ⟨fun h => absurd h (by decide), fun h => absurd h.1 a⟩
  · exact ⟨fun h => absurd h (by decide), fun h => absurd h.2.1 b⟩
  · exact ⟨fun h => absurd h (by decide), fun h => absurd c h.2.2⟩
  · exact ⟨fun _ => ⟨a, b, c⟩, fun _ => rfl⟩
theorem stIs_ex (w : MS) (i : Nat) : ∃ x, stIs w i x := by
  by_cases a : men w i = 0
  · by_cases b : mon w i < 0
    · by_cases c : stl w i
      · exact ⟨3, Or.inr (Or.inr (Or.inl ⟨a, b, c, rfl⟩))⟩
      · exact ⟨1, Or.inr (Or.inr (Or.inr ⟨a, b, c, rfl⟩))⟩
    · exact ⟨2, Or.inr (Or.inl ⟨a, b, rfl⟩)⟩
  · exact ⟨4, Or.inl ⟨a, rfl⟩⟩
/-- what endedChild finds: none, or the ended child of the least place -/
theorem endL_spec (w : MS) (row : Int32) (n : Nat) (hn : n ≤ 15) : (mEndL w row n = -1 ∧ ∀ k, k < n → ¬ (mpa w k = mnu w (ix row) ∧ ¬ men w k = 0)) ∨ ∃ k, k < n ∧ mEndL w row n = nI k ∧ (mpa w k = mnu w (ix row) ∧ ¬ men w k = 0) ∧ ∀ j, j < n → (mpa w j = mnu w (ix row) ∧ ¬ men w j = 0) → mpl w k ≤ mpl w j := by
  induction n with
  | zero => exact Or.inl ⟨rfl, lt_0⟩
  | succ n ih =>
    by_cases hc : mpa w n = mnu w (ix row) ∧ ¬ men w n = 0
    · rcases ih (by omega) with ⟨e, h⟩ | ⟨k, h1, e, h2, h3⟩
      · refine Or.inr ⟨n, Nat.lt_succ_self _, ?_, hc, ?_⟩
        · simp only [mEndL, e]
          rw [if_pos ⟨hc.1, hc.2, Or.inl m1_neg⟩]
        · intro j hj hk
          by_cases ej : j = n
          · rw [ej]; exact Int32.le_refl _
          · exact absurd hk (h j (by omega))
      · have ek : ix (nI k) = k := nI_clamp (by omega)
        have hpos : ¬ nI k < 0 := nI_pos (by omega)
        by_cases hl : mpl w k ≤ mpl w n
        · refine Or.inr ⟨k, by omega, ?_, h2, ?_⟩
          · simp only [mEndL, e, ek]
            rw [if_neg (fun z => z.2.2.elim (fun y => hpos y) (fun y => y hl))]
          · intro j hj hk
            by_cases ej : j = n
            · rw [ej]; exact hl
            · exact h3 j (by omega) hk
        · refine Or.inr ⟨n, Nat.lt_succ_self _, ?_, hc, ?_⟩
          · simp only [mEndL, e, ek]
            rw [if_pos ⟨hc.1, hc.2, Or.inr hl⟩]
          · intro j hj hk
            by_cases ej : j = n
            · rw [ej]; exact Int32.le_refl _
            · exact Int32.le_trans (Int32.le_of_lt (Int32.not_le.mp hl)) (h3 j (by omega) hk)
    · have e1 : mEndL w row (n + 1) = mEndL w row n := by
        simp only [mEndL]
        rw [if_neg (fun z => hc ⟨z.1, z.2.1⟩)]
      rw [e1]
      rcases ih (by omega) with ⟨e, h⟩ | ⟨k, h1, e, h2, h3⟩
      · exact Or.inl ⟨e, lt_s h hc⟩
      · refine Or.inr ⟨k, by omega, e, h2, fun j hj hk => ?_⟩
        by_cases ej : j = n
        · rw [ej] at hk; exact absurd hk hc
        · exact h3 j (by omega) hk
theorem ended_neg {w : MS} {i : Nat} (hw : Mok w) (hi : i < 16) : mEnded w (nI i) < 0 ↔ ¬ hasE w i := by
  have ei : ix (nI i) = i := nI_clamp (by omega)
  have hn := mok_N hw
  rcases endL_spec w (nI i) (mN w) hn with ⟨e, h⟩ | ⟨k, h1, e, h2, h3⟩
  · rw [mEnded, e]
    rw [ei] at h
    exact ⟨fun _ ⟨k, a, b, c⟩ => h k a ⟨b, c⟩, fun _ => m1_neg⟩
  · rw [mEnded, e]
    rw [ei] at h2
    exact ⟨fun a => absurd a (nI_pos (by omega)), fun a => absurd ⟨k, h1, h2.1, h2.2⟩ a⟩
theorem state_is {w : MS} {i : Nat} (hw : Mok w) (hi : i < 16) : stIs w i (mState w (nI i)) := by
  have ei : ix (nI i) = i := nI_clamp (by omega)
  have hs : mStill w (nI i) ↔ stl w i := by
    unfold mStill stl
    rw [ei, ended_neg hw hi]
  unfold mState
  by_cases a : men w (ix (nI i)) = 0
  · rw [if_pos a]
    rw [ei] at a
    by_cases b : mon w (ix (nI i)) < 0
    · rw [if_pos b]
      rw [ei] at b
      by_cases c : stl w i
      · rw [if_pos (hs.mpr c)]
        exact Or.inr (Or.inr (Or.inl ⟨a, b, c, rfl⟩))
      · rw [if_neg (fun z => c (hs.mp z))]
        exact Or.inr (Or.inr (Or.inr ⟨a, b, c, rfl⟩))
    · rw [if_neg b]
      rw [ei] at b
      exact Or.inr (Or.inl ⟨a, b, rfl⟩)
  · rw [if_neg a]
    rw [ei] at a
    exact Or.inl ⟨a, rfl⟩
/-- row i stands at place p -/
def Mt (v : RS) (w : MS) (i p : Nat) : Prop := (p < 15 ∧ mpl w i = nI p) ∧ (mnu w i = rnu v p ∧ mpa w i = rpa v p ∧ mki w i = rki v p) ∧ stIs w i (rst v p) ∧ (¬ men w i = 0 → mre w i = rsa v p) ∧
  (mon w i = -1 ∨ (men w i = 0 ∧ mwa w i = 0 ∧ ∃ q, q < 4 ∧ mon w i = nI q)) ∧ (rst v p = 3 → mwa w i = rwa v p ∧ (mwa w i = 2 → rwd v p = rnu v p) ∧ (¬ mwa w i = 2 → mwh w i = rwd v p))
def RelS (v : RS) (w : MS) : Prop := Rok v ∧ Mok w ∧ rpr v = mpr w ∧ rti v = mti w ∧ rsu v = msu w ∧ rla v = mtk w
def RelB (t : Nat) (v : RS) (w : MS) : Prop := (∃ b, b ≤ t ∧ mti w = nI b) ∧ (∃ b, b ≤ t ∧ mlt w = nI b ∧ ∀ i, i < mN w → ∃ c, 1 ≤ c ∧ c ≤ b ∧ mnu w i = nI c) ∧ (0 < mN w → rne v = mlt w + 1)
def RelR (v : RS) (w : MS) : Prop := (∀ i, i < mN w → ∃ p, Mt v w i p) ∧ (∀ p, p < 15 → ¬ rst v p = 0 → ∃ i, i < mN w ∧ mpl w i = nI p) ∧ (∀ i j, i < mN w → j < mN w → mpl w i = mpl w j → i = j) ∧ ∀ i j, i < mN w → j < mN w → mnu w i = mnu w j → i = j
def RelZ (v : RS) (w : MS) : Prop := 0 < mN w → ¬ rst v 0 = 0 ∧ ¬ rst v 0 = 4 ∧ rnu v 0 = 1
def RelO (v : RS) (w : MS) : Prop := (∀ q, q < 4 → (ron v q = -1 ∧ ∀ i, i < mN w → ¬ mon w i = nI q) ∨ ∃ i, i < mN w ∧ ron v q = mpl w i ∧ ∀ j, j < mN w → (mon w j = nI q ↔ j = i)) ∧ ∀ q, q < 4 → rpr v ≤ nI q → ron v q = -1
def Rel (t : Nat) (v : RS) (w : MS) : Prop := RelS v w ∧ RelB t v w ∧ RelR v w ∧ RelZ v w ∧ RelO v w
theorem RelB.up {t : Nat} {v : RS} {w : MS} (h : RelB t v w) : RelB (t + 1) v w := by
  obtain ⟨⟨b, h1, h2⟩, ⟨c, h3, h4, h5⟩, h6⟩ := h
  exact ⟨⟨b, by omega, h2⟩, ⟨c, by omega, h4, h5⟩, h6⟩
theorem Rel.up {t : Nat} {v : RS} {w : MS} (h : Rel t v w) : Rel (t + 1) v w := ⟨h.1, h.2.1.up, h.2.2⟩
theorem nI_inj {a b : Nat} (ha : a < 2 ^ 31) (hb : b < 2 ^ 31) (h : nI a = nI b) : a = b := (nI_eq ha hb).mp h
/-- a place: free, or with its row -/
theorem look {v : RS} {w : MS} (hR : RelR v w) {p : Nat} (hp : p < 15) : (rst v p = 0 ∧ ∀ i, i < mN w → ¬ mpl w i = nI p) ∨ ∃ i, i < mN w ∧ Mt v w i p := by
  have key : ∀ i, i < mN w → mpl w i = nI p → Mt v w i p := by
    intro i hi e
    obtain ⟨p', h⟩ := hR.1 i hi
    have : p' = p := nI_inj (by have := h.1.1; omega) (by omega) (h.1.2.symm.trans e)
    rw [this] at h
    exact h
  by_cases h0 : rst v p = 0
  · exact Or.inl ⟨h0, fun i hi e => stIs_ne0 (key i hi e).2.2.1 h0⟩
  · obtain ⟨i, hi, e⟩ := hR.2.1 p hp h0
    exact Or.inr ⟨i, hi, key i hi e⟩
theorem ofpl {v : RS} {w : MS} (hR : RelR v w) {p : Nat} (hp : p < 15) : (rst v p = 0 ∧ mOfPlace w (nI p) = -1) ∨ ∃ i, i < mN w ∧ Mt v w i p ∧ mOfPlace w (nI p) = nI i := by
  rcases look hR hp with ⟨h1, h2⟩ | ⟨i, hi, h⟩
  · refine Or.inl ⟨h1, ?_⟩
    rcases lst_spec (fun j => mpl w j = nI p) (mN w) with ⟨e, -⟩ | ⟨j, a, b, -⟩
    · exact e
    · exact absurd b (h2 j a)
  · refine Or.inr ⟨i, hi, h, ?_⟩
    rcases lst_spec (fun j => mpl w j = nI p) (mN w) with ⟨-, e⟩ | ⟨j, a, b, e, -⟩
    · exact absurd h.1.2 (e i hi)
    · have : j = i := hR.2.2.1 j i a hi (b.trans h.1.2.symm)
      rw [this] at e
      exact e
/-- the process on a processor, on both sides -/
theorem run_at {v : RS} {w : MS} (hS : RelS v w) (hR : RelR v w) (hO : RelO v w) (q : Int32) : (rAt v q = -1 ∧ mRunning w q = -1) ∨ ∃ c i p, c < 4 ∧ q = nI c ∧ nI c < rpr v ∧ i < mN w ∧ Mt v w i p ∧ mRunning w q = nI i ∧ rAt v q = nI p ∧ ron v c = nI p ∧ mon w i = nI c ∧ ∀ j, j < mN w → mon w j = nI c → j = i := by
  obtain ⟨hv, hw, hpr, -⟩ := hS
  unfold rAt mRunning
  by_cases c1 : q < 0
  · simp only [if_pos c1]
    exact Or.inl ⟨trivial, trivial⟩
  · simp only [if_neg c1, ← hpr]
    by_cases c2 : rpr v ≤ q
    · simp only [if_pos c2]
      exact Or.inl ⟨trivial, trivial⟩
    · simp only [if_neg c2]
      obtain ⟨c, hc, rfl⟩ := vp_in_of (rok_pr hv c1 c2) (by decide)
      have ec : ix (nI c) = c := nI_clamp (by omega)
      rw [ec]
      rcases hO.1 c hc with ⟨h1, h2⟩ | ⟨i, hi, h1, h2⟩
      · refine Or.inl ⟨h1, ?_⟩
        rcases lst_spec (fun j => mon w j = nI c) (mN w) with ⟨e, -⟩ | ⟨j, a, b, -⟩
        · exact e
        · exact absurd b (h2 j a)
      · obtain ⟨p, hp⟩ := hR.1 i hi
        refine Or.inr ⟨c, i, p, hc, rfl, Int32.not_le.mp c2, hi, hp, ?_, by rw [h1, hp.1.2], by rw [h1, hp.1.2], (h2 i hi).mpr rfl, fun j hj e => (h2 j hj).mp e⟩
        rcases lst_spec (fun j => mon w j = nI c) (mN w) with ⟨-, e⟩ | ⟨j, a, b, e, -⟩
        · exact absurd ((h2 i hi).mpr rfl) (e i hi)
        · have : j = i := (h2 j a).mp b
          rw [this] at e
          exact e
end
section
theorem cnt_congr {C C' : Nat → Prop} [DecidablePred C] [DecidablePred C'] {N : Nat} (h : ∀ j, j < N → (C j ↔ C' j)) : cnt C N = cnt C' N := by
  induction N with
  | zero => rfl
  | succ n ih =>
    have e := ih (fun j hj => h j (by omega))
    by_cases hc : C n
    · simp only [cnt, if_pos hc, if_pos ((h n (Nat.lt_succ_self _)).mp hc), e]
    · simp only [cnt, if_neg hc, if_neg (fun z => hc ((h n (Nat.lt_succ_self _)).mpr z)), e]
theorem cnt_ins {C C' : Nat → Prop} [DecidablePred C] [DecidablePred C'] {N p0 : Nat} (hp : p0 < N) (h0 : ¬ C p0) (h : ∀ j, j < N → (C' j ↔ (C j ∨ j = p0))) : cnt C' N = cnt C N + 1 := by
  induction N with
  | zero => omega
  | succ n ih =>
    by_cases e : p0 = n
    · subst e
      have e2 : cnt C' p0 = cnt C p0 := cnt_congr (fun j hj => (h j (by omega)).trans ⟨fun z => z.resolve_right (by omega), Or.inl⟩)
      simp only [cnt, if_pos ((h p0 (Nat.lt_succ_self _)).mpr (Or.inr rfl)), if_neg h0, e2]
    · have e2 := ih (by omega) (fun j hj => h j (by omega))
      have e3 : C' n ↔ C n := (h n (Nat.lt_succ_self _)).trans ⟨fun z => z.resolve_right (fun y => e y.symm), Or.inl⟩
      by_cases hc : C n
      · simp only [cnt, if_pos hc, if_pos (e3.mpr hc), e2]
      · simp only [cnt, if_neg hc, if_neg (fun z => hc (e3.mp z)), e2]
theorem cnt_bij {A B : Nat → Prop} [DecidablePred A] [DecidablePred B] {n N : Nat} (pl : Nat → Nat) (hpl : ∀ i, i < n → pl i < N) (inj : ∀ i j, i < n → j < n → pl i = pl j → i = j) (h1 : ∀ i, i < n → A i → B (pl i)) (h2 : ∀ p, p < N → B p → ∃ i, i < n ∧ pl i = p ∧ A i) : cnt A n = cnt B N := by
  have key : ∀ m, m ≤ n → cnt A m = @cnt (fun p => ∃ i, i < m ∧ pl i = p ∧ A i) (fun _ => Classical.propDecidable _) N := by
    intro m
    induction m with
    | zero =>
      intro _
      have : ∀ N, @cnt (fun p => ∃ i, i < 0 ∧ pl i = p ∧ A i) (fun _ => Classical.propDecidable _) N = 0 := by
        intro N
        induction N with
        | zero => rfl
        | succ k ih =>
          rw [cnt, if_neg (fun ⟨i, hi, _⟩ => absurd hi (Nat.not_lt_zero _))]
          exact ih
      exact (this N).symm
    | succ m ih =>
      intro hm
      have ih := ih (by omega)
      by_cases ha : A m
      · simp only [cnt, if_pos ha, ih]
        refine (@cnt_ins _ _ (fun _ => Classical.propDecidable _) (fun _ => Classical.propDecidable _) N (pl m) (hpl m (by omega)) ?_ ?_).symm
        · rintro ⟨i, hi, e, -⟩
          have := inj i m (by omega) (by omega) e
          omega
        · intro j hj
          constructor
          · rintro ⟨i, hi, e, h⟩
            by_cases ei : i = m
            · exact Or.inr (by rw [← e, ei])
            · exact Or.inl ⟨i, by omega, e, h⟩
          · rintro (⟨i, hi, e, h⟩ | e)
            · exact ⟨i, by omega, e, h⟩
            · exact ⟨m, Nat.lt_succ_self _, e.symm, ha⟩
      · simp only [cnt, if_neg ha, ih]
        refine @cnt_congr _ _ (fun _ => Classical.propDecidable _) (fun _ => Classical.propDecidable _) N ?_
        intro j hj
        constructor
        · rintro ⟨i, hi, e, h⟩
          exact ⟨i, by omega, e, h⟩
        · rintro ⟨i, hi, e, h⟩
          by_cases ei : i = m
          · rw [ei] at h; exact absurd h ha
          · exact ⟨i, by omega, e, h⟩
  rw [key n (Nat.le_refl _)]
  refine @cnt_congr _ _ (fun _ => Classical.propDecidable _) _ N ?_
  intro p hp
  constructor
  · rintro ⟨i, hi, rfl, h⟩
    exact h1 i hi h
  · exact h2 p hp
/-- rows and places: the same number with a property -/
theorem cnt_rows {v : RS} {w : MS} (hR : RelR v w) {A B : Nat → Prop} [DecidablePred A] [DecidablePred B] (h : ∀ i p, i < mN w → Mt v w i p → (A i ↔ B p)) (h0 : ∀ p, p < 15 → B p → ¬ rst v p = 0) : cnt A (mN w) = cnt B 15 := by
  have place : ∀ i, i < mN w → ∃ p, Mt v w i p ∧ ix (mpl w i) = p := by
    intro i hi
    obtain ⟨p, hp⟩ := hR.1 i hi
    exact ⟨p, hp, by rw [hp.1.2]; exact nI_clamp (by have := hp.1.1; omega)⟩
  refine cnt_bij (fun i => ix (mpl w i)) ?_ ?_ ?_ ?_
  · intro i hi
    obtain ⟨p, hp, e⟩ := place i hi
    show ix (mpl w i) < 15
    rw [e]; exact hp.1.1
  · intro i j hi hj e
    obtain ⟨p, hp, e1⟩ := place i hi
    obtain ⟨p', hp', e2⟩ := place j hj
    have : p = p' := by rw [← e1, ← e2]; exact e
    exact hR.2.2.1 i j hi hj (by rw [hp.1.2, hp'.1.2, this])
  · intro i hi ha
    obtain ⟨p, hp, e⟩ := place i hi
    show B (ix (mpl w i))
    rw [e]
    exact (h i p hi hp).mp ha
  · intro p hp hb
    rcases look hR hp with ⟨h1, -⟩ | ⟨i, hi, hm⟩
    · exact absurd h1 (h0 p hp hb)
    · refine ⟨i, hi, ?_, (h i p hi hm).mpr hb⟩
      show ix (mpl w i) = p
      rw [hm.1.2]
      exact nI_clamp (by omega)
theorem st_eq {v : RS} {w : MS} (hw : Mok w) {i p : Nat} (hi : i < mN w) (h : Mt v w i p) : mState w (nI i) = rst v p := stIs_fun (state_is hw (by have := mok_N hw; omega)) h.2.2.1
theorem sim_count {t : Nat} {v : RS} {w : MS} (h : Rel t v w) (s : Int32) : pCount v s = mCount w s := by
  obtain ⟨⟨hv, hw, -⟩, -, hR, -⟩ := h
  unfold pCount mCount rCount
  by_cases c1 : s < 0
  · simp only [if_pos c1]
  · by_cases c2 : s ≤ 4
    · simp only [if_neg c1, if_pos c2]
      refine (cnt_rows hR ?_ ?_).symm
      · intro i p hi hm
        have e := st_eq hw hi hm
        have e0 := stIs_ne0 hm.2.2.1
        show (s = 0 ∨ mState w (nI i) = s) ↔ _
        rw [e]
        constructor
        · rintro (a | a)
          · exact Or.inl ⟨a, e0⟩
          · refine Or.inr ⟨fun z => e0 (a.trans z), a⟩
        · rintro (a | a)
          · exact Or.inl a.1
          · exact Or.inr a.2
      · rintro p - (a | a)
        · exact a.2
        · rw [a.2]; exact a.1
    · simp only [if_neg c1, if_neg c2]
theorem proc_of {v : RS} {w : MS} (hS : RelS v w) (hR : RelR v w) (hO : RelO v w) {i p : Nat} (hi : i < mN w) (hm : Mt v w i p) : rProcOf v (nI p) = mon w i := by
  obtain ⟨⟨⟨P, hP1, hP4, hP⟩, hv2, hv3⟩, hw, -⟩ := hS
  have eP : ix (rpr v) = P := by rw [hP]; exact nI_clamp (by omega)
  unfold rProcOf
  rw [eP]
  have hp := hm.1.1
  rcases lst_spec (fun j => ron v j = nI p) P with ⟨e, h⟩ | ⟨q, hq, h, e, -⟩
  · rw [e]
    rcases hm.2.2.2.2.1 with h1 | ⟨-, -, q, hq, h1⟩
    · exact h1.symm
    · exfalso
      rcases hO.1 q hq with ⟨-, h2⟩ | ⟨j, hj, h2, h3⟩
      · exact h2 i hi h1
      · have := (h3 i hi).mp h1
        subst this
        have h4 : ron v q = nI p := by rw [h2, hm.1.2]
        by_cases hqP : q < P
        · exact h q hqP h4
        · have := hO.2 q hq (by rw [hP]; exact nI_le (by omega) (by omega))
          rw [h4] at this
          exact nI_m1 (by omega) this
  · rw [e]
    rcases hO.1 q (by omega) with ⟨h1, -⟩ | ⟨j, hj, h2, h3⟩
    · rw [h] at h1
      exact absurd h1 (nI_m1 (by omega))
    · have : j = i := hR.2.2.1 j i hj hi (by rw [← h2, h, hm.1.2])
      subst this
      exact ((h3 j hj).mpr rfl).symm
theorem ge0_nI {i : Nat} (h : i < 2 ^ 31) : (0 : Int32) ≤ nI i := nI_pos' h
theorem neg_ne {x k : Int32} (h : x < 0) (hk : 0 ≤ k) : ¬ x = k := fun e => Int32.not_lt.mpr hk (e ▸ h)
theorem big_ne {x k : Int32} (h : ¬ x ≤ 5) (hk : k ≤ 5) : ¬ x = k := fun e => h (e ▸ hk)
theorem sim_about {t : Nat} {v : RS} {w : MS} (h : Rel t v w) (pl wt : Int32) : pAbout v pl wt = mAbout w pl wt := by
  obtain ⟨hS, -, hR, -, hO⟩ := h
  have hw := hS.2.1
  have hn := mok_N hw
  unfold pAbout mAbout
  by_cases c1 : pl < 0
  · simp only [if_pos c1]
  · by_cases c2 : (15 : Int32) ≤ pl
    · simp only [if_neg c1, if_pos c2]
    · simp only [if_neg c1, if_neg c2]
      obtain ⟨p, hp, rfl⟩ := vp_in_of (in15 c1 c2) (by decide)
      have ep : ix (nI p) = p := nI_clamp (by omega)
      rcases ofpl hR hp with ⟨h1, h2⟩ | ⟨i, hi, hm, h2⟩
      · rw [h2, if_neg (show ¬ (0 : Int32) ≤ -1 by decide)]
        by_cases d1 : wt < 0
        · rw [if_pos d1, if_neg (neg_ne (k := 1) d1 (by decide))]
        · by_cases d2 : wt ≤ 5
          · rw [if_neg d1, if_pos d2, pAboutIn, ep, h1]
            by_cases d3 : wt = 1
            · rw [if_pos d3, if_pos d3]
            · rw [if_neg d3, if_neg d3, if_pos rfl]
          · rw [if_neg d1, if_neg d2, if_neg (big_ne (k := 1) d2 (by decide))]
      · have ei : ix (nI i) = i := nI_clamp (by omega)
        rw [h2, if_pos (ge0_nI (by omega)), mAboutIn, ei]
        by_cases d1 : wt < 0
        · rw [if_pos d1, if_neg (neg_ne (k := 0) d1 (by decide)), if_neg (neg_ne (k := 1) d1 (by decide)), if_neg (neg_ne (k := 2) d1 (by decide)), if_neg (neg_ne (k := 3) d1 (by decide)), if_neg (neg_ne (k := 4) d1 (by decide)), if_neg (neg_ne (k := 5) d1 (by decide))]
        · by_cases d2 : wt ≤ 5
          · rw [if_neg d1, if_pos d2, pAboutIn, ep]
            have e0 := stIs_ne0 hm.2.2.1
            have e4 := stIs_4 hm.2.2.1
            have es := st_eq hw hi hm
            obtain ⟨-, ⟨en, epa, eki⟩, -, er, -⟩ := id hm
            rcases le5 d1 d2 with rfl | rfl | rfl | rfl | rfl | rfl
            · simp [e0, en]
            · simp [es]
            · simp [e0, epa]
            · simp [e0, eki]
            · by_cases d3 : rst v p = 4
              · simp [d3, e4.mp d3, er (e4.mp d3)]
              · have : men w i = 0 := Classical.byContradiction (fun z => d3 (e4.mpr z))
                simp [e0, d3, this]
            · simp [e0, proc_of hS hR hO hi hm]
          · rw [if_neg d1, if_neg d2, if_neg (big_ne (k := 0) d2 (by decide)), if_neg (big_ne (k := 1) d2 (by decide)), if_neg (big_ne (k := 2) d2 (by decide)), if_neg (big_ne (k := 3) d2 (by decide)), if_neg (big_ne (k := 4) d2 (by decide)), if_neg (big_ne (k := 5) d2 (by decide))]
end
section
/-- all but st, wa, wd, on stays -/
def rKeep (v v' : RS) : Prop := rnu v' = rnu v ∧ rpa v' = rpa v ∧ rki v' = rki v ∧ rsa v' = rsa v ∧ rpr v' = rpr v ∧ rla v' = rla v ∧ rne v' = rne v ∧ rti v' = rti v ∧ rsu v' = rsu v
/-- all but on, wa, wh stays -/
def mKeep (w w' : MS) : Prop := (mth w' = mth w ∧ mpr w' = mpr w ∧ mma w' = mma w ∧ mti w' = mti w ∧ mlt w' = mlt w ∧ mtk w' = mtk w ∧ msu w' = msu w) ∧ mnu w' = mnu w ∧ mpl w' = mpl w ∧ mpa w' = mpa w ∧ men w' = men w ∧ mre w' = mre w ∧ mki w' = mki w
theorem hasE_keep {w w' : MS} {j : Nat} (e1 : mma w' = mma w) (e2 : mpa w' = mpa w) (e3 : mnu w' = mnu w) (e4 : men w' = men w) : hasE w' j ↔ hasE w j := by
  unfold hasE mN
  rw [e1, e2, e3, e4]
theorem stIs_keep {w w' : MS} {j : Nat} {x : Int32} (k : mKeep w w') (h1 : mon w' j = mon w j) (h2 : mwa w' j = mwa w j) (h3 : mwh w' j = mwh w j) : stIs w' j x ↔ stIs w j x := by
  obtain ⟨⟨-, -, k1, k2, -⟩, k3, -, k4, k5, -⟩ := k
  unfold stIs stl
  rw [hasE_keep k1 k4 k3 k5, h1, h2, h3, k2, k5]
theorem relR_keep {v v' : RS} {w w' : MS} (hR : RelR v w) (e1 : mN w' = mN w) (e2 : mpl w' = mpl w) (e3 : mnu w' = mnu w) (hM : ∀ i p, i < mN w → Mt v w i p → Mt v' w' i p) (h0 : ∀ p, p < 15 → ¬ rst v' p = 0 → ¬ rst v p = 0) : RelR v' w' := by
  obtain ⟨a, b, c, d⟩ := hR
  refine ⟨fun i hi => ?_, fun p hp h => ?_, fun i j hi hj e => ?_, fun i j hi hj e => ?_⟩
  · rw [e1] at hi
    obtain ⟨p, hp⟩ := a i hi
    exact ⟨p, hM i p hi hp⟩
  · rw [e1, e2]
    exact b p hp (h0 p hp h)
  · rw [e1] at hi hj
    rw [e2] at e
    exact c i j hi hj e
  · rw [e1] at hi hj
    rw [e3] at e
    exact d i j hi hj e
theorem upd_or (f : IA) (k : Nat) (x : Int32) (j : Nat) : (j = k ∧ upd f k x j = x) ∨ (j ≠ k ∧ upd f k x j = f j) := by
  by_cases h : j = k
  · exact Or.inl ⟨h, by rw [h, upd_self]⟩
  · exact Or.inr ⟨h, upd_ne h⟩
theorem mt_place {v : RS} {w : MS} {i p p' : Nat} (h : Mt v w i p) (h' : Mt v w i p') : p = p' := nI_inj (by have := h.1.1; omega) (by have := h'.1.1; omega) (h.1.2.symm.trans h'.1.2)
theorem mt_row {v : RS} {w : MS} (hR : RelR v w) {i j p : Nat} (hi : i < mN w) (hj : j < mN w) (h : Mt v w i p) (h' : Mt v w j p) : i = j := hR.2.2.1 i j hi hj (by rw [h.1.2, h'.1.2])
theorem mon_men {v : RS} {w : MS} {i p c : Nat} (h : Mt v w i p) (hc : c < 4) (e : mon w i = nI c) : men w i = 0 := by
  rcases h.2.2.2.2.1 with h1 | h1
  · rw [e] at h1; exact absurd h1 (nI_m1 (by omega))
  · exact h1.1
/-- a process leaves its processor and waits (or not) -/
theorem rel_wait {t : Nat} {v v' : RS} {w w' : MS} (h : Rel t v w) {c i p : Nat} (hc : c < 4) (hi : i < mN w) (hm : Mt v w i p) (hmon : mon w i = nI c) (hu : ∀ j, j < mN w → mon w j = nI c → j = i) {s wt wh : Int32}
    (kv : rKeep v v') (kw : mKeep w w') (a1 : ron v' = upd (ron v) c (-1)) (a2 : rst v' = upd (rst v) p s) (a3 : ∀ j, j ≠ p → rwa v' j = rwa v j ∧ rwd v' j = rwd v j) (b1 : mon w' = upd (mon w) i (-1)) (b2 : mwa w' = upd (mwa w) i wt) (b3 : mwh w' = upd (mwh w) i wh)
    (hs : stIs w' i s) (hs4 : ¬ s = 4) (h3 : s = 3 → wt = rwa v' p ∧ (wt = 2 → rwd v' p = rnu v p) ∧ (¬ wt = 2 → wh = rwd v' p)) : Rel t v' w' := by
  obtain ⟨hS, hB, hR, hZ, hO⟩ := h
  obtain ⟨⟨P1, P2, P3⟩, hw, s1, s2, s3, s4⟩ := hS
  have kv0 := kv
  have kw0 := kw
  obtain ⟨v1, v2, v3, v4, v5, v6, v7, v8, v9⟩ := kv
  obtain ⟨⟨m1, m2, m3, m4, m5, m6, m7⟩, m8, m9, m10, m11, m12, m13⟩ := kw
  have eN : mN w' = mN w := by show ix (mma w') = _; rw [m3]
  have hmen := mon_men hm hc hmon
  have hp := hm.1.1
  refine ⟨⟨⟨by rw [v5]; exact P1, fun j hj => ?_, by rw [v6]; exact P3⟩, ⟨by rw [m1]; exact hw.1, by rw [m3]; exact hw.2.1, by rw [m6]; exact hw.2.2.1, by rw [m11, m13]; exact hw.2.2.2⟩, by rw [v5, m2]; exact s1, by rw [v8, m4]; exact s2, by rw [v9, m7]; exact s3, by rw [v6, m6]; exact s4⟩, ?_, ?_, ?_, ?_, ?_⟩
  · rw [a1]
    rcases upd_or (ron v) c (-1) j with ⟨-, e⟩ | ⟨-, e⟩ <;> rw [e]
    · exact Or.inl rfl
    · exact P2 j hj
  · unfold RelB
    rw [m4, m5, eN, m8, v7]
    exact hB
  · refine relR_keep hR eN m9 m8 ?_ ?_
    · intro j p' hj hm'
      by_cases ej : j = i
      · subst ej
        obtain rfl := mt_place hm hm'
        obtain ⟨q1, q2, q3, q4, q5, q6⟩ := hm
        refine ⟨by rw [m9]; exact q1, by rw [m8, m10, m13, v1, v2, v3]; exact q2, by rw [a2, upd_self]; exact hs, by rw [m11, m12, v4]; exact q4, Or.inl (by rw [b1, upd_self]), ?_⟩
        rw [a2, b2, b3, upd_self, upd_self, upd_self, v1]
        exact h3
      · have hne : p' ≠ p := fun e => by subst e; exact ej (mt_row hR hj hi hm' hm)
        obtain ⟨q1, q2, q3, q4, q5, q6⟩ := hm'
        refine ⟨by rw [m9]; exact q1, by rw [m8, m10, m13, v1, v2, v3]; exact q2, ?_, by rw [m11, m12, v4]; exact q4, by rw [b1, b2, m11, upd_ne ej, upd_ne ej]; exact q5, ?_⟩
        · rw [a2, upd_ne hne]
          exact (stIs_keep kw0 (by rw [b1, upd_ne ej]) (by rw [b2, upd_ne ej]) (by rw [b3, upd_ne ej])).mpr q3
        · rw [a2, b2, b3, upd_ne hne, upd_ne ej, upd_ne ej, v1, (a3 p' hne).1, (a3 p' hne).2]
          exact q6
    · intro p' hp' hst
      rw [a2] at hst
      rcases upd_or (rst v) p s p' with ⟨e, -⟩ | ⟨-, e⟩
      · rw [e]; exact stIs_ne0 hm.2.2.1
      · rw [e] at hst; exact hst
  · intro hz
    rw [eN] at hz
    obtain ⟨z1, z2, z3⟩ := hZ hz
    rw [a2, v1]
    rcases upd_or (rst v) p s 0 with ⟨-, e⟩ | ⟨-, e⟩ <;> rw [e]
    · exact ⟨stIs_ne0 hs, hs4, z3⟩
    · exact ⟨z1, z2, z3⟩
  · intro q hq
    rw [eN, a1, m9, b1]
    by_cases e : q = c
    · subst e
      refine Or.inl ⟨upd_self _ _ _, fun j hj => ?_⟩
      rcases upd_or (mon w) i (-1) j with ⟨-, e⟩ | ⟨ne, e⟩ <;> rw [e]
      · exact fun z => nI_m1 (by omega) z.symm
      · exact fun z => ne (hu j hj z)
    · rw [upd_ne e]
      rcases hO.1 q hq with ⟨o1, o2⟩ | ⟨i', o1, o2, o3⟩
      · refine Or.inl ⟨o1, fun j hj => ?_⟩
        rcases upd_or (mon w) i (-1) j with ⟨-, e⟩ | ⟨ne, e⟩ <;> rw [e]
        · exact fun z => nI_m1 (by omega) z.symm
        · exact o2 j hj
      · have hne : i' ≠ i := fun z => by
          have h1 := (o3 i' o1).mpr rfl
          rw [z, hmon] at h1
          exact e (nI_inj (by omega) (by omega) h1).symm
        refine Or.inr ⟨i', o1, o2, fun j hj => ?_⟩
        rcases upd_or (mon w) i (-1) j with ⟨ej, e⟩ | ⟨ne, e⟩ <;> rw [e]
        · exact ⟨fun z => absurd z.symm (nI_m1 (by omega)), fun z => absurd (z.symm.trans ej) hne⟩
        · exact o3 j hj
  · intro q hq hle
    rw [a1]
    rcases upd_or (ron v) c (-1) q with ⟨-, e⟩ | ⟨-, e⟩ <;> rw [e]
    exact hO.2 q hq (by rw [← v5]; exact hle)
theorem leave_some {v : RS} {c p : Nat} {s : Int32} (hc : c < 4) (hp : p < 15) (e : rAt v (nI c) = nI p) : rLeave v (nI c) s = (nI p, zrst (zron v (upd (ron v) c (-1))) (upd (rst v) p s)) := by
  unfold rLeave
  rw [e, if_neg (nI_m1 (by omega)), show ix (nI c) = c from nI_clamp (by omega), show ix (nI p) = p from nI_clamp (by omega)]
theorem leave_none {v : RS} {q s : Int32} (e : rAt v q = -1) : rLeave v q s = (-1, v) := by
  unfold rLeave
  rw [if_pos e]
theorem waits_at {w : MS} {i : Nat} {wt wh : Int32} (hi : i < 16) : mWaitsFor w (nI i) wt wh = (mpl w i, (mth w, mpr w, mma w, mti w, mlt w, mtk w, msu w, mnu w, mpl w, mpa w, men w, mre w, mki w, upd (mon w) i (-1), upd (mwa w) i wt, upd (mwh w) i wh)) := by
  unfold mWaitsFor
  rw [show ix (nI i) = i from nI_clamp (by omega)]
theorem not_ge_m1 : ¬ (0 : Int32) ≤ -1 := by decide
theorem sim_rest {t : Nat} {v : RS} {w : MS} (h : Rel t v w) (q : Int32) : (rLeave v q 1).1 = (mRest w q).1 ∧ Rel (t + 1) (rLeave v q 1).2 (mRest w q).2 := by
  have hn := mok_N h.1.2.1
  rcases run_at h.1 h.2.2.1 h.2.2.2.2 q with ⟨e1, e2⟩ | ⟨c, i, p, hc, rfl, hcp, hi, hm, e2, e1, -, hmon, hu⟩
  · rw [leave_none e1, mRest, e2, if_neg not_ge_m1]
    exact ⟨rfl, h.up⟩
  · rw [leave_some hc hm.1.1 e1, mRest, e2, if_pos (ge0_nI (by omega)), waits_at (by omega)]
    refine ⟨hm.1.2.symm, Rel.up ?_⟩
    refine rel_wait h hc hi hm hmon hu (s := 1) (wt := 0) (wh := 0) ⟨rfl, rfl, rfl, rfl, rfl, rfl, rfl, rfl, rfl⟩ ⟨⟨rfl, rfl, rfl, rfl, rfl, rfl, rfl⟩, rfl, rfl, rfl, rfl, rfl, rfl⟩ rfl rfl (fun j _ => ⟨rfl, rfl⟩) rfl rfl rfl ?_ (by decide) (fun z => absurd z (by decide))
    refine Or.inr (Or.inr (Or.inr ⟨show men w i = 0 from mon_men hm hc hmon, ?_, ?_, rfl⟩))
    · show upd (mon w) i (-1) i < 0
      rw [upd_self]; decide
    · unfold stl
      show ¬ (upd (mwa w) i 0 i = 1 ∨ (upd (mwa w) i 0 i = 2 ∧ _) ∨ (upd (mwa w) i 0 i = 3 ∧ _))
      rw [upd_self]
      rintro (z | ⟨z, -⟩ | ⟨z, -⟩) <;> exact absurd z (by decide)
/-- the same for one that waits: kind wt, what wh -/
theorem sim_wait {t : Nat} {v : RS} {w : MS} (h : Rel t v w) {c i p : Nat} (hc : c < 4) (hi : i < mN w) (hm : Mt v w i p) (e1 : rAt v (nI c) = nI p) (hmon : mon w i = nI c) (hu : ∀ j, j < mN w → mon w j = nI c → j = i) {wt rwh wh : Int32}
    (hs : stl (mWaitsFor w (nI i) wt wh).2 i) (h2 : wt = 2 → rwh = rnu v p) (h3 : ¬ wt = 2 → wh = rwh) : (rWaitFor v (nI c) wt rwh).1 = nI p ∧ Rel t (rWaitFor v (nI c) wt rwh).2 (mWaitsFor w (nI i) wt wh).2 := by
  have hn := mok_N h.1.2.1
  have hp := hm.1.1
  have ep : ix (nI p) = p := nI_clamp (by omega)
  rw [waits_at (by omega)] at hs ⊢
  unfold rWaitFor
  rw [leave_some hc hp e1]
  simp only [if_neg (show ¬ nI p = -1 from nI_m1 (by omega)), ep]
  refine ⟨trivial, rel_wait h hc hi hm hmon hu (s := 3) (wt := wt) (wh := wh) ⟨rfl, rfl, rfl, rfl, rfl, rfl, rfl, rfl, rfl⟩ ⟨⟨rfl, rfl, rfl, rfl, rfl, rfl, rfl⟩, rfl, rfl, rfl, rfl, rfl, rfl⟩ rfl rfl (fun j hj => ⟨upd_ne hj, upd_ne hj⟩) rfl rfl rfl ?_ (by decide) (fun _ => ?_)⟩
  · refine Or.inr (Or.inr (Or.inl ⟨show men w i = 0 from mon_men hm hc hmon, ?_, hs, rfl⟩))
    show upd (mon w) i (-1) i < 0
    rw [upd_self]; decide
  · show wt = upd (rwa v) p wt p ∧ (wt = 2 → upd (rwd v) p rwh p = rnu v p) ∧ (¬ wt = 2 → wh = upd (rwd v) p rwh p)
    rw [upd_self, upd_self]
    exact ⟨rfl, h2, h3⟩
theorem wait_none {v : RS} {q kd wh : Int32} (e : rAt v q = -1) : rWaitFor v q kd wh = (-1, v) := by
  unfold rWaitFor
  rw [leave_none e]
  simp
theorem sim_block {t : Nat} {v : RS} {w : MS} (h : Rel t v w) (q ch : Int32) : (rWaitFor v q 1 ch).1 = (mBlock w q ch).1 ∧ Rel (t + 1) (rWaitFor v q 1 ch).2 (mBlock w q ch).2 := by
  have hn := mok_N h.1.2.1
  rcases run_at h.1 h.2.2.1 h.2.2.2.2 q with ⟨e1, e2⟩ | ⟨c, i, p, hc, rfl, hcp, hi, hm, e2, e1, -, hmon, hu⟩
  · rw [wait_none e1, mBlock, e2, if_neg not_ge_m1]
    exact ⟨rfl, h.up⟩
  · rw [mBlock, e2, if_pos (ge0_nI (by omega))]
    obtain ⟨r1, r2⟩ := sim_wait h hc hi hm e1 hmon hu (wt := 1) (rwh := ch) (wh := ch) (by
      rw [waits_at (by omega)]
      exact Or.inl (upd_self _ _ _)) (fun z => absurd z (by decide)) (fun _ => rfl)
    refine ⟨?_, r2.up⟩
    rw [r1, waits_at (by omega)]
    exact hm.1.2.symm
theorem until_gt {x n : Int32} {b : Nat} (hb : b < 2147483647) (hx : x = nI b) (hn : 1 ≤ n) : ¬ (if x ≤ 2147483647 - n then x + n else 2147483647) ≤ x := by
  have hn0 : ¬ n < 0 := fun z => absurd (Int32.le_trans hn (Int32.le_of_lt z)) (by decide)
  obtain ⟨m, hm, rfl⟩ := nI_of hn0
  have hm1 : 1 ≤ m := (nI_leI (a := 1) (by decide) hm).mp hn
  have eM : (2147483647 : Int32) = nI 2147483647 := by decide
  subst hx
  split
  · rename_i c
    rw [eM, pk_sub (by omega), nI_leI (by omega) (by omega)] at c
    rw [nI_add]
    exact nI_ge (by omega) (by omega)
  · rw [eM]
    exact nI_ge hb (by decide)
theorem sim_sleep {t : Nat} {v : RS} {w : MS} (ht : t < 1000) (h : Rel t v w) (q n : Int32) : (rSleep v q n).1 = (mSleep w q n).1 ∧ Rel (t + 1) (rSleep v q n).2 (mSleep w q n).2 := by
  have hn := mok_N h.1.2.1
  have hti : rti v = mti w := h.1.2.2.2.1
  obtain ⟨b, hb, hbt⟩ := h.2.1.1
  have eU : rUntil v n = mUntil w n := by unfold rUntil mUntil; rw [hti]
  unfold rSleep mSleep
  rcases run_at h.1 h.2.2.1 h.2.2.2.2 q with ⟨e1, e2⟩ | ⟨c, i, p, hc, rfl, hcp, hi, hm, e2, e1, -, hmon, hu⟩
  · rw [e2, if_neg not_ge_m1]
    by_cases c1 : 1 ≤ n
    · rw [if_pos c1, wait_none e1]
      exact ⟨rfl, h.up⟩
    · rw [if_neg c1, e1]
      exact ⟨rfl, h.up⟩
  · have ei : ix (nI i) = i := nI_clamp (by omega)
    rw [e2, if_pos (ge0_nI (by omega))]
    by_cases c1 : 1 ≤ n
    · rw [if_pos c1, if_pos c1]
      obtain ⟨r1, r2⟩ := sim_wait h hc hi hm e1 hmon hu (wt := 3) (rwh := rUntil v n) (wh := mUntil w n) (by
        rw [waits_at (by omega)]
        refine Or.inr (Or.inr ⟨upd_self _ _ _, ?_⟩)
        show ¬ upd (mwh w) i (mUntil w n) i ≤ mti w
        rw [upd_self]
        exact until_gt (by omega) hbt c1) (fun z => absurd z (by decide)) (fun _ => eU.symm)
      refine ⟨?_, r2.up⟩
      rw [r1, waits_at (by omega)]
      exact hm.1.2.symm
    · rw [if_neg c1, if_neg c1, e1, ei]
      exact ⟨hm.1.2.symm, h.up⟩
end
section
theorem fst_congr {C C' : Nat → Prop} [DecidablePred C] [DecidablePred C'] {N : Nat} (h : ∀ j, j < N → (C j ↔ C' j)) : fst C N = fst C' N := by
  obtain ⟨a1, a2, a3⟩ := fst_spec C' N
  refine fst_is a1 (fun j hj z => a2 j hj ((h j (by omega)).mp z)) ?_
  by_cases e : fst C' N = N
  · exact Or.inl e
  · exact Or.inr ((h _ (by omega)).mpr (a3 (by omega)))
/-- processors, numbers, places, parents stay: what is owed of the rows -/
theorem rel_same {t : Nat} {v v' : RS} {w w' : MS} (h : Rel t v w) (kv : rnu v' = rnu v ∧ rpa v' = rpa v ∧ rsa v' = rsa v ∧ ron v' = ron v ∧ rpr v' = rpr v ∧ rla v' = rla v ∧ rne v' = rne v ∧ rti v' = rti v ∧ rsu v' = rsu v)
    (kw : (mth w' = mth w ∧ mpr w' = mpr w ∧ mma w' = mma w ∧ mti w' = mti w ∧ mlt w' = mlt w ∧ mtk w' = mtk w ∧ msu w' = msu w) ∧ mnu w' = mnu w ∧ mpl w' = mpl w ∧ men w' = men w ∧ mon w' = mon w) (hk : ∀ j, j < 16 → is01 (mki w' j))
    (hM : ∀ i p, i < mN w → Mt v w i p → Mt v' w' i p) (h0 : ∀ p, p < 15 → ¬ rst v' p = 0 → ¬ rst v p = 0) (hz : ¬ rst v 0 = 0 → ¬ rst v 0 = 4 → ¬ rst v' 0 = 0 ∧ ¬ rst v' 0 = 4) : Rel t v' w' := by
  obtain ⟨⟨⟨P1, P2, P3⟩, hw, s1, s2, s3, s4⟩, hB, hR, hZ, hO⟩ := h
  obtain ⟨v1, v2, v4, v10, v5, v6, v7, v8, v9⟩ := kv
  obtain ⟨⟨m1, m2, m3, m4, m5, m6, m7⟩, m8, m9, m11, m14⟩ := kw
  have eN : mN w' = mN w := by show ix (mma w') = _; rw [m3]
  refine ⟨⟨⟨by rw [v5]; exact P1, by rw [v10]; exact P2, by rw [v6]; exact P3⟩, ⟨by rw [m1]; exact hw.1, by rw [m3]; exact hw.2.1, by rw [m6]; exact hw.2.2.1, fun j hj => ⟨by rw [m11]; exact (hw.2.2.2 j hj).1, hk j hj⟩⟩, by rw [v5, m2]; exact s1, by rw [v8, m4]; exact s2, by rw [v9, m7]; exact s3, by rw [v6, m6]; exact s4⟩, ?_, relR_keep hR eN m9 m8 hM h0, ?_, ?_⟩
  · unfold RelB
    rw [m4, m5, eN, m8, v7]
    exact hB
  · intro z
    rw [eN] at z
    obtain ⟨z1, z2, z3⟩ := hZ z
    rw [v1]
    exact ⟨(hz z1 z2).1, (hz z1 z2).2, z3⟩
  · unfold RelO
    rw [eN, v10, m9, m14, v5]
    exact hO
theorem mIs_iff {v : RS} {w : MS} {i p : Nat} {ch : Int32} (hm : Mt v w i p) : mIs w ch i ↔ rIs v 1 ch p := by
  obtain ⟨-, -, q3, -, q5, q6⟩ := hm
  constructor
  · rintro ⟨a, b, c, d⟩
    have h3 : rst v p = 3 := (stIs_3 q3).mpr ⟨a, Int32.not_le.mp b, Or.inl c⟩
    obtain ⟨g1, -, g3⟩ := q6 h3
    exact ⟨h3, by rw [← g1]; exact c, Or.inr ⟨by decide, by rw [← g3 (by rw [c]; decide)]; exact d⟩⟩
  · rintro ⟨a, b, c⟩
    obtain ⟨g1, -, g3⟩ := q6 a
    obtain ⟨s1, s2, -⟩ := (stIs_3 q3).mp a
    have e1 : mwa w i = 1 := g1.trans b
    rcases c with ⟨c, -⟩ | ⟨-, c⟩
    · exact absurd c (by decide)
    · exact ⟨s1, Int32.not_le.mpr s2, e1, by rw [g3 (by rw [e1]; decide)]; exact c⟩
theorem sim_wake {t : Nat} {v : RS} {w : MS} (h : Rel t v w) (ch : Int32) : (rWake v 1 ch).1 = (mWake w ch).1 ∧ Rel (t + 1) (rWake v 1 ch).2 (mWake w ch).2 := by
  have hR := h.2.2.1
  refine ⟨(cnt_rows hR (fun i p _ hm => mIs_iff hm) (fun p _ hb z => absurd (hb.1.symm.trans z) (by decide))).symm, Rel.up ?_⟩
  have wk : ∀ p, p < 15 → wkS v 1 ch 15 p = if rIs v 1 ch p then 1 else rst v p := by
    intro p hp
    unfold wkS
    by_cases c : rIs v 1 ch p
    · rw [if_pos ⟨hp, c⟩, if_pos c]
    · rw [if_neg (fun z => c z.2), if_neg c]
  have mw : ∀ i, i < mN w → mwS w ch (mN w) i = if mIs w ch i then 0 else mwa w i := by
    intro i hi
    unfold mwS
    by_cases c : mIs w ch i
    · rw [if_pos ⟨hi, c⟩, if_pos c]
    · rw [if_neg (fun z => c z.2), if_neg c]
  refine rel_same h ⟨rfl, rfl, rfl, rfl, rfl, rfl, rfl, rfl, rfl⟩ ⟨⟨rfl, rfl, rfl, rfl, rfl, rfl, rfl⟩, rfl, rfl, rfl, rfl⟩ (fun j hj => (h.1.2.1.2.2.2 j hj).2) ?_ ?_ ?_
  · intro i p hi hm
    have iff := mIs_iff (ch := ch) hm
    have ew := wk p hm.1.1
    have em := mw i hi
    obtain ⟨q1, q2, q3, q4, q5, q6⟩ := hm
    by_cases c : mIs w ch i
    · rw [if_pos (iff.mp c)] at ew
      rw [if_pos c] at em
      refine ⟨q1, q2, ?_, q4, ?_, ?_⟩
      · show stIs _ i (wkS v 1 ch 15 p)
        rw [ew]
        refine Or.inr (Or.inr (Or.inr ⟨c.1, Int32.not_le.mp c.2.1, ?_, rfl⟩))
        show ¬ (mwS w ch (mN w) i = 1 ∨ (mwS w ch (mN w) i = 2 ∧ _) ∨ (mwS w ch (mN w) i = 3 ∧ _))
        rw [em]
        rintro (z | ⟨z, -⟩ | ⟨z, -⟩) <;> exact absurd z (by decide)
      · show mon w i = -1 ∨ (men w i = 0 ∧ mwS w ch (mN w) i = 0 ∧ _)
        rcases q5 with q5 | q5
        · exact Or.inl q5
        · exact Or.inr ⟨q5.1, em, q5.2.2⟩
      · show wkS v 1 ch 15 p = 3 → _
        rw [ew]
        exact fun z => absurd z (by decide)
    · rw [if_neg (fun z => c (iff.mpr z))] at ew
      rw [if_neg c] at em
      refine ⟨q1, q2, ?_, q4, ?_, ?_⟩
      · show stIs _ i (wkS v 1 ch 15 p)
        rw [ew]
        exact (stIs_keep (w := w) (w' := (mWake w ch).2) (j := i) ⟨⟨rfl, rfl, rfl, rfl, rfl, rfl, rfl⟩, rfl, rfl, rfl, rfl, rfl, rfl⟩ rfl em rfl).mpr q3
      · show mon w i = -1 ∨ (men w i = 0 ∧ mwS w ch (mN w) i = 0 ∧ _)
        rw [em]
        exact q5
      · show wkS v 1 ch 15 p = 3 → (mwS w ch (mN w) i = _ ∧ (mwS w ch (mN w) i = 2 → _) ∧ (¬ mwS w ch (mN w) i = 2 → _))
        rw [ew, em]
        exact q6
  · intro p hp z
    have z : ¬ wkS v 1 ch 15 p = 0 := z
    rw [wk p hp] at z
    by_cases c : rIs v 1 ch p
    · exact fun y => absurd (c.1.symm.trans y) (by decide)
    · rw [if_neg c] at z; exact z
  · intro z1 z2
    show ¬ wkS v 1 ch 15 0 = 0 ∧ ¬ wkS v 1 ch 15 0 = 4
    rw [wk 0 (by decide)]
    by_cases c : rIs v 1 ch 0
    · rw [if_pos c]; decide
    · rw [if_neg c]; exact ⟨z1, z2⟩
theorem live_row {v : RS} {w : MS} (hR : RelR v w) {p : Nat} {n : Int32} (hp : p < 15) (h : rLive v n p) : ∃ i, i < mN w ∧ Mt v w i p ∧ men w i = 0 ∧ mnu w i = n := by
  rcases look hR hp with ⟨h1, -⟩ | ⟨i, hi, hm⟩
  · exact absurd h1 h.1
  · refine ⟨i, hi, hm, ?_, by rw [hm.2.1.1]; exact h.2.2⟩
    exact Classical.byContradiction (fun z => h.2.1 ((stIs_4 hm.2.2.1).mpr z))
theorem sim_kill {t : Nat} {v : RS} {w : MS} (h : Rel t v w) (n : Int32) : (rKill v n).1 = (mKill w n).1 ∧ Rel (t + 1) (rKill v n).2 (mKill w n).2 := by
  have hn := mok_N h.1.2.1
  have hR := h.2.2.1
  obtain ⟨f1, f2, f3⟩ := fst_spec (rLive v n) 15
  unfold rKill mKill mOfNumber
  rcases lst_spec (fun j => mnu w j = n) (mN w) with ⟨e, hno⟩ | ⟨i, hi, hnu, e, -⟩
  · rw [e, if_pos m1_neg]
    rw [if_neg (fun z => by
      obtain ⟨j, hj, -, -, e2⟩ := live_row hR z (f3 z)
      exact hno j hj e2)]
    exact ⟨rfl, h.up⟩
  · have ei : ix (nI i) = i := nI_clamp (by omega)
    rw [e, if_neg (nI_pos (by omega)), ei]
    by_cases c : men w i = 0
    · rw [if_pos c]
      obtain ⟨p, hm⟩ := hR.1 i hi
      have hl : rLive v n p := ⟨stIs_ne0 hm.2.2.1, fun z => (stIs_4 hm.2.2.1).mp z c, by rw [← hm.2.1.1]; exact hnu⟩
      have hlt : fst (rLive v n) 15 < 15 := by
        rcases Nat.lt_or_ge (fst (rLive v n) 15) 15 with z | z
        · exact z
        · exact absurd hl (f2 p (by have := hm.1.1; omega))
      have ep : fst (rLive v n) 15 = p := by
        obtain ⟨j, hj, hm2, -, e2⟩ := live_row hR hlt (f3 hlt)
        have : j = i := hR.2.2.2 j i hj hi (e2.trans hnu.symm)
        subst this
        exact mt_place hm2 hm
      rw [if_pos hlt, ep]
      refine ⟨rfl, Rel.up ?_⟩
      have hp := hm.1.1
      refine rel_same h ⟨rfl, rfl, rfl, rfl, rfl, rfl, rfl, rfl, rfl⟩ ⟨⟨rfl, rfl, rfl, rfl, rfl, rfl, rfl⟩, rfl, rfl, rfl, rfl⟩ ?_ ?_ ?_ ?_
      · intro j hj
        show is01 (upd (mki w) i 1 j)
        rcases upd_or (mki w) i 1 j with ⟨-, e⟩ | ⟨-, e⟩ <;> rw [e]
        · exact Or.inr rfl
        · exact (h.1.2.1.2.2.2 j hj).2
      · intro j p' hj hm'
        by_cases ej : j = i
        · subst ej
          obtain rfl := mt_place hm hm'
          obtain ⟨q1, q2, q3, q4, q5, q6⟩ := hm
          have es : upd (rst v) p (if rst v p = 3 then 1 else rst v p) p = if rst v p = 3 then 1 else rst v p := upd_self _ _ _
          refine ⟨q1, ⟨q2.1, q2.2.1, ?_⟩, ?_, q4, ?_, ?_⟩
          · show upd (mki w) j 1 j = upd (rki v) p 1 p
            rw [upd_self, upd_self]
          · show stIs _ j (upd (rst v) p (if rst v p = 3 then 1 else rst v p) p)
            rw [es]
            by_cases d : mon w j < 0
            · have : (if rst v p = 3 then (1 : Int32) else rst v p) = 1 := by
                split
                · rfl
                · rename_i d3
                  exact (stIs_1 q3).mpr ⟨c, d, fun z => d3 ((stIs_3 q3).mpr ⟨c, d, z⟩)⟩
              rw [this]
              refine Or.inr (Or.inr (Or.inr ⟨c, d, ?_, rfl⟩))
              show ¬ (upd (mwa w) j 0 j = 1 ∨ (upd (mwa w) j 0 j = 2 ∧ _) ∨ (upd (mwa w) j 0 j = 3 ∧ _))
              rw [upd_self]
              rintro (z | ⟨z, -⟩ | ⟨z, -⟩) <;> exact absurd z (by decide)
            · have e2 : rst v p = 2 := (stIs_2 q3).mpr ⟨c, d⟩
              rw [e2]
              exact Or.inr (Or.inl ⟨c, d, rfl⟩)
          · show mon w j = -1 ∨ (men w j = 0 ∧ upd (mwa w) j 0 j = 0 ∧ _)
            rcases q5 with q5 | q5
            · exact Or.inl q5
            · exact Or.inr ⟨q5.1, upd_self _ _ _, q5.2.2⟩
          · show upd (rst v) p (if rst v p = 3 then 1 else rst v p) p = 3 → _
            rw [es]
            intro z
            split at z
            · exact absurd z (by decide)
            · rename_i d3
              exact absurd z d3
        · have hne : p' ≠ p := fun z => by subst z; exact ej (mt_row hR hj hi hm' hm)
          obtain ⟨q1, q2, q3, q4, q5, q6⟩ := hm'
          refine ⟨q1, ⟨q2.1, q2.2.1, ?_⟩, ?_, q4, ?_, ?_⟩
          · show upd (mki w) i 1 j = upd (rki v) p 1 p'
            rw [upd_ne ej, upd_ne hne]
            exact q2.2.2
          · show stIs _ j (upd (rst v) p (if rst v p = 3 then 1 else rst v p) p')
            rw [upd_ne hne]
            unfold stIs stl hasE
            show (¬ men w j = 0 ∧ _) ∨ (men w j = 0 ∧ _ ∧ _) ∨ (men w j = 0 ∧ mon w j < 0 ∧ (upd (mwa w) i 0 j = 1 ∨ (upd (mwa w) i 0 j = 2 ∧ _) ∨ (upd (mwa w) i 0 j = 3 ∧ _)) ∧ _) ∨ (men w j = 0 ∧ mon w j < 0 ∧ ¬ (upd (mwa w) i 0 j = 1 ∨ (upd (mwa w) i 0 j = 2 ∧ _) ∨ (upd (mwa w) i 0 j = 3 ∧ _)) ∧ _)
            rw [upd_ne ej]
            exact q3
          · show mon w j = -1 ∨ (men w j = 0 ∧ upd (mwa w) i 0 j = 0 ∧ _)
            rw [upd_ne ej]
            exact q5
          · show upd (rst v) p (if rst v p = 3 then 1 else rst v p) p' = 3 → (upd (mwa w) i 0 j = _ ∧ (upd (mwa w) i 0 j = 2 → _) ∧ (¬ upd (mwa w) i 0 j = 2 → _))
            rw [upd_ne hne, upd_ne ej]
            exact q6
      · intro p' hp' z
        have z : ¬ upd (rst v) p (if rst v p = 3 then 1 else rst v p) p' = 0 := z
        by_cases e2 : p' = p
        · rw [e2]; exact stIs_ne0 hm.2.2.1
        · rw [upd_ne e2] at z; exact z
      · intro z1 z2
        show ¬ upd (rst v) p (if rst v p = 3 then 1 else rst v p) 0 = 0 ∧ ¬ upd (rst v) p (if rst v p = 3 then 1 else rst v p) 0 = 4
        by_cases e2 : 0 = p
        · subst e2
          rw [upd_self]
          split
          · decide
          · exact ⟨z1, z2⟩
        · rw [upd_ne e2]; exact ⟨z1, z2⟩
    · rw [if_neg c]
      rw [if_neg (fun z => by
        obtain ⟨j, hj, -, a, e2⟩ := live_row hR z (f3 z)
        have : j = i := hR.2.2.2 j i hj hi (e2.trans hnu.symm)
        subst this
        exact c a)]
      exact ⟨rfl, h.up⟩
end
section
theorem rel_take {t : Nat} {v : RS} {w : MS} (h : Rel t v w) {c i p : Nat} (hc : c < 4) (hcp : nI c < rpr v) (hi : i < mN w) (hm : Mt v w i p) (hr : rst v p = 1) (hno : ∀ j, j < mN w → ¬ mon w j = nI c) : Rel t (rTake v (nI c) (nI p)) (mTaken w (nI c) (nI i)) := by
  have hn := mok_N h.1.2.1
  have hp := hm.1.1
  obtain ⟨⟨⟨P1, P2, P3⟩, hw, s1, s2, s3, s4⟩, hB, hR, hZ, hO⟩ := h
  unfold rTake mTaken
  rw [show ix (nI c) = c from nI_clamp (by omega), show ix (nI p) = p from nI_clamp (by omega), show ix (nI i) = i from nI_clamp (by omega)]
  obtain ⟨r1, r2, r3⟩ := (stIs_1 hm.2.2.1).mp hr
  refine ⟨⟨⟨P1, fun j hj => ?_, ⟨p, hp, rfl⟩⟩, ⟨hw.1, hw.2.1, ⟨p, hp, hm.1.2⟩, hw.2.2.2⟩, s1, s2, s3, hm.1.2.symm⟩, hB, relR_keep hR rfl rfl rfl ?_ ?_, ?_, ?_, ?_⟩
  · show isPl (upd (ron v) c (nI p) j)
    rcases upd_or (ron v) c (nI p) j with ⟨-, e⟩ | ⟨-, e⟩ <;> rw [e]
    · exact Or.inr ⟨p, hp, rfl⟩
    · exact P2 j hj
  · intro j p' hj hm'
    by_cases ej : j = i
    · subst ej
      obtain rfl := mt_place hm hm'
      obtain ⟨q1, q2, q3, q4, q5, q6⟩ := hm
      refine ⟨q1, q2, ?_, q4, Or.inr ⟨r1, upd_self _ _ _, c, hc, upd_self _ _ _⟩, ?_⟩
      · show stIs _ j (upd (rst v) p 2 p)
        rw [upd_self]
        refine Or.inr (Or.inl ⟨r1, ?_, rfl⟩)
        show ¬ upd (mon w) j (nI c) j < 0
        rw [upd_self]
        exact nI_pos (by omega)
      · show upd (rst v) p 2 p = 3 → _
        rw [upd_self]
        exact fun z => absurd z (by decide)
    · have hne : p' ≠ p := fun z => by subst z; exact ej (mt_row hR hj hi hm' hm)
      obtain ⟨q1, q2, q3, q4, q5, q6⟩ := hm'
      refine ⟨q1, q2, ?_, q4, ?_, ?_⟩
      · show stIs _ j (upd (rst v) p 2 p')
        rw [upd_ne hne]
        unfold stIs stl hasE
        show (¬ men w j = 0 ∧ _) ∨ (men w j = 0 ∧ ¬ upd (mon w) i (nI c) j < 0 ∧ _) ∨ (men w j = 0 ∧ upd (mon w) i (nI c) j < 0 ∧ (upd (mwa w) i 0 j = 1 ∨ (upd (mwa w) i 0 j = 2 ∧ _) ∨ (upd (mwa w) i 0 j = 3 ∧ _)) ∧ _) ∨ (men w j = 0 ∧ upd (mon w) i (nI c) j < 0 ∧ ¬ (upd (mwa w) i 0 j = 1 ∨ (upd (mwa w) i 0 j = 2 ∧ _) ∨ (upd (mwa w) i 0 j = 3 ∧ _)) ∧ _)
        rw [upd_ne ej, upd_ne ej]
        exact q3
      · show upd (mon w) i (nI c) j = -1 ∨ (men w j = 0 ∧ upd (mwa w) i 0 j = 0 ∧ ∃ q, q < 4 ∧ upd (mon w) i (nI c) j = nI q)
        rw [upd_ne ej, upd_ne ej]
        exact q5
      · show upd (rst v) p 2 p' = 3 → (upd (mwa w) i 0 j = _ ∧ (upd (mwa w) i 0 j = 2 → _) ∧ (¬ upd (mwa w) i 0 j = 2 → _))
        rw [upd_ne hne, upd_ne ej]
        exact q6
  · intro p' hp' z
    have z : ¬ upd (rst v) p 2 p' = 0 := z
    by_cases e2 : p' = p
    · rw [e2]; exact stIs_ne0 hm.2.2.1
    · rw [upd_ne e2] at z; exact z
  · intro z
    obtain ⟨z1, z2, z3⟩ := hZ z
    show ¬ upd (rst v) p 2 0 = 0 ∧ ¬ upd (rst v) p 2 0 = 4 ∧ _
    rcases upd_or (rst v) p 2 0 with ⟨-, e⟩ | ⟨-, e⟩ <;> rw [e]
    · exact ⟨by decide, by decide, z3⟩
    · exact ⟨z1, z2, z3⟩
  · intro q hq
    show (upd (ron v) c (nI p) q = -1 ∧ ∀ j, j < mN w → ¬ upd (mon w) i (nI c) j = nI q) ∨ ∃ k, k < mN w ∧ upd (ron v) c (nI p) q = mpl w k ∧ ∀ j, j < mN w → (upd (mon w) i (nI c) j = nI q ↔ j = k)
    by_cases e : q = c
    · subst e
      refine Or.inr ⟨i, hi, by rw [upd_self, hm.1.2], fun j hj => ?_⟩
      rcases upd_or (mon w) i (nI q) j with ⟨ej, e⟩ | ⟨ne, e⟩ <;> rw [e]
      · exact ⟨fun _ => ej, fun _ => rfl⟩
      · exact ⟨fun z => absurd z (hno j hj), fun z => absurd z ne⟩
    · rw [upd_ne e]
      have hcq : ¬ nI c = nI q := fun z => e (nI_inj (by omega) (by omega) z).symm
      rcases hO.1 q hq with ⟨o1, o2⟩ | ⟨i', o1, o2, o3⟩
      · refine Or.inl ⟨o1, fun j hj => ?_⟩
        rcases upd_or (mon w) i (nI c) j with ⟨-, e⟩ | ⟨-, e⟩ <;> rw [e]
        · exact hcq
        · exact o2 j hj
      · have hne : i' ≠ i := fun z => by
          have h1 := (o3 i' o1).mpr rfl
          rw [z] at h1
          rw [h1] at r2
          exact nI_pos (by omega) r2
        refine Or.inr ⟨i', o1, o2, fun j hj => ?_⟩
        rcases upd_or (mon w) i (nI c) j with ⟨ej, e⟩ | ⟨-, e⟩ <;> rw [e]
        · exact ⟨fun z => absurd z hcq, fun z => absurd (z.symm.trans ej) hne⟩
        · exact o3 j hj
  · intro q hq hle
    show upd (ron v) c (nI p) q = -1
    have hle : rpr v ≤ nI q := hle
    by_cases e : q = c
    · subst e
      exact absurd hle (Int32.not_le.mpr hcp)
    · rw [upd_ne e]
      exact hO.2 q hq hle
theorem can_iff {v : RS} {w : MS} (hS : RelS v w) (hR : RelR v w) (j : Nat) : mCan w j ↔ rst v (rPl v j) = 1 := by
  have hn := mok_N hS.2.1
  have e : mPl w j = rPl v j := by unfold mPl rPl; rw [hS.2.2.2.2.2]
  rw [show mCan w j ↔ (¬ mOfPlace w (nI (rPl v j)) < 0 ∧ mState w (mOfPlace w (nI (rPl v j))) = 1) from by unfold mCan; rw [e]]
  rcases ofpl hR (rPl_lt v j) with ⟨h1, h2⟩ | ⟨i, hi, hm, h2⟩
  · rw [h1, h2]
    exact ⟨fun z => absurd m1_neg z.1, fun z => absurd z (by decide)⟩
  · rw [h2, st_eq hS.2.1 hi hm]
    exact ⟨fun z => z.2, fun z => ⟨nI_pos (by omega), z⟩⟩
theorem sim_pick {t : Nat} {v : RS} {w : MS} (h : Rel t v w) (q : Int32) : (rPick v q).1 = (mPick w q).1 ∧ Rel (t + 1) (rPick v q).2 (mPick w q).2 := by
  have hS := h.1
  have hR := h.2.2.1
  have hO := h.2.2.2.2
  have hn := mok_N hS.2.1
  have hpr : rpr v = mpr w := hS.2.2.1
  unfold rPick mPick
  by_cases c1 : q < 0
  · simp only [if_pos c1]
    exact ⟨trivial, h.up⟩
  · simp only [if_neg c1]
    by_cases c2 : q < rpr v
    · rw [if_pos c2, if_pos (show q < mpr w by rw [← hpr]; exact c2)]
      obtain ⟨c, hc, rfl⟩ := vp_in_of (rok_pr hS.1 c1 (Int32.not_le.mpr c2)) (by decide)
      have ec : ix (nI c) = c := nI_clamp (by omega)
      rw [ec]
      rcases run_at hS hR hO (nI c) with ⟨e1, e2⟩ | ⟨c', i, p, hc', ec', -, hi, hm, e2, e1, e3, hmon, -⟩
      · have hon : ron v c = -1 := by
          unfold rAt at e1
          rw [if_neg c1, if_neg (Int32.not_le.mpr c2), ec] at e1
          exact e1
        have hno : ∀ j, j < mN w → ¬ mon w j = nI c := by
          rcases hO.1 c hc with ⟨-, o⟩ | ⟨i, hi, o, -⟩
          · exact o
          · obtain ⟨p, hm⟩ := hR.1 i hi
            rw [hon, hm.1.2] at o
            exact absurd o.symm (nI_m1 (by have := hm.1.1; omega))
        have ef : fst (mCan w) 15 = fst (fun j => rst v (rPl v j) = 1) 15 := fst_congr (fun j _ => can_iff hS hR j)
        have er : mRow w (nI c) = mFound w := by unfold mRow; rw [e2, if_neg not_ge_m1]
        obtain ⟨f1, f2, f3⟩ := fst_spec (fun j => rst v (rPl v j) = 1) 15
        rw [if_pos hon, er]
        by_cases hf : fst (fun j => rst v (rPl v j) = 1) 15 < 15
        · have hst := f3 hf
          rw [if_pos hf]
          generalize hj : fst (fun j => rst v (rPl v j) = 1) 15 = j at *
          have epl : mPl w j = rPl v j := by unfold mPl rPl; rw [hS.2.2.2.2.2]
          rcases ofpl hR (rPl_lt v j) with ⟨g1, g2⟩ | ⟨i, hi, hm, g2⟩
          · rw [g1] at hst
            exact absurd hst (by decide)
          · have eF : mFound w = nI i := by unfold mFound; rw [ef, if_pos hf, epl, g2]
            have ei : ix (nI i) = i := nI_clamp (by omega)
            obtain ⟨-, r2, -⟩ := (stIs_1 hm.2.2.1).mp hst
            rw [eF, if_pos (ge0_nI (by omega)), ei, if_neg (fun z => by rw [z] at r2; exact nI_pos (by omega) r2)]
            exact ⟨hm.1.2.symm, (rel_take h hc c2 hi hm hst hno).up⟩
        · have eF : mFound w = -1 := by unfold mFound; rw [ef, if_neg hf]
          rw [if_neg hf, eF, if_neg not_ge_m1]
          exact ⟨rfl, h.up⟩
      · have := nI_inj (by omega) (by omega) ec'
        subst this
        have ei : ix (nI i) = i := nI_clamp (by omega)
        have er : mRow w (nI c) = nI i := by unfold mRow; rw [e2, if_pos (ge0_nI (by omega))]
        rw [er, if_pos (ge0_nI (by omega)), ei, if_pos hmon, e3, if_neg (nI_m1 (by have := hm.1.1; omega))]
        exact ⟨hm.1.2.symm, h.up⟩
    · rw [if_neg c2, if_neg (show ¬ q < mpr w by rw [← hpr]; exact c2)]
      exact ⟨rfl, h.up⟩
end
section
theorem empty_iff {t : Nat} {v : RS} {w : MS} (h : Rel t v w) : rst v 0 = 0 ↔ mN w = 0 := by
  obtain ⟨-, -, hR, hZ, -⟩ := h
  constructor
  · intro z
    rcases Nat.eq_zero_or_pos (mN w) with e | e
    · exact e
    · exact absurd z (hZ e).1
  · intro z
    refine Classical.byContradiction (fun y => ?_)
    obtain ⟨i, hi, -⟩ := hR.2.1 0 (by decide) y
    omega
theorem ma_0 {w : MS} (hw : Mok w) : mma w = 0 ↔ mN w = 0 := by
  obtain ⟨n, h1, h2⟩ := hw.2.1
  rw [mN_is h2 h1, h2]
  exact nI_eq (b := 0) (by omega) (by decide)
/-- what the ring is when every processor below n has been left -/
theorem tickL_is {v : RS} (hv : Rok v) {P : Nat} (hP : rpr v = nI P) (hP4 : P ≤ 4) (n : Nat) (hn : n ≤ P) : (rnu (rTickL v n) = rnu v ∧ rpa (rTickL v n) = rpa v ∧ rki (rTickL v n) = rki v ∧ rsa (rTickL v n) = rsa v ∧ rwa (rTickL v n) = rwa v ∧ rwd (rTickL v n) = rwd v ∧ rla (rTickL v n) = rla v ∧ rne (rTickL v n) = rne v ∧ rsu (rTickL v n) = rsu v) ∧
    (∀ q, q < 4 → (q < n ∧ ron (rTickL v n) q = -1) ∨ (n ≤ q ∧ ron (rTickL v n) q = ron v q)) ∧ ∀ p, p < 15 → ((∃ q, q < n ∧ ron v q = nI p) ∧ rst (rTickL v n) p = 1) ∨ ((∀ q, q < n → ¬ ron v q = nI p) ∧ rst (rTickL v n) p = rst v p) := by
  induction n with
  | zero => exact ⟨⟨rfl, rfl, rfl, rfl, rfl, rfl, rfl, rfl, rfl⟩, fun q hq => Or.inr ⟨Nat.zero_le _, rfl⟩, fun p hp => Or.inr ⟨fun q hq => absurd hq (Nat.not_lt_zero _), rfl⟩⟩
  | succ n ih =>
    obtain ⟨ih0, ih1, ih2⟩ := ih (by omega)
    have ea : rAt (rTickL v n) (nI n) = ron v n := by
      unfold rAt
      rw [if_neg (nI_pos (by omega)), tickL_pr, hP, if_neg (nI_ge (by omega) (by omega)), show ix (nI n) = n from nI_clamp (by omega)]
      rcases ih1 n (by omega) with ⟨a, -⟩ | ⟨-, a⟩
      · omega
      · exact a
    show (rnu (rLeave (rTickL v n) (nI n) 1).2 = _ ∧ rpa (rLeave (rTickL v n) (nI n) 1).2 = _ ∧ rki (rLeave (rTickL v n) (nI n) 1).2 = _ ∧ rsa (rLeave (rTickL v n) (nI n) 1).2 = _ ∧ rwa (rLeave (rTickL v n) (nI n) 1).2 = _ ∧ rwd (rLeave (rTickL v n) (nI n) 1).2 = _ ∧ rla (rLeave (rTickL v n) (nI n) 1).2 = _ ∧ rne (rLeave (rTickL v n) (nI n) 1).2 = _ ∧ rsu (rLeave (rTickL v n) (nI n) 1).2 = _) ∧ (∀ q, q < 4 → (q < n + 1 ∧ ron (rLeave (rTickL v n) (nI n) 1).2 q = -1) ∨ (n + 1 ≤ q ∧ ron (rLeave (rTickL v n) (nI n) 1).2 q = ron v q)) ∧ ∀ p, p < 15 → ((∃ q, q < n + 1 ∧ ron v q = nI p) ∧ rst (rLeave (rTickL v n) (nI n) 1).2 p = 1) ∨ ((∀ q, q < n + 1 → ¬ ron v q = nI p) ∧ rst (rLeave (rTickL v n) (nI n) 1).2 p = rst v p)
    rcases hv.2.1 n (by omega) with h | ⟨p0, hp0, h⟩
    · rw [leave_none (ea.trans h)]
      refine ⟨ih0, fun q hq => ?_, fun p hp => ?_⟩
      · rcases ih1 q hq with ⟨a, b⟩ | ⟨a, b⟩
        · exact Or.inl ⟨by omega, b⟩
        · by_cases e : q = n
          · subst e
            exact Or.inl ⟨by omega, b.trans h⟩
          · exact Or.inr ⟨by omega, b⟩
      · rcases ih2 p hp with ⟨⟨q, a, b⟩, c⟩ | ⟨a, c⟩
        · exact Or.inl ⟨⟨q, by omega, b⟩, c⟩
        · exact Or.inr ⟨lt_s a (fun z => nI_m1 (by omega) (z.symm.trans h)), c⟩
    · rw [leave_some (by omega) hp0 (ea.trans h)]
      refine ⟨ih0, fun q hq => ?_, fun p hp => ?_⟩
      · show (q < n + 1 ∧ upd (ron (rTickL v n)) n (-1) q = -1) ∨ (n + 1 ≤ q ∧ upd (ron (rTickL v n)) n (-1) q = ron v q)
        rcases upd_or (ron (rTickL v n)) n (-1) q with ⟨a, e⟩ | ⟨a, e⟩ <;> rw [e]
        · exact Or.inl ⟨by omega, rfl⟩
        · rcases ih1 q hq with ⟨b, c⟩ | ⟨b, c⟩
          · exact Or.inl ⟨by omega, c⟩
          · exact Or.inr ⟨by omega, c⟩
      · show ((∃ q, q < n + 1 ∧ ron v q = nI p) ∧ upd (rst (rTickL v n)) p0 1 p = 1) ∨ ((∀ q, q < n + 1 → ¬ ron v q = nI p) ∧ upd (rst (rTickL v n)) p0 1 p = rst v p)
        rcases upd_or (rst (rTickL v n)) p0 1 p with ⟨a, e⟩ | ⟨a, e⟩ <;> rw [e]
        · exact Or.inl ⟨⟨n, by omega, by rw [a]; exact h⟩, rfl⟩
        · rcases ih2 p hp with ⟨⟨q, b, c⟩, d⟩ | ⟨b, d⟩
          · exact Or.inl ⟨⟨q, by omega, c⟩, d⟩
          · exact Or.inr ⟨lt_s b (fun z => a (nI_inj (by omega) (by omega) (z.symm.trans h))), d⟩
theorem sim_tick {t : Nat} {v : RS} {w : MS} (ht : t < 1000) (h : Rel t v w) : (pTick v).1 = (mTick w).1 ∧ Rel (t + 1) (pTick v).2 (mTick w).2 := by
  have hem := empty_iff h
  obtain ⟨⟨hv, hw, s1, s2, s3, s4⟩, hB, hR, hZ, hO⟩ := id h
  have hn := mok_N hw
  unfold pTick mTick rEmpty
  by_cases c0 : rst v 0 = 0
  · rw [if_pos c0, if_neg (by decide), if_pos ((ma_0 hw).mpr (hem.mp c0))]
    exact ⟨rfl, h.up⟩
  · rw [if_neg c0, if_pos rfl, if_neg (fun z => c0 (hem.mpr ((ma_0 hw).mp z)))]
    obtain ⟨P, hP1, hP4, hP⟩ := hv.1
    obtain ⟨⟨t1, t2, t3, t4, t5, t6, t7, t8, t9⟩, ton, tst⟩ := tickL_is hv hP hP4 P (Nat.le_refl _)
    have tti := tickL_ti v P
    have tpr := tickL_pr v P
    have eP : ix (rpr v) = P := by rw [hP]; exact nI_clamp (by omega)
    unfold rTick
    rw [eP]
    refine ⟨by show rti v + 1 = _; rw [s2], ?_⟩
    obtain ⟨⟨b, hb, hbt⟩, hB2, hB3⟩ := hB
    have eti : mti w + 1 = nI (b + 1) := by rw [hbt]; exact nI_1 b
    have hup : ∀ x : Int32, x ≤ mti w → x ≤ mti w + 1 := fun x hx => Int32.le_trans hx (by rw [eti, hbt]; exact nI_le (by omega) (by omega))
    -- which rows run
    have honly : ∀ i p, i < mN w → Mt v w i p → (∃ q, q < P ∧ ron v q = nI p) → men w i = 0 ∧ mwa w i = 0 ∧ ¬ mon w i < 0 := by
      rintro i p hi hm ⟨q, hq, e⟩
      rcases hO.1 q (by omega) with ⟨o, -⟩ | ⟨i', hi', o, o3⟩
      · rw [e] at o
        exact absurd o (nI_m1 (by have := hm.1.1; omega))
      · have : i' = i := hR.2.2.1 i' i hi' hi (by rw [← o, e, hm.1.2])
        subst this
        have hmon := (o3 i' hi).mpr rfl
        rcases hm.2.2.2.2.1 with h1 | ⟨h1, h2, -⟩
        · rw [hmon] at h1
          exact absurd h1 (nI_m1 (by omega))
        · exact ⟨h1, h2, by rw [hmon]; exact nI_pos (by omega)⟩
    have hnone : ∀ i p, i < mN w → Mt v w i p → (∀ q, q < P → ¬ ron v q = nI p) → mon w i = -1 := by
      intro i p hi hm hno
      rcases hm.2.2.2.2.1 with h1 | ⟨h1, h2, q, hq, hmon⟩
      · exact h1
      · exfalso
        rcases hO.1 q hq with ⟨-, o⟩ | ⟨i', hi', o, o3⟩
        · exact o i hi hmon
        · have := (o3 i hi).mp hmon
          subst this
          have e : ron v q = nI p := by rw [o, hm.1.2]
          by_cases hqP : q < P
          · exact hno q hqP e
          · have := hO.2 q hq (by rw [hP]; exact nI_le (by omega) (by omega))
            rw [e] at this
            exact nI_m1 (by have := hm.1.1; omega) this
    generalize hu : rTickL v P = u at *
    have wk : ∀ p, p < 15 → wkS u 3 (rti v + 1) 15 p = if rIs u 3 (rti v + 1) p then 1 else rst u p := by
      intro p hp
      unfold wkS
      by_cases c : rIs u 3 (rti v + 1) p
      · rw [if_pos ⟨hp, c⟩, if_pos c]
      · rw [if_neg (fun z => c z.2), if_neg c]
    have mo : ∀ i, i < mN w → moF w (mN w) i = -1 := fun i hi => by unfold moF; rw [if_pos hi]
    have hst0 : ∀ p, p < 15 → ¬ wkS u 3 (rti v + 1) 15 p = 0 → ¬ rst v p = 0 := by
      intro p hp z
      rw [wk p hp] at z
      rcases look hR hp with ⟨h1, -⟩ | ⟨i, hi, hm⟩
      · exfalso
        have e : rst u p = 0 := by
          rcases tst p hp with ⟨⟨q, hq, e⟩, -⟩ | ⟨-, e⟩
          · rcases hO.1 q (by omega) with ⟨o, -⟩ | ⟨i', hi', o, -⟩
            · rw [e] at o; exact absurd o (nI_m1 (by omega))
            · obtain ⟨p', hm'⟩ := hR.1 i' hi'
              have : p' = p := nI_inj (by have := hm'.1.1; omega) (by omega) (by rw [← hm'.1.2, ← o, e])
              subst this
              exact absurd h1 (stIs_ne0 hm'.2.2.1)
          · rw [e]; exact h1
        rw [if_neg (fun y => absurd (y.1.symm.trans e) (by decide)), e] at z
        exact z rfl
      · exact stIs_ne0 hm.2.2.1
    have hrow : ∀ i p, i < mN w → Mt v w i p → Mt (rWake u 3 (rti v + 1)).2 (zmon (zmti w (mti w + 1)) (moF w (mN w))) i p := by
      intro i p hi hm
      have hp := hm.1.1
      have ewk := wk p hp
      have emo := mo i hi
      have hs := tst p hp
      have ho := honly i p hi hm
      have hnn := hnone i p hi hm
      obtain ⟨q1, q2, q3, q4, q5, q6⟩ := hm
      have neg : moF w (mN w) i < 0 := by rw [emo]; decide
      have st_of : ∀ x, wkS u 3 (rti v + 1) 15 p = x → stIs (zmon (zmti w (mti w + 1)) (moF w (mN w))) i x → (x = 3 → rst v p = 3) → Mt (rWake u 3 (rti v + 1)).2 (zmon (zmti w (mti w + 1)) (moF w (mN w))) i p := by
        intro x ex hx h3
        refine ⟨q1, ⟨by rw [show rnu (rWake u 3 (rti v + 1)).2 = rnu u from rfl, t1]; exact q2.1, by rw [show rpa (rWake u 3 (rti v + 1)).2 = rpa u from rfl, t2]; exact q2.2.1, by rw [show rki (rWake u 3 (rti v + 1)).2 = rki u from rfl, t3]; exact q2.2.2⟩, ?_, by rw [show rsa (rWake u 3 (rti v + 1)).2 = rsa u from rfl, t4]; exact q4, Or.inl emo, ?_⟩
        · show stIs _ i (wkS u 3 (rti v + 1) 15 p)
          rw [ex]; exact hx
        · show wkS u 3 (rti v + 1) 15 p = 3 → (mwa w i = rwa u p ∧ (mwa w i = 2 → rwd u p = rnu u p) ∧ (¬ mwa w i = 2 → mwh w i = rwd u p))
          rw [ex, t5, t6, t1]
          exact fun z => q6 (h3 z)
      rcases hs with ⟨hq, e⟩ | ⟨hno, e⟩
      · obtain ⟨o1, o2, o3⟩ := ho hq
        rw [if_neg (fun z => absurd (z.1.symm.trans e) (by decide)), e] at ewk
        refine st_of 1 ewk (Or.inr (Or.inr (Or.inr ⟨o1, neg, ?_, rfl⟩))) (fun z => absurd z (by decide))
        show ¬ (mwa w i = 1 ∨ (mwa w i = 2 ∧ _) ∨ (mwa w i = 3 ∧ _))
        rw [o2]
        rintro (z | ⟨z, -⟩ | ⟨z, -⟩) <;> exact absurd z (by decide)
      · have hm1 := hnn hno
        have neg0 : mon w i < 0 := by rw [hm1]; decide
        rcases q3 with ⟨a, e3⟩ | ⟨a, b', e3⟩ | ⟨a, b', c', e3⟩ | ⟨a, b', c', e3⟩
        · rw [if_neg (fun z => absurd (z.1.symm.trans (e.trans e3)) (by decide)), e, e3] at ewk
          exact st_of 4 ewk (Or.inl ⟨a, rfl⟩) (fun z => absurd z (by decide))
        · exact absurd neg0 b'
        · obtain ⟨g1, -, g3⟩ := q6 e3
          have hsame : hasE (zmon (zmti w (mti w + 1)) (moF w (mN w))) i ↔ hasE w i := hasE_keep rfl rfl rfl rfl
          by_cases k3 : mwa w i = 3
          · have ewd : rwd u p = mwh w i := by rw [t6]; exact (g3 (by rw [k3]; decide)).symm
            have ewa : rwa u p = 3 := by rw [t5, ← g1]; exact k3
            by_cases k4 : mwh w i ≤ mti w + 1
            · have his : rIs u 3 (rti v + 1) p := ⟨e.trans e3, ewa, Or.inl ⟨rfl, by rw [ewd, s2]; exact Int32.not_lt.mpr k4⟩⟩
              rw [if_pos his] at ewk
              refine st_of 1 ewk (Or.inr (Or.inr (Or.inr ⟨a, neg, ?_, rfl⟩))) (fun z => absurd z (by decide))
              show ¬ (mwa w i = 1 ∨ (mwa w i = 2 ∧ _) ∨ (mwa w i = 3 ∧ ¬ mwh w i ≤ mti w + 1))
              rw [k3]
              rintro (z | ⟨z, -⟩ | ⟨-, z⟩)
              · exact absurd z (by decide)
              · exact absurd z (by decide)
              · exact z k4
            · have his : ¬ rIs u 3 (rti v + 1) p := by
                rintro ⟨-, -, (⟨-, z⟩ | ⟨z, -⟩)⟩
                · rw [ewd, s2] at z
                  exact z (Int32.not_le.mp k4)
                · exact z rfl
              rw [if_neg his, e, e3] at ewk
              exact st_of 3 ewk (Or.inr (Or.inr (Or.inl ⟨a, neg, Or.inr (Or.inr ⟨k3, k4⟩), rfl⟩))) (fun _ => e3)
          · have his : ¬ rIs u 3 (rti v + 1) p := fun z => k3 (by rw [g1, ← t5]; exact z.2.1)
            rw [if_neg his, e, e3] at ewk
            refine st_of 3 ewk (Or.inr (Or.inr (Or.inl ⟨a, neg, ?_, rfl⟩))) (fun _ => e3)
            rcases c' with z | ⟨z1, z2⟩ | ⟨z1, z2⟩
            · exact Or.inl z
            · exact Or.inr (Or.inl ⟨z1, fun y => z2 (hsame.mp y)⟩)
            · exact absurd z1 k3
        · have hsame : hasE (zmon (zmti w (mti w + 1)) (moF w (mN w))) i ↔ hasE w i := hasE_keep rfl rfl rfl rfl
          rw [if_neg (fun z => absurd (z.1.symm.trans (e.trans e3)) (by decide)), e, e3] at ewk
          refine st_of 1 ewk (Or.inr (Or.inr (Or.inr ⟨a, neg, ?_, rfl⟩))) (fun z => absurd z (by decide))
          rintro (z | ⟨z1, z2⟩ | ⟨z1, z2⟩)
          · exact c' (Or.inl z)
          · exact c' (Or.inr (Or.inl ⟨z1, fun y => z2 (hsame.mpr y)⟩))
          · exact c' (Or.inr (Or.inr ⟨z1, fun y => z2 (hup _ y)⟩))
    refine ⟨⟨⟨⟨P, hP1, hP4, by show rpr u = _; rw [tpr]; exact hP⟩, fun j hj => ?_, by show ∃ i, i < 15 ∧ rla u = nI i; rw [t7]; exact hv.2.2⟩, hw, by show rpr u = _; rw [tpr]; exact s1, by show rti u = mti w + 1; rw [tti, s2], by show rsu u = _; rw [t9]; exact s3, by show rla u = _; rw [t7]; exact s4⟩, ⟨⟨b + 1, by omega, eti⟩, ?_, by show 0 < mN w → rne u = mlt w + 1; rw [t8]; exact hB3⟩, relR_keep hR rfl rfl rfl hrow hst0, ?_, ?_, ?_⟩
    · show isPl (ron u j)
      rcases ton j hj with ⟨-, z⟩ | ⟨-, z⟩ <;> rw [z]
      · exact Or.inl rfl
      · exact hv.2.1 j hj
    · obtain ⟨c, c1, c2, c3⟩ := hB2
      exact ⟨c, by omega, c2, c3⟩
    · intro z
      have z : 0 < mN w := z
      obtain ⟨z1, z2, z3⟩ := hZ z
      rcases look hR (show 0 < 15 by decide) with ⟨y, -⟩ | ⟨i, hi, hm⟩
      · exact absurd y z1
      · have hm' := hrow i 0 hi hm
        refine ⟨stIs_ne0 hm'.2.2.1, fun y => ?_, by show rnu u 0 = 1; rw [t1]; exact z3⟩
        exact z2 ((stIs_4 hm.2.2.1).mpr ((stIs_4 hm'.2.2.1).mp y))
    · intro q hq
      refine Or.inl ⟨?_, fun i hi => ?_⟩
      · show ron u q = -1
        rcases ton q hq with ⟨-, z⟩ | ⟨y, z⟩
        · exact z
        · rw [z]
          exact hO.2 q hq (by rw [hP]; exact nI_le y (by omega))
      · show ¬ moF w (mN w) i = nI q
        rw [mo i hi]
        exact fun z => nI_m1 (by omega) z.symm
    · intro q hq _
      show ron u q = -1
      rcases ton q hq with ⟨-, z⟩ | ⟨y, z⟩
      · exact z
      · rw [z]
        exact hO.2 q hq (by rw [hP]; exact nI_le y (by omega))
end
section
theorem cnt_le (C : Nat → Prop) [DecidablePred C] (N : Nat) : ∃ k, k ≤ N ∧ cnt C N = nI k := by
  induction N with
  | zero => exact ⟨0, Nat.le_refl _, rfl⟩
  | succ n ih =>
    obtain ⟨k, h1, h2⟩ := ih
    by_cases c : C n
    · exact ⟨k + 1, by omega, by simp only [cnt, if_pos c, h2]; exact nI_1 k⟩
    · exact ⟨k, by omega, by simp only [cnt, if_neg c, h2]⟩
theorem cnt_all (N : Nat) : cnt (fun _ => True) N = nI N := by
  induction N with
  | zero => rfl
  | succ n ih => simp only [cnt, if_true, ih]; exact nI_1 n
/-- where a place is free there are at most 14 rows -/
theorem rows_14 {t : Nat} {v : RS} {w : MS} (h : Rel t v w) {p0 : Nat} (hp : p0 < 15) (hf : rst v p0 = 0) : mN w ≤ 14 := by
  have hn := mok_N h.1.2.1
  have e1 : cnt (fun _ => True) (mN w) = cnt (fun p => ¬ rst v p = 0) 15 := cnt_rows h.2.2.1 (fun i p _ hm => ⟨fun _ => stIs_ne0 hm.2.2.1, fun _ => trivial⟩) (fun p _ z => z)
  have e2 : cnt (fun p => ¬ rst v p = 0 ∨ p = p0) 15 = cnt (fun p => ¬ rst v p = 0) 15 + 1 := cnt_ins hp (fun z => z hf) (fun j _ => Iff.rfl)
  obtain ⟨k, h1, h2⟩ := cnt_le (fun p => ¬ rst v p = 0 ∨ p = p0) 15
  rw [← e1, cnt_all, h2] at e2
  have := nI_inj (by omega) (by omega) (e2.trans (nI_1 (mN w)))
  omega
theorem rel_add {t : Nat} {v : RS} {w : MS} (ht : t < 1000) (h : Rel t v w) {p0 : Nat} (hp0 : p0 < 15) (hf : rst v p0 = 0) (hne : rne v = mlt w + 1) (par : Int32) (hz : (p0 = 0 ∧ mlt w = 0) ∨ 0 < mN w) : Rel (t + 1) (rPut v (nI p0) par) (mAdd w (nI p0) par).2 := by
  have h14 := rows_14 h hp0 hf
  obtain ⟨⟨⟨P1, P2, P3⟩, hw, s1, s2, s3, s4⟩, hB, hR, hZ, hO⟩ := h
  unfold rPut mAdd
  rw [show ix (nI p0) = p0 from nI_clamp (by omega)]
  obtain ⟨n0, hn0, hma⟩ := hw.2.1
  have en0 := mN_is hma hn0
  generalize eN : mN w = N at *
  subst en0
  have ema : mma w + 1 = nI (N + 1) := by rw [hma]; exact nI_1 N
  generalize ew : ((mth w, mpr w, mma w + 1, mti w, mlt w + 1, mtk w, msu w, upd (mnu w) N (mlt w + 1), upd (mpl w) N (nI p0), upd (mpa w) N par, upd (men w) N 0, upd (mre w) N 0, upd (mki w) N 0, upd (mon w) N (-1), upd (mwa w) N 0, mwh w) : MS) = w'
  generalize ev : (zrst (zrki (zrpa (zrnu (zrne v (rne v + 1)) (upd (rnu v) p0 (rne v))) (upd (rpa v) p0 par)) (upd (rki v) p0 0)) (upd (rst v) p0 1) : RS) = v'
  have m1 : mth w' = mth w := by rw [← ew]
  have m2 : mpr w' = mpr w := by rw [← ew]
  have m3 : mma w' = nI (N + 1) := by rw [← ew]; exact ema
  have m4 : mti w' = mti w := by rw [← ew]
  have m5 : mlt w' = mlt w + 1 := by rw [← ew]
  have m6 : mtk w' = mtk w := by rw [← ew]
  have m7 : msu w' = msu w := by rw [← ew]
  have m8 : mnu w' = upd (mnu w) N (mlt w + 1) := by rw [← ew]
  have m9 : mpl w' = upd (mpl w) N (nI p0) := by rw [← ew]
  have m10 : mpa w' = upd (mpa w) N par := by rw [← ew]
  have m11 : men w' = upd (men w) N 0 := by rw [← ew]
  have m12 : mre w' = upd (mre w) N 0 := by rw [← ew]
  have m13 : mki w' = upd (mki w) N 0 := by rw [← ew]
  have m14 : mon w' = upd (mon w) N (-1) := by rw [← ew]
  have m15 : mwa w' = upd (mwa w) N 0 := by rw [← ew]
  have m16 : mwh w' = mwh w := by rw [← ew]
  have v1 : rnu v' = upd (rnu v) p0 (rne v) := by rw [← ev]
  have v2 : rpa v' = upd (rpa v) p0 par := by rw [← ev]
  have v3 : rki v' = upd (rki v) p0 0 := by rw [← ev]
  have v4 : rsa v' = rsa v := by rw [← ev]
  have v5 : rpr v' = rpr v := by rw [← ev]
  have v6 : rla v' = rla v := by rw [← ev]
  have v7 : rne v' = rne v + 1 := by rw [← ev]
  have v8 : rti v' = rti v := by rw [← ev]
  have v9 : rsu v' = rsu v := by rw [← ev]
  have v10 : ron v' = ron v := by rw [← ev]
  have v11 : rst v' = upd (rst v) p0 1 := by rw [← ev]
  have v12 : rwa v' = rwa v := by rw [← ev]
  have v13 : rwd v' = rwd v := by rw [← ev]
  clear ew ev
  have eN' : mN w' = N + 1 := by show ix (mma w') = _; rw [m3]; exact nI_clamp (by omega)
  have hE : ∀ i, i < N → (hasE w' i ↔ hasE w i) := by
    intro i hi
    unfold hasE
    rw [eN', eN, m10, m8, m11, upd_ne (show i ≠ N by omega)]
    constructor
    · rintro ⟨k, hk, a, b⟩
      by_cases e : k = N
      · rw [e, upd_self] at b
        exact absurd rfl b
      · rw [upd_ne e] at a b
        exact ⟨k, by omega, a, b⟩
    · rintro ⟨k, hk, a, b⟩
      have e : k ≠ N := by omega
      exact ⟨k, by omega, by rw [upd_ne e]; exact a, by rw [upd_ne e]; exact b⟩
  obtain ⟨hb1, ⟨b, hb, hlt, hnum⟩, hb3⟩ := hB
  have elt : mlt w + 1 = nI (b + 1) := by rw [hlt]; exact nI_1 b
  have hold : ∀ i p, i < N → Mt v w i p → Mt v' w' i p := by
    intro i p hi hm
    have hne : p ≠ p0 := fun z => by subst z; exact stIs_ne0 hm.2.2.1 hf
    have hin : i ≠ N := by omega
    obtain ⟨q1, q2, q3, q4, q5, q6⟩ := hm
    refine ⟨by rw [m9, upd_ne hin]; exact q1, by rw [m8, m10, m13, v1, v2, v3, upd_ne hin, upd_ne hin, upd_ne hin, upd_ne hne, upd_ne hne, upd_ne hne]; exact q2, ?_, by rw [m11, m12, v4, upd_ne hin, upd_ne hin]; exact q4, by rw [m14, m11, m15, upd_ne hin, upd_ne hin, upd_ne hin]; exact q5, by rw [v11, m15, m16, v12, v13, v1, upd_ne hne, upd_ne hne, upd_ne hin]; exact q6⟩
    rw [v11, upd_ne hne]
    unfold stIs stl
    rw [hE i hi, m11, m14, m15, m16, m4, upd_ne hin, upd_ne hin, upd_ne hin]
    exact q3
  have hnew : Mt v' w' N p0 := by
    refine ⟨⟨hp0, by rw [m9, upd_self]⟩, ⟨by rw [m8, v1, upd_self, upd_self, hne], by rw [m10, v2, upd_self, upd_self], by rw [m13, v3, upd_self, upd_self]⟩, ?_, fun z => absurd (by rw [m11, upd_self]) z, Or.inl (by rw [m14, upd_self]), by rw [v11, upd_self]; exact fun z => absurd z (by decide)⟩
    rw [v11, upd_self]
    refine Or.inr (Or.inr (Or.inr ⟨by rw [m11, upd_self], by rw [m14, upd_self]; decide, ?_, rfl⟩))
    unfold stl
    rw [m15, upd_self]
    rintro (z | ⟨z, -⟩ | ⟨z, -⟩) <;> exact absurd z (by decide)
  have hplace : ∀ i, i < N → ¬ mpl w i = nI p0 := by
    intro i hi z
    rw [← eN] at hi
    obtain ⟨p, hm⟩ := hR.1 i hi
    have : p = p0 := nI_inj (by have := hm.1.1; omega) (by omega) (hm.1.2.symm.trans z)
    subst this
    exact stIs_ne0 hm.2.2.1 hf
  have hnumN : ∀ i, i < N → ¬ mnu w i = mlt w + 1 := by
    intro i hi z
    obtain ⟨c, c1, c2, c3⟩ := hnum i (by rw [eN]; exact hi)
    rw [elt, c3] at z
    have := nI_inj (by omega) (by omega) z
    omega
  have cases' : ∀ i, i < N + 1 → i = N ∨ i < N := fun i hi => by omega
  refine ⟨⟨⟨by rw [v5]; exact P1, by rw [v10]; exact P2, by rw [v6]; exact P3⟩, ⟨by rw [m1]; exact hw.1, ⟨N + 1, by omega, m3⟩, by rw [m6]; exact hw.2.2.1, fun j hj => ⟨?_, ?_⟩⟩, by rw [v5, m2]; exact s1, by rw [v8, m4]; exact s2, by rw [v9, m7]; exact s3, by rw [v6, m6]; exact s4⟩, ⟨?_, ⟨b + 1, by omega, by rw [m5]; exact elt, ?_⟩, fun _ => by rw [v7, m5, hne]⟩, ⟨?_, ?_, ?_, ?_⟩, ?_, ?_, ?_⟩
  · rw [m11]
    rcases upd_or (men w) N 0 j with ⟨-, e⟩ | ⟨-, e⟩ <;> rw [e]
    · exact Or.inl rfl
    · exact (hw.2.2.2 j hj).1
  · rw [m13]
    rcases upd_or (mki w) N 0 j with ⟨-, e⟩ | ⟨-, e⟩ <;> rw [e]
    · exact Or.inl rfl
    · exact (hw.2.2.2 j hj).2
  · obtain ⟨c, c1, c2⟩ := hb1
    exact ⟨c, by omega, by rw [m4]; exact c2⟩
  · intro i hi
    rw [eN'] at hi
    rw [m8]
    rcases cases' i hi with rfl | hi
    · exact ⟨b + 1, by omega, by omega, by rw [upd_self]; exact elt⟩
    · obtain ⟨c, c1, c2, c3⟩ := hnum i (by rw [eN]; exact hi)
      exact ⟨c, c1, by omega, by rw [upd_ne (by omega)]; exact c3⟩
  · intro i hi
    rw [eN'] at hi
    rcases cases' i hi with rfl | hi
    · exact ⟨p0, hnew⟩
    · obtain ⟨p, hm⟩ := hR.1 i (by rw [eN]; exact hi)
      exact ⟨p, hold i p hi hm⟩
  · intro p hp hst
    rw [eN', m9]
    by_cases e : p = p0
    · exact ⟨N, Nat.lt_succ_self _, by rw [upd_self, e]⟩
    · rw [v11, upd_ne e] at hst
      obtain ⟨i, hi, hpl⟩ := hR.2.1 p hp hst
      rw [eN] at hi
      exact ⟨i, by omega, by rw [upd_ne (by omega)]; exact hpl⟩
  · intro i j hi hj e
    rw [eN'] at hi hj
    rw [m9] at e
    rcases cases' i hi with rfl | hi <;> rcases cases' j hj with rfl | hj
    · rfl
    · rw [upd_self, upd_ne (by omega)] at e
      exact absurd e.symm (hplace j hj)
    · rw [upd_self, upd_ne (by omega)] at e
      exact absurd e (hplace i hi)
    · rw [upd_ne (by omega), upd_ne (by omega)] at e
      exact hR.2.2.1 i j (by omega) (by omega) e
  · intro i j hi hj e
    rw [eN'] at hi hj
    rw [m8] at e
    rcases cases' i hi with rfl | hi <;> rcases cases' j hj with rfl | hj
    · rfl
    · rw [upd_self, upd_ne (by omega)] at e
      exact absurd e.symm (hnumN j hj)
    · rw [upd_self, upd_ne (by omega)] at e
      exact absurd e (hnumN i hi)
    · rw [upd_ne (by omega), upd_ne (by omega)] at e
      exact hR.2.2.2 i j (by omega) (by omega) e
  · intro _
    rw [v11, v1]
    rcases hz with ⟨rfl, e⟩ | hz
    · rw [upd_self, upd_self, hne, e]
      exact ⟨by decide, by decide, by decide⟩
    · obtain ⟨z1, z2, z3⟩ := hZ (by rw [eN]; exact hz)
      have : 0 ≠ p0 := fun y => by subst y; exact z1 hf
      rw [upd_ne this, upd_ne this]
      exact ⟨z1, z2, z3⟩
  · intro q hq
    rw [eN', v10, m14, m9]
    rcases hO.1 q hq with ⟨o1, o2⟩ | ⟨i, hi, o1, o2⟩
    · refine Or.inl ⟨o1, fun j hj => ?_⟩
      rcases cases' j hj with rfl | hj
      · rw [upd_self]
        exact fun z => nI_m1 (by omega) z.symm
      · rw [upd_ne (by omega)]
        exact o2 j (by omega)
    · rw [eN] at hi
      refine Or.inr ⟨i, by omega, by rw [upd_ne (by omega)]; exact o1, fun j hj => ?_⟩
      rcases cases' j hj with rfl | hj
      · rw [upd_self]
        exact ⟨fun z => absurd z.symm (nI_m1 (by omega)), fun z => by omega⟩
      · rw [upd_ne (by omega)]
        exact o2 j (by omega)
  · rw [v10, v5]
    exact hO.2
theorem sim_fork {t : Nat} {v : RS} {w : MS} (ht : t < 1000) (h : Rel t v w) (q : Int32) : (rFork v q).1 = (mFork w q).1 ∧ Rel (t + 1) (rFork v q).2 (mFork w q).2 := by
  have hn := mok_N h.1.2.1
  have hR := h.2.2.1
  have ef : fst (fun p => mOfPlace w (nI p) < 0) 15 = fst (fun j => rst v j = 0) 15 := by
    refine fst_congr (fun j hj => ?_)
    rcases ofpl hR hj with ⟨h1, h2⟩ | ⟨i, hi, hm, h2⟩
    · rw [h1, h2]
      exact ⟨fun _ => rfl, fun _ => m1_neg⟩
    · rw [h2]
      exact ⟨fun z => absurd z (nI_pos (by omega)), fun z => absurd z (stIs_ne0 hm.2.2.1)⟩
  obtain ⟨f1, f2, f3⟩ := fst_spec (fun j => rst v j = 0) 15
  unfold rFork mFork mVacant
  rw [ef]
  rcases run_at h.1 h.2.2.1 h.2.2.2.2 q with ⟨e1, e2⟩ | ⟨c, i, p, hc, rfl, hcp, hi, hm, e2, e1, -, hmon, hu⟩
  · rw [if_pos e1, e2, if_pos m1_neg]
    exact ⟨rfl, h.up⟩
  · have hp := hm.1.1
    rw [e1, if_neg (nI_m1 (by omega)), e2, if_neg (nI_pos (by omega)), show ix (nI p) = p from nI_clamp (by omega), show ix (nI i) = i from nI_clamp (by omega)]
    by_cases hf : fst (fun j => rst v j = 0) 15 = 15
    · rw [if_pos hf, if_pos (by rw [hf]; rfl)]
      exact ⟨rfl, h.up⟩
    · rw [if_neg hf, if_neg (show ¬ nI (fst (fun j => rst v j = 0) 15) = 15 from fun z => hf (nI_inj (b := 15) (by omega) (by decide) z))]
      have hlt : fst (fun j => rst v j = 0) 15 < 15 := by omega
      have hpos : 0 < mN w := by omega
      rw [hm.2.1.1]
      exact ⟨rfl, rel_add ht h hlt (f3 hlt) (h.2.1.2.2 hpos) _ (Or.inr hpos)⟩
theorem sim_first {t : Nat} {v : RS} {w : MS} (ht : t < 1000) (h : Rel t v w) : (pFirst v).1 = (mFirst w).1 ∧ Rel (t + 1) (pFirst v).2 (mFirst w).2 := by
  have hem := empty_iff h
  have hma := ma_0 h.1.2.1
  have hmn : mma w ≤ 0 ↔ mN w = 0 := by
    obtain ⟨n, h1, h2⟩ := h.1.2.1.2.1
    rw [mN_is h2 h1, h2]
    have := nI_leI (a := n) (b := 0) (by omega) (by decide)
    exact this.trans (by omega)
  unfold pFirst mFirst rEmpty
  by_cases c0 : rst v 0 = 0
  · rw [if_pos c0, if_neg (by decide), if_pos (hmn.mpr (hem.mp c0))]
    refine ⟨rfl, ?_⟩
    have e0 := hem.mp c0
    obtain ⟨⟨⟨P1, P2, P3⟩, hw, s1, s2, s3, s4⟩, hB, hR, hZ, hO⟩ := h
    have hR0 : ∀ p, p < 15 → rst v p = 0 := fun p hp => Classical.byContradiction (fun z => by
      obtain ⟨i, hi, -⟩ := hR.2.1 p hp z
      omega)
    have h0 : Rel t (zrla (zrti (zrne v 1) 0) 14) (zmtk (zmlt (zmti w 0) 0) 14) := by
      have none : ∀ i, ¬ i < mN (zmtk (zmlt (zmti w 0) 0) 14) := fun i hi => by
        have hi : i < mN w := hi
        omega
      refine ⟨⟨⟨P1, P2, ⟨14, by decide, rfl⟩⟩, ⟨hw.1, hw.2.1, ⟨14, by decide, rfl⟩, hw.2.2.2⟩, s1, rfl, s3, rfl⟩, ⟨⟨0, by omega, rfl⟩, ⟨0, by omega, rfl, fun i hi => absurd hi (none i)⟩, fun z => absurd z (none 0)⟩, ⟨fun i hi => absurd hi (none i), fun p hp z => absurd (hR0 p hp) z, fun i j hi _ _ => absurd hi (none i), fun i j hi _ _ => absurd hi (none i)⟩, fun z => absurd z (none 0), ?_, hO.2⟩
      intro q hq
      rcases hO.1 q hq with ⟨o1, -⟩ | ⟨i, hi, -⟩
      · exact Or.inl ⟨o1, fun i hi => absurd hi (none i)⟩
      · omega
    exact rel_add ht h0 (p0 := 0) (by decide) c0 rfl 0 (Or.inl ⟨rfl, rfl⟩)
  · rw [if_neg c0, if_pos rfl, if_neg (fun z => c0 (hem.mpr (hmn.mp z)))]
    exact ⟨rfl, h.up⟩
end
section
theorem relO_leave {v v' : RS} {w w' : MS} (hO : RelO v w) {c i : Nat} (hc : c < 4) (hmon : mon w i = nI c) (hu : ∀ j, j < mN w → mon w j = nI c → j = i) (eN : mN w' = mN w) (m9 : mpl w' = mpl w) (a1 : ron v' = upd (ron v) c (-1)) (b1 : mon w' = upd (mon w) i (-1)) (v5 : rpr v' = rpr v) : RelO v' w' := by
  constructor
  · intro q hq
    rw [eN, a1, m9, b1]
    by_cases e : q = c
    · subst e
      refine Or.inl ⟨upd_self _ _ _, fun j hj => ?_⟩
      rcases upd_or (mon w) i (-1) j with ⟨-, e⟩ | ⟨ne, e⟩ <;> rw [e]
      · exact fun z => nI_m1 (by omega) z.symm
      · exact fun z => ne (hu j hj z)
    · rw [upd_ne e]
      rcases hO.1 q hq with ⟨o1, o2⟩ | ⟨i', o1, o2, o3⟩
      · refine Or.inl ⟨o1, fun j hj => ?_⟩
        rcases upd_or (mon w) i (-1) j with ⟨-, e⟩ | ⟨ne, e⟩ <;> rw [e]
        · exact fun z => nI_m1 (by omega) z.symm
        · exact o2 j hj
      · have hne : i' ≠ i := fun z => by
          have h1 := (o3 i' o1).mpr rfl
          rw [z, hmon] at h1
          exact e (nI_inj (by omega) (by omega) h1).symm
        refine Or.inr ⟨i', o1, o2, fun j hj => ?_⟩
        rcases upd_or (mon w) i (-1) j with ⟨ej, e⟩ | ⟨ne, e⟩ <;> rw [e]
        · exact ⟨fun z => absurd z.symm (nI_m1 (by omega)), fun z => absurd (z.symm.trans ej) hne⟩
        · exact o3 j hj
  · intro q hq hle
    rw [a1]
    rcases upd_or (ron v) c (-1) q with ⟨-, e⟩ | ⟨-, e⟩ <;> rw [e]
    exact hO.2 q hq (by rw [← v5]; exact hle)
theorem any_iff (C : Nat → Prop) [DecidablePred C] (n : Nat) : any1 C n = 0 ↔ ∀ j, j < n → ¬ C j := by
  induction n with
  | zero => exact ⟨fun _ => lt_0, fun _ => rfl⟩
  | succ n ih =>
    simp only [any1]
    by_cases c : C n
    · rw [if_pos c]
      exact ⟨fun z => absurd z (by decide), fun z => absurd c (z n (Nat.lt_succ_self _))⟩
    · rw [if_neg c, ih]
      exact ⟨fun z => lt_s z c, fun z j hj => z j (by omega)⟩
theorem rEnd_is (u : RS) (p : Nat) : (rnu (rEnd u p) = rnu u ∧ rki (rEnd u p) = rki u ∧ rsa (rEnd u p) = rsa u ∧ rwa (rEnd u p) = rwa u ∧ rwd (rEnd u p) = rwd u ∧ ron (rEnd u p) = ron u ∧ rpr (rEnd u p) = rpr u ∧ rla (rEnd u p) = rla u ∧ rne (rEnd u p) = rne u ∧ rti (rEnd u p) = rti u ∧ rsu (rEnd u p) = rsu u) ∧ rpa (rEnd u p) = rpP u (rnu u p) 15 := by
  unfold rEnd
  split <;> exact ⟨⟨rfl, rfl, rfl, rfl, rfl, rfl, rfl, rfl, rfl, rfl, rfl⟩, rfl⟩
theorem wake2_st {u : RS} {wh : Int32} {j : Nat} (hj : j < 15) : ((rst u j = 3 ∧ rwa u j = 2 ∧ rwd u j = wh) ∧ rst (rWake u 2 wh).2 j = 1) ∨ (¬ (rst u j = 3 ∧ rwa u j = 2 ∧ rwd u j = wh) ∧ rst (rWake u 2 wh).2 j = rst u j) := by
  show ((rst u j = 3 ∧ rwa u j = 2 ∧ rwd u j = wh) ∧ wkS u 2 wh 15 j = 1) ∨ (¬ (rst u j = 3 ∧ rwa u j = 2 ∧ rwd u j = wh) ∧ wkS u 2 wh 15 j = rst u j)
  unfold wkS
  by_cases c : rst u j = 3 ∧ rwa u j = 2 ∧ rwd u j = wh
  · exact Or.inl ⟨c, by rw [if_pos ⟨hj, c.1, c.2.1, Or.inr ⟨by decide, c.2.2⟩⟩]⟩
  · refine Or.inr ⟨c, if_neg (fun z => ?_)⟩
    rcases z.2.2.2 with ⟨y, -⟩ | ⟨-, y⟩
    · exact absurd y (by decide)
    · exact c ⟨z.2.1, z.2.2.1, y⟩
/-- the states behind a process' end -/
theorem rEnd_st (u : RS) (p : Nat) {j : Nat} (hj : j < 15) : ((rst u j = 3 ∧ rwa u j = 2 ∧ (rwd u j = rpP u (rnu u p) 15 p ∨ ((∃ k, k < 15 ∧ rKid u (rnu u p) k ∧ rst u k = 4) ∧ rwd u j = 1))) ∧ rst (rEnd u p) j = 1) ∨ (¬ (rst u j = 3 ∧ rwa u j = 2 ∧ (rwd u j = rpP u (rnu u p) 15 p ∨ ((∃ k, k < 15 ∧ rKid u (rnu u p) k ∧ rst u k = 4) ∧ rwd u j = 1))) ∧ rst (rEnd u p) j = rst u j) := by
  unfold rEnd
  by_cases c : any1 (fun j => rKid u (rnu u p) j ∧ rst u j = 4) 15 = 0
  · rw [if_pos c]
    have hno := (any_iff _ _).mp c
    have hz : ¬ ∃ k, k < 15 ∧ rKid u (rnu u p) k ∧ rst u k = 4 := fun ⟨k, a, b⟩ => hno k a b
    rcases wake2_st (u := zrpa u (rpP u (rnu u p) 15)) (wh := rpP u (rnu u p) 15 p) hj with ⟨a, e⟩ | ⟨a, e⟩ <;> rw [e]
    · exact Or.inl ⟨⟨a.1, a.2.1, Or.inl a.2.2⟩, rfl⟩
    · exact Or.inr ⟨fun z => a ⟨z.1, z.2.1, z.2.2.resolve_right (fun y => hz y.1)⟩, rfl⟩
  · rw [if_neg c]
    have hz : ∃ k, k < 15 ∧ rKid u (rnu u p) k ∧ rst u k = 4 := Classical.byContradiction (fun y => c ((any_iff _ _).mpr (fun k a b => y ⟨k, a, b⟩)))
    rcases wake2_st (u := (rWake (zrpa u (rpP u (rnu u p) 15)) 2 (rpP u (rnu u p) 15 p)).2) (wh := 1) hj with ⟨a, e⟩ | ⟨a, e⟩ <;> rw [e]
    · rcases wake2_st (u := zrpa u (rpP u (rnu u p) 15)) (wh := rpP u (rnu u p) 15 p) hj with ⟨b, e2⟩ | ⟨b, e2⟩
      · rw [e2] at a
        exact absurd a.1 (by decide)
      · rw [e2] at a
        exact Or.inl ⟨⟨a.1, a.2.1, Or.inr ⟨hz, a.2.2⟩⟩, rfl⟩
    · rcases wake2_st (u := zrpa u (rpP u (rnu u p) 15)) (wh := rpP u (rnu u p) 15 p) hj with ⟨b, e2⟩ | ⟨b, e2⟩ <;> rw [e2]
      · exact Or.inl ⟨⟨b.1, b.2.1, Or.inl b.2.2⟩, rfl⟩
      · rw [e2] at a
        refine Or.inr ⟨fun z => ?_, rfl⟩
        rcases z.2.2 with y | y
        · exact b ⟨z.1, z.2.1, y⟩
        · exact a ⟨z.1, z.2.1, y.2⟩
theorem rel_end {t : Nat} {v : RS} {w : MS} (h : Rel t v w) {c i p : Nat} (hc : c < 4) (hi : i < mN w) (hm : Mt v w i p) (hmon : mon w i = nI c) (hu : ∀ j, j < mN w → mon w j = nI c → j = i) (hp0 : p ≠ 0) (x : Int32) :
    Rel t (rEnd (zrsa (zrst (zron v (upd (ron v) c (-1))) (upd (rst v) p 4)) (upd (rsa v) p x)) p) (mEnd w i x) := by
  have hn := mok_N h.1.2.1
  obtain ⟨⟨⟨P1, P2, P3⟩, hw, s1, s2, s3, s4⟩, hB, hR, hZ, hO⟩ := h
  have hmen := mon_men hm hc hmon
  have hp := hm.1.1
  generalize eu : (zrsa (zrst (zron v (upd (ron v) c (-1))) (upd (rst v) p 4)) (upd (rsa v) p x) : RS) = u
  have u1 : rnu u = rnu v := by rw [← eu]
  have u2 : rpa u = rpa v := by rw [← eu]
  have u3 : rki u = rki v := by rw [← eu]
  have u4 : rsa u = upd (rsa v) p x := by rw [← eu]
  have u5 : rwa u = rwa v := by rw [← eu]
  have u6 : rwd u = rwd v := by rw [← eu]
  have u7 : ron u = upd (ron v) c (-1) := by rw [← eu]
  have u8 : rst u = upd (rst v) p 4 := by rw [← eu]
  have u9 : rpr u = rpr v := by rw [← eu]
  have u10 : rla u = rla v := by rw [← eu]
  have u11 : rne u = rne v := by rw [← eu]
  have u12 : rti u = rti v := by rw [← eu]
  have u13 : rsu u = rsu v := by rw [← eu]
  clear eu
  obtain ⟨⟨v1, v3, v4, v5, v6, v7, v9, v10, v11, v12, v13⟩, v2⟩ := rEnd_is u p
  have hst := fun j (hj : j < 15) => rEnd_st u p hj
  generalize rEnd u p = v' at *
  generalize ew : mEnd w i x = w'
  have m1 : mth w' = mth w := by rw [← ew]; rfl
  have m2 : mpr w' = mpr w := by rw [← ew]; rfl
  have m3 : mma w' = mma w := by rw [← ew]; rfl
  have m4 : mti w' = mti w := by rw [← ew]; rfl
  have m5 : mlt w' = mlt w := by rw [← ew]; rfl
  have m6 : mtk w' = mtk w := by rw [← ew]; rfl
  have m7 : msu w' = msu w := by rw [← ew]; rfl
  have m8 : mnu w' = mnu w := by rw [← ew]; rfl
  have m9 : mpl w' = mpl w := by rw [← ew]; rfl
  have m10 : mpa w' = mpP w (mnu w i) (mN w) := by rw [← ew]; rfl
  have m11 : men w' = upd (men w) i 1 := by rw [← ew]; rfl
  have m12 : mre w' = upd (mre w) i x := by rw [← ew]; rfl
  have m13 : mki w' = mki w := by rw [← ew]; rfl
  have m14 : mon w' = upd (mon w) i (-1) := by rw [← ew]; rfl
  have m15 : mwa w' = mwa w := by rw [← ew]; rfl
  have m16 : mwh w' = mwh w := by rw [← ew]; rfl
  clear ew
  have eN : mN w' = mN w := by show ix (mma w') = _; rw [m3]
  have eNum : mnu w i = rnu v p := hm.2.1.1
  -- parents, on both sides
  have mpa' : ∀ j, j < mN w → (mpa w j = mnu w i ∧ mpa w' j = 1) ∨ (¬ mpa w j = mnu w i ∧ mpa w' j = mpa w j) := by
    intro j hj
    rw [m10]
    unfold mpP
    by_cases e : mpa w j = mnu w i
    · exact Or.inl ⟨e, by rw [if_pos ⟨hj, e⟩]⟩
    · exact Or.inr ⟨e, by rw [if_neg (fun z => e z.2)]⟩
  have occ : ∀ j pj, Mt v w j pj → ¬ rst u pj = 0 := by
    intro j pj hmj
    rw [u8]
    rcases upd_or (rst v) p 4 pj with ⟨-, e⟩ | ⟨-, e⟩ <;> rw [e]
    · decide
    · exact stIs_ne0 hmj.2.2.1
  have epa : ∀ j pj, j < mN w → Mt v w j pj → mpa w' j = rpa v' pj := by
    intro j pj hj hmj
    rw [v2]
    unfold rpP
    have e2 := hmj.2.1.2.1
    rcases mpa' j hj with ⟨a, e⟩ | ⟨a, e⟩ <;> rw [e]
    · rw [if_pos ⟨hmj.1.1, occ j pj hmj, by rw [u2, u1, ← e2, ← eNum]; exact a⟩]
    · rw [if_neg (fun z => a (by rw [e2, eNum, ← u2, ← u1]; exact z.2.2)), u2, ← e2]
  have hE : ∀ j pj, j < mN w → j ≠ i → Mt v w j pj → (¬ hasE w j) → (hasE w' j ↔ (mnu w j = rpP u (rnu u p) 15 p ∨ ((∃ k, k < 15 ∧ rKid u (rnu u p) k ∧ rst u k = 4) ∧ mnu w j = 1))) := by
    intro j pj hj hji hmj hno
    have eK : rpP u (rnu u p) 15 p = mpa w' i := by rw [← v2]; exact (epa i p hi hm).symm
    rw [eK]
    unfold hasE
    rw [eN, m8, m11]
    constructor
    · rintro ⟨k, hk, a, b⟩
      by_cases ek : k = i
      · rw [ek] at a
        exact Or.inl a.symm
      · rw [upd_ne ek] at b
        rcases mpa' k hk with ⟨d, e⟩ | ⟨d, e⟩
        · refine Or.inr ⟨?_, by rw [← a, e]⟩
          obtain ⟨pk, hmk⟩ := hR.1 k hk
          have hkp : pk ≠ p := fun z => by subst z; exact ek (mt_row hR hk hi hmk hm)
          have e4 : rst u pk = 4 := by rw [u8, upd_ne hkp]; exact (stIs_4 hmk.2.2.1).mpr b
          exact ⟨pk, hmk.1.1, ⟨occ k pk hmk, by rw [u2, u1, ← hmk.2.1.2.1, ← eNum]; exact d⟩, e4⟩
        · exact absurd ⟨k, hk, by rw [← e]; exact a, b⟩ hno
    · rintro (a | ⟨⟨pz, hpz, ⟨k1, k2⟩, k3⟩, a⟩)
      · exact ⟨i, hi, a.symm, by rw [upd_self]; decide⟩
      · rw [u2, u1, ← eNum] at k2
        by_cases ez : pz = p
        · subst ez
          refine ⟨i, hi, ?_, by rw [upd_self]; decide⟩
          rcases mpa' i hi with ⟨-, e⟩ | ⟨d, -⟩
          · rw [e, a]
          · exact absurd (by rw [hm.2.1.2.1]; exact k2) d
        · rw [u8, upd_ne ez] at k3
          rcases look hR hpz with ⟨z, -⟩ | ⟨k, hk, hmk⟩
          · rw [z] at k3
            exact absurd k3 (by decide)
          · have eki : k ≠ i := fun z => by subst z; exact ez (mt_place hmk hm)
            refine ⟨k, hk, ?_, by rw [upd_ne eki]; exact (stIs_4 hmk.2.2.1).mp k3⟩
            rcases mpa' k hk with ⟨-, e⟩ | ⟨d, -⟩
            · rw [e, a]
            · exact absurd (by rw [hmk.2.1.2.1]; exact k2) d
  have hkeepE : ∀ j, j < mN w → j ≠ i → hasE w j → hasE w' j := by
    rintro j hj hji ⟨k, hk, a, b⟩
    have eki : k ≠ i := fun z => by rw [z] at b; exact b hmen
    unfold hasE
    rw [eN, m8, m11]
    refine ⟨k, hk, ?_, by rw [upd_ne eki]; exact b⟩
    rcases mpa' k hk with ⟨d, -⟩ | ⟨-, e⟩
    · exact absurd (hR.2.2.2 j i hj hi (by rw [← a, d])) hji
    · rw [e]; exact a
  have hrow : ∀ j pj, j < mN w → Mt v w j pj → Mt v' w' j pj := by
    intro j pj hj hmj
    have hpj := hmj.1.1
    have e1 := epa j pj hj hmj
    have hsj := hst pj hpj
    by_cases ej : j = i
    · subst ej
      obtain rfl := mt_place hm hmj
      obtain ⟨q1, q2, q3, q4, q5, q6⟩ := hm
      have e4 : rst v' p = 4 := by
        rcases hsj with ⟨a, -⟩ | ⟨-, e⟩
        · rw [u8, upd_self] at a
          exact absurd a.1 (by decide)
        · rw [e, u8, upd_self]
      refine ⟨by rw [m9]; exact q1, ⟨by rw [m8, v1, u1]; exact q2.1, e1, by rw [m13, v3, u3]; exact q2.2.2⟩, ?_, fun _ => by rw [m12, v4, u4, upd_self, upd_self], Or.inl (by rw [m14, upd_self]), fun z => absurd (e4.symm.trans z) (by decide)⟩
      rw [e4]
      exact Or.inl ⟨by rw [m11, upd_self]; decide, rfl⟩
    · have hne : pj ≠ p := fun z => by subst z; exact ej (mt_row hR hj hi hmj hm)
      have eus : rst u pj = rst v pj := by rw [u8, upd_ne hne]
      have hE1 := hE j pj hj ej hmj
      obtain ⟨q1, q2, q3, q4, q5, q6⟩ := hmj
      have mk : ∀ y, rst v' pj = y → stIs w' j y → (y = 3 → rst v pj = 3) → Mt v' w' j pj := by
        intro y ey hy h3
        refine ⟨by rw [m9]; exact q1, ⟨by rw [m8, v1, u1]; exact q2.1, e1, by rw [m13, v3, u3]; exact q2.2.2⟩, by rw [ey]; exact hy, by rw [m11, m12, v4, u4, upd_ne ej, upd_ne ej, upd_ne hne]; exact q4, by rw [m14, m11, m15, upd_ne ej, upd_ne ej]; exact q5, ?_⟩
        rw [ey, m15, m16, v5, v6, v1, u5, u6, u1]
        exact fun z => q6 (h3 z)
      have same : ¬ rst v pj = 3 ∨ ¬ rwa v pj = 2 → rst v' pj = rst v pj := by
        intro z
        rcases hsj with ⟨a, -⟩ | ⟨-, e⟩
        · rw [eus, u5] at a
          rcases z with z | z
          · exact absurd a.1 z
          · exact absurd a.2.1 z
        · rw [e, eus]
      rcases q3 with ⟨a, e3⟩ | ⟨a, b', e3⟩ | ⟨a, b', c', e3⟩ | ⟨a, b', c', e3⟩
      · refine mk 4 (by rw [same (Or.inl (by rw [e3]; decide))]; exact e3) (Or.inl ⟨by rw [m11, upd_ne ej]; exact a, rfl⟩) (fun z => absurd z (by decide))
      · exact mk 2 (by rw [same (Or.inl (by rw [e3]; decide))]; exact e3) (Or.inr (Or.inl ⟨by rw [m11, upd_ne ej]; exact a, by rw [m14, upd_ne ej]; exact b', rfl⟩)) (fun z => absurd z (by decide))
      · obtain ⟨g1, g2, g3⟩ := q6 e3
        by_cases k2 : mwa w j = 2
        · have hnoE : ¬ hasE w j := by
            rcases c' with z | ⟨-, z⟩ | ⟨z, -⟩
            · rw [k2] at z; exact absurd z (by decide)
            · exact z
            · rw [k2] at z; exact absurd z (by decide)
          have hE2 := hE1 hnoE
          have ewd : rwd u pj = mnu w j := by rw [u6, g2 k2, q2.1]
          rcases hsj with ⟨a', e⟩ | ⟨a', e⟩
          · rw [ewd] at a'
            refine mk 1 e (Or.inr (Or.inr (Or.inr ⟨by rw [m11, upd_ne ej]; exact a, by rw [m14, upd_ne ej]; exact b', ?_, rfl⟩))) (fun z => absurd z (by decide))
            unfold stl
            rw [m15, k2]
            rintro (z | ⟨-, z⟩ | ⟨z, -⟩)
            · exact absurd z (by decide)
            · exact z (hE2.mpr a'.2.2)
            · exact absurd z (by decide)
          · rw [ewd, eus, u5] at a'
            refine mk 3 (by rw [e, eus]; exact e3) (Or.inr (Or.inr (Or.inl ⟨by rw [m11, upd_ne ej]; exact a, by rw [m14, upd_ne ej]; exact b', ?_, rfl⟩))) (fun _ => e3)
            refine Or.inr (Or.inl ⟨by rw [m15]; exact k2, fun z => a' ⟨e3, by rw [← g1]; exact k2, hE2.mp z⟩⟩)
        · refine mk 3 (by rw [same (Or.inr (by rw [← g1]; exact k2))]; exact e3) (Or.inr (Or.inr (Or.inl ⟨by rw [m11, upd_ne ej]; exact a, by rw [m14, upd_ne ej]; exact b', ?_, rfl⟩))) (fun _ => e3)
          unfold stl
          rw [m15, m16, m4]
          rcases c' with z | ⟨z, -⟩ | z
          · exact Or.inl z
          · exact absurd z k2
          · exact Or.inr (Or.inr z)
      · refine mk 1 (by rw [same (Or.inl (by rw [e3]; decide))]; exact e3) (Or.inr (Or.inr (Or.inr ⟨by rw [m11, upd_ne ej]; exact a, by rw [m14, upd_ne ej]; exact b', ?_, rfl⟩))) (fun z => absurd z (by decide))
        unfold stl
        rw [m15, m16, m4]
        rintro (z | ⟨z1, z2⟩ | z)
        · exact c' (Or.inl z)
        · refine c' (Or.inr (Or.inl ⟨z1, fun y => z2 (hkeepE j hj ej y)⟩))
        · exact c' (Or.inr (Or.inr z))
  refine ⟨⟨⟨by rw [v9, u9]; exact P1, fun j hj => ?_, by rw [v10, u10]; exact P3⟩, ⟨by rw [m1]; exact hw.1, by rw [m3]; exact hw.2.1, by rw [m6]; exact hw.2.2.1, fun j hj => ⟨?_, by rw [m13]; exact (hw.2.2.2 j hj).2⟩⟩, by rw [v9, u9, m2]; exact s1, by rw [v12, u12, m4]; exact s2, by rw [v13, u13, m7]; exact s3, by rw [v10, u10, m6]; exact s4⟩, ?_, relR_keep hR eN m9 m8 hrow ?_, ?_, relO_leave hO hc hmon hu eN m9 (by rw [v7, u7]) m14 (by rw [v9, u9])⟩
  · rw [v7, u7]
    rcases upd_or (ron v) c (-1) j with ⟨-, e⟩ | ⟨-, e⟩ <;> rw [e]
    · exact Or.inl rfl
    · exact P2 j hj
  · rw [m11]
    rcases upd_or (men w) i 1 j with ⟨-, e⟩ | ⟨-, e⟩ <;> rw [e]
    · exact Or.inr rfl
    · exact (hw.2.2.2 j hj).1
  · unfold RelB
    rw [m4, m5, eN, m8, v11, u11]
    exact hB
  · intro pj hpj z
    rcases look hR hpj with ⟨h0, -⟩ | ⟨j, hj, hmj⟩
    · exfalso
      have hne : pj ≠ p := fun y => by subst y; exact stIs_ne0 hm.2.2.1 h0
      rcases hst pj hpj with ⟨a, -⟩ | ⟨-, e⟩
      · rw [u8, upd_ne hne, h0] at a
        exact absurd a.1 (by decide)
      · rw [e, u8, upd_ne hne] at z
        exact z h0
    · exact stIs_ne0 hmj.2.2.1
  · intro z
    rw [eN] at z
    obtain ⟨z1, z2, z3⟩ := hZ z
    rcases look hR (show 0 < 15 by decide) with ⟨y, -⟩ | ⟨j, hj, hmj⟩
    · exact absurd y z1
    · have hmj' := hrow j 0 hj hmj
      have eji : j ≠ i := fun y => by subst y; exact hp0 (mt_place hm hmj)
      refine ⟨stIs_ne0 hmj'.2.2.1, fun y => z2 ((stIs_4 hmj.2.2.1).mpr ?_), by rw [v1, u1]; exact z3⟩
      have := (stIs_4 hmj'.2.2.1).mp y
      rw [m11, upd_ne eji] at this
      exact this
theorem sim_exit {t : Nat} {v : RS} {w : MS} (h : Rel t v w) (q x : Int32) : (rExit v q x).1 = (mExit w q x).1 ∧ Rel (t + 1) (rExit v q x).2 (mExit w q x).2 := by
  have hn := mok_N h.1.2.1
  unfold rExit mExit
  rcases run_at h.1 h.2.2.1 h.2.2.2.2 q with ⟨e1, e2⟩ | ⟨c, i, p, hc, rfl, hcp, hi, hm, e2, e1, -, hmon, hu⟩
  · rw [leave_none e1, e2, if_neg not_ge_m1]
    simp only [if_true]
    exact ⟨trivial, h.up⟩
  · have hp := hm.1.1
    have hpos : 0 < mN w := by omega
    obtain ⟨z1, z2, z3⟩ := h.2.2.2.1 hpos
    rw [leave_some hc hp e1, e2, if_pos (ge0_nI (by omega)), show ix (nI i) = i from nI_clamp (by omega)]
    simp only [if_neg (show ¬ nI p = -1 from nI_m1 (by omega)), show ix (nI p) = p from nI_clamp (by omega)]
    by_cases hp0 : p = 0
    · subst hp0
      rw [if_pos (show nI 0 = 0 from rfl), if_pos (hm.2.1.1.trans z3)]
      refine ⟨hm.1.2.symm, Rel.up ?_⟩
      obtain ⟨⟨⟨P1, P2, P3⟩, hw, s1, s2, s3, s4⟩, hB, hR, hZ, hO⟩ := h
      have none : ∀ j, ¬ j < mN (zmma (zmsu w x) 0) := fun j hj => by
        have hj : j < ix 0 := hj
        rw [show ix 0 = 0 from rfl] at hj
        omega
      have clo : ∀ j, j < 4 → ron (rClear (zrsu (zrst (zron v (upd (ron v) c (-1))) (upd (rst v) 0 4)) x)) j = -1 := fun j hj => by
        show clO _ 4 j = -1
        unfold clO
        rw [if_pos hj]
      have cls : ∀ j, j < 15 → rst (rClear (zrsu (zrst (zron v (upd (ron v) c (-1))) (upd (rst v) 0 4)) x)) j = 0 := fun j hj => by
        show clS _ 15 j = 0
        unfold clS
        rw [if_pos hj]
      refine ⟨⟨⟨P1, fun j hj => Or.inl (clo j hj), P3⟩, ⟨hw.1, ⟨0, by decide, rfl⟩, hw.2.2.1, hw.2.2.2⟩, s1, s2, rfl, s4⟩, ⟨hB.1, ?_, fun z => absurd z (none 0)⟩, ⟨fun j hj => absurd hj (none j), fun j hj z => absurd (cls j hj) z, fun j k hj _ _ => absurd hj (none j), fun j k hj _ _ => absurd hj (none j)⟩, fun z => absurd z (none 0), fun j hj => Or.inl ⟨clo j hj, fun k hk => absurd hk (none k)⟩, fun j hj _ => clo j hj⟩
      obtain ⟨b, b1, b2, -⟩ := hB.2.1
      exact ⟨b, b1, b2, fun j hj => absurd hj (none j)⟩
    · have hnum : ¬ mnu w i = 1 := by
        intro z
        rcases look h.2.2.1 (show 0 < 15 by decide) with ⟨y, -⟩ | ⟨j, hj, hmj⟩
        · exact z1 y
        · have : j = i := h.2.2.1.2.2.2 j i hj hi (by rw [hmj.2.1.1, z3, z])
          subst this
          exact hp0 (mt_place hm hmj)
      rw [if_neg (show ¬ nI p = 0 from fun z => hp0 (nI_inj (b := 0) (by omega) (by decide) z)), if_neg hnum]
      exact ⟨hm.1.2.symm, (rel_end h hc hi hm hmon hu hp0 x).up⟩
end
section
/-- the old row of a new one, when row e is gone -/
def sho (e j : Nat) : Nat := if j < e then j else j + 1
theorem sho_ne (e j : Nat) : sho e j ≠ e := by unfold sho; split <;> omega
theorem sho_lt {e j n : Nat} (h : j < n - 1) : sho e j < n := by unfold sho; split <;> omega
theorem sho_inj {e i j : Nat} (h : sho e i = sho e j) : i = j := by unfold sho at h; split at h <;> split at h <;> omega
theorem sho_on {e k n : Nat} (hk : k < n) (he : k ≠ e) (hen : e < n) : ∃ j, j < n - 1 ∧ sho e j = k := by
  by_cases c : k < e
  · exact ⟨k, by omega, by unfold sho; rw [if_pos c]⟩
  · exact ⟨k - 1, by omega, by unfold sho; rw [if_neg (by omega)]; omega⟩
theorem shf_at {f : IA} {e n j : Nat} (h : j < n - 1) : shf f e (n - 1) j = f (sho e j) := by
  unfold shf sho
  by_cases c : j < e
  · rw [if_neg (by omega), if_pos c]
  · rw [if_pos (by omega), if_neg c]
theorem rel_reap {t : Nat} {v : RS} {w : MS} (h : Rel t v w) {i p e f : Nat} (hi : i < mN w) (hm : Mt v w i p) (hrun : men w i = 0 ∧ ¬ mon w i < 0) (he : e < mN w) (hme : Mt v w e f) (hen : ¬ men w e = 0) (hpar : mpa w e = mnu w i) :
    Rel t (zrst (zrsu v (rsa v f)) (upd (rst v) f 0)) (mShift (zmsu w (mre w e)) e (mN w - 1)) := by
  have hn := mok_N h.1.2.1
  obtain ⟨⟨⟨P1, P2, P3⟩, hw, s1, s2, s3, s4⟩, hB, hR, hZ, hO⟩ := h
  have hf := hme.1.1
  have hf4 : rst v f = 4 := (stIs_4 hme.2.2.1).mpr hen
  obtain ⟨n0, hn0, hma⟩ := hw.2.1
  have en0 := mN_is hma hn0
  generalize eN : mN w = N at *
  subst en0
  have ema : mma w - 1 = nI (N - 1) := by
    rw [hma]
    obtain ⟨k, rfl⟩ : ∃ k, N = k + 1 := ⟨N - 1, by omega⟩
    exact nI_pred k
  generalize ew : mShift (zmsu w (mre w e)) e (N - 1) = w'
  have m1 : mth w' = mth w := by rw [← ew]; rfl
  have m2 : mpr w' = mpr w := by rw [← ew]; rfl
  have m3 : mma w' = nI (N - 1) := by rw [← ew]; exact ema
  have m4 : mti w' = mti w := by rw [← ew]; rfl
  have m5 : mlt w' = mlt w := by rw [← ew]; rfl
  have m6 : mtk w' = mtk w := by rw [← ew]; rfl
  have m7 : msu w' = mre w e := by rw [← ew]; rfl
  have m8 : mnu w' = shf (mnu w) e (N - 1) := by rw [← ew]; rfl
  have m9 : mpl w' = shf (mpl w) e (N - 1) := by rw [← ew]; rfl
  have m10 : mpa w' = shf (mpa w) e (N - 1) := by rw [← ew]; rfl
  have m11 : men w' = shf (men w) e (N - 1) := by rw [← ew]; rfl
  have m12 : mre w' = shf (mre w) e (N - 1) := by rw [← ew]; rfl
  have m13 : mki w' = shf (mki w) e (N - 1) := by rw [← ew]; rfl
  have m14 : mon w' = shf (mon w) e (N - 1) := by rw [← ew]; rfl
  have m15 : mwa w' = shf (mwa w) e (N - 1) := by rw [← ew]; rfl
  have m16 : mwh w' = shf (mwh w) e (N - 1) := by rw [← ew]; rfl
  clear ew
  have eN' : mN w' = N - 1 := by show ix (mma w') = _; rw [m3]; exact nI_clamp (by omega)
  have hE1 : ∀ j, j < N - 1 → hasE w' j → hasE w (sho e j) := by
    rintro j hj ⟨k, hk, a, b⟩
    rw [eN'] at hk
    rw [m10, m8, shf_at hk, shf_at hj] at a
    rw [m11, shf_at hk] at b
    exact ⟨sho e k, by rw [eN]; exact sho_lt hk, a, b⟩
  have hE2 : ∀ j, j < N - 1 → sho e j ≠ i → hasE w (sho e j) → hasE w' j := by
    rintro j hj hji ⟨k, hk, a, b⟩
    rw [eN] at hk
    by_cases ek : k = e
    · rw [ek, hpar] at a
      exact absurd (hR.2.2.2 i (sho e j) (by omega) (by rw [eN]; exact sho_lt hj) a).symm hji
    · obtain ⟨k', hk', e'⟩ := sho_on hk ek he
      refine ⟨k', by rw [eN']; exact hk', ?_, ?_⟩
      · rw [m10, m8, shf_at hk', shf_at hj, e']; exact a
      · rw [m11, shf_at hk', e']; exact b
  have hrow : ∀ j, j < N - 1 → ∀ pj, Mt v w (sho e j) pj → pj ≠ f ∧ Mt (zrst (zrsu v (rsa v f)) (upd (rst v) f 0)) w' j pj := by
    intro j hj pj hmj
    have hne : pj ≠ f := fun z => by
      subst z
      exact sho_ne e j (mt_row hR (by rw [eN]; exact sho_lt hj) (by omega) hmj hme)
    refine ⟨hne, ?_⟩
    have est : rst (zrst (zrsu v (rsa v f)) (upd (rst v) f 0)) pj = rst v pj := upd_ne hne
    obtain ⟨q1, q2, q3, q4, q5, q6⟩ := hmj
    refine ⟨by rw [m9, shf_at hj]; exact q1, by rw [m8, m10, m13, shf_at hj, shf_at hj, shf_at hj]; exact q2, ?_, by rw [m11, m12, shf_at hj, shf_at hj]; exact q4, by rw [m14, m11, m15, shf_at hj, shf_at hj, shf_at hj]; exact q5, by rw [est, m15, m16, shf_at hj, shf_at hj]; exact q6⟩
    rw [est]
    by_cases eji : sho e j = i
    · have e2 : rst v pj = 2 := (stIs_2 q3).mpr (by rw [eji]; exact hrun)
      rw [e2]
      exact Or.inr (Or.inl ⟨by rw [m11, shf_at hj, eji]; exact hrun.1, by rw [m14, shf_at hj, eji]; exact hrun.2, rfl⟩)
    · have hEq : hasE w' j ↔ hasE w (sho e j) := ⟨hE1 j hj, hE2 j hj eji⟩
      unfold stIs stl
      rw [hEq, m11, m14, m15, m16, m4, shf_at hj, shf_at hj, shf_at hj, shf_at hj]
      exact q3
  have old : ∀ j, j < N - 1 → sho e j < mN w := fun j hj => by rw [eN]; exact sho_lt hj
  refine ⟨⟨⟨P1, P2, P3⟩, ⟨by rw [m1]; exact hw.1, ⟨N - 1, by omega, m3⟩, by rw [m6]; exact hw.2.2.1, fun j hj => ?_⟩, by rw [m2]; exact s1, by rw [m4]; exact s2, by rw [m7]; exact (hme.2.2.2.1 hen).symm, by rw [m6]; exact s4⟩, ⟨by rw [m4]; exact hB.1, ?_, fun z => by rw [m5]; exact hB.2.2 (by omega)⟩, ⟨?_, ?_, ?_, ?_⟩, ?_, ?_, ?_⟩
  · rw [m11, m13]
    unfold shf
    constructor
    · split
      · exact (hw.2.2.2 (j + 1) (by omega)).1
      · exact (hw.2.2.2 j hj).1
    · split
      · exact (hw.2.2.2 (j + 1) (by omega)).2
      · exact (hw.2.2.2 j hj).2
  · obtain ⟨b, b1, b2, b3⟩ := hB.2.1
    refine ⟨b, b1, by rw [m5]; exact b2, fun j hj => ?_⟩
    rw [eN'] at hj
    rw [m8, shf_at hj]
    exact b3 (sho e j) (old j hj)
  · intro j hj
    rw [eN'] at hj
    obtain ⟨pj, hmj⟩ := hR.1 (sho e j) (old j hj)
    exact ⟨pj, (hrow j hj pj hmj).2⟩
  · intro pj hpj z
    have z : ¬ upd (rst v) f 0 pj = 0 := z
    have hne : pj ≠ f := fun y => by rw [y, upd_self] at z; exact z rfl
    rw [upd_ne hne] at z
    obtain ⟨k, hk, hpl⟩ := hR.2.1 pj hpj z
    have ek : k ≠ e := fun y => by
      rw [y, hme.1.2] at hpl
      exact hne (nI_inj (by omega) (by omega) hpl).symm
    obtain ⟨j, hj, ej⟩ := sho_on (by rw [eN] at hk; exact hk) ek he
    exact ⟨j, by rw [eN']; exact hj, by rw [m9, shf_at hj, ej]; exact hpl⟩
  · intro j k hj hk ee
    rw [eN'] at hj hk
    rw [m9, shf_at hj, shf_at hk] at ee
    exact sho_inj (hR.2.2.1 _ _ (old j hj) (old k hk) ee)
  · intro j k hj hk ee
    rw [eN'] at hj hk
    rw [m8, shf_at hj, shf_at hk] at ee
    exact sho_inj (hR.2.2.2 _ _ (old j hj) (old k hk) ee)
  · intro _
    obtain ⟨z1, z2, z3⟩ := hZ (by omega)
    have hne : 0 ≠ f := fun y => by rw [← y] at hf4; exact z2 hf4
    show ¬ upd (rst v) f 0 0 = 0 ∧ ¬ upd (rst v) f 0 0 = 4 ∧ _
    rw [upd_ne hne]
    exact ⟨z1, z2, z3⟩
  · intro q hq
    rw [eN', m9, m14]
    rcases hO.1 q hq with ⟨o1, o2⟩ | ⟨k, hk, o1, o2⟩
    · refine Or.inl ⟨o1, fun j hj => ?_⟩
      rw [shf_at hj]
      exact o2 _ (old j hj)
    · have ek : k ≠ e := fun y => by
        have := (o2 k hk).mpr rfl
        rw [y] at this
        exact hen (mon_men hme hq this)
      obtain ⟨j, hj, ej⟩ := sho_on (by rw [eN] at hk; exact hk) ek he
      refine Or.inr ⟨j, hj, by rw [shf_at hj, ej]; exact o1, fun j' hj' => ?_⟩
      rw [shf_at hj', o2 _ (old j' hj')]
      exact ⟨fun z => sho_inj (z.trans ej.symm), fun z => by rw [z]; exact ej⟩
  · exact hO.2
theorem sim_await {t : Nat} {v : RS} {w : MS} (h : Rel t v w) (q : Int32) : (rAwait v q).1 = (mAwait w q).1 ∧ Rel (t + 1) (rAwait v q).2 (mAwait w q).2 := by
  have hw := h.1.2.1
  have hn := mok_N hw
  have hR := h.2.2.1
  unfold rAwait mAwait
  rcases run_at h.1 hR h.2.2.2.2 q with ⟨e1, e2⟩ | ⟨c, i, p, hc, rfl, hcp, hi, hm, e2, e1, -, hmon, hu⟩
  · rw [if_pos e1, e2, if_pos m1_neg]
    exact ⟨rfl, h.up⟩
  · have hp := hm.1.1
    have eNum : mnu w i = rnu v p := hm.2.1.1
    rw [e1, if_neg (nI_m1 (by omega)), e2, if_neg (nI_pos (by omega)), show ix (nI p) = p from nI_clamp (by omega), show ix (nI i) = i from nI_clamp (by omega), eNum]
    have hany : any1 (mKid w (rnu v p)) (mN w) = 0 ↔ any1 (rKid v (rnu v p)) 15 = 0 := by
      rw [any_iff, any_iff]
      constructor
      · rintro a pj hpj ⟨k1, k2⟩
        rcases look hR hpj with ⟨z, -⟩ | ⟨j, hj, hmj⟩
        · exact k1 z
        · exact a j hj (by show mpa w j = _; rw [hmj.2.1.2.1]; exact k2)
      · intro a j hj k
        obtain ⟨pj, hmj⟩ := hR.1 j hj
        exact a pj hmj.1.1 ⟨stIs_ne0 hmj.2.2.1, by rw [← hmj.2.1.2.1]; exact k⟩
    obtain ⟨f1, f2, f3⟩ := fst_spec (fun j => rKid v (rnu v p) j ∧ rst v j = 4) 15
    have hsp := endL_spec w (nI i) (mN w) hn
    rw [show ix (nI i) = i from nI_clamp (by omega), eNum] at hsp
    by_cases hf : fst (fun j => rKid v (rnu v p) j ∧ rst v j = 4) 15 < 15
    · rw [if_pos hf]
      obtain ⟨k1, k3⟩ := f3 hf
      generalize fst (fun j => rKid v (rnu v p) j ∧ rst v j = 4) 15 = f at *
      rw [if_neg (fun z => (any_iff _ _).mp (hany.mp z) f hf k1)]
      rcases look hR hf with ⟨z, -⟩ | ⟨ef, hef, hmf⟩
      · exact absurd z k1.1
      · have hkid : mpa w ef = rnu v p ∧ ¬ men w ef = 0 := ⟨by rw [hmf.2.1.2.1]; exact k1.2, (stIs_4 hmf.2.2.1).mp k3⟩
        rcases hsp with ⟨-, z⟩ | ⟨e, he, ee, hke, hmin⟩
        · exact absurd hkid (z ef hef)
        · obtain ⟨pe, hme⟩ := hR.1 e he
          have hple := hmin ef hef hkid
          rw [hme.1.2, hmf.1.2, nI_leI (by have := hme.1.1; omega) (by omega)] at hple
          have hpe : pe = f := by
            rcases Nat.lt_or_ge pe f with z | z
            · exact absurd ⟨⟨stIs_ne0 hme.2.2.1, by rw [← hme.2.1.2.1]; exact hke.1⟩, (stIs_4 hme.2.2.1).mpr hke.2⟩ (f2 pe z)
            · omega
          subst hpe
          have eE : mEnded w (nI i) = nI e := ee
          rw [eE, if_pos (ge0_nI (by omega)), show ix (nI e) = e from nI_clamp (by omega)]
          unfold rReap mRemove
          rw [show ix (nI pe) = pe from nI_clamp (by omega), show ix (nI e) = e from nI_clamp (by omega)]
          refine ⟨hme.2.1.1.symm, Rel.up ?_⟩
          exact rel_reap h hi hm ⟨mon_men hm hc hmon, by rw [hmon]; exact nI_pos (by omega)⟩ he hme hke.2 (by rw [eNum]; exact hke.1)
    · rw [if_neg hf]
      have hnoE : ¬ hasE w i := by
        rintro ⟨k, hk, a, b⟩
        obtain ⟨pk, hmk⟩ := hR.1 k hk
        exact f2 pk (by have := hmk.1.1; omega) ⟨⟨stIs_ne0 hmk.2.2.1, by rw [← hmk.2.1.2.1, a, eNum]⟩, (stIs_4 hmk.2.2.1).mpr b⟩
      by_cases ha : any1 (rKid v (rnu v p)) 15 = 0
      · rw [if_pos ha, if_pos (hany.mpr ha)]
        exact ⟨rfl, h.up⟩
      · have hneg := (ended_neg hw (show i < 16 by omega)).mpr hnoE
        rw [if_neg ha, if_neg (fun z => ha (hany.mp z)), if_neg (Int32.not_le.mpr hneg)]
        obtain ⟨-, r2⟩ := sim_wait h hc hi hm e1 hmon hu (wt := 2) (rwh := rnu v p) (wh := 0) (by
          rw [waits_at (by omega)]
          refine Or.inr (Or.inl ⟨upd_self _ _ _, fun z => hnoE ((hasE_keep rfl rfl rfl rfl).mp z)⟩)) (fun _ => rfl) (fun z => absurd rfl z)
        exact ⟨rfl, r2.up⟩
end
section
def fn10 (x0 x1 x2 x3 x4 x5 x6 x7 x8 x9 : Nat) : Nat → Nat := fun j => match j with
  | 0 => x0
  | 1 => x1
  | 2 => x2
  | 3 => x3
  | 4 => x4
  | 5 => x5
  | 6 => x6
  | 7 => x7
  | 8 => x8
  | _ => x9
def rZero (q : Int32) : RS := (fun _ => 0, fun _ => 0, fun _ => 0, fun _ => 0, fun _ => 0, fun _ => 0, fun _ => 0, fun _ => 0, q, 0, 0, 0, 0)
def rNew (q : Int32) : RS := rClear (rZero q)
def mNew (q : Int32) : MS := (0, q, 0, 0, 0, 0, 0, fun _ => 0, fun _ => 0, fun _ => 0, fun _ => 0, fun _ => 0, fun _ => 0, fun _ => 0, fun _ => 0, fun _ => 0)
def clampP (q : Int32) : Int32 := if 1 ≤ q then (if q ≤ 4 then q else 4) else 1
abbrev rBlank : List Value := [.null, .null, .null, .null, .null, .null, .null, .null, .int 0, .int 0, .int 0, .int 0, .int 0]
abbrev mBlank : List Value := [.int 0, .int 0, .int 0, .int 0, .int 0, .int 0, .int 0, .null, .null, .null, .null, .null, .null, .null, .null, .null]
abbrev rm_Ring_init : Room := { frames := 1, cells := 8, slots := 109, locals := 21 }
abbrev rm_Mod_init : Room := { frames := 1, cells := 9, slots := 144, locals := 12 }
abbrev rm_Proc_init : Room := { frames := 2, cells := 9, slots := 122, locals := 42 }
set_option maxHeartbeats 4000000 in
set_option maxRecDepth 100000 in
theorem c_Ring_init (l : Launch) (D : va_G) (h : Nat) (q : Int32) (sz : Nat) : Met l y_Ring_init (wy y_Ring_init b_Ring_init 2 none) rm_Ring_init (Pw [.ref h, .int q] D [] false [(h, .inr (0, rBlank))] sz) (va_Qv (fun u : RS => u = rNew q) (fun u t => ∃ a k, a 0 = h ∧ va_P D classes (rW a k u) t.heap ∧ va_K D classes (rT k) t ∧ va_D (va_A [(h, .inr (0, rBlank))] sz) (rW a k u)) (va_A [(h, .inr (0, rBlank))] sz)) 8 109 (va_A [(h, .inr (0, rBlank))] sz) := by
  refine Met.ofW (cc := b_Ring_init) (maxL := 2) (ret := none) (by decide +kernel) rfl ?_
  intro p e s m args below meth c s₁ B hml hv
  obtain ⟨rfl, hsz, hP, hK, hD0, hN⟩ := hv
  subst hsz
  have hts0 := atoms_spec (ws := wy y_Ring_init b_Ring_init 2 none) B.pre
  have hts : ∀ w ∈ gw, w.before _ s = true := fun w hw => hts0 w (List.mem_cons_of_mem _ hw)
  have hown : s.vm.findClass R_Ring = some m.cls := findClass_of_methodNamed B.named
  have hx := B.exec
  have hb := B.bytes
  have hr := B.returns
  have hlocks := B.notSynchronized
  have hin : meth.name = "<init>" := (name_of_methodNamed B.named B.method).1
  have hD := hD0.self (sz := s.heap.size)
  generalize hAe : va_A [(h, .inr (0, rBlank))] s.heap.size = A at hD ⊢
  have hA : ∀ q : Nat, s.heap.size ≤ q → A q := fun q h => by rw [← hAe]; exact Or.inr h
  have hS : va_S A s.heap s.heap [] := va_S.rf
  have hl := lv_entry ([.ref h, .int q]) (n := 2) (Nat.le_of_ble_eq_true rfl)
  rw [lg_entry_eq]
  generalize (lg_sl ([.ref h, .int q]) ++ List.replicate (2 - (lg_sl ([.ref h, .int q])).length) Slot.unset).toArray = ls at hl ⊢
  have hl : lv_has ls 2 [(0, .ref h), (1, .int q)] := hl
  refine lv_aload_n hx hb d_Ring_init_0 rfl (lv_at hl 0 rfl) ?_
  refine W.objInit hx hb hown (hts _ k_ml_Ring_3) (hts _ k_im_Object_init) (hts _ k_co_Object_init) rfl (by rw [hml]; exact hl.1) rfl d_Ring_init_1 (Nat.le_of_ble_eq_true rfl) (Nat.le_of_ble_eq_true rfl) ?_
  refine W.eq (g2 := F0 m 4 ls []) rfl ?_
  refine lv_aload_n hx hb d_Ring_init_4 rfl (lv_at hl 0 rfl) ?_
  refine lv_bipush (v := 15) hx hb d_Ring_init_5 (by decide) ?_
  refine va_newa (atype := .int) (N' := 15) (a0 := (15, .inl (fun _ => 0))) hx hb (hts _ k_ac_int) rfl hK hP hD hS hA (fun cA => rfl) (by decide) (by decide) (by decide) (Nat.le_of_ble_eq_true rfl) (Nat.le_of_ble_eq_true rfl) d_Ring_init_7 (fun q1 c1 H hK hP hD hS => ?_)
  have hP : va_P D classes [(h, .inr (0, [.null, .null, .null, .null, .null, .null, .null, .null, .int 0, .int 0, .int 0, .int 0, .int 0])), (q1, .inl (c1, 15, .inl (fun _ => 0)))] H := hP
  have hD : va_D A [(h, .inr (0, [.null, .null, .null, .null, .null, .null, .null, .null, .int 0, .int 0, .int 0, .int 0, .int 0])), (q1, .inl (c1, 15, .inl (fun _ => 0)))] := hD
  have hK : va_K D classes [(c1, .int)] s := hK
  refine va_putF (D := D) (ci := 0) (v := .ref q1) (ty := .array .int) (C := R_Ring) (T := F_Ring) (N := 13) hx hb hts i_Ring t_Ring t_Ring_ok n_Ring hown hK hP hD hS 0 rfl rfl 0 (by decide) (hts _ k_fl_Ring_11) (fun _ h9 => h9) rfl hin rfl (by decide +kernel) rfl rfl (Nat.le_of_ble_eq_true rfl) d_Ring_init_9 (fun H locs hP hD hS => ?_)
  have hP : va_P D classes [(h, .inr (0, [.ref q1, .null, .null, .null, .null, .null, .null, .null, .int 0, .int 0, .int 0, .int 0, .int 0])), (q1, .inl (c1, 15, .inl (fun _ => 0)))] H := hP
  have hD : va_D A [(h, .inr (0, [.ref q1, .null, .null, .null, .null, .null, .null, .null, .int 0, .int 0, .int 0, .int 0, .int 0])), (q1, .inl (c1, 15, .inl (fun _ => 0)))] := hD
  refine lv_aload_n hx hb d_Ring_init_12 rfl (lv_at hl 0 rfl) ?_
  refine lv_bipush (v := 15) hx hb d_Ring_init_13 (by decide) ?_
  refine va_newa (atype := .int) (N' := 15) (a0 := (15, .inl (fun _ => 0))) hx hb (hts _ k_ac_int) rfl hK hP hD hS hA (fun cA => rfl) (by decide) (by decide) (by decide) (Nat.le_of_ble_eq_true rfl) (Nat.le_of_ble_eq_true rfl) d_Ring_init_15 (fun q2 c2 H hK hP hD hS => ?_)
  have hP : va_P D classes [(h, .inr (0, [.ref q1, .null, .null, .null, .null, .null, .null, .null, .int 0, .int 0, .int 0, .int 0, .int 0])), (q1, .inl (c1, 15, .inl (fun _ => 0))), (q2, .inl (c2, 15, .inl (fun _ => 0)))] H := hP
  have hD : va_D A [(h, .inr (0, [.ref q1, .null, .null, .null, .null, .null, .null, .null, .int 0, .int 0, .int 0, .int 0, .int 0])), (q1, .inl (c1, 15, .inl (fun _ => 0))), (q2, .inl (c2, 15, .inl (fun _ => 0)))] := hD
  have hK : va_K D classes [(c1, .int), (c2, .int)] s := hK
  refine va_putF (D := D) (ci := 0) (v := .ref q2) (ty := .array .int) (C := R_Ring) (T := F_Ring) (N := 13) hx hb hts i_Ring t_Ring t_Ring_ok n_Ring hown hK hP hD hS 0 rfl rfl 1 (by decide) (hts _ k_fl_Ring_15) (fun _ h9 => h9) rfl hin rfl (by decide +kernel) rfl rfl (Nat.le_of_ble_eq_true rfl) d_Ring_init_17 (fun H locs hP hD hS => ?_)
  have hP : va_P D classes [(h, .inr (0, [.ref q1, .ref q2, .null, .null, .null, .null, .null, .null, .int 0, .int 0, .int 0, .int 0, .int 0])), (q1, .inl (c1, 15, .inl (fun _ => 0))), (q2, .inl (c2, 15, .inl (fun _ => 0)))] H := hP
  have hD : va_D A [(h, .inr (0, [.ref q1, .ref q2, .null, .null, .null, .null, .null, .null, .int 0, .int 0, .int 0, .int 0, .int 0])), (q1, .inl (c1, 15, .inl (fun _ => 0))), (q2, .inl (c2, 15, .inl (fun _ => 0)))] := hD
  refine lv_aload_n hx hb d_Ring_init_20 rfl (lv_at hl 0 rfl) ?_
  refine lv_bipush (v := 15) hx hb d_Ring_init_21 (by decide) ?_
  refine va_newa (atype := .int) (N' := 15) (a0 := (15, .inl (fun _ => 0))) hx hb (hts _ k_ac_int) rfl hK hP hD hS hA (fun cA => rfl) (by decide) (by decide) (by decide) (Nat.le_of_ble_eq_true rfl) (Nat.le_of_ble_eq_true rfl) d_Ring_init_23 (fun q3 c3 H hK hP hD hS => ?_)
  have hP : va_P D classes [(h, .inr (0, [.ref q1, .ref q2, .null, .null, .null, .null, .null, .null, .int 0, .int 0, .int 0, .int 0, .int 0])), (q1, .inl (c1, 15, .inl (fun _ => 0))), (q2, .inl (c2, 15, .inl (fun _ => 0))), (q3, .inl (c3, 15, .inl (fun _ => 0)))] H := hP
  have hD : va_D A [(h, .inr (0, [.ref q1, .ref q2, .null, .null, .null, .null, .null, .null, .int 0, .int 0, .int 0, .int 0, .int 0])), (q1, .inl (c1, 15, .inl (fun _ => 0))), (q2, .inl (c2, 15, .inl (fun _ => 0))), (q3, .inl (c3, 15, .inl (fun _ => 0)))] := hD
  have hK : va_K D classes [(c1, .int), (c2, .int), (c3, .int)] s := hK
  refine va_putF (D := D) (ci := 0) (v := .ref q3) (ty := .array .int) (C := R_Ring) (T := F_Ring) (N := 13) hx hb hts i_Ring t_Ring t_Ring_ok n_Ring hown hK hP hD hS 0 rfl rfl 2 (by decide) (hts _ k_fl_Ring_18) (fun _ h9 => h9) rfl hin rfl (by decide +kernel) rfl rfl (Nat.le_of_ble_eq_true rfl) d_Ring_init_25 (fun H locs hP hD hS => ?_)
  have hP : va_P D classes [(h, .inr (0, [.ref q1, .ref q2, .ref q3, .null, .null, .null, .null, .null, .int 0, .int 0, .int 0, .int 0, .int 0])), (q1, .inl (c1, 15, .inl (fun _ => 0))), (q2, .inl (c2, 15, .inl (fun _ => 0))), (q3, .inl (c3, 15, .inl (fun _ => 0)))] H := hP
  have hD : va_D A [(h, .inr (0, [.ref q1, .ref q2, .ref q3, .null, .null, .null, .null, .null, .int 0, .int 0, .int 0, .int 0, .int 0])), (q1, .inl (c1, 15, .inl (fun _ => 0))), (q2, .inl (c2, 15, .inl (fun _ => 0))), (q3, .inl (c3, 15, .inl (fun _ => 0)))] := hD
  refine lv_aload_n hx hb d_Ring_init_28 rfl (lv_at hl 0 rfl) ?_
  refine lv_bipush (v := 15) hx hb d_Ring_init_29 (by decide) ?_
  refine va_newa (atype := .boolean) (N' := 15) (a0 := (15, .inl (fun _ => 0))) hx hb (hts _ k_ac_boolean) rfl hK hP hD hS hA (fun cA => rfl) (by decide) (by decide) (by decide) (Nat.le_of_ble_eq_true rfl) (Nat.le_of_ble_eq_true rfl) d_Ring_init_31 (fun q4 c4 H hK hP hD hS => ?_)
  have hP : va_P D classes [(h, .inr (0, [.ref q1, .ref q2, .ref q3, .null, .null, .null, .null, .null, .int 0, .int 0, .int 0, .int 0, .int 0])), (q1, .inl (c1, 15, .inl (fun _ => 0))), (q2, .inl (c2, 15, .inl (fun _ => 0))), (q3, .inl (c3, 15, .inl (fun _ => 0))), (q4, .inl (c4, 15, .inl (fun _ => 0)))] H := hP
  have hD : va_D A [(h, .inr (0, [.ref q1, .ref q2, .ref q3, .null, .null, .null, .null, .null, .int 0, .int 0, .int 0, .int 0, .int 0])), (q1, .inl (c1, 15, .inl (fun _ => 0))), (q2, .inl (c2, 15, .inl (fun _ => 0))), (q3, .inl (c3, 15, .inl (fun _ => 0))), (q4, .inl (c4, 15, .inl (fun _ => 0)))] := hD
  have hK : va_K D classes [(c1, .int), (c2, .int), (c3, .int), (c4, .boolean)] s := hK
  refine va_putF (D := D) (ci := 0) (v := .ref q4) (ty := .array .boolean) (C := R_Ring) (T := F_Ring) (N := 13) hx hb hts i_Ring t_Ring t_Ring_ok n_Ring hown hK hP hD hS 0 rfl rfl 3 (by decide) (hts _ k_fl_Ring_21) (fun _ h9 => h9) rfl hin rfl (by decide +kernel) rfl rfl (Nat.le_of_ble_eq_true rfl) d_Ring_init_33 (fun H locs hP hD hS => ?_)
  have hP : va_P D classes [(h, .inr (0, [.ref q1, .ref q2, .ref q3, .ref q4, .null, .null, .null, .null, .int 0, .int 0, .int 0, .int 0, .int 0])), (q1, .inl (c1, 15, .inl (fun _ => 0))), (q2, .inl (c2, 15, .inl (fun _ => 0))), (q3, .inl (c3, 15, .inl (fun _ => 0))), (q4, .inl (c4, 15, .inl (fun _ => 0)))] H := hP
  have hD : va_D A [(h, .inr (0, [.ref q1, .ref q2, .ref q3, .ref q4, .null, .null, .null, .null, .int 0, .int 0, .int 0, .int 0, .int 0])), (q1, .inl (c1, 15, .inl (fun _ => 0))), (q2, .inl (c2, 15, .inl (fun _ => 0))), (q3, .inl (c3, 15, .inl (fun _ => 0))), (q4, .inl (c4, 15, .inl (fun _ => 0)))] := hD
  refine lv_aload_n hx hb d_Ring_init_36 rfl (lv_at hl 0 rfl) ?_
  refine lv_bipush (v := 15) hx hb d_Ring_init_37 (by decide) ?_
  refine va_newa (atype := .int) (N' := 15) (a0 := (15, .inl (fun _ => 0))) hx hb (hts _ k_ac_int) rfl hK hP hD hS hA (fun cA => rfl) (by decide) (by decide) (by decide) (Nat.le_of_ble_eq_true rfl) (Nat.le_of_ble_eq_true rfl) d_Ring_init_39 (fun q5 c5 H hK hP hD hS => ?_)
  have hP : va_P D classes [(h, .inr (0, [.ref q1, .ref q2, .ref q3, .ref q4, .null, .null, .null, .null, .int 0, .int 0, .int 0, .int 0, .int 0])), (q1, .inl (c1, 15, .inl (fun _ => 0))), (q2, .inl (c2, 15, .inl (fun _ => 0))), (q3, .inl (c3, 15, .inl (fun _ => 0))), (q4, .inl (c4, 15, .inl (fun _ => 0))), (q5, .inl (c5, 15, .inl (fun _ => 0)))] H := hP
  have hD : va_D A [(h, .inr (0, [.ref q1, .ref q2, .ref q3, .ref q4, .null, .null, .null, .null, .int 0, .int 0, .int 0, .int 0, .int 0])), (q1, .inl (c1, 15, .inl (fun _ => 0))), (q2, .inl (c2, 15, .inl (fun _ => 0))), (q3, .inl (c3, 15, .inl (fun _ => 0))), (q4, .inl (c4, 15, .inl (fun _ => 0))), (q5, .inl (c5, 15, .inl (fun _ => 0)))] := hD
  have hK : va_K D classes [(c1, .int), (c2, .int), (c3, .int), (c4, .boolean), (c5, .int)] s := hK
  refine va_putF (D := D) (ci := 0) (v := .ref q5) (ty := .array .int) (C := R_Ring) (T := F_Ring) (N := 13) hx hb hts i_Ring t_Ring t_Ring_ok n_Ring hown hK hP hD hS 0 rfl rfl 4 (by decide) (hts _ k_fl_Ring_25) (fun _ h9 => h9) rfl hin rfl (by decide +kernel) rfl rfl (Nat.le_of_ble_eq_true rfl) d_Ring_init_41 (fun H locs hP hD hS => ?_)
  have hP : va_P D classes [(h, .inr (0, [.ref q1, .ref q2, .ref q3, .ref q4, .ref q5, .null, .null, .null, .int 0, .int 0, .int 0, .int 0, .int 0])), (q1, .inl (c1, 15, .inl (fun _ => 0))), (q2, .inl (c2, 15, .inl (fun _ => 0))), (q3, .inl (c3, 15, .inl (fun _ => 0))), (q4, .inl (c4, 15, .inl (fun _ => 0))), (q5, .inl (c5, 15, .inl (fun _ => 0)))] H := hP
  have hD : va_D A [(h, .inr (0, [.ref q1, .ref q2, .ref q3, .ref q4, .ref q5, .null, .null, .null, .int 0, .int 0, .int 0, .int 0, .int 0])), (q1, .inl (c1, 15, .inl (fun _ => 0))), (q2, .inl (c2, 15, .inl (fun _ => 0))), (q3, .inl (c3, 15, .inl (fun _ => 0))), (q4, .inl (c4, 15, .inl (fun _ => 0))), (q5, .inl (c5, 15, .inl (fun _ => 0)))] := hD
  refine lv_aload_n hx hb d_Ring_init_44 rfl (lv_at hl 0 rfl) ?_
  refine lv_bipush (v := 15) hx hb d_Ring_init_45 (by decide) ?_
  refine va_newa (atype := .int) (N' := 15) (a0 := (15, .inl (fun _ => 0))) hx hb (hts _ k_ac_int) rfl hK hP hD hS hA (fun cA => rfl) (by decide) (by decide) (by decide) (Nat.le_of_ble_eq_true rfl) (Nat.le_of_ble_eq_true rfl) d_Ring_init_47 (fun q6 c6 H hK hP hD hS => ?_)
  have hP : va_P D classes [(h, .inr (0, [.ref q1, .ref q2, .ref q3, .ref q4, .ref q5, .null, .null, .null, .int 0, .int 0, .int 0, .int 0, .int 0])), (q1, .inl (c1, 15, .inl (fun _ => 0))), (q2, .inl (c2, 15, .inl (fun _ => 0))), (q3, .inl (c3, 15, .inl (fun _ => 0))), (q4, .inl (c4, 15, .inl (fun _ => 0))), (q5, .inl (c5, 15, .inl (fun _ => 0))), (q6, .inl (c6, 15, .inl (fun _ => 0)))] H := hP
  have hD : va_D A [(h, .inr (0, [.ref q1, .ref q2, .ref q3, .ref q4, .ref q5, .null, .null, .null, .int 0, .int 0, .int 0, .int 0, .int 0])), (q1, .inl (c1, 15, .inl (fun _ => 0))), (q2, .inl (c2, 15, .inl (fun _ => 0))), (q3, .inl (c3, 15, .inl (fun _ => 0))), (q4, .inl (c4, 15, .inl (fun _ => 0))), (q5, .inl (c5, 15, .inl (fun _ => 0))), (q6, .inl (c6, 15, .inl (fun _ => 0)))] := hD
  have hK : va_K D classes [(c1, .int), (c2, .int), (c3, .int), (c4, .boolean), (c5, .int), (c6, .int)] s := hK
  refine va_putF (D := D) (ci := 0) (v := .ref q6) (ty := .array .int) (C := R_Ring) (T := F_Ring) (N := 13) hx hb hts i_Ring t_Ring t_Ring_ok n_Ring hown hK hP hD hS 0 rfl rfl 5 (by decide) (hts _ k_fl_Ring_28) (fun _ h9 => h9) rfl hin rfl (by decide +kernel) rfl rfl (Nat.le_of_ble_eq_true rfl) d_Ring_init_49 (fun H locs hP hD hS => ?_)
  have hP : va_P D classes [(h, .inr (0, [.ref q1, .ref q2, .ref q3, .ref q4, .ref q5, .ref q6, .null, .null, .int 0, .int 0, .int 0, .int 0, .int 0])), (q1, .inl (c1, 15, .inl (fun _ => 0))), (q2, .inl (c2, 15, .inl (fun _ => 0))), (q3, .inl (c3, 15, .inl (fun _ => 0))), (q4, .inl (c4, 15, .inl (fun _ => 0))), (q5, .inl (c5, 15, .inl (fun _ => 0))), (q6, .inl (c6, 15, .inl (fun _ => 0)))] H := hP
  have hD : va_D A [(h, .inr (0, [.ref q1, .ref q2, .ref q3, .ref q4, .ref q5, .ref q6, .null, .null, .int 0, .int 0, .int 0, .int 0, .int 0])), (q1, .inl (c1, 15, .inl (fun _ => 0))), (q2, .inl (c2, 15, .inl (fun _ => 0))), (q3, .inl (c3, 15, .inl (fun _ => 0))), (q4, .inl (c4, 15, .inl (fun _ => 0))), (q5, .inl (c5, 15, .inl (fun _ => 0))), (q6, .inl (c6, 15, .inl (fun _ => 0)))] := hD
  refine lv_aload_n hx hb d_Ring_init_52 rfl (lv_at hl 0 rfl) ?_
  refine lv_bipush (v := 15) hx hb d_Ring_init_53 (by decide) ?_
  refine va_newa (atype := .int) (N' := 15) (a0 := (15, .inl (fun _ => 0))) hx hb (hts _ k_ac_int) rfl hK hP hD hS hA (fun cA => rfl) (by decide) (by decide) (by decide) (Nat.le_of_ble_eq_true rfl) (Nat.le_of_ble_eq_true rfl) d_Ring_init_55 (fun q7 c7 H hK hP hD hS => ?_)
  have hP : va_P D classes [(h, .inr (0, [.ref q1, .ref q2, .ref q3, .ref q4, .ref q5, .ref q6, .null, .null, .int 0, .int 0, .int 0, .int 0, .int 0])), (q1, .inl (c1, 15, .inl (fun _ => 0))), (q2, .inl (c2, 15, .inl (fun _ => 0))), (q3, .inl (c3, 15, .inl (fun _ => 0))), (q4, .inl (c4, 15, .inl (fun _ => 0))), (q5, .inl (c5, 15, .inl (fun _ => 0))), (q6, .inl (c6, 15, .inl (fun _ => 0))), (q7, .inl (c7, 15, .inl (fun _ => 0)))] H := hP
  have hD : va_D A [(h, .inr (0, [.ref q1, .ref q2, .ref q3, .ref q4, .ref q5, .ref q6, .null, .null, .int 0, .int 0, .int 0, .int 0, .int 0])), (q1, .inl (c1, 15, .inl (fun _ => 0))), (q2, .inl (c2, 15, .inl (fun _ => 0))), (q3, .inl (c3, 15, .inl (fun _ => 0))), (q4, .inl (c4, 15, .inl (fun _ => 0))), (q5, .inl (c5, 15, .inl (fun _ => 0))), (q6, .inl (c6, 15, .inl (fun _ => 0))), (q7, .inl (c7, 15, .inl (fun _ => 0)))] := hD
  have hK : va_K D classes [(c1, .int), (c2, .int), (c3, .int), (c4, .boolean), (c5, .int), (c6, .int), (c7, .int)] s := hK
  refine va_putF (D := D) (ci := 0) (v := .ref q7) (ty := .array .int) (C := R_Ring) (T := F_Ring) (N := 13) hx hb hts i_Ring t_Ring t_Ring_ok n_Ring hown hK hP hD hS 0 rfl rfl 6 (by decide) (hts _ k_fl_Ring_31) (fun _ h9 => h9) rfl hin rfl (by decide +kernel) rfl rfl (Nat.le_of_ble_eq_true rfl) d_Ring_init_57 (fun H locs hP hD hS => ?_)
  have hP : va_P D classes [(h, .inr (0, [.ref q1, .ref q2, .ref q3, .ref q4, .ref q5, .ref q6, .ref q7, .null, .int 0, .int 0, .int 0, .int 0, .int 0])), (q1, .inl (c1, 15, .inl (fun _ => 0))), (q2, .inl (c2, 15, .inl (fun _ => 0))), (q3, .inl (c3, 15, .inl (fun _ => 0))), (q4, .inl (c4, 15, .inl (fun _ => 0))), (q5, .inl (c5, 15, .inl (fun _ => 0))), (q6, .inl (c6, 15, .inl (fun _ => 0))), (q7, .inl (c7, 15, .inl (fun _ => 0)))] H := hP
  have hD : va_D A [(h, .inr (0, [.ref q1, .ref q2, .ref q3, .ref q4, .ref q5, .ref q6, .ref q7, .null, .int 0, .int 0, .int 0, .int 0, .int 0])), (q1, .inl (c1, 15, .inl (fun _ => 0))), (q2, .inl (c2, 15, .inl (fun _ => 0))), (q3, .inl (c3, 15, .inl (fun _ => 0))), (q4, .inl (c4, 15, .inl (fun _ => 0))), (q5, .inl (c5, 15, .inl (fun _ => 0))), (q6, .inl (c6, 15, .inl (fun _ => 0))), (q7, .inl (c7, 15, .inl (fun _ => 0)))] := hD
  refine lv_aload_n hx hb d_Ring_init_60 rfl (lv_at hl 0 rfl) ?_
  refine lv_iconst (v := 4) hx hb d_Ring_init_61 (by decide) ?_
  refine va_newa (atype := .int) (N' := 4) (a0 := (4, .inl (fun _ => 0))) hx hb (hts _ k_ac_int) rfl hK hP hD hS hA (fun cA => rfl) (by decide) (by decide) (by decide) (Nat.le_of_ble_eq_true rfl) (Nat.le_of_ble_eq_true rfl) d_Ring_init_62 (fun q8 c8 H hK hP hD hS => ?_)
  have hP : va_P D classes [(h, .inr (0, [.ref q1, .ref q2, .ref q3, .ref q4, .ref q5, .ref q6, .ref q7, .null, .int 0, .int 0, .int 0, .int 0, .int 0])), (q1, .inl (c1, 15, .inl (fun _ => 0))), (q2, .inl (c2, 15, .inl (fun _ => 0))), (q3, .inl (c3, 15, .inl (fun _ => 0))), (q4, .inl (c4, 15, .inl (fun _ => 0))), (q5, .inl (c5, 15, .inl (fun _ => 0))), (q6, .inl (c6, 15, .inl (fun _ => 0))), (q7, .inl (c7, 15, .inl (fun _ => 0))), (q8, .inl (c8, 4, .inl (fun _ => 0)))] H := hP
  have hD : va_D A [(h, .inr (0, [.ref q1, .ref q2, .ref q3, .ref q4, .ref q5, .ref q6, .ref q7, .null, .int 0, .int 0, .int 0, .int 0, .int 0])), (q1, .inl (c1, 15, .inl (fun _ => 0))), (q2, .inl (c2, 15, .inl (fun _ => 0))), (q3, .inl (c3, 15, .inl (fun _ => 0))), (q4, .inl (c4, 15, .inl (fun _ => 0))), (q5, .inl (c5, 15, .inl (fun _ => 0))), (q6, .inl (c6, 15, .inl (fun _ => 0))), (q7, .inl (c7, 15, .inl (fun _ => 0))), (q8, .inl (c8, 4, .inl (fun _ => 0)))] := hD
  have hK : va_K D classes [(c1, .int), (c2, .int), (c3, .int), (c4, .boolean), (c5, .int), (c6, .int), (c7, .int), (c8, .int)] s := hK
  refine va_putF (D := D) (ci := 0) (v := .ref q8) (ty := .array .int) (C := R_Ring) (T := F_Ring) (N := 13) hx hb hts i_Ring t_Ring t_Ring_ok n_Ring hown hK hP hD hS 0 rfl rfl 7 (by decide) (hts _ k_fl_Ring_34) (fun _ h9 => h9) rfl hin rfl (by decide +kernel) rfl rfl (Nat.le_of_ble_eq_true rfl) d_Ring_init_64 (fun H locs hP hD hS => ?_)
  have hP : va_P D classes [(h, .inr (0, [.ref q1, .ref q2, .ref q3, .ref q4, .ref q5, .ref q6, .ref q7, .ref q8, .int 0, .int 0, .int 0, .int 0, .int 0])), (q1, .inl (c1, 15, .inl (fun _ => 0))), (q2, .inl (c2, 15, .inl (fun _ => 0))), (q3, .inl (c3, 15, .inl (fun _ => 0))), (q4, .inl (c4, 15, .inl (fun _ => 0))), (q5, .inl (c5, 15, .inl (fun _ => 0))), (q6, .inl (c6, 15, .inl (fun _ => 0))), (q7, .inl (c7, 15, .inl (fun _ => 0))), (q8, .inl (c8, 4, .inl (fun _ => 0)))] H := hP
  have hD : va_D A [(h, .inr (0, [.ref q1, .ref q2, .ref q3, .ref q4, .ref q5, .ref q6, .ref q7, .ref q8, .int 0, .int 0, .int 0, .int 0, .int 0])), (q1, .inl (c1, 15, .inl (fun _ => 0))), (q2, .inl (c2, 15, .inl (fun _ => 0))), (q3, .inl (c3, 15, .inl (fun _ => 0))), (q4, .inl (c4, 15, .inl (fun _ => 0))), (q5, .inl (c5, 15, .inl (fun _ => 0))), (q6, .inl (c6, 15, .inl (fun _ => 0))), (q7, .inl (c7, 15, .inl (fun _ => 0))), (q8, .inl (c8, 4, .inl (fun _ => 0)))] := hD
  refine lv_aload_n hx hb d_Ring_init_67 rfl (lv_at hl 0 rfl) ?_
  refine lv_iload_n hx hb d_Ring_init_68 rfl (lv_at hl 1 rfl) ?_
  refine va_putF (D := D) (ci := 0) (v := .int q) (ty := .int) (C := R_Ring) (T := F_Ring) (N := 13) hx hb hts i_Ring t_Ring t_Ring_ok n_Ring hown hK hP hD hS 0 rfl rfl 8 (by decide) (hts _ k_fl_Ring_37) (fun _ h9 => h9) rfl hin rfl (by decide +kernel) (vp_nar_int q) rfl (Nat.le_of_ble_eq_true rfl) d_Ring_init_69 (fun H locs hP hD hS => ?_)
  have hX : VX D A s.heap (rW (fn10 h q1 q2 q3 q4 q5 q6 q7 q8 0) (fn10 0 c1 c2 c3 c4 c5 c6 c7 c8 0) (rZero q)) H locs := ⟨hP, hD, hS⟩
  have C : Cx p m c s _ b_Ring_init 2 R_Ring D (rT (fn10 0 c1 c2 c3 c4 c5 c6 c7 c8 0)) A false := ⟨⟨hx, hb, hml, hown, hts⟩, hK, hA, NX.no⟩
  refine lv_aload_n hx hb d_Ring_init_72 rfl (lv_at hl 0 rfl) ?_
  refine rr_v C hX (c_Ring_clear l D (fn10 h q1 q2 q3 q4 q5 q6 q7 q8 0) (fn10 0 c1 c2 c3 c4 c5 c6 c7 c8 0) (rZero q)) mi_Ring_41 ⟨⟨rfl, rfl⟩, (Nat.le_of_ble_eq_true rfl), (Nat.le_of_ble_eq_true rfl)⟩ rfl rfl hl.1 (Nat.le_of_ble_eq_true rfl) d_Ring_init_73 ⟨(Nat.le_of_ble_eq_true rfl), (Nat.le_of_ble_eq_true rfl)⟩ (fun H locs (hX : VX D A s.heap (rW (fn10 h q1 q2 q3 q4 q5 q6 q7 q8 0) (fn10 0 c1 c2 c3 c4 c5 c6 c7 c8 0) (rNew q)) H locs) => ?_)
  refine W.widen (k := 8) (n := 109) (Nat.le_of_ble_eq_true rfl) (Nat.le_of_ble_eq_true rfl) ?_
  exact W.vret hx hb hr (fun t ht hW => ⟨⟨rNew q, rfl, rfl, fn10 h q1 q2 q3 q4 q5 q6 q7 q8 0, fn10 0 c1 c2 c3 c4 c5 c6 c7 c8 0, rfl, by rw [ht]; exact hX.1, va_K.moved hW.alike hK, hX.2.1⟩, hX.2.2.F ht⟩) hX.2.2.2.2 d_Ring_init_76
set_option maxHeartbeats 4000000 in
set_option maxRecDepth 100000 in
theorem c_Mod_init (l : Launch) (D : va_G) (h : Nat) (q : Int32) (sz : Nat) : Met l y_Mod_init (wy y_Mod_init b_Mod_init 2 none) rm_Mod_init (Pw [.ref h, .int q] D [] false [(h, .inr (2, mBlank))] sz) (va_Qv (fun u : MS => u = mNew (clampP q)) (fun u t => ∃ a k, a 0 = h ∧ va_P D classes (mW a k u) t.heap ∧ va_K D classes (mT k) t ∧ va_D (va_A [(h, .inr (2, mBlank))] sz) (mW a k u)) (va_A [(h, .inr (2, mBlank))] sz)) 9 144 (va_A [(h, .inr (2, mBlank))] sz) := by
  refine Met.ofW (cc := b_Mod_init) (maxL := 2) (ret := none) (by decide +kernel) rfl ?_
  intro p e s m args below meth c s₁ B hml hv
  obtain ⟨rfl, hsz, hP, hK, hD0, hN⟩ := hv
  subst hsz
  have hts0 := atoms_spec (ws := wy y_Mod_init b_Mod_init 2 none) B.pre
  have hts : ∀ w ∈ gw, w.before _ s = true := fun w hw => hts0 w (List.mem_cons_of_mem _ hw)
  have hown : s.vm.findClass R_Mod = some m.cls := findClass_of_methodNamed B.named
  have hx := B.exec
  have hb := B.bytes
  have hr := B.returns
  have hlocks := B.notSynchronized
  have hin : meth.name = "<init>" := (name_of_methodNamed B.named B.method).1
  have hD := hD0.self (sz := s.heap.size)
  generalize hAe : va_A [(h, .inr (2, mBlank))] s.heap.size = A at hD ⊢
  have hA : ∀ q : Nat, s.heap.size ≤ q → A q := fun q h => by rw [← hAe]; exact Or.inr h
  have hS : va_S A s.heap s.heap [] := va_S.rf
  have hl := lv_entry ([.ref h, .int q]) (n := 2) (Nat.le_of_ble_eq_true rfl)
  rw [lg_entry_eq]
  generalize (lg_sl ([.ref h, .int q]) ++ List.replicate (2 - (lg_sl ([.ref h, .int q])).length) Slot.unset).toArray = ls at hl ⊢
  have hl : lv_has ls 2 [(0, .ref h), (1, .int q)] := hl
  refine lv_aload_n hx hb d_Mod_init_0 rfl (lv_at hl 0 rfl) ?_
  refine W.objInit hx hb hown (hts _ k_ml_Mod_1) (hts _ k_im_Object_init) (hts _ k_co_Object_init) rfl (by rw [hml]; exact hl.1) rfl d_Mod_init_1 (Nat.le_of_ble_eq_true rfl) (Nat.le_of_ble_eq_true rfl) ?_
  refine W.eq (g2 := F0 m 4 ls []) rfl ?_
  refine lv_aload_n hx hb d_Mod_init_4 rfl (lv_at hl 0 rfl) ?_
  refine lv_bipush (v := 16) hx hb d_Mod_init_5 (by decide) ?_
  refine va_newa (atype := .int) (N' := 16) (a0 := (16, .inl (fun _ => 0))) hx hb (hts _ k_ac_int) rfl hK hP hD hS hA (fun cA => rfl) (by decide) (by decide) (by decide) (Nat.le_of_ble_eq_true rfl) (Nat.le_of_ble_eq_true rfl) d_Mod_init_7 (fun q1 c1 H hK hP hD hS => ?_)
  have hP : va_P D classes [(h, .inr (2, [.int 0, .int 0, .int 0, .int 0, .int 0, .int 0, .int 0, .null, .null, .null, .null, .null, .null, .null, .null, .null])), (q1, .inl (c1, 16, .inl (fun _ => 0)))] H := hP
  have hD : va_D A [(h, .inr (2, [.int 0, .int 0, .int 0, .int 0, .int 0, .int 0, .int 0, .null, .null, .null, .null, .null, .null, .null, .null, .null])), (q1, .inl (c1, 16, .inl (fun _ => 0)))] := hD
  have hK : va_K D classes [(c1, .int)] s := hK
  refine va_putF (D := D) (ci := 2) (v := .ref q1) (ty := .array .int) (C := R_Mod) (T := F_Mod) (N := 16) hx hb hts i_Mod t_Mod t_Mod_ok n_Mod hown hK hP hD hS 0 rfl rfl 7 (by decide) (hts _ k_fl_Mod_7) (fun _ h9 => h9) rfl hin rfl (by decide +kernel) rfl rfl (Nat.le_of_ble_eq_true rfl) d_Mod_init_9 (fun H locs hP hD hS => ?_)
  have hP : va_P D classes [(h, .inr (2, [.int 0, .int 0, .int 0, .int 0, .int 0, .int 0, .int 0, .ref q1, .null, .null, .null, .null, .null, .null, .null, .null])), (q1, .inl (c1, 16, .inl (fun _ => 0)))] H := hP
  have hD : va_D A [(h, .inr (2, [.int 0, .int 0, .int 0, .int 0, .int 0, .int 0, .int 0, .ref q1, .null, .null, .null, .null, .null, .null, .null, .null])), (q1, .inl (c1, 16, .inl (fun _ => 0)))] := hD
  refine lv_aload_n hx hb d_Mod_init_12 rfl (lv_at hl 0 rfl) ?_
  refine lv_bipush (v := 16) hx hb d_Mod_init_13 (by decide) ?_
  refine va_newa (atype := .int) (N' := 16) (a0 := (16, .inl (fun _ => 0))) hx hb (hts _ k_ac_int) rfl hK hP hD hS hA (fun cA => rfl) (by decide) (by decide) (by decide) (Nat.le_of_ble_eq_true rfl) (Nat.le_of_ble_eq_true rfl) d_Mod_init_15 (fun q2 c2 H hK hP hD hS => ?_)
  have hP : va_P D classes [(h, .inr (2, [.int 0, .int 0, .int 0, .int 0, .int 0, .int 0, .int 0, .ref q1, .null, .null, .null, .null, .null, .null, .null, .null])), (q1, .inl (c1, 16, .inl (fun _ => 0))), (q2, .inl (c2, 16, .inl (fun _ => 0)))] H := hP
  have hD : va_D A [(h, .inr (2, [.int 0, .int 0, .int 0, .int 0, .int 0, .int 0, .int 0, .ref q1, .null, .null, .null, .null, .null, .null, .null, .null])), (q1, .inl (c1, 16, .inl (fun _ => 0))), (q2, .inl (c2, 16, .inl (fun _ => 0)))] := hD
  have hK : va_K D classes [(c1, .int), (c2, .int)] s := hK
  refine va_putF (D := D) (ci := 2) (v := .ref q2) (ty := .array .int) (C := R_Mod) (T := F_Mod) (N := 16) hx hb hts i_Mod t_Mod t_Mod_ok n_Mod hown hK hP hD hS 0 rfl rfl 8 (by decide) (hts _ k_fl_Mod_13) (fun _ h9 => h9) rfl hin rfl (by decide +kernel) rfl rfl (Nat.le_of_ble_eq_true rfl) d_Mod_init_17 (fun H locs hP hD hS => ?_)
  have hP : va_P D classes [(h, .inr (2, [.int 0, .int 0, .int 0, .int 0, .int 0, .int 0, .int 0, .ref q1, .ref q2, .null, .null, .null, .null, .null, .null, .null])), (q1, .inl (c1, 16, .inl (fun _ => 0))), (q2, .inl (c2, 16, .inl (fun _ => 0)))] H := hP
  have hD : va_D A [(h, .inr (2, [.int 0, .int 0, .int 0, .int 0, .int 0, .int 0, .int 0, .ref q1, .ref q2, .null, .null, .null, .null, .null, .null, .null])), (q1, .inl (c1, 16, .inl (fun _ => 0))), (q2, .inl (c2, 16, .inl (fun _ => 0)))] := hD
  refine lv_aload_n hx hb d_Mod_init_20 rfl (lv_at hl 0 rfl) ?_
  refine lv_bipush (v := 16) hx hb d_Mod_init_21 (by decide) ?_
  refine va_newa (atype := .int) (N' := 16) (a0 := (16, .inl (fun _ => 0))) hx hb (hts _ k_ac_int) rfl hK hP hD hS hA (fun cA => rfl) (by decide) (by decide) (by decide) (Nat.le_of_ble_eq_true rfl) (Nat.le_of_ble_eq_true rfl) d_Mod_init_23 (fun q3 c3 H hK hP hD hS => ?_)
  have hP : va_P D classes [(h, .inr (2, [.int 0, .int 0, .int 0, .int 0, .int 0, .int 0, .int 0, .ref q1, .ref q2, .null, .null, .null, .null, .null, .null, .null])), (q1, .inl (c1, 16, .inl (fun _ => 0))), (q2, .inl (c2, 16, .inl (fun _ => 0))), (q3, .inl (c3, 16, .inl (fun _ => 0)))] H := hP
  have hD : va_D A [(h, .inr (2, [.int 0, .int 0, .int 0, .int 0, .int 0, .int 0, .int 0, .ref q1, .ref q2, .null, .null, .null, .null, .null, .null, .null])), (q1, .inl (c1, 16, .inl (fun _ => 0))), (q2, .inl (c2, 16, .inl (fun _ => 0))), (q3, .inl (c3, 16, .inl (fun _ => 0)))] := hD
  have hK : va_K D classes [(c1, .int), (c2, .int), (c3, .int)] s := hK
  refine va_putF (D := D) (ci := 2) (v := .ref q3) (ty := .array .int) (C := R_Mod) (T := F_Mod) (N := 16) hx hb hts i_Mod t_Mod t_Mod_ok n_Mod hown hK hP hD hS 0 rfl rfl 9 (by decide) (hts _ k_fl_Mod_16) (fun _ h9 => h9) rfl hin rfl (by decide +kernel) rfl rfl (Nat.le_of_ble_eq_true rfl) d_Mod_init_25 (fun H locs hP hD hS => ?_)
  have hP : va_P D classes [(h, .inr (2, [.int 0, .int 0, .int 0, .int 0, .int 0, .int 0, .int 0, .ref q1, .ref q2, .ref q3, .null, .null, .null, .null, .null, .null])), (q1, .inl (c1, 16, .inl (fun _ => 0))), (q2, .inl (c2, 16, .inl (fun _ => 0))), (q3, .inl (c3, 16, .inl (fun _ => 0)))] H := hP
  have hD : va_D A [(h, .inr (2, [.int 0, .int 0, .int 0, .int 0, .int 0, .int 0, .int 0, .ref q1, .ref q2, .ref q3, .null, .null, .null, .null, .null, .null])), (q1, .inl (c1, 16, .inl (fun _ => 0))), (q2, .inl (c2, 16, .inl (fun _ => 0))), (q3, .inl (c3, 16, .inl (fun _ => 0)))] := hD
  refine lv_aload_n hx hb d_Mod_init_28 rfl (lv_at hl 0 rfl) ?_
  refine lv_bipush (v := 16) hx hb d_Mod_init_29 (by decide) ?_
  refine va_newa (atype := .boolean) (N' := 16) (a0 := (16, .inl (fun _ => 0))) hx hb (hts _ k_ac_boolean) rfl hK hP hD hS hA (fun cA => rfl) (by decide) (by decide) (by decide) (Nat.le_of_ble_eq_true rfl) (Nat.le_of_ble_eq_true rfl) d_Mod_init_31 (fun q4 c4 H hK hP hD hS => ?_)
  have hP : va_P D classes [(h, .inr (2, [.int 0, .int 0, .int 0, .int 0, .int 0, .int 0, .int 0, .ref q1, .ref q2, .ref q3, .null, .null, .null, .null, .null, .null])), (q1, .inl (c1, 16, .inl (fun _ => 0))), (q2, .inl (c2, 16, .inl (fun _ => 0))), (q3, .inl (c3, 16, .inl (fun _ => 0))), (q4, .inl (c4, 16, .inl (fun _ => 0)))] H := hP
  have hD : va_D A [(h, .inr (2, [.int 0, .int 0, .int 0, .int 0, .int 0, .int 0, .int 0, .ref q1, .ref q2, .ref q3, .null, .null, .null, .null, .null, .null])), (q1, .inl (c1, 16, .inl (fun _ => 0))), (q2, .inl (c2, 16, .inl (fun _ => 0))), (q3, .inl (c3, 16, .inl (fun _ => 0))), (q4, .inl (c4, 16, .inl (fun _ => 0)))] := hD
  have hK : va_K D classes [(c1, .int), (c2, .int), (c3, .int), (c4, .boolean)] s := hK
  refine va_putF (D := D) (ci := 2) (v := .ref q4) (ty := .array .boolean) (C := R_Mod) (T := F_Mod) (N := 16) hx hb hts i_Mod t_Mod t_Mod_ok n_Mod hown hK hP hD hS 0 rfl rfl 10 (by decide) (hts _ k_fl_Mod_19) (fun _ h9 => h9) rfl hin rfl (by decide +kernel) rfl rfl (Nat.le_of_ble_eq_true rfl) d_Mod_init_33 (fun H locs hP hD hS => ?_)
  have hP : va_P D classes [(h, .inr (2, [.int 0, .int 0, .int 0, .int 0, .int 0, .int 0, .int 0, .ref q1, .ref q2, .ref q3, .ref q4, .null, .null, .null, .null, .null])), (q1, .inl (c1, 16, .inl (fun _ => 0))), (q2, .inl (c2, 16, .inl (fun _ => 0))), (q3, .inl (c3, 16, .inl (fun _ => 0))), (q4, .inl (c4, 16, .inl (fun _ => 0)))] H := hP
  have hD : va_D A [(h, .inr (2, [.int 0, .int 0, .int 0, .int 0, .int 0, .int 0, .int 0, .ref q1, .ref q2, .ref q3, .ref q4, .null, .null, .null, .null, .null])), (q1, .inl (c1, 16, .inl (fun _ => 0))), (q2, .inl (c2, 16, .inl (fun _ => 0))), (q3, .inl (c3, 16, .inl (fun _ => 0))), (q4, .inl (c4, 16, .inl (fun _ => 0)))] := hD
  refine lv_aload_n hx hb d_Mod_init_36 rfl (lv_at hl 0 rfl) ?_
  refine lv_bipush (v := 16) hx hb d_Mod_init_37 (by decide) ?_
  refine va_newa (atype := .int) (N' := 16) (a0 := (16, .inl (fun _ => 0))) hx hb (hts _ k_ac_int) rfl hK hP hD hS hA (fun cA => rfl) (by decide) (by decide) (by decide) (Nat.le_of_ble_eq_true rfl) (Nat.le_of_ble_eq_true rfl) d_Mod_init_39 (fun q5 c5 H hK hP hD hS => ?_)
  have hP : va_P D classes [(h, .inr (2, [.int 0, .int 0, .int 0, .int 0, .int 0, .int 0, .int 0, .ref q1, .ref q2, .ref q3, .ref q4, .null, .null, .null, .null, .null])), (q1, .inl (c1, 16, .inl (fun _ => 0))), (q2, .inl (c2, 16, .inl (fun _ => 0))), (q3, .inl (c3, 16, .inl (fun _ => 0))), (q4, .inl (c4, 16, .inl (fun _ => 0))), (q5, .inl (c5, 16, .inl (fun _ => 0)))] H := hP
  have hD : va_D A [(h, .inr (2, [.int 0, .int 0, .int 0, .int 0, .int 0, .int 0, .int 0, .ref q1, .ref q2, .ref q3, .ref q4, .null, .null, .null, .null, .null])), (q1, .inl (c1, 16, .inl (fun _ => 0))), (q2, .inl (c2, 16, .inl (fun _ => 0))), (q3, .inl (c3, 16, .inl (fun _ => 0))), (q4, .inl (c4, 16, .inl (fun _ => 0))), (q5, .inl (c5, 16, .inl (fun _ => 0)))] := hD
  have hK : va_K D classes [(c1, .int), (c2, .int), (c3, .int), (c4, .boolean), (c5, .int)] s := hK
  refine va_putF (D := D) (ci := 2) (v := .ref q5) (ty := .array .int) (C := R_Mod) (T := F_Mod) (N := 16) hx hb hts i_Mod t_Mod t_Mod_ok n_Mod hown hK hP hD hS 0 rfl rfl 11 (by decide) (hts _ k_fl_Mod_23) (fun _ h9 => h9) rfl hin rfl (by decide +kernel) rfl rfl (Nat.le_of_ble_eq_true rfl) d_Mod_init_41 (fun H locs hP hD hS => ?_)
  have hP : va_P D classes [(h, .inr (2, [.int 0, .int 0, .int 0, .int 0, .int 0, .int 0, .int 0, .ref q1, .ref q2, .ref q3, .ref q4, .ref q5, .null, .null, .null, .null])), (q1, .inl (c1, 16, .inl (fun _ => 0))), (q2, .inl (c2, 16, .inl (fun _ => 0))), (q3, .inl (c3, 16, .inl (fun _ => 0))), (q4, .inl (c4, 16, .inl (fun _ => 0))), (q5, .inl (c5, 16, .inl (fun _ => 0)))] H := hP
  have hD : va_D A [(h, .inr (2, [.int 0, .int 0, .int 0, .int 0, .int 0, .int 0, .int 0, .ref q1, .ref q2, .ref q3, .ref q4, .ref q5, .null, .null, .null, .null])), (q1, .inl (c1, 16, .inl (fun _ => 0))), (q2, .inl (c2, 16, .inl (fun _ => 0))), (q3, .inl (c3, 16, .inl (fun _ => 0))), (q4, .inl (c4, 16, .inl (fun _ => 0))), (q5, .inl (c5, 16, .inl (fun _ => 0)))] := hD
  refine lv_aload_n hx hb d_Mod_init_44 rfl (lv_at hl 0 rfl) ?_
  refine lv_bipush (v := 16) hx hb d_Mod_init_45 (by decide) ?_
  refine va_newa (atype := .boolean) (N' := 16) (a0 := (16, .inl (fun _ => 0))) hx hb (hts _ k_ac_boolean) rfl hK hP hD hS hA (fun cA => rfl) (by decide) (by decide) (by decide) (Nat.le_of_ble_eq_true rfl) (Nat.le_of_ble_eq_true rfl) d_Mod_init_47 (fun q6 c6 H hK hP hD hS => ?_)
  have hP : va_P D classes [(h, .inr (2, [.int 0, .int 0, .int 0, .int 0, .int 0, .int 0, .int 0, .ref q1, .ref q2, .ref q3, .ref q4, .ref q5, .null, .null, .null, .null])), (q1, .inl (c1, 16, .inl (fun _ => 0))), (q2, .inl (c2, 16, .inl (fun _ => 0))), (q3, .inl (c3, 16, .inl (fun _ => 0))), (q4, .inl (c4, 16, .inl (fun _ => 0))), (q5, .inl (c5, 16, .inl (fun _ => 0))), (q6, .inl (c6, 16, .inl (fun _ => 0)))] H := hP
  have hD : va_D A [(h, .inr (2, [.int 0, .int 0, .int 0, .int 0, .int 0, .int 0, .int 0, .ref q1, .ref q2, .ref q3, .ref q4, .ref q5, .null, .null, .null, .null])), (q1, .inl (c1, 16, .inl (fun _ => 0))), (q2, .inl (c2, 16, .inl (fun _ => 0))), (q3, .inl (c3, 16, .inl (fun _ => 0))), (q4, .inl (c4, 16, .inl (fun _ => 0))), (q5, .inl (c5, 16, .inl (fun _ => 0))), (q6, .inl (c6, 16, .inl (fun _ => 0)))] := hD
  have hK : va_K D classes [(c1, .int), (c2, .int), (c3, .int), (c4, .boolean), (c5, .int), (c6, .boolean)] s := hK
  refine va_putF (D := D) (ci := 2) (v := .ref q6) (ty := .array .boolean) (C := R_Mod) (T := F_Mod) (N := 16) hx hb hts i_Mod t_Mod t_Mod_ok n_Mod hown hK hP hD hS 0 rfl rfl 12 (by decide) (hts _ k_fl_Mod_26) (fun _ h9 => h9) rfl hin rfl (by decide +kernel) rfl rfl (Nat.le_of_ble_eq_true rfl) d_Mod_init_49 (fun H locs hP hD hS => ?_)
  have hP : va_P D classes [(h, .inr (2, [.int 0, .int 0, .int 0, .int 0, .int 0, .int 0, .int 0, .ref q1, .ref q2, .ref q3, .ref q4, .ref q5, .ref q6, .null, .null, .null])), (q1, .inl (c1, 16, .inl (fun _ => 0))), (q2, .inl (c2, 16, .inl (fun _ => 0))), (q3, .inl (c3, 16, .inl (fun _ => 0))), (q4, .inl (c4, 16, .inl (fun _ => 0))), (q5, .inl (c5, 16, .inl (fun _ => 0))), (q6, .inl (c6, 16, .inl (fun _ => 0)))] H := hP
  have hD : va_D A [(h, .inr (2, [.int 0, .int 0, .int 0, .int 0, .int 0, .int 0, .int 0, .ref q1, .ref q2, .ref q3, .ref q4, .ref q5, .ref q6, .null, .null, .null])), (q1, .inl (c1, 16, .inl (fun _ => 0))), (q2, .inl (c2, 16, .inl (fun _ => 0))), (q3, .inl (c3, 16, .inl (fun _ => 0))), (q4, .inl (c4, 16, .inl (fun _ => 0))), (q5, .inl (c5, 16, .inl (fun _ => 0))), (q6, .inl (c6, 16, .inl (fun _ => 0)))] := hD
  refine lv_aload_n hx hb d_Mod_init_52 rfl (lv_at hl 0 rfl) ?_
  refine lv_bipush (v := 16) hx hb d_Mod_init_53 (by decide) ?_
  refine va_newa (atype := .int) (N' := 16) (a0 := (16, .inl (fun _ => 0))) hx hb (hts _ k_ac_int) rfl hK hP hD hS hA (fun cA => rfl) (by decide) (by decide) (by decide) (Nat.le_of_ble_eq_true rfl) (Nat.le_of_ble_eq_true rfl) d_Mod_init_55 (fun q7 c7 H hK hP hD hS => ?_)
  have hP : va_P D classes [(h, .inr (2, [.int 0, .int 0, .int 0, .int 0, .int 0, .int 0, .int 0, .ref q1, .ref q2, .ref q3, .ref q4, .ref q5, .ref q6, .null, .null, .null])), (q1, .inl (c1, 16, .inl (fun _ => 0))), (q2, .inl (c2, 16, .inl (fun _ => 0))), (q3, .inl (c3, 16, .inl (fun _ => 0))), (q4, .inl (c4, 16, .inl (fun _ => 0))), (q5, .inl (c5, 16, .inl (fun _ => 0))), (q6, .inl (c6, 16, .inl (fun _ => 0))), (q7, .inl (c7, 16, .inl (fun _ => 0)))] H := hP
  have hD : va_D A [(h, .inr (2, [.int 0, .int 0, .int 0, .int 0, .int 0, .int 0, .int 0, .ref q1, .ref q2, .ref q3, .ref q4, .ref q5, .ref q6, .null, .null, .null])), (q1, .inl (c1, 16, .inl (fun _ => 0))), (q2, .inl (c2, 16, .inl (fun _ => 0))), (q3, .inl (c3, 16, .inl (fun _ => 0))), (q4, .inl (c4, 16, .inl (fun _ => 0))), (q5, .inl (c5, 16, .inl (fun _ => 0))), (q6, .inl (c6, 16, .inl (fun _ => 0))), (q7, .inl (c7, 16, .inl (fun _ => 0)))] := hD
  have hK : va_K D classes [(c1, .int), (c2, .int), (c3, .int), (c4, .boolean), (c5, .int), (c6, .boolean), (c7, .int)] s := hK
  refine va_putF (D := D) (ci := 2) (v := .ref q7) (ty := .array .int) (C := R_Mod) (T := F_Mod) (N := 16) hx hb hts i_Mod t_Mod t_Mod_ok n_Mod hown hK hP hD hS 0 rfl rfl 13 (by decide) (hts _ k_fl_Mod_29) (fun _ h9 => h9) rfl hin rfl (by decide +kernel) rfl rfl (Nat.le_of_ble_eq_true rfl) d_Mod_init_57 (fun H locs hP hD hS => ?_)
  have hP : va_P D classes [(h, .inr (2, [.int 0, .int 0, .int 0, .int 0, .int 0, .int 0, .int 0, .ref q1, .ref q2, .ref q3, .ref q4, .ref q5, .ref q6, .ref q7, .null, .null])), (q1, .inl (c1, 16, .inl (fun _ => 0))), (q2, .inl (c2, 16, .inl (fun _ => 0))), (q3, .inl (c3, 16, .inl (fun _ => 0))), (q4, .inl (c4, 16, .inl (fun _ => 0))), (q5, .inl (c5, 16, .inl (fun _ => 0))), (q6, .inl (c6, 16, .inl (fun _ => 0))), (q7, .inl (c7, 16, .inl (fun _ => 0)))] H := hP
  have hD : va_D A [(h, .inr (2, [.int 0, .int 0, .int 0, .int 0, .int 0, .int 0, .int 0, .ref q1, .ref q2, .ref q3, .ref q4, .ref q5, .ref q6, .ref q7, .null, .null])), (q1, .inl (c1, 16, .inl (fun _ => 0))), (q2, .inl (c2, 16, .inl (fun _ => 0))), (q3, .inl (c3, 16, .inl (fun _ => 0))), (q4, .inl (c4, 16, .inl (fun _ => 0))), (q5, .inl (c5, 16, .inl (fun _ => 0))), (q6, .inl (c6, 16, .inl (fun _ => 0))), (q7, .inl (c7, 16, .inl (fun _ => 0)))] := hD
  refine lv_aload_n hx hb d_Mod_init_60 rfl (lv_at hl 0 rfl) ?_
  refine lv_bipush (v := 16) hx hb d_Mod_init_61 (by decide) ?_
  refine va_newa (atype := .int) (N' := 16) (a0 := (16, .inl (fun _ => 0))) hx hb (hts _ k_ac_int) rfl hK hP hD hS hA (fun cA => rfl) (by decide) (by decide) (by decide) (Nat.le_of_ble_eq_true rfl) (Nat.le_of_ble_eq_true rfl) d_Mod_init_63 (fun q8 c8 H hK hP hD hS => ?_)
  have hP : va_P D classes [(h, .inr (2, [.int 0, .int 0, .int 0, .int 0, .int 0, .int 0, .int 0, .ref q1, .ref q2, .ref q3, .ref q4, .ref q5, .ref q6, .ref q7, .null, .null])), (q1, .inl (c1, 16, .inl (fun _ => 0))), (q2, .inl (c2, 16, .inl (fun _ => 0))), (q3, .inl (c3, 16, .inl (fun _ => 0))), (q4, .inl (c4, 16, .inl (fun _ => 0))), (q5, .inl (c5, 16, .inl (fun _ => 0))), (q6, .inl (c6, 16, .inl (fun _ => 0))), (q7, .inl (c7, 16, .inl (fun _ => 0))), (q8, .inl (c8, 16, .inl (fun _ => 0)))] H := hP
  have hD : va_D A [(h, .inr (2, [.int 0, .int 0, .int 0, .int 0, .int 0, .int 0, .int 0, .ref q1, .ref q2, .ref q3, .ref q4, .ref q5, .ref q6, .ref q7, .null, .null])), (q1, .inl (c1, 16, .inl (fun _ => 0))), (q2, .inl (c2, 16, .inl (fun _ => 0))), (q3, .inl (c3, 16, .inl (fun _ => 0))), (q4, .inl (c4, 16, .inl (fun _ => 0))), (q5, .inl (c5, 16, .inl (fun _ => 0))), (q6, .inl (c6, 16, .inl (fun _ => 0))), (q7, .inl (c7, 16, .inl (fun _ => 0))), (q8, .inl (c8, 16, .inl (fun _ => 0)))] := hD
  have hK : va_K D classes [(c1, .int), (c2, .int), (c3, .int), (c4, .boolean), (c5, .int), (c6, .boolean), (c7, .int), (c8, .int)] s := hK
  refine va_putF (D := D) (ci := 2) (v := .ref q8) (ty := .array .int) (C := R_Mod) (T := F_Mod) (N := 16) hx hb hts i_Mod t_Mod t_Mod_ok n_Mod hown hK hP hD hS 0 rfl rfl 14 (by decide) (hts _ k_fl_Mod_32) (fun _ h9 => h9) rfl hin rfl (by decide +kernel) rfl rfl (Nat.le_of_ble_eq_true rfl) d_Mod_init_65 (fun H locs hP hD hS => ?_)
  have hP : va_P D classes [(h, .inr (2, [.int 0, .int 0, .int 0, .int 0, .int 0, .int 0, .int 0, .ref q1, .ref q2, .ref q3, .ref q4, .ref q5, .ref q6, .ref q7, .ref q8, .null])), (q1, .inl (c1, 16, .inl (fun _ => 0))), (q2, .inl (c2, 16, .inl (fun _ => 0))), (q3, .inl (c3, 16, .inl (fun _ => 0))), (q4, .inl (c4, 16, .inl (fun _ => 0))), (q5, .inl (c5, 16, .inl (fun _ => 0))), (q6, .inl (c6, 16, .inl (fun _ => 0))), (q7, .inl (c7, 16, .inl (fun _ => 0))), (q8, .inl (c8, 16, .inl (fun _ => 0)))] H := hP
  have hD : va_D A [(h, .inr (2, [.int 0, .int 0, .int 0, .int 0, .int 0, .int 0, .int 0, .ref q1, .ref q2, .ref q3, .ref q4, .ref q5, .ref q6, .ref q7, .ref q8, .null])), (q1, .inl (c1, 16, .inl (fun _ => 0))), (q2, .inl (c2, 16, .inl (fun _ => 0))), (q3, .inl (c3, 16, .inl (fun _ => 0))), (q4, .inl (c4, 16, .inl (fun _ => 0))), (q5, .inl (c5, 16, .inl (fun _ => 0))), (q6, .inl (c6, 16, .inl (fun _ => 0))), (q7, .inl (c7, 16, .inl (fun _ => 0))), (q8, .inl (c8, 16, .inl (fun _ => 0)))] := hD
  refine lv_aload_n hx hb d_Mod_init_68 rfl (lv_at hl 0 rfl) ?_
  refine lv_bipush (v := 16) hx hb d_Mod_init_69 (by decide) ?_
  refine va_newa (atype := .int) (N' := 16) (a0 := (16, .inl (fun _ => 0))) hx hb (hts _ k_ac_int) rfl hK hP hD hS hA (fun cA => rfl) (by decide) (by decide) (by decide) (Nat.le_of_ble_eq_true rfl) (Nat.le_of_ble_eq_true rfl) d_Mod_init_71 (fun q9 c9 H hK hP hD hS => ?_)
  have hP : va_P D classes [(h, .inr (2, [.int 0, .int 0, .int 0, .int 0, .int 0, .int 0, .int 0, .ref q1, .ref q2, .ref q3, .ref q4, .ref q5, .ref q6, .ref q7, .ref q8, .null])), (q1, .inl (c1, 16, .inl (fun _ => 0))), (q2, .inl (c2, 16, .inl (fun _ => 0))), (q3, .inl (c3, 16, .inl (fun _ => 0))), (q4, .inl (c4, 16, .inl (fun _ => 0))), (q5, .inl (c5, 16, .inl (fun _ => 0))), (q6, .inl (c6, 16, .inl (fun _ => 0))), (q7, .inl (c7, 16, .inl (fun _ => 0))), (q8, .inl (c8, 16, .inl (fun _ => 0))), (q9, .inl (c9, 16, .inl (fun _ => 0)))] H := hP
  have hD : va_D A [(h, .inr (2, [.int 0, .int 0, .int 0, .int 0, .int 0, .int 0, .int 0, .ref q1, .ref q2, .ref q3, .ref q4, .ref q5, .ref q6, .ref q7, .ref q8, .null])), (q1, .inl (c1, 16, .inl (fun _ => 0))), (q2, .inl (c2, 16, .inl (fun _ => 0))), (q3, .inl (c3, 16, .inl (fun _ => 0))), (q4, .inl (c4, 16, .inl (fun _ => 0))), (q5, .inl (c5, 16, .inl (fun _ => 0))), (q6, .inl (c6, 16, .inl (fun _ => 0))), (q7, .inl (c7, 16, .inl (fun _ => 0))), (q8, .inl (c8, 16, .inl (fun _ => 0))), (q9, .inl (c9, 16, .inl (fun _ => 0)))] := hD
  have hK : va_K D classes [(c1, .int), (c2, .int), (c3, .int), (c4, .boolean), (c5, .int), (c6, .boolean), (c7, .int), (c8, .int), (c9, .int)] s := hK
  refine va_putF (D := D) (ci := 2) (v := .ref q9) (ty := .array .int) (C := R_Mod) (T := F_Mod) (N := 16) hx hb hts i_Mod t_Mod t_Mod_ok n_Mod hown hK hP hD hS 0 rfl rfl 15 (by decide) (hts _ k_fl_Mod_35) (fun _ h9 => h9) rfl hin rfl (by decide +kernel) rfl rfl (Nat.le_of_ble_eq_true rfl) d_Mod_init_73 (fun H locs hP hD hS => ?_)
  have hP : va_P D classes [(h, .inr (2, [.int 0, .int 0, .int 0, .int 0, .int 0, .int 0, .int 0, .ref q1, .ref q2, .ref q3, .ref q4, .ref q5, .ref q6, .ref q7, .ref q8, .ref q9])), (q1, .inl (c1, 16, .inl (fun _ => 0))), (q2, .inl (c2, 16, .inl (fun _ => 0))), (q3, .inl (c3, 16, .inl (fun _ => 0))), (q4, .inl (c4, 16, .inl (fun _ => 0))), (q5, .inl (c5, 16, .inl (fun _ => 0))), (q6, .inl (c6, 16, .inl (fun _ => 0))), (q7, .inl (c7, 16, .inl (fun _ => 0))), (q8, .inl (c8, 16, .inl (fun _ => 0))), (q9, .inl (c9, 16, .inl (fun _ => 0)))] H := hP
  have hD : va_D A [(h, .inr (2, [.int 0, .int 0, .int 0, .int 0, .int 0, .int 0, .int 0, .ref q1, .ref q2, .ref q3, .ref q4, .ref q5, .ref q6, .ref q7, .ref q8, .ref q9])), (q1, .inl (c1, 16, .inl (fun _ => 0))), (q2, .inl (c2, 16, .inl (fun _ => 0))), (q3, .inl (c3, 16, .inl (fun _ => 0))), (q4, .inl (c4, 16, .inl (fun _ => 0))), (q5, .inl (c5, 16, .inl (fun _ => 0))), (q6, .inl (c6, 16, .inl (fun _ => 0))), (q7, .inl (c7, 16, .inl (fun _ => 0))), (q8, .inl (c8, 16, .inl (fun _ => 0))), (q9, .inl (c9, 16, .inl (fun _ => 0)))] := hD
  refine lv_aload_n hx hb d_Mod_init_76 rfl (lv_at hl 0 rfl) ?_
  refine lv_iload_n hx hb d_Mod_init_77 rfl (lv_at hl 1 rfl) ?_
  refine lv_iconst (v := 1) hx hb d_Mod_init_78 (by decide) ?_
  refine lv_icmp_ge (tgt := 86) hx hb d_Mod_init_79 (by decide) (fun (k1 : 1 ≤ q) => ?_) (fun (k1 : ¬ 1 ≤ q) => ?_)
  · refine lv_iload_n hx hb d_Mod_init_86 rfl (lv_at hl 1 rfl) ?_
    refine lv_iconst (v := 4) hx hb d_Mod_init_87 (by decide) ?_
    refine lv_icmp_le (tgt := 95) hx hb d_Mod_init_88 (by decide) (fun (k2 : q ≤ 4) => ?_) (fun (k2 : ¬ q ≤ 4) => ?_)
    · refine lv_iload_n hx hb d_Mod_init_95 rfl (lv_at hl 1 rfl) ?_
      refine va_putF (D := D) (ci := 2) (v := .int q) (ty := .int) (C := R_Mod) (T := F_Mod) (N := 16) hx hb hts i_Mod t_Mod t_Mod_ok n_Mod hown hK hP hD hS 0 rfl rfl 1 (by decide) (hts _ k_fl_Mod_38) (fun _ h9 => h9) rfl hin rfl (by decide +kernel) (vp_nar_int q) rfl (Nat.le_of_ble_eq_true rfl) d_Mod_init_96 (fun H locs hP hD hS => ?_)
      have hX : VX D A s.heap (mW (fn10 h q1 q2 q3 q4 q5 q6 q7 q8 q9) (fn10 0 c1 c2 c3 c4 c5 c6 c7 c8 c9) (mNew q)) H locs := ⟨hP, hD, hS⟩
      refine W.widen (k := 9) (n := 144) (Nat.le_of_ble_eq_true rfl) (Nat.le_of_ble_eq_true rfl) ?_
      exact W.vret hx hb hr (fun t ht hW => ⟨⟨mNew q, rfl, by simp only [clampP, if_pos k1, if_pos k2], fn10 h q1 q2 q3 q4 q5 q6 q7 q8 q9, fn10 0 c1 c2 c3 c4 c5 c6 c7 c8 c9, rfl, by rw [ht]; exact hX.1, va_K.moved hW.alike hK, hX.2.1⟩, hX.2.2.F ht⟩) hX.2.2.2.2 d_Mod_init_99
    · refine lv_iconst (v := 4) hx hb d_Mod_init_91 (by decide) ?_
      refine lv_goto (tgt := 96) hx hb d_Mod_init_92 (by decide) ?_
      refine va_putF (D := D) (ci := 2) (v := .int 4) (ty := .int) (C := R_Mod) (T := F_Mod) (N := 16) hx hb hts i_Mod t_Mod t_Mod_ok n_Mod hown hK hP hD hS 0 rfl rfl 1 (by decide) (hts _ k_fl_Mod_38) (fun _ h9 => h9) rfl hin rfl (by decide +kernel) (vp_nar_int 4) rfl (Nat.le_of_ble_eq_true rfl) d_Mod_init_96 (fun H locs hP hD hS => ?_)
      have hX : VX D A s.heap (mW (fn10 h q1 q2 q3 q4 q5 q6 q7 q8 q9) (fn10 0 c1 c2 c3 c4 c5 c6 c7 c8 c9) (mNew 4)) H locs := ⟨hP, hD, hS⟩
      refine W.widen (k := 9) (n := 144) (Nat.le_of_ble_eq_true rfl) (Nat.le_of_ble_eq_true rfl) ?_
      exact W.vret hx hb hr (fun t ht hW => ⟨⟨mNew 4, rfl, by simp only [clampP, if_pos k1, if_neg k2], fn10 h q1 q2 q3 q4 q5 q6 q7 q8 q9, fn10 0 c1 c2 c3 c4 c5 c6 c7 c8 c9, rfl, by rw [ht]; exact hX.1, va_K.moved hW.alike hK, hX.2.1⟩, hX.2.2.F ht⟩) hX.2.2.2.2 d_Mod_init_99
  · refine lv_iconst (v := 1) hx hb d_Mod_init_82 (by decide) ?_
    refine lv_goto (tgt := 96) hx hb d_Mod_init_83 (by decide) ?_
    refine va_putF (D := D) (ci := 2) (v := .int 1) (ty := .int) (C := R_Mod) (T := F_Mod) (N := 16) hx hb hts i_Mod t_Mod t_Mod_ok n_Mod hown hK hP hD hS 0 rfl rfl 1 (by decide) (hts _ k_fl_Mod_38) (fun _ h9 => h9) rfl hin rfl (by decide +kernel) (vp_nar_int 1) rfl (Nat.le_of_ble_eq_true rfl) d_Mod_init_96 (fun H locs hP hD hS => ?_)
    have hX : VX D A s.heap (mW (fn10 h q1 q2 q3 q4 q5 q6 q7 q8 q9) (fn10 0 c1 c2 c3 c4 c5 c6 c7 c8 c9) (mNew 1)) H locs := ⟨hP, hD, hS⟩
    refine W.widen (k := 9) (n := 144) (Nat.le_of_ble_eq_true rfl) (Nat.le_of_ble_eq_true rfl) ?_
    exact W.vret hx hb hr (fun t ht hW => ⟨⟨mNew 1, rfl, by simp only [clampP, if_neg k1], fn10 h q1 q2 q3 q4 q5 q6 q7 q8 q9, fn10 0 c1 c2 c3 c4 c5 c6 c7 c8 c9, rfl, by rw [ht]; exact hX.1, va_K.moved hW.alike hK, hX.2.1⟩, hX.2.2.F ht⟩) hX.2.2.2.2 d_Mod_init_99
set_option maxHeartbeats 4000000 in
set_option maxRecDepth 100000 in
theorem c_Proc_init (l : Launch) (D : va_G) (h : Nat) (q : Int32) (sz : Nat) : Met l y_Proc_init (wy y_Proc_init b_Proc_init 2 none) rm_Proc_init (Pw [.ref h, .int q] D [] false [(h, .inr (1, [.null]))] sz) (va_Qv (fun u : RS => u = rNew (clampP q)) (fun u t => ∃ a k, va_P D classes (pW h a k u) t.heap ∧ va_K D classes (rT k) t ∧ va_D (va_A [(h, .inr (1, [.null]))] sz) (pW h a k u)) (va_A [(h, .inr (1, [.null]))] sz)) 9 122 (va_A [(h, .inr (1, [.null]))] sz) := by
  refine Met.ofW (cc := b_Proc_init) (maxL := 2) (ret := none) (by decide +kernel) rfl ?_
  intro p e s m args below meth c s₁ B hml hv
  obtain ⟨rfl, hsz, hP, hK, hD0, hN⟩ := hv
  subst hsz
  have hts0 := atoms_spec (ws := wy y_Proc_init b_Proc_init 2 none) B.pre
  have hts : ∀ w ∈ gw, w.before _ s = true := fun w hw => hts0 w (List.mem_cons_of_mem _ hw)
  have hown : s.vm.findClass R_Proc = some m.cls := findClass_of_methodNamed B.named
  have hx := B.exec
  have hb := B.bytes
  have hr := B.returns
  have hlocks := B.notSynchronized
  have hin : meth.name = "<init>" := (name_of_methodNamed B.named B.method).1
  have hD := hD0.self (sz := s.heap.size)
  generalize hAe : va_A [(h, .inr (1, [.null]))] s.heap.size = A at hD ⊢
  have hA : ∀ q : Nat, s.heap.size ≤ q → A q := fun q h => by rw [← hAe]; exact Or.inr h
  have hS : va_S A s.heap s.heap [] := va_S.rf
  have hl := lv_entry ([.ref h, .int q]) (n := 2) (Nat.le_of_ble_eq_true rfl)
  rw [lg_entry_eq]
  generalize (lg_sl ([.ref h, .int q]) ++ List.replicate (2 - (lg_sl ([.ref h, .int q])).length) Slot.unset).toArray = ls at hl ⊢
  have hl : lv_has ls 2 [(0, .ref h), (1, .int q)] := hl
  refine lv_aload_n hx hb d_Proc_init_0 rfl (lv_at hl 0 rfl) ?_
  refine W.objInit hx hb hown (hts _ k_ml_Proc_1) (hts _ k_im_Object_init) (hts _ k_co_Object_init) rfl (by rw [hml]; exact hl.1) rfl d_Proc_init_1 (Nat.le_of_ble_eq_true rfl) (Nat.le_of_ble_eq_true rfl) ?_
  refine W.eq (g2 := F0 m 4 ls []) rfl ?_
  refine lv_aload_n hx hb d_Proc_init_4 rfl (lv_at hl 0 rfl) ?_
  refine va_new (ci := 0) (fs := rBlank) (C := R_Ring) (T := F_Ring) (N := 13) hx hb hts i_Ring t_Ring t_Ring_ok hown (hts _ k_cl_Proc_7) (hts _ k_mk_Ring) (hts _ k_ini_Ring) hK hP hD hS hA rfl (fun j hj => by rcases (show j = 0 ∨ j = 1 ∨ j = 2 ∨ j = 3 ∨ j = 4 ∨ j = 5 ∨ j = 6 ∨ j = 7 ∨ j = 8 ∨ j = 9 ∨ j = 10 ∨ j = 11 ∨ j = 12 by omega) with rfl | rfl | rfl | rfl | rfl | rfl | rfl | rfl | rfl | rfl | rfl | rfl | rfl <;> rfl) (Nat.le_of_ble_eq_true rfl) (Nat.le_of_ble_eq_true rfl) d_Proc_init_5 (fun q5 H hP hD hS => ?_)
  have hP : va_P D classes [(h, .inr (1, [.null])), (q5, .inr (0, rBlank))] H := hP
  have hD : va_D A [(h, .inr (1, [.null])), (q5, .inr (0, rBlank))] := hD
  refine lv_dup hx hb d_Proc_init_8 rfl ?_
  refine lv_iload_n hx hb d_Proc_init_9 rfl (lv_at hl 1 rfl) ?_
  refine lv_iconst (v := 1) hx hb d_Proc_init_10 (by decide) ?_
  refine lv_icmp_ge (tgt := 18) hx hb d_Proc_init_11 (by decide) (fun (k1 : 1 ≤ q) => ?_) (fun (k1 : ¬ 1 ≤ q) => ?_)
  · refine lv_iload_n hx hb d_Proc_init_18 rfl (lv_at hl 1 rfl) ?_
    refine lv_iconst (v := 4) hx hb d_Proc_init_19 (by decide) ?_
    refine lv_icmp_le (tgt := 27) hx hb d_Proc_init_20 (by decide) (fun (k2 : q ≤ 4) => ?_) (fun (k2 : ¬ q ≤ 4) => ?_)
    · refine lv_iload_n hx hb d_Proc_init_27 rfl (lv_at hl 1 rfl) ?_
      have hPc := hP.sub (ws' := [(q5, .inr (0, rBlank))]) [1] rfl
      have hDc := hD.sub (ws' := [(q5, .inr (0, rBlank))]) [1] (by decide) rfl
      have hKc := hK.sub (tys' := []) [] rfl
      have hFc := va_free (wc := [(q5, .inr (0, rBlank))]) hD hS hA [1] rfl
      refine va_callv (va_runI (As := [.int q]) (rest := [.ref q5, .ref h]) ⟨hx, hb, hml, hown, hts⟩ (c_Ring_init l D q5 q H.size) (cwI 1 hts (good_wy k_co_Ring_init) rfl rfl rfl (hts _ k_ini_Ring) (hts _ k_ml_Proc_9) (hts _ k_im_Ring_init) rfl (by decide +kernel) ⟨(Nat.le_of_ble_eq_true rfl), (Nat.le_of_ble_eq_true rfl)⟩) ⟨Pw.blind, fun U hU hW => ⟨rfl, by rw [hU], by rw [hU]; exact hPc, va_K.moved hW.alike hKc, hDc.weaken (fun _ _ _ _ => trivial), NX.no⟩⟩ rfl rfl hl.1 rfl (lv_room (Nat.le_of_ble_eq_true rfl)) d_Proc_init_28 ⟨(Nat.le_of_ble_eq_true rfl), (Nat.le_of_ble_eq_true rfl)⟩) hS (fun q _ h => hFc q h) hFc (fun u t H1 locs ht hvm hw hB hz1 hk1 hS2 => ?_)
      obtain ⟨a, k, ha0, hP1, hK1, hD1⟩ := hB
      subst hw
      rw [ht] at hP1
      have hK1 := va_K.moved hvm.symm hK1
      obtain ⟨hP2, hD2⟩ := va_join (wr := [(h, .inr (1, [.null]))]) (w1 := rW a k (rNew q)) hP hD [1] [0] rfl rfl (by decide) (by decide) hk1 hFc hP1 hD1
      subst ha0
      refine va_putF (D := D) (ci := 1) (v := .ref (a 0)) (ty := .object "ProcRing$Ring") (C := R_Proc) (T := F_Proc) (N := 1) hx hb hts i_Proc t_Proc t_Proc_ok n_Proc hown hK hP2 hD2 hS2 0 rfl rfl 0 (by decide) (hts _ k_fl_Proc_12) (fun _ h9 => h9) rfl hin rfl (by decide +kernel) rfl rfl (Nat.le_of_ble_eq_true rfl) d_Proc_init_31 (fun H locs hP hD hS => ?_)
      have hX : VX D A s.heap (pW h a k (rNew q)) H locs := ⟨hP, hD, hS⟩
      refine W.widen (k := 9) (n := 122) (Nat.le_of_ble_eq_true rfl) (Nat.le_of_ble_eq_true rfl) ?_
      exact W.vret hx hb hr (fun t ht hW => ⟨⟨rNew q, rfl, by simp only [clampP, if_pos k1, if_pos k2], a, k, by rw [ht]; exact hX.1, va_K.moved hW.alike hK1, hX.2.1⟩, hX.2.2.F ht⟩) hX.2.2.2.2 d_Proc_init_34
    · refine lv_iconst (v := 4) hx hb d_Proc_init_23 (by decide) ?_
      refine lv_goto (tgt := 28) hx hb d_Proc_init_24 (by decide) ?_
      have hPc := hP.sub (ws' := [(q5, .inr (0, rBlank))]) [1] rfl
      have hDc := hD.sub (ws' := [(q5, .inr (0, rBlank))]) [1] (by decide) rfl
      have hKc := hK.sub (tys' := []) [] rfl
      have hFc := va_free (wc := [(q5, .inr (0, rBlank))]) hD hS hA [1] rfl
      refine va_callv (va_runI (As := [.int 4]) (rest := [.ref q5, .ref h]) ⟨hx, hb, hml, hown, hts⟩ (c_Ring_init l D q5 4 H.size) (cwI 1 hts (good_wy k_co_Ring_init) rfl rfl rfl (hts _ k_ini_Ring) (hts _ k_ml_Proc_9) (hts _ k_im_Ring_init) rfl (by decide +kernel) ⟨(Nat.le_of_ble_eq_true rfl), (Nat.le_of_ble_eq_true rfl)⟩) ⟨Pw.blind, fun U hU hW => ⟨rfl, by rw [hU], by rw [hU]; exact hPc, va_K.moved hW.alike hKc, hDc.weaken (fun _ _ _ _ => trivial), NX.no⟩⟩ rfl rfl hl.1 rfl (lv_room (Nat.le_of_ble_eq_true rfl)) d_Proc_init_28 ⟨(Nat.le_of_ble_eq_true rfl), (Nat.le_of_ble_eq_true rfl)⟩) hS (fun q _ h => hFc q h) hFc (fun u t H1 locs ht hvm hw hB hz1 hk1 hS2 => ?_)
      obtain ⟨a, k, ha0, hP1, hK1, hD1⟩ := hB
      subst hw
      rw [ht] at hP1
      have hK1 := va_K.moved hvm.symm hK1
      obtain ⟨hP2, hD2⟩ := va_join (wr := [(h, .inr (1, [.null]))]) (w1 := rW a k (rNew 4)) hP hD [1] [0] rfl rfl (by decide) (by decide) hk1 hFc hP1 hD1
      subst ha0
      refine va_putF (D := D) (ci := 1) (v := .ref (a 0)) (ty := .object "ProcRing$Ring") (C := R_Proc) (T := F_Proc) (N := 1) hx hb hts i_Proc t_Proc t_Proc_ok n_Proc hown hK hP2 hD2 hS2 0 rfl rfl 0 (by decide) (hts _ k_fl_Proc_12) (fun _ h9 => h9) rfl hin rfl (by decide +kernel) rfl rfl (Nat.le_of_ble_eq_true rfl) d_Proc_init_31 (fun H locs hP hD hS => ?_)
      have hX : VX D A s.heap (pW h a k (rNew 4)) H locs := ⟨hP, hD, hS⟩
      refine W.widen (k := 9) (n := 122) (Nat.le_of_ble_eq_true rfl) (Nat.le_of_ble_eq_true rfl) ?_
      exact W.vret hx hb hr (fun t ht hW => ⟨⟨rNew 4, rfl, by simp only [clampP, if_pos k1, if_neg k2], a, k, by rw [ht]; exact hX.1, va_K.moved hW.alike hK1, hX.2.1⟩, hX.2.2.F ht⟩) hX.2.2.2.2 d_Proc_init_34
  · refine lv_iconst (v := 1) hx hb d_Proc_init_14 (by decide) ?_
    refine lv_goto (tgt := 28) hx hb d_Proc_init_15 (by decide) ?_
    have hPc := hP.sub (ws' := [(q5, .inr (0, rBlank))]) [1] rfl
    have hDc := hD.sub (ws' := [(q5, .inr (0, rBlank))]) [1] (by decide) rfl
    have hKc := hK.sub (tys' := []) [] rfl
    have hFc := va_free (wc := [(q5, .inr (0, rBlank))]) hD hS hA [1] rfl
    refine va_callv (va_runI (As := [.int 1]) (rest := [.ref q5, .ref h]) ⟨hx, hb, hml, hown, hts⟩ (c_Ring_init l D q5 1 H.size) (cwI 1 hts (good_wy k_co_Ring_init) rfl rfl rfl (hts _ k_ini_Ring) (hts _ k_ml_Proc_9) (hts _ k_im_Ring_init) rfl (by decide +kernel) ⟨(Nat.le_of_ble_eq_true rfl), (Nat.le_of_ble_eq_true rfl)⟩) ⟨Pw.blind, fun U hU hW => ⟨rfl, by rw [hU], by rw [hU]; exact hPc, va_K.moved hW.alike hKc, hDc.weaken (fun _ _ _ _ => trivial), NX.no⟩⟩ rfl rfl hl.1 rfl (lv_room (Nat.le_of_ble_eq_true rfl)) d_Proc_init_28 ⟨(Nat.le_of_ble_eq_true rfl), (Nat.le_of_ble_eq_true rfl)⟩) hS (fun q _ h => hFc q h) hFc (fun u t H1 locs ht hvm hw hB hz1 hk1 hS2 => ?_)
    obtain ⟨a, k, ha0, hP1, hK1, hD1⟩ := hB
    subst hw
    rw [ht] at hP1
    have hK1 := va_K.moved hvm.symm hK1
    obtain ⟨hP2, hD2⟩ := va_join (wr := [(h, .inr (1, [.null]))]) (w1 := rW a k (rNew 1)) hP hD [1] [0] rfl rfl (by decide) (by decide) hk1 hFc hP1 hD1
    subst ha0
    refine va_putF (D := D) (ci := 1) (v := .ref (a 0)) (ty := .object "ProcRing$Ring") (C := R_Proc) (T := F_Proc) (N := 1) hx hb hts i_Proc t_Proc t_Proc_ok n_Proc hown hK hP2 hD2 hS2 0 rfl rfl 0 (by decide) (hts _ k_fl_Proc_12) (fun _ h9 => h9) rfl hin rfl (by decide +kernel) rfl rfl (Nat.le_of_ble_eq_true rfl) d_Proc_init_31 (fun H locs hP hD hS => ?_)
    have hX : VX D A s.heap (pW h a k (rNew 1)) H locs := ⟨hP, hD, hS⟩
    refine W.widen (k := 9) (n := 122) (Nat.le_of_ble_eq_true rfl) (Nat.le_of_ble_eq_true rfl) ?_
    exact W.vret hx hb hr (fun t ht hW => ⟨⟨rNew 1, rfl, by simp only [clampP, if_neg k1], a, k, by rw [ht]; exact hX.1, va_K.moved hW.alike hK1, hX.2.1⟩, hX.2.2.F ht⟩) hX.2.2.2.2 d_Proc_init_34
end
section
/-! THE CLAIM OUT OF ONE WALK OF THE LAW'S BODY. Your part is whole_start (and what it stands on); all else here is the same for every law, but numbers. -/
def lw_P (b : Addr) (xs : List Int32) (args : Array Value) (s : State) : Prop := args = #[.ref b] ∧ s.IntsAt b xs ∧ xs.length ≤ 1537 ∧ (Jvm.Cond.and given_1 narrow_1).before args s = true
def lw_Q (_ : Array Value) (s : State) (o : Outcome) (t : State) : Prop := o = .returned (some (.int 1)) ∧ Framed s o t [] 20 283
def lw_Z (below : List Frame) (a : Array Value) (s : State) : State → Prop := fun t => ∃ o, t.status = .running ∧ Ended t below o ∧ lw_Q a s o t
/-- the law's own end, with 1 on the stack, nothing written that was there before, its room as the claim has it -/
theorem lw_ret {p : Program} {l : Launch} {e : Env} {s : State} {m : MethodId} {below : List Frame} {meth : Method} {c : Code} {b : Nat} (hx : p.tables.exec = Jvm.exec) (hb : c.code = code) (hr : meth.sig.returnType = ret) (hlocks : meth.locks = false) {pc : Nat} {H : Heap} {ls : Array Slot} (hdg : decode code pc = .ok (.ireturn, 1)) : W p l e room_1 s m #[Value.ref b] below meth c H [] 20 283 (lw_Z below #[Value.ref b] s) (F0 m pc ls [.int 1]) := by
  intro T hT X
  obtain ⟨fs, hret, hrun, hended, hW, hframe⟩ := X.leave (v := some (.int 1)) (hlocks := hlocks) (fun h => by rw [hr] at h; cases h)
  have hmeth' : T.vm.method? m = some meth := X.method'
  refine ⟨T.setFrames fs, ?_, .returned (some (.int 1)), hrun, hended, rfl, ⟨_, rfl⟩, hW, hframe⟩
  jvm_step X.here [X.here.top, hx, hb, hdg, hmeth', hr, ret, narrow_b1]
  (try refine ⟨rfl, ?_⟩); (try refine ⟨rfl, ?_⟩)
  first | (intro acts; rw [hret _ acts rfl rfl rfl]) | rw [hret _ _ rfl rfl rfl]
  exact Steps.refl _
/-- what holds at the law's entry: the machine, the code, the tables' words (any of lw_tbl by 'hts w (by decide +kernel)'), the script of L ints xs at the cell b, what the Statement gives of the start (any of its parts by flat_of_before) -/
def lw_At (p : Program) (s : State) (m : MethodId) (meth : Method) (c : Code) (b L : Nat) (xs : Nat → Int32) : Prop :=
  p.tables.exec = Jvm.exec ∧ c.code = code ∧ meth.sig.returnType = ret ∧ c.maxLocals = 4 ∧ s.vm.findClass R_law = some m.cls ∧ (∀ w ∈ lw_tbl, w.before #[Value.ref b] s = true) ∧ va_X b L xs s s.heap ∧ b < s.heap.size ∧ meth.locks = false ∧ (Jvm.Cond.and given_1 narrow_1).before #[Value.ref b] s = true
/-- cell(script, 0) -/
def cell0 (L : Nat) (xs : Nat → Int32) : Int32 := if 0 < L then xs 0 else 0
abbrev rm_Law_cell : Room := { frames := 0, cells := 0, slots := 0, locals := 0 }
set_option maxHeartbeats 4000000 in
theorem c_Law_cell (l : Launch) (b L : Nat) (xs : Nat → Int32) (sz : Nat) (hL : L ≤ 1537) : Met l y_Law_cell (wy y_Law_cell b_Law_cell 2 (some .int)) rm_Law_cell (va_Pc [.ref b, .int 0] (fun U => U.heap.size = sz ∧ va_X b L xs U U.heap)) (va_Qi (fun r (_ : Unit) => r = cell0 L xs) (fun _ _ => True) (va_A [] sz)) 0 0 (va_A [] sz) := by
  refine Met.ofW (cc := b_Law_cell) (maxL := 2) (ret := some .int) (by decide +kernel) rfl ?_
  intro p e s m args below meth c s₁ B hml hv
  obtain ⟨rfl, hsz, hX⟩ := hv
  subst hsz
  have hx := B.exec
  have hb := B.bytes
  have hr := B.returns
  have hlocks := B.notSynchronized
  have hbl : b < s.heap.size := by
    obtain ⟨scr, h1, -⟩ := hX
    exact (Array.getElem?_eq_some_iff.mp h1).1
  have hbA : ¬ va_A [] s.heap.size b := by
    rintro (⟨k, e, h⟩ | h)
    · simp at h
    · omega
  have hS : va_S (va_A [] s.heap.size) s.heap s.heap [] := va_S.rf
  have hl := lv_entry ([.ref b, .int 0]) (n := 2) (Nat.le_of_ble_eq_true rfl)
  rw [lg_entry_eq]
  generalize (lg_sl ([.ref b, .int 0]) ++ List.replicate (2 - (lg_sl ([.ref b, .int 0])).length) Slot.unset).toArray = ls at hl ⊢
  have hl : lv_has ls 2 [(0, .ref b), (1, .int 0)] := hl
  refine lv_iload_n hx hb d_Law_cell_0 rfl (lv_at hl 1 rfl) ?_
  refine lv_aload_n hx hb d_Law_cell_1 rfl (lv_at hl 0 rfl) ?_
  refine va_slen hx hb hX hbl hbA hS d_Law_cell_2 ?_
  refine lv_icmp_ge (tgt := 12) hx hb d_Law_cell_3 (by decide) (fun (k1 : nI L ≤ nI 0) => ?_) (fun (k1 : ¬ nI L ≤ nI 0) => ?_)
  · rw [nI_leI (by omega) (by decide)] at k1
    refine lv_iconst (v := 0) hx hb d_Law_cell_12 (by decide) ?_
    exact W.iret (v := 0) hx hb hr (fun t ht hW => ⟨⟨0, (), rfl, by rw [cell0, if_neg (by omega)], trivial⟩, hS.F ht⟩) hS.2.2 d_Law_cell_13
  · rw [nI_leI (by omega) (by decide)] at k1
    refine lv_aload_n hx hb d_Law_cell_6 rfl (lv_at hl 0 rfl) ?_
    refine lv_iload_n hx hb d_Law_cell_7 rfl (lv_at hl 1 rfl) ?_
    refine va_sld hx hb hX hbl hbA hS (vp_in_nI (n := 0) (by omega) (by omega)) d_Law_cell_8 ?_
    refine lv_goto (tgt := 13) hx hb d_Law_cell_9 (by decide) ?_
    exact W.iret (v := xs 0) hx hb hr (fun t ht hW => ⟨⟨xs 0, (), rfl, by rw [cell0, if_pos (by omega)], trivial⟩, hS.F ht⟩) hS.2.2 d_Law_cell_13
theorem clamp_is (q : Int32) : ∃ n, 1 ≤ n ∧ n ≤ 4 ∧ clampP q = nI n := by
  unfold clampP
  by_cases k1 : 1 ≤ q
  · rw [if_pos k1]
    by_cases k2 : q ≤ 4
    · rw [if_pos k2]
      have hn0 : ¬ q < 0 := fun z => absurd (Int32.le_trans k1 (Int32.le_of_lt z)) (by decide)
      obtain ⟨j, hj, rfl⟩ := nI_of2 (n := 4) (M := 4) (by decide) hn0 k2
      exact ⟨j, (nI_leI (a := 1) (by decide) (by omega)).mp k1, hj, rfl⟩
    · rw [if_neg k2]
      exact ⟨4, by decide, by decide, rfl⟩
  · rw [if_neg k1]
    exact ⟨1, by decide, by decide, rfl⟩
theorem rel_0 (q : Int32) : Rel 0 (rNew (clampP q)) (mNew (clampP q)) := by
  have hon : ∀ j, j < 4 → ron (rNew (clampP q)) j = -1 := fun j hj => by
    show clO _ 4 j = -1
    unfold clO
    rw [if_pos hj]
  have hst : ∀ j, j < 15 → rst (rNew (clampP q)) j = 0 := fun j hj => by
    show clS _ 15 j = 0
    unfold clS
    rw [if_pos hj]
  have none : ∀ j, ¬ j < mN (mNew (clampP q)) := fun j hj => by
    have hj : j < ix 0 := hj
    rw [show ix 0 = 0 from rfl] at hj
    omega
  refine ⟨⟨⟨clamp_is q, fun j hj => Or.inl (hon j hj), ⟨0, by decide, rfl⟩⟩, ⟨rfl, ⟨0, by decide, rfl⟩, ⟨0, by decide, rfl⟩, fun j _ => ⟨Or.inl rfl, Or.inl rfl⟩⟩, rfl, rfl, rfl, rfl⟩, ⟨⟨0, Nat.le_refl _, rfl⟩, ⟨0, Nat.le_refl _, rfl, fun j hj => absurd hj (none j)⟩, fun z => absurd z (none 0)⟩, ⟨fun j hj => absurd hj (none j), fun j hj z => absurd (hst j hj) z, fun j k hj _ _ => absurd hj (none j), fun j k hj _ _ => absurd hj (none j)⟩, fun z => absurd z (none 0), fun j hj => Or.inl ⟨hon j hj, fun k hk => absurd hk (none k)⟩, fun j hj _ => hon j hj⟩
section LAWROWS
variable {p : Program} {l : Launch} {e : Env} {R : Room} {s : State} {m : MethodId} {args : Array Value} {below : List Frame} {meth : Method} {c : Code} {H : Heap} {locs : List Loc} {cells slots : Nat} {Q : State → Prop}
variable {cc : ByteArray} {pc nL : Nat} {ls : Array Slot} {rest : List Value} {D : va_G} {A : Nat → Prop} {nb : Bool} {a k a' k' : Nat → Nat} {h : Nat} {v : RS} {w : MS}
/-- a cell of the script -/
theorem sc_ld (hx : p.tables.exec = Jvm.exec) (hb : c.code = cc) {b L : Nat} {xs : Nat → Int32} (hX : va_X b L xs s s.heap) (hbl : b < s.heap.size) (hbA : ¬ A b) (hS : va_S A s.heap H locs) {i : Int32} {j : Nat} (hi : i = nI j) (hj : j < L) (hL : L ≤ 1537) (hd : decode cc pc = .ok (.iaload, 1))
    (kk : W p l e R s m args below meth c H locs cells slots Q (F0 m (pc + 1) ls (.int (xs j) :: rest))) : W p l e R s m args below meth c H locs cells slots Q (F0 m pc ls (.int i :: .ref b :: rest)) := by
  subst hi
  refine va_sld hx hb hX hbl hbA hS (vp_in_nI hj (by omega)) hd ?_
  rw [nI_clamp (by omega)]
  exact kk
theorem lx_r {y : MethodName} {b : ByteArray} {n j idx : Nat} {rt : FieldType} {rm : Room} {As st0 : List Value} {X : Int32} (C : Cx p m c s args cc nL R_law D (rT k ++ mT k') A nb) (hX : VX D A s.heap (pW h a k v ++ mW a' k' w) H locs) (hM : MCi l y b n rt rm (.ref h :: As) D (rT k) true (pW h a k) v (fun r u => u = v ∧ r = X)) (hI : MI R_law idx y R_Proc b n (some rt) j) (hnb : true = true → nb = true) (hR : (rm.cells = 0 ∧ rm.slots = 0) ∧ rm.frames + 1 ≤ R.frames ∧ 8 + (n + 11) + rm.locals ≤ R.locals) (hst : st0 = As.reverse ++ .ref h :: rest) (hAs : As.length = j) (hsz : ls.size = nL) (hroom : (rest.map fun v => v.category).sum ≤ 8) (hdg : decode cc pc = .ok (.invokevirtual idx, 3)) (hcs : cells ≤ R.cells ∧ slots ≤ R.slots) (kk : ∀ (H : Heap) (locs : List Loc), VX D A s.heap (mW a' k' w ++ pW h a k (v)) H locs → W p l e R s m args below meth c H locs cells slots Q (F0 m (pc + 3) ls (.int X :: rest))) : W p l e R s m args below meth c H locs cells slots Q (F0 m pc ls st0) :=
  cl_i (wr := mW a' k' w) (q0 := 0) C hX hM hI hR [0, 1, 2, 3, 4, 5, 6, 7, 8, 9] [10, 11, 12, 13, 14, 15, 16, 17, 18, 19] rfl rfl (by decide) (by decide) (by decide) [0, 1, 2, 3, 4, 5, 6, 7] rfl hnb rfl (show classes[1]? = some (R_Proc, F_Proc, 1) from rfl) hst hAs hsz hroom hdg hcs (fun r u H1 L1 hw h => by obtain ⟨rfl, rfl⟩ := hw; exact kk H1 L1 h)
theorem lx_w {y : MethodName} {b : ByteArray} {n j idx : Nat} {rt : FieldType} {rm : Room} {As st0 : List Value} {F : Int32 × RS} (C : Cx p m c s args cc nL R_law D (rT k ++ mT k') A nb) (hX : VX D A s.heap (pW h a k v ++ mW a' k' w) H locs) (hM : MCi l y b n rt rm (.ref h :: As) D (rT k) true (pW h a k) v (fun r u => (r, u) = F)) (hI : MI R_law idx y R_Proc b n (some rt) j) (hnb : true = true → nb = true) (hR : (rm.cells = 0 ∧ rm.slots = 0) ∧ rm.frames + 1 ≤ R.frames ∧ 8 + (n + 11) + rm.locals ≤ R.locals) (hst : st0 = As.reverse ++ .ref h :: rest) (hAs : As.length = j) (hsz : ls.size = nL) (hroom : (rest.map fun v => v.category).sum ≤ 8) (hdg : decode cc pc = .ok (.invokevirtual idx, 3)) (hcs : cells ≤ R.cells ∧ slots ≤ R.slots) (kk : ∀ (H : Heap) (locs : List Loc), VX D A s.heap (mW a' k' w ++ pW h a k (F.2)) H locs → W p l e R s m args below meth c H locs cells slots Q (F0 m (pc + 3) ls (.int F.1 :: rest))) : W p l e R s m args below meth c H locs cells slots Q (F0 m pc ls st0) :=
  cl_i (wr := mW a' k' w) (q0 := 0) C hX hM hI hR [0, 1, 2, 3, 4, 5, 6, 7, 8, 9] [10, 11, 12, 13, 14, 15, 16, 17, 18, 19] rfl rfl (by decide) (by decide) (by decide) [0, 1, 2, 3, 4, 5, 6, 7] rfl hnb rfl (show classes[1]? = some (R_Proc, F_Proc, 1) from rfl) hst hAs hsz hroom hdg hcs (fun r u H1 L1 hw h => by subst hw; exact kk H1 L1 h)
theorem lm_r {y : MethodName} {b : ByteArray} {n j idx : Nat} {rt : FieldType} {rm : Room} {As st0 : List Value} {X : Int32} (C : Cx p m c s args cc nL R_law D (rT k ++ mT k') A nb) (hX : VX D A s.heap (mW a' k' w ++ pW h a k v) H locs) (hM : MCi l y b n rt rm (.ref (a' 0) :: As) D (mT k') false (mW a' k') w (fun r u => u = w ∧ r = X)) (hI : MI R_law idx y R_Mod b n (some rt) j) (hnb : false = true → nb = true) (hR : (rm.cells = 0 ∧ rm.slots = 0) ∧ rm.frames + 1 ≤ R.frames ∧ 8 + (n + 11) + rm.locals ≤ R.locals) (hst : st0 = As.reverse ++ .ref (a' 0) :: rest) (hAs : As.length = j) (hsz : ls.size = nL) (hroom : (rest.map fun v => v.category).sum ≤ 8) (hdg : decode cc pc = .ok (.invokevirtual idx, 3)) (hcs : cells ≤ R.cells ∧ slots ≤ R.slots) (kk : ∀ (H : Heap) (locs : List Loc), VX D A s.heap (pW h a k v ++ mW a' k' (w)) H locs → W p l e R s m args below meth c H locs cells slots Q (F0 m (pc + 3) ls (.int X :: rest))) : W p l e R s m args below meth c H locs cells slots Q (F0 m pc ls st0) :=
  cl_i (wr := pW h a k v) (q0 := 0) C hX hM hI hR [0, 1, 2, 3, 4, 5, 6, 7, 8, 9] [10, 11, 12, 13, 14, 15, 16, 17, 18, 19] rfl rfl (by decide) (by decide) (by decide) [8, 9, 10, 11, 12, 13, 14, 15, 16] rfl hnb rfl (show classes[2]? = some (R_Mod, F_Mod, 16) from rfl) hst hAs hsz hroom hdg hcs (fun r u H1 L1 hw h => by obtain ⟨rfl, rfl⟩ := hw; exact kk H1 L1 h)
theorem lm_w {y : MethodName} {b : ByteArray} {n j idx : Nat} {rt : FieldType} {rm : Room} {As st0 : List Value} {F : Int32 × MS} (C : Cx p m c s args cc nL R_law D (rT k ++ mT k') A nb) (hX : VX D A s.heap (mW a' k' w ++ pW h a k v) H locs) (hM : MCi l y b n rt rm (.ref (a' 0) :: As) D (mT k') false (mW a' k') w (fun r u => (r, u) = F)) (hI : MI R_law idx y R_Mod b n (some rt) j) (hnb : false = true → nb = true) (hR : (rm.cells = 0 ∧ rm.slots = 0) ∧ rm.frames + 1 ≤ R.frames ∧ 8 + (n + 11) + rm.locals ≤ R.locals) (hst : st0 = As.reverse ++ .ref (a' 0) :: rest) (hAs : As.length = j) (hsz : ls.size = nL) (hroom : (rest.map fun v => v.category).sum ≤ 8) (hdg : decode cc pc = .ok (.invokevirtual idx, 3)) (hcs : cells ≤ R.cells ∧ slots ≤ R.slots) (kk : ∀ (H : Heap) (locs : List Loc), VX D A s.heap (pW h a k v ++ mW a' k' (F.2)) H locs → W p l e R s m args below meth c H locs cells slots Q (F0 m (pc + 3) ls (.int F.1 :: rest))) : W p l e R s m args below meth c H locs cells slots Q (F0 m pc ls st0) :=
  cl_i (wr := pW h a k v) (q0 := 0) C hX hM hI hR [0, 1, 2, 3, 4, 5, 6, 7, 8, 9] [10, 11, 12, 13, 14, 15, 16, 17, 18, 19] rfl rfl (by decide) (by decide) (by decide) [8, 9, 10, 11, 12, 13, 14, 15, 16] rfl hnb rfl (show classes[2]? = some (R_Mod, F_Mod, 16) from rfl) hst hAs hsz hroom hdg hcs (fun r u H1 L1 hw h => by subst hw; exact kk H1 L1 h)
end LAWROWS
end
section
theorem law_in {L t : Nat} (hL : L ≤ 1537) (ht : t ≤ 512) (c : ¬ nI L - nI 3 < nI (3 * t + 1)) : 3 * t + 4 ≤ L := by
  rw [Int32.lt_iff_toInt_lt, pk_sub_toInt (by omega) (by decide), nI_toInt (by omega)] at c
  omega
theorem law_step (t : Nat) : nI (3 * t + 1) + 3 = nI (3 * (t + 1) + 1) := by
  rw [show 3 * (t + 1) + 1 = 3 * t + 1 + 3 by omega]
  exact nI_add (3 * t + 1) 3
theorem and15 (x : Int32) : ∃ j, (j = 0 ∨ j = 1 ∨ j = 2 ∨ j = 3 ∨ j = 4 ∨ j = 5 ∨ j = 6 ∨ j = 7 ∨ j = 8 ∨ j = 9 ∨ j = 10 ∨ j = 11 ∨ j = 12 ∨ j = 13 ∨ j = 14 ∨ j = 15) ∧ x &&& 15 = nI j := by
  obtain ⟨j, hj, e⟩ := pk_andE x (m := 15) 4 (by decide)
  exact ⟨j, by omega, e⟩
set_option maxHeartbeats 4000000 in
set_option maxRecDepth 100000 in
theorem law_loop {p : Program} {e : Env} {s : State} {m : MethodId} {below : List Frame} {meth : Method} {c : Code} (l : Launch) {b L : Nat} {xs : Nat → Int32} (hL : L ≤ 1537) (C0 : lw_At p s m meth c b L xs) {D : va_G} {h : Nat} {a k a' k' : Nat → Nat} (C : Cx p m c s #[Value.ref b] code 4 R_law D (rT k ++ mT k') (fun q : Nat => s.heap.size ≤ q) true) : ∀ (n t : Nat) (v : RS) (w : MS) (H : Heap) (locs : List Loc) (ls : Array Slot), t ≤ 512 → 513 - t < n → Rel t v w → VX D (fun q : Nat => s.heap.size ≤ q) s.heap (pW h a k v ++ mW a' k' w) H locs → lv_has ls 4 [(0, .ref b), (1, .ref h), (2, .ref (a' 0)), (3, .int (nI (3 * t + 1)))] → W p l e room_1 s m #[Value.ref b] below meth c H locs 20 283 (lw_Z below #[Value.ref b] s) (F0 m 28 ls []) := by
  obtain ⟨hx, hb, hr, hml, hown, -, hX0, hbl, hlocks, -⟩ := id C0
  have hbA : ¬ (fun q : Nat => s.heap.size ≤ q) b := Nat.not_le.mpr hbl
  intro n
  induction n with
  | zero => intro t v w H locs ls _ hm; exact absurd hm (Nat.not_lt_zero _)
  | succ n ih =>
    intro t v w H locs ls ht5 hm hR hX hl
    have ht : t < 1000 := by omega
    refine lv_iload_n hx hb d_Law_law_28 rfl (lv_at hl 3 rfl) ?_
    refine lv_aload_n hx hb d_Law_law_29 rfl (lv_at hl 0 rfl) ?_
    refine va_slen hx hb hX0 hbl hbA hX.2.2 d_Law_law_30 ?_
    refine lv_iconst (v := 3) hx hb d_Law_law_31 (by decide) ?_
    refine lv_isub hx hb d_Law_law_32 ?_
    refine lv_icmp_gt (tgt := 450) hx hb d_Law_law_33 (by decide) (fun _ => ?_) (fun (c1 : ¬ nI L - nI 3 < nI (3 * t + 1)) => ?_)
    · refine lv_iconst (v := 1) hx hb d_Law_law_450 (by decide) ?_
      refine va_forget hX.2.2.2.2 ?_
      exact lw_ret hx hb hr hlocks d_Law_law_451
    · have hin := law_in hL ht5 c1
      -- the end of a round
      have next : ∀ (v' : RS) (w' : MS) (H : Heap) (locs : List Loc), Rel (t + 1) v' w' → VX D (fun q : Nat => s.heap.size ≤ q) s.heap (pW h a k v' ++ mW a' k' w') H locs → W p l e room_1 s m #[Value.ref b] below meth c H locs 20 283 (lw_Z below #[Value.ref b] s) (F0 m 444 ls []) := by
        intro v' w' H locs hR hX
        refine lv_iinc (v := nI (3 * (t + 1) + 1)) (lv' := [(3, .int (nI (3 * (t + 1) + 1))), (0, .ref b), (1, .ref h), (2, .ref (a' 0))]) hx hb d_Law_law_444 hl (k := 3) rfl (law_step t) (by decide) rfl (fun ls hl => ?_)
        refine lv_goto (tgt := 28) hx hb d_Law_law_447 (by decide) ?_
        exact ih (t + 1) v' w' H locs ls (by omega) (by omega) hR hX (lv_sub hl [1, 2, 3, 0] rfl)
      refine lv_aload_n hx hb d_Law_law_36 rfl (lv_at hl 0 rfl) ?_
      refine lv_iload_n hx hb d_Law_law_37 rfl (lv_at hl 3 rfl) ?_
      refine sc_ld hx hb hX0 hbl hbA hX.2.2 (j := 3 * t + 1) rfl (by omega) hL d_Law_law_38 ?_
      refine lv_bipush (v := 15) hx hb d_Law_law_39 (by decide) ?_
      refine lv_iand hx hb d_Law_law_41 ?_
      obtain ⟨j, hj, ej⟩ := and15 (xs (3 * t + 1))
      generalize xs (3 * t + 1) &&& 15 = x at ej ⊢
      subst ej
      generalize hq1 : xs (3 * t + 1 + 1) = q1
      generalize hq2 : xs (3 * t + 1 + 2) = q2
      rcases hj with rfl | rfl | rfl | rfl | rfl | rfl | rfl | rfl | rfl | rfl | rfl | rfl | rfl | rfl | rfl | rfl
      · refine lv_tableIn (tgt := 112) hx hb d_Law_law_42 (by decide) (by decide) rfl (by decide) ?_
        refine lv_aload_n hx hb d_Law_law_112 rfl (lv_at hl 1 rfl) ?_
        refine lx_w C hX (c_Proc_first l D h a k v  ) mi_Law_21 (fun z => z) ⟨⟨rfl, rfl⟩, (Nat.le_of_ble_eq_true rfl), (Nat.le_of_ble_eq_true rfl)⟩ rfl rfl hl.1 (Nat.le_of_ble_eq_true rfl) d_Law_law_113 ⟨(Nat.le_of_ble_eq_true rfl), (Nat.le_of_ble_eq_true rfl)⟩ (fun H locs (hX : VX D (fun q : Nat => s.heap.size ≤ q) s.heap (mW a' k' w ++ pW h a k (pFirst v).2) H locs) => ?_)
        refine lv_aload_n hx hb d_Law_law_116 rfl (lv_at hl 2 rfl) ?_
        refine lm_w C hX (c_Mod_first l D a' k' w  hR.1.2.1) mi_Law_25 (fun z => by cases z) ⟨⟨rfl, rfl⟩, (Nat.le_of_ble_eq_true rfl), (Nat.le_of_ble_eq_true rfl)⟩ rfl rfl hl.1 (Nat.le_of_ble_eq_true rfl) d_Law_law_117 ⟨(Nat.le_of_ble_eq_true rfl), (Nat.le_of_ble_eq_true rfl)⟩ (fun H locs (hX : VX D (fun q : Nat => s.heap.size ≤ q) s.heap (pW h a k (pFirst v).2 ++ mW a' k' (mFirst w).2) H locs) => ?_)
        refine lv_icmp_eq (tgt := 444) hx hb d_Law_law_120 (by decide) (fun _ => ?_) (fun cf => ?_)
        · exact next _ _ H locs (sim_first ht hR).2 hX
        · exact absurd (sim_first ht hR).1 cf
      · refine lv_tableIn (tgt := 125) hx hb d_Law_law_42 (by decide) (by decide) rfl (by decide) ?_
        refine lv_aload_n hx hb d_Law_law_125 rfl (lv_at hl 1 rfl) ?_
        refine lv_aload_n hx hb d_Law_law_126 rfl (lv_at hl 0 rfl) ?_
        refine lv_iload_n hx hb d_Law_law_127 rfl (lv_at hl 3 rfl) ?_
        refine lv_iconst (v := 1) hx hb d_Law_law_128 (by decide) ?_
        refine lv_iadd hx hb d_Law_law_129 ?_
        refine sc_ld hx hb hX0 hbl hbA hX.2.2 (j := 3 * t + 1 + 1) (nI_add (3 * t + 1) 1) (by omega) hL d_Law_law_130 ?_
        rw [hq1]
        refine lx_w C hX (c_Proc_pick l D h a k v q1 hR.1.1) mi_Law_26 (fun z => z) ⟨⟨rfl, rfl⟩, (Nat.le_of_ble_eq_true rfl), (Nat.le_of_ble_eq_true rfl)⟩ rfl rfl hl.1 (Nat.le_of_ble_eq_true rfl) d_Law_law_131 ⟨(Nat.le_of_ble_eq_true rfl), (Nat.le_of_ble_eq_true rfl)⟩ (fun H locs (hX : VX D (fun q : Nat => s.heap.size ≤ q) s.heap (mW a' k' w ++ pW h a k (rPick v q1).2) H locs) => ?_)
        refine lv_aload_n hx hb d_Law_law_134 rfl (lv_at hl 2 rfl) ?_
        refine lv_aload_n hx hb d_Law_law_135 rfl (lv_at hl 0 rfl) ?_
        refine lv_iload_n hx hb d_Law_law_136 rfl (lv_at hl 3 rfl) ?_
        refine lv_iconst (v := 1) hx hb d_Law_law_137 (by decide) ?_
        refine lv_iadd hx hb d_Law_law_138 ?_
        refine sc_ld hx hb hX0 hbl hbA hX.2.2 (j := 3 * t + 1 + 1) (nI_add (3 * t + 1) 1) (by omega) hL d_Law_law_139 ?_
        rw [hq1]
        refine lm_w C hX (c_Mod_pick l D a' k' w q1 hR.1.2.1) mi_Law_30 (fun z => by cases z) ⟨⟨rfl, rfl⟩, (Nat.le_of_ble_eq_true rfl), (Nat.le_of_ble_eq_true rfl)⟩ rfl rfl hl.1 (Nat.le_of_ble_eq_true rfl) d_Law_law_140 ⟨(Nat.le_of_ble_eq_true rfl), (Nat.le_of_ble_eq_true rfl)⟩ (fun H locs (hX : VX D (fun q : Nat => s.heap.size ≤ q) s.heap (pW h a k (rPick v q1).2 ++ mW a' k' (mPick w q1).2) H locs) => ?_)
        refine lv_icmp_eq (tgt := 444) hx hb d_Law_law_143 (by decide) (fun _ => ?_) (fun cf => ?_)
        · exact next _ _ H locs (sim_pick hR q1).2 hX
        · exact absurd (sim_pick hR q1).1 cf
      · refine lv_tableIn (tgt := 148) hx hb d_Law_law_42 (by decide) (by decide) rfl (by decide) ?_
        refine lv_aload_n hx hb d_Law_law_148 rfl (lv_at hl 1 rfl) ?_
        refine lv_aload_n hx hb d_Law_law_149 rfl (lv_at hl 0 rfl) ?_
        refine lv_iload_n hx hb d_Law_law_150 rfl (lv_at hl 3 rfl) ?_
        refine lv_iconst (v := 1) hx hb d_Law_law_151 (by decide) ?_
        refine lv_iadd hx hb d_Law_law_152 ?_
        refine sc_ld hx hb hX0 hbl hbA hX.2.2 (j := 3 * t + 1 + 1) (nI_add (3 * t + 1) 1) (by omega) hL d_Law_law_153 ?_
        rw [hq1]
        refine lx_w C hX (c_Proc_fork l D h a k v q1 hR.1.1) mi_Law_31 (fun z => z) ⟨⟨rfl, rfl⟩, (Nat.le_of_ble_eq_true rfl), (Nat.le_of_ble_eq_true rfl)⟩ rfl rfl hl.1 (Nat.le_of_ble_eq_true rfl) d_Law_law_154 ⟨(Nat.le_of_ble_eq_true rfl), (Nat.le_of_ble_eq_true rfl)⟩ (fun H locs (hX : VX D (fun q : Nat => s.heap.size ≤ q) s.heap (mW a' k' w ++ pW h a k (rFork v q1).2) H locs) => ?_)
        refine lv_aload_n hx hb d_Law_law_157 rfl (lv_at hl 2 rfl) ?_
        refine lv_aload_n hx hb d_Law_law_158 rfl (lv_at hl 0 rfl) ?_
        refine lv_iload_n hx hb d_Law_law_159 rfl (lv_at hl 3 rfl) ?_
        refine lv_iconst (v := 1) hx hb d_Law_law_160 (by decide) ?_
        refine lv_iadd hx hb d_Law_law_161 ?_
        refine sc_ld hx hb hX0 hbl hbA hX.2.2 (j := 3 * t + 1 + 1) (nI_add (3 * t + 1) 1) (by omega) hL d_Law_law_162 ?_
        rw [hq1]
        refine lm_w C hX (c_Mod_fork l D a' k' w q1 hR.1.2.1) mi_Law_34 (fun z => by cases z) ⟨⟨rfl, rfl⟩, (Nat.le_of_ble_eq_true rfl), (Nat.le_of_ble_eq_true rfl)⟩ rfl rfl hl.1 (Nat.le_of_ble_eq_true rfl) d_Law_law_163 ⟨(Nat.le_of_ble_eq_true rfl), (Nat.le_of_ble_eq_true rfl)⟩ (fun H locs (hX : VX D (fun q : Nat => s.heap.size ≤ q) s.heap (pW h a k (rFork v q1).2 ++ mW a' k' (mFork w q1).2) H locs) => ?_)
        refine lv_icmp_eq (tgt := 444) hx hb d_Law_law_166 (by decide) (fun _ => ?_) (fun cf => ?_)
        · exact next _ _ H locs (sim_fork ht hR q1).2 hX
        · exact absurd (sim_fork ht hR q1).1 cf
      · refine lv_tableIn (tgt := 171) hx hb d_Law_law_42 (by decide) (by decide) rfl (by decide) ?_
        refine lv_aload_n hx hb d_Law_law_171 rfl (lv_at hl 1 rfl) ?_
        refine lv_aload_n hx hb d_Law_law_172 rfl (lv_at hl 0 rfl) ?_
        refine lv_iload_n hx hb d_Law_law_173 rfl (lv_at hl 3 rfl) ?_
        refine lv_iconst (v := 1) hx hb d_Law_law_174 (by decide) ?_
        refine lv_iadd hx hb d_Law_law_175 ?_
        refine sc_ld hx hb hX0 hbl hbA hX.2.2 (j := 3 * t + 1 + 1) (nI_add (3 * t + 1) 1) (by omega) hL d_Law_law_176 ?_
        rw [hq1]
        refine lv_aload_n hx hb d_Law_law_177 rfl (lv_at hl 0 rfl) ?_
        refine lv_iload_n hx hb d_Law_law_178 rfl (lv_at hl 3 rfl) ?_
        refine lv_iconst (v := 2) hx hb d_Law_law_179 (by decide) ?_
        refine lv_iadd hx hb d_Law_law_180 ?_
        refine sc_ld hx hb hX0 hbl hbA hX.2.2 (j := 3 * t + 1 + 2) (nI_add (3 * t + 1) 2) (by omega) hL d_Law_law_181 ?_
        rw [hq2]
        refine lx_w C hX (c_Proc_exit l D h a k v q1 q2 hR.1.1) mi_Law_35 (fun z => z) ⟨⟨rfl, rfl⟩, (Nat.le_of_ble_eq_true rfl), (Nat.le_of_ble_eq_true rfl)⟩ rfl rfl hl.1 (Nat.le_of_ble_eq_true rfl) d_Law_law_182 ⟨(Nat.le_of_ble_eq_true rfl), (Nat.le_of_ble_eq_true rfl)⟩ (fun H locs (hX : VX D (fun q : Nat => s.heap.size ≤ q) s.heap (mW a' k' w ++ pW h a k (rExit v q1 q2).2) H locs) => ?_)
        refine lv_aload_n hx hb d_Law_law_185 rfl (lv_at hl 2 rfl) ?_
        refine lv_aload_n hx hb d_Law_law_186 rfl (lv_at hl 0 rfl) ?_
        refine lv_iload_n hx hb d_Law_law_187 rfl (lv_at hl 3 rfl) ?_
        refine lv_iconst (v := 1) hx hb d_Law_law_188 (by decide) ?_
        refine lv_iadd hx hb d_Law_law_189 ?_
        refine sc_ld hx hb hX0 hbl hbA hX.2.2 (j := 3 * t + 1 + 1) (nI_add (3 * t + 1) 1) (by omega) hL d_Law_law_190 ?_
        rw [hq1]
        refine lv_aload_n hx hb d_Law_law_191 rfl (lv_at hl 0 rfl) ?_
        refine lv_iload_n hx hb d_Law_law_192 rfl (lv_at hl 3 rfl) ?_
        refine lv_iconst (v := 2) hx hb d_Law_law_193 (by decide) ?_
        refine lv_iadd hx hb d_Law_law_194 ?_
        refine sc_ld hx hb hX0 hbl hbA hX.2.2 (j := 3 * t + 1 + 2) (nI_add (3 * t + 1) 2) (by omega) hL d_Law_law_195 ?_
        rw [hq2]
        refine lm_w C hX (c_Mod_exit l D a' k' w q1 q2 hR.1.2.1) mi_Law_39 (fun z => by cases z) ⟨⟨rfl, rfl⟩, (Nat.le_of_ble_eq_true rfl), (Nat.le_of_ble_eq_true rfl)⟩ rfl rfl hl.1 (Nat.le_of_ble_eq_true rfl) d_Law_law_196 ⟨(Nat.le_of_ble_eq_true rfl), (Nat.le_of_ble_eq_true rfl)⟩ (fun H locs (hX : VX D (fun q : Nat => s.heap.size ≤ q) s.heap (pW h a k (rExit v q1 q2).2 ++ mW a' k' (mExit w q1 q2).2) H locs) => ?_)
        refine lv_icmp_eq (tgt := 444) hx hb d_Law_law_199 (by decide) (fun _ => ?_) (fun cf => ?_)
        · exact next _ _ H locs (sim_exit hR q1 q2).2 hX
        · exact absurd (sim_exit hR q1 q2).1 cf
      · refine lv_tableIn (tgt := 204) hx hb d_Law_law_42 (by decide) (by decide) rfl (by decide) ?_
        refine lv_aload_n hx hb d_Law_law_204 rfl (lv_at hl 1 rfl) ?_
        refine lv_aload_n hx hb d_Law_law_205 rfl (lv_at hl 0 rfl) ?_
        refine lv_iload_n hx hb d_Law_law_206 rfl (lv_at hl 3 rfl) ?_
        refine lv_iconst (v := 1) hx hb d_Law_law_207 (by decide) ?_
        refine lv_iadd hx hb d_Law_law_208 ?_
        refine sc_ld hx hb hX0 hbl hbA hX.2.2 (j := 3 * t + 1 + 1) (nI_add (3 * t + 1) 1) (by omega) hL d_Law_law_209 ?_
        rw [hq1]
        refine lx_w C hX (c_Proc_await l D h a k v q1 hR.1.1) mi_Law_40 (fun z => z) ⟨⟨rfl, rfl⟩, (Nat.le_of_ble_eq_true rfl), (Nat.le_of_ble_eq_true rfl)⟩ rfl rfl hl.1 (Nat.le_of_ble_eq_true rfl) d_Law_law_210 ⟨(Nat.le_of_ble_eq_true rfl), (Nat.le_of_ble_eq_true rfl)⟩ (fun H locs (hX : VX D (fun q : Nat => s.heap.size ≤ q) s.heap (mW a' k' w ++ pW h a k (rAwait v q1).2) H locs) => ?_)
        refine lv_aload_n hx hb d_Law_law_213 rfl (lv_at hl 2 rfl) ?_
        refine lv_aload_n hx hb d_Law_law_214 rfl (lv_at hl 0 rfl) ?_
        refine lv_iload_n hx hb d_Law_law_215 rfl (lv_at hl 3 rfl) ?_
        refine lv_iconst (v := 1) hx hb d_Law_law_216 (by decide) ?_
        refine lv_iadd hx hb d_Law_law_217 ?_
        refine sc_ld hx hb hX0 hbl hbA hX.2.2 (j := 3 * t + 1 + 1) (nI_add (3 * t + 1) 1) (by omega) hL d_Law_law_218 ?_
        rw [hq1]
        refine lm_w C hX (c_Mod_await l D a' k' w q1 hR.1.2.1) mi_Law_43 (fun z => by cases z) ⟨⟨rfl, rfl⟩, (Nat.le_of_ble_eq_true rfl), (Nat.le_of_ble_eq_true rfl)⟩ rfl rfl hl.1 (Nat.le_of_ble_eq_true rfl) d_Law_law_219 ⟨(Nat.le_of_ble_eq_true rfl), (Nat.le_of_ble_eq_true rfl)⟩ (fun H locs (hX : VX D (fun q : Nat => s.heap.size ≤ q) s.heap (pW h a k (rAwait v q1).2 ++ mW a' k' (mAwait w q1).2) H locs) => ?_)
        refine lv_icmp_eq (tgt := 444) hx hb d_Law_law_222 (by decide) (fun _ => ?_) (fun cf => ?_)
        · exact next _ _ H locs (sim_await hR q1).2 hX
        · exact absurd (sim_await hR q1).1 cf
      · refine lv_tableIn (tgt := 227) hx hb d_Law_law_42 (by decide) (by decide) rfl (by decide) ?_
        refine lv_aload_n hx hb d_Law_law_227 rfl (lv_at hl 1 rfl) ?_
        refine lx_r C hX (c_Proc_status l D h a k v  ) mi_Law_44 (fun z => z) ⟨⟨rfl, rfl⟩, (Nat.le_of_ble_eq_true rfl), (Nat.le_of_ble_eq_true rfl)⟩ rfl rfl hl.1 (Nat.le_of_ble_eq_true rfl) d_Law_law_228 ⟨(Nat.le_of_ble_eq_true rfl), (Nat.le_of_ble_eq_true rfl)⟩ (fun H locs (hX : VX D (fun q : Nat => s.heap.size ≤ q) s.heap (mW a' k' w ++ pW h a k v) H locs) => ?_)
        refine lv_aload_n hx hb d_Law_law_231 rfl (lv_at hl 2 rfl) ?_
        refine lm_r C hX (c_Mod_status l D a' k' w  hR.1.2.1) mi_Law_48 (fun z => by cases z) ⟨⟨rfl, rfl⟩, (Nat.le_of_ble_eq_true rfl), (Nat.le_of_ble_eq_true rfl)⟩ rfl rfl hl.1 (Nat.le_of_ble_eq_true rfl) d_Law_law_232 ⟨(Nat.le_of_ble_eq_true rfl), (Nat.le_of_ble_eq_true rfl)⟩ (fun H locs (hX : VX D (fun q : Nat => s.heap.size ≤ q) s.heap (pW h a k v ++ mW a' k' w) H locs) => ?_)
        refine lv_icmp_eq (tgt := 444) hx hb d_Law_law_235 (by decide) (fun _ => ?_) (fun cf => ?_)
        · exact next _ _ H locs hR.up hX
        · exact absurd (hR.1.2.2.2.2.1) cf
      · refine lv_tableIn (tgt := 240) hx hb d_Law_law_42 (by decide) (by decide) rfl (by decide) ?_
        refine lv_aload_n hx hb d_Law_law_240 rfl (lv_at hl 1 rfl) ?_
        refine lv_aload_n hx hb d_Law_law_241 rfl (lv_at hl 0 rfl) ?_
        refine lv_iload_n hx hb d_Law_law_242 rfl (lv_at hl 3 rfl) ?_
        refine lv_iconst (v := 1) hx hb d_Law_law_243 (by decide) ?_
        refine lv_iadd hx hb d_Law_law_244 ?_
        refine sc_ld hx hb hX0 hbl hbA hX.2.2 (j := 3 * t + 1 + 1) (nI_add (3 * t + 1) 1) (by omega) hL d_Law_law_245 ?_
        rw [hq1]
        refine lv_aload_n hx hb d_Law_law_246 rfl (lv_at hl 0 rfl) ?_
        refine lv_iload_n hx hb d_Law_law_247 rfl (lv_at hl 3 rfl) ?_
        refine lv_iconst (v := 2) hx hb d_Law_law_248 (by decide) ?_
        refine lv_iadd hx hb d_Law_law_249 ?_
        refine sc_ld hx hb hX0 hbl hbA hX.2.2 (j := 3 * t + 1 + 2) (nI_add (3 * t + 1) 2) (by omega) hL d_Law_law_250 ?_
        rw [hq2]
        refine lx_w C hX (c_Proc_block l D h a k v q1 q2 hR.1.1) mi_Law_49 (fun z => z) ⟨⟨rfl, rfl⟩, (Nat.le_of_ble_eq_true rfl), (Nat.le_of_ble_eq_true rfl)⟩ rfl rfl hl.1 (Nat.le_of_ble_eq_true rfl) d_Law_law_251 ⟨(Nat.le_of_ble_eq_true rfl), (Nat.le_of_ble_eq_true rfl)⟩ (fun H locs (hX : VX D (fun q : Nat => s.heap.size ≤ q) s.heap (mW a' k' w ++ pW h a k (rWaitFor v q1 1 q2).2) H locs) => ?_)
        refine lv_aload_n hx hb d_Law_law_254 rfl (lv_at hl 2 rfl) ?_
        refine lv_aload_n hx hb d_Law_law_255 rfl (lv_at hl 0 rfl) ?_
        refine lv_iload_n hx hb d_Law_law_256 rfl (lv_at hl 3 rfl) ?_
        refine lv_iconst (v := 1) hx hb d_Law_law_257 (by decide) ?_
        refine lv_iadd hx hb d_Law_law_258 ?_
        refine sc_ld hx hb hX0 hbl hbA hX.2.2 (j := 3 * t + 1 + 1) (nI_add (3 * t + 1) 1) (by omega) hL d_Law_law_259 ?_
        rw [hq1]
        refine lv_aload_n hx hb d_Law_law_260 rfl (lv_at hl 0 rfl) ?_
        refine lv_iload_n hx hb d_Law_law_261 rfl (lv_at hl 3 rfl) ?_
        refine lv_iconst (v := 2) hx hb d_Law_law_262 (by decide) ?_
        refine lv_iadd hx hb d_Law_law_263 ?_
        refine sc_ld hx hb hX0 hbl hbA hX.2.2 (j := 3 * t + 1 + 2) (nI_add (3 * t + 1) 2) (by omega) hL d_Law_law_264 ?_
        rw [hq2]
        refine lm_w C hX (c_Mod_block l D a' k' w q1 q2 hR.1.2.1) mi_Law_52 (fun z => by cases z) ⟨⟨rfl, rfl⟩, (Nat.le_of_ble_eq_true rfl), (Nat.le_of_ble_eq_true rfl)⟩ rfl rfl hl.1 (Nat.le_of_ble_eq_true rfl) d_Law_law_265 ⟨(Nat.le_of_ble_eq_true rfl), (Nat.le_of_ble_eq_true rfl)⟩ (fun H locs (hX : VX D (fun q : Nat => s.heap.size ≤ q) s.heap (pW h a k (rWaitFor v q1 1 q2).2 ++ mW a' k' (mBlock w q1 q2).2) H locs) => ?_)
        refine lv_icmp_eq (tgt := 444) hx hb d_Law_law_268 (by decide) (fun _ => ?_) (fun cf => ?_)
        · exact next _ _ H locs (sim_block hR q1 q2).2 hX
        · exact absurd (sim_block hR q1 q2).1 cf
      · refine lv_tableIn (tgt := 273) hx hb d_Law_law_42 (by decide) (by decide) rfl (by decide) ?_
        refine lv_aload_n hx hb d_Law_law_273 rfl (lv_at hl 1 rfl) ?_
        refine lv_aload_n hx hb d_Law_law_274 rfl (lv_at hl 0 rfl) ?_
        refine lv_iload_n hx hb d_Law_law_275 rfl (lv_at hl 3 rfl) ?_
        refine lv_iconst (v := 1) hx hb d_Law_law_276 (by decide) ?_
        refine lv_iadd hx hb d_Law_law_277 ?_
        refine sc_ld hx hb hX0 hbl hbA hX.2.2 (j := 3 * t + 1 + 1) (nI_add (3 * t + 1) 1) (by omega) hL d_Law_law_278 ?_
        rw [hq1]
        refine lv_aload_n hx hb d_Law_law_279 rfl (lv_at hl 0 rfl) ?_
        refine lv_iload_n hx hb d_Law_law_280 rfl (lv_at hl 3 rfl) ?_
        refine lv_iconst (v := 2) hx hb d_Law_law_281 (by decide) ?_
        refine lv_iadd hx hb d_Law_law_282 ?_
        refine sc_ld hx hb hX0 hbl hbA hX.2.2 (j := 3 * t + 1 + 2) (nI_add (3 * t + 1) 2) (by omega) hL d_Law_law_283 ?_
        rw [hq2]
        refine lx_w C hX (c_Proc_sleep l D h a k v q1 q2 hR.1.1) mi_Law_53 (fun z => z) ⟨⟨rfl, rfl⟩, (Nat.le_of_ble_eq_true rfl), (Nat.le_of_ble_eq_true rfl)⟩ rfl rfl hl.1 (Nat.le_of_ble_eq_true rfl) d_Law_law_284 ⟨(Nat.le_of_ble_eq_true rfl), (Nat.le_of_ble_eq_true rfl)⟩ (fun H locs (hX : VX D (fun q : Nat => s.heap.size ≤ q) s.heap (mW a' k' w ++ pW h a k (rSleep v q1 q2).2) H locs) => ?_)
        refine lv_aload_n hx hb d_Law_law_287 rfl (lv_at hl 2 rfl) ?_
        refine lv_aload_n hx hb d_Law_law_288 rfl (lv_at hl 0 rfl) ?_
        refine lv_iload_n hx hb d_Law_law_289 rfl (lv_at hl 3 rfl) ?_
        refine lv_iconst (v := 1) hx hb d_Law_law_290 (by decide) ?_
        refine lv_iadd hx hb d_Law_law_291 ?_
        refine sc_ld hx hb hX0 hbl hbA hX.2.2 (j := 3 * t + 1 + 1) (nI_add (3 * t + 1) 1) (by omega) hL d_Law_law_292 ?_
        rw [hq1]
        refine lv_aload_n hx hb d_Law_law_293 rfl (lv_at hl 0 rfl) ?_
        refine lv_iload_n hx hb d_Law_law_294 rfl (lv_at hl 3 rfl) ?_
        refine lv_iconst (v := 2) hx hb d_Law_law_295 (by decide) ?_
        refine lv_iadd hx hb d_Law_law_296 ?_
        refine sc_ld hx hb hX0 hbl hbA hX.2.2 (j := 3 * t + 1 + 2) (nI_add (3 * t + 1) 2) (by omega) hL d_Law_law_297 ?_
        rw [hq2]
        refine lm_w C hX (c_Mod_sleep l D a' k' w q1 q2 hR.1.2.1) mi_Law_56 (fun z => by cases z) ⟨⟨rfl, rfl⟩, (Nat.le_of_ble_eq_true rfl), (Nat.le_of_ble_eq_true rfl)⟩ rfl rfl hl.1 (Nat.le_of_ble_eq_true rfl) d_Law_law_298 ⟨(Nat.le_of_ble_eq_true rfl), (Nat.le_of_ble_eq_true rfl)⟩ (fun H locs (hX : VX D (fun q : Nat => s.heap.size ≤ q) s.heap (pW h a k (rSleep v q1 q2).2 ++ mW a' k' (mSleep w q1 q2).2) H locs) => ?_)
        refine lv_icmp_eq (tgt := 444) hx hb d_Law_law_301 (by decide) (fun _ => ?_) (fun cf => ?_)
        · exact next _ _ H locs (sim_sleep ht hR q1 q2).2 hX
        · exact absurd (sim_sleep ht hR q1 q2).1 cf
      · refine lv_tableIn (tgt := 306) hx hb d_Law_law_42 (by decide) (by decide) rfl (by decide) ?_
        refine lv_aload_n hx hb d_Law_law_306 rfl (lv_at hl 1 rfl) ?_
        refine lv_aload_n hx hb d_Law_law_307 rfl (lv_at hl 0 rfl) ?_
        refine lv_iload_n hx hb d_Law_law_308 rfl (lv_at hl 3 rfl) ?_
        refine lv_iconst (v := 1) hx hb d_Law_law_309 (by decide) ?_
        refine lv_iadd hx hb d_Law_law_310 ?_
        refine sc_ld hx hb hX0 hbl hbA hX.2.2 (j := 3 * t + 1 + 1) (nI_add (3 * t + 1) 1) (by omega) hL d_Law_law_311 ?_
        rw [hq1]
        refine lx_w C hX (c_Proc_wake l D h a k v q1 ) mi_Law_57 (fun z => z) ⟨⟨rfl, rfl⟩, (Nat.le_of_ble_eq_true rfl), (Nat.le_of_ble_eq_true rfl)⟩ rfl rfl hl.1 (Nat.le_of_ble_eq_true rfl) d_Law_law_312 ⟨(Nat.le_of_ble_eq_true rfl), (Nat.le_of_ble_eq_true rfl)⟩ (fun H locs (hX : VX D (fun q : Nat => s.heap.size ≤ q) s.heap (mW a' k' w ++ pW h a k (rWake v 1 q1).2) H locs) => ?_)
        refine lv_aload_n hx hb d_Law_law_315 rfl (lv_at hl 2 rfl) ?_
        refine lv_aload_n hx hb d_Law_law_316 rfl (lv_at hl 0 rfl) ?_
        refine lv_iload_n hx hb d_Law_law_317 rfl (lv_at hl 3 rfl) ?_
        refine lv_iconst (v := 1) hx hb d_Law_law_318 (by decide) ?_
        refine lv_iadd hx hb d_Law_law_319 ?_
        refine sc_ld hx hb hX0 hbl hbA hX.2.2 (j := 3 * t + 1 + 1) (nI_add (3 * t + 1) 1) (by omega) hL d_Law_law_320 ?_
        rw [hq1]
        refine lm_w C hX (c_Mod_wake l D a' k' w q1 hR.1.2.1) mi_Law_60 (fun z => by cases z) ⟨⟨rfl, rfl⟩, (Nat.le_of_ble_eq_true rfl), (Nat.le_of_ble_eq_true rfl)⟩ rfl rfl hl.1 (Nat.le_of_ble_eq_true rfl) d_Law_law_321 ⟨(Nat.le_of_ble_eq_true rfl), (Nat.le_of_ble_eq_true rfl)⟩ (fun H locs (hX : VX D (fun q : Nat => s.heap.size ≤ q) s.heap (pW h a k (rWake v 1 q1).2 ++ mW a' k' (mWake w q1).2) H locs) => ?_)
        refine lv_icmp_eq (tgt := 444) hx hb d_Law_law_324 (by decide) (fun _ => ?_) (fun cf => ?_)
        · exact next _ _ H locs (sim_wake hR q1).2 hX
        · exact absurd (sim_wake hR q1).1 cf
      · refine lv_tableIn (tgt := 329) hx hb d_Law_law_42 (by decide) (by decide) rfl (by decide) ?_
        refine lv_aload_n hx hb d_Law_law_329 rfl (lv_at hl 1 rfl) ?_
        refine lv_aload_n hx hb d_Law_law_330 rfl (lv_at hl 0 rfl) ?_
        refine lv_iload_n hx hb d_Law_law_331 rfl (lv_at hl 3 rfl) ?_
        refine lv_iconst (v := 1) hx hb d_Law_law_332 (by decide) ?_
        refine lv_iadd hx hb d_Law_law_333 ?_
        refine sc_ld hx hb hX0 hbl hbA hX.2.2 (j := 3 * t + 1 + 1) (nI_add (3 * t + 1) 1) (by omega) hL d_Law_law_334 ?_
        rw [hq1]
        refine lx_w C hX (c_Proc_rest l D h a k v q1 hR.1.1) mi_Law_61 (fun z => z) ⟨⟨rfl, rfl⟩, (Nat.le_of_ble_eq_true rfl), (Nat.le_of_ble_eq_true rfl)⟩ rfl rfl hl.1 (Nat.le_of_ble_eq_true rfl) d_Law_law_335 ⟨(Nat.le_of_ble_eq_true rfl), (Nat.le_of_ble_eq_true rfl)⟩ (fun H locs (hX : VX D (fun q : Nat => s.heap.size ≤ q) s.heap (mW a' k' w ++ pW h a k (rLeave v q1 1).2) H locs) => ?_)
        refine lv_aload_n hx hb d_Law_law_338 rfl (lv_at hl 2 rfl) ?_
        refine lv_aload_n hx hb d_Law_law_339 rfl (lv_at hl 0 rfl) ?_
        refine lv_iload_n hx hb d_Law_law_340 rfl (lv_at hl 3 rfl) ?_
        refine lv_iconst (v := 1) hx hb d_Law_law_341 (by decide) ?_
        refine lv_iadd hx hb d_Law_law_342 ?_
        refine sc_ld hx hb hX0 hbl hbA hX.2.2 (j := 3 * t + 1 + 1) (nI_add (3 * t + 1) 1) (by omega) hL d_Law_law_343 ?_
        rw [hq1]
        refine lm_w C hX (c_Mod_rest l D a' k' w q1 hR.1.2.1) mi_Law_64 (fun z => by cases z) ⟨⟨rfl, rfl⟩, (Nat.le_of_ble_eq_true rfl), (Nat.le_of_ble_eq_true rfl)⟩ rfl rfl hl.1 (Nat.le_of_ble_eq_true rfl) d_Law_law_344 ⟨(Nat.le_of_ble_eq_true rfl), (Nat.le_of_ble_eq_true rfl)⟩ (fun H locs (hX : VX D (fun q : Nat => s.heap.size ≤ q) s.heap (pW h a k (rLeave v q1 1).2 ++ mW a' k' (mRest w q1).2) H locs) => ?_)
        refine lv_icmp_eq (tgt := 444) hx hb d_Law_law_347 (by decide) (fun _ => ?_) (fun cf => ?_)
        · exact next _ _ H locs (sim_rest hR q1).2 hX
        · exact absurd (sim_rest hR q1).1 cf
      · refine lv_tableIn (tgt := 352) hx hb d_Law_law_42 (by decide) (by decide) rfl (by decide) ?_
        refine lv_aload_n hx hb d_Law_law_352 rfl (lv_at hl 1 rfl) ?_
        refine lx_w C hX (c_Proc_tick l D h a k v  hR.1.1) mi_Law_65 (fun z => z) ⟨⟨rfl, rfl⟩, (Nat.le_of_ble_eq_true rfl), (Nat.le_of_ble_eq_true rfl)⟩ rfl rfl hl.1 (Nat.le_of_ble_eq_true rfl) d_Law_law_353 ⟨(Nat.le_of_ble_eq_true rfl), (Nat.le_of_ble_eq_true rfl)⟩ (fun H locs (hX : VX D (fun q : Nat => s.heap.size ≤ q) s.heap (mW a' k' w ++ pW h a k (pTick v).2) H locs) => ?_)
        refine lv_aload_n hx hb d_Law_law_356 rfl (lv_at hl 2 rfl) ?_
        refine lm_w C hX (c_Mod_tick l D a' k' w  hR.1.2.1) mi_Law_68 (fun z => by cases z) ⟨⟨rfl, rfl⟩, (Nat.le_of_ble_eq_true rfl), (Nat.le_of_ble_eq_true rfl)⟩ rfl rfl hl.1 (Nat.le_of_ble_eq_true rfl) d_Law_law_357 ⟨(Nat.le_of_ble_eq_true rfl), (Nat.le_of_ble_eq_true rfl)⟩ (fun H locs (hX : VX D (fun q : Nat => s.heap.size ≤ q) s.heap (pW h a k (pTick v).2 ++ mW a' k' (mTick w).2) H locs) => ?_)
        refine lv_icmp_eq (tgt := 444) hx hb d_Law_law_360 (by decide) (fun _ => ?_) (fun cf => ?_)
        · exact next _ _ H locs (sim_tick ht hR).2 hX
        · exact absurd (sim_tick ht hR).1 cf
      · refine lv_tableIn (tgt := 365) hx hb d_Law_law_42 (by decide) (by decide) rfl (by decide) ?_
        refine lv_aload_n hx hb d_Law_law_365 rfl (lv_at hl 1 rfl) ?_
        refine lv_aload_n hx hb d_Law_law_366 rfl (lv_at hl 0 rfl) ?_
        refine lv_iload_n hx hb d_Law_law_367 rfl (lv_at hl 3 rfl) ?_
        refine lv_iconst (v := 1) hx hb d_Law_law_368 (by decide) ?_
        refine lv_iadd hx hb d_Law_law_369 ?_
        refine sc_ld hx hb hX0 hbl hbA hX.2.2 (j := 3 * t + 1 + 1) (nI_add (3 * t + 1) 1) (by omega) hL d_Law_law_370 ?_
        rw [hq1]
        refine lx_w C hX (c_Proc_kill l D h a k v q1 ) mi_Law_69 (fun z => z) ⟨⟨rfl, rfl⟩, (Nat.le_of_ble_eq_true rfl), (Nat.le_of_ble_eq_true rfl)⟩ rfl rfl hl.1 (Nat.le_of_ble_eq_true rfl) d_Law_law_371 ⟨(Nat.le_of_ble_eq_true rfl), (Nat.le_of_ble_eq_true rfl)⟩ (fun H locs (hX : VX D (fun q : Nat => s.heap.size ≤ q) s.heap (mW a' k' w ++ pW h a k (rKill v q1).2) H locs) => ?_)
        refine lv_aload_n hx hb d_Law_law_374 rfl (lv_at hl 2 rfl) ?_
        refine lv_aload_n hx hb d_Law_law_375 rfl (lv_at hl 0 rfl) ?_
        refine lv_iload_n hx hb d_Law_law_376 rfl (lv_at hl 3 rfl) ?_
        refine lv_iconst (v := 1) hx hb d_Law_law_377 (by decide) ?_
        refine lv_iadd hx hb d_Law_law_378 ?_
        refine sc_ld hx hb hX0 hbl hbA hX.2.2 (j := 3 * t + 1 + 1) (nI_add (3 * t + 1) 1) (by omega) hL d_Law_law_379 ?_
        rw [hq1]
        refine lm_w C hX (c_Mod_kill l D a' k' w q1 hR.1.2.1) mi_Law_73 (fun z => by cases z) ⟨⟨rfl, rfl⟩, (Nat.le_of_ble_eq_true rfl), (Nat.le_of_ble_eq_true rfl)⟩ rfl rfl hl.1 (Nat.le_of_ble_eq_true rfl) d_Law_law_380 ⟨(Nat.le_of_ble_eq_true rfl), (Nat.le_of_ble_eq_true rfl)⟩ (fun H locs (hX : VX D (fun q : Nat => s.heap.size ≤ q) s.heap (pW h a k (rKill v q1).2 ++ mW a' k' (mKill w q1).2) H locs) => ?_)
        refine lv_icmp_eq (tgt := 444) hx hb d_Law_law_383 (by decide) (fun _ => ?_) (fun cf => ?_)
        · exact next _ _ H locs (sim_kill hR q1).2 hX
        · exact absurd (sim_kill hR q1).1 cf
      · refine lv_tableIn (tgt := 388) hx hb d_Law_law_42 (by decide) (by decide) rfl (by decide) ?_
        refine lv_aload_n hx hb d_Law_law_388 rfl (lv_at hl 1 rfl) ?_
        refine lv_aload_n hx hb d_Law_law_389 rfl (lv_at hl 0 rfl) ?_
        refine lv_iload_n hx hb d_Law_law_390 rfl (lv_at hl 3 rfl) ?_
        refine lv_iconst (v := 1) hx hb d_Law_law_391 (by decide) ?_
        refine lv_iadd hx hb d_Law_law_392 ?_
        refine sc_ld hx hb hX0 hbl hbA hX.2.2 (j := 3 * t + 1 + 1) (nI_add (3 * t + 1) 1) (by omega) hL d_Law_law_393 ?_
        rw [hq1]
        refine lv_aload_n hx hb d_Law_law_394 rfl (lv_at hl 0 rfl) ?_
        refine lv_iload_n hx hb d_Law_law_395 rfl (lv_at hl 3 rfl) ?_
        refine lv_iconst (v := 2) hx hb d_Law_law_396 (by decide) ?_
        refine lv_iadd hx hb d_Law_law_397 ?_
        refine sc_ld hx hb hX0 hbl hbA hX.2.2 (j := 3 * t + 1 + 2) (nI_add (3 * t + 1) 2) (by omega) hL d_Law_law_398 ?_
        rw [hq2]
        refine lx_r C hX (c_Proc_about l D h a k v q1 q2 hR.1.1) mi_Law_74 (fun z => z) ⟨⟨rfl, rfl⟩, (Nat.le_of_ble_eq_true rfl), (Nat.le_of_ble_eq_true rfl)⟩ rfl rfl hl.1 (Nat.le_of_ble_eq_true rfl) d_Law_law_399 ⟨(Nat.le_of_ble_eq_true rfl), (Nat.le_of_ble_eq_true rfl)⟩ (fun H locs (hX : VX D (fun q : Nat => s.heap.size ≤ q) s.heap (mW a' k' w ++ pW h a k v) H locs) => ?_)
        refine lv_aload_n hx hb d_Law_law_402 rfl (lv_at hl 2 rfl) ?_
        refine lv_aload_n hx hb d_Law_law_403 rfl (lv_at hl 0 rfl) ?_
        refine lv_iload_n hx hb d_Law_law_404 rfl (lv_at hl 3 rfl) ?_
        refine lv_iconst (v := 1) hx hb d_Law_law_405 (by decide) ?_
        refine lv_iadd hx hb d_Law_law_406 ?_
        refine sc_ld hx hb hX0 hbl hbA hX.2.2 (j := 3 * t + 1 + 1) (nI_add (3 * t + 1) 1) (by omega) hL d_Law_law_407 ?_
        rw [hq1]
        refine lv_aload_n hx hb d_Law_law_408 rfl (lv_at hl 0 rfl) ?_
        refine lv_iload_n hx hb d_Law_law_409 rfl (lv_at hl 3 rfl) ?_
        refine lv_iconst (v := 2) hx hb d_Law_law_410 (by decide) ?_
        refine lv_iadd hx hb d_Law_law_411 ?_
        refine sc_ld hx hb hX0 hbl hbA hX.2.2 (j := 3 * t + 1 + 2) (nI_add (3 * t + 1) 2) (by omega) hL d_Law_law_412 ?_
        rw [hq2]
        refine lm_r C hX (c_Mod_about l D a' k' w q1 q2 hR.1.2.1) mi_Law_77 (fun z => by cases z) ⟨⟨rfl, rfl⟩, (Nat.le_of_ble_eq_true rfl), (Nat.le_of_ble_eq_true rfl)⟩ rfl rfl hl.1 (Nat.le_of_ble_eq_true rfl) d_Law_law_413 ⟨(Nat.le_of_ble_eq_true rfl), (Nat.le_of_ble_eq_true rfl)⟩ (fun H locs (hX : VX D (fun q : Nat => s.heap.size ≤ q) s.heap (pW h a k v ++ mW a' k' w) H locs) => ?_)
        refine lv_icmp_eq (tgt := 444) hx hb d_Law_law_416 (by decide) (fun _ => ?_) (fun cf => ?_)
        · exact next _ _ H locs hR.up hX
        · exact absurd (sim_about hR q1 q2) cf
      · refine lv_tableIn (tgt := 421) hx hb d_Law_law_42 (by decide) (by decide) rfl (by decide) ?_
        refine lv_aload_n hx hb d_Law_law_421 rfl (lv_at hl 1 rfl) ?_
        refine lv_aload_n hx hb d_Law_law_422 rfl (lv_at hl 0 rfl) ?_
        refine lv_iload_n hx hb d_Law_law_423 rfl (lv_at hl 3 rfl) ?_
        refine lv_iconst (v := 1) hx hb d_Law_law_424 (by decide) ?_
        refine lv_iadd hx hb d_Law_law_425 ?_
        refine sc_ld hx hb hX0 hbl hbA hX.2.2 (j := 3 * t + 1 + 1) (nI_add (3 * t + 1) 1) (by omega) hL d_Law_law_426 ?_
        rw [hq1]
        refine lx_r C hX (c_Proc_count l D h a k v q1 ) mi_Law_78 (fun z => z) ⟨⟨rfl, rfl⟩, (Nat.le_of_ble_eq_true rfl), (Nat.le_of_ble_eq_true rfl)⟩ rfl rfl hl.1 (Nat.le_of_ble_eq_true rfl) d_Law_law_427 ⟨(Nat.le_of_ble_eq_true rfl), (Nat.le_of_ble_eq_true rfl)⟩ (fun H locs (hX : VX D (fun q : Nat => s.heap.size ≤ q) s.heap (mW a' k' w ++ pW h a k v) H locs) => ?_)
        refine lv_aload_n hx hb d_Law_law_430 rfl (lv_at hl 2 rfl) ?_
        refine lv_aload_n hx hb d_Law_law_431 rfl (lv_at hl 0 rfl) ?_
        refine lv_iload_n hx hb d_Law_law_432 rfl (lv_at hl 3 rfl) ?_
        refine lv_iconst (v := 1) hx hb d_Law_law_433 (by decide) ?_
        refine lv_iadd hx hb d_Law_law_434 ?_
        refine sc_ld hx hb hX0 hbl hbA hX.2.2 (j := 3 * t + 1 + 1) (nI_add (3 * t + 1) 1) (by omega) hL d_Law_law_435 ?_
        rw [hq1]
        refine lm_r C hX (c_Mod_count l D a' k' w q1 hR.1.2.1) mi_Law_81 (fun z => by cases z) ⟨⟨rfl, rfl⟩, (Nat.le_of_ble_eq_true rfl), (Nat.le_of_ble_eq_true rfl)⟩ rfl rfl hl.1 (Nat.le_of_ble_eq_true rfl) d_Law_law_436 ⟨(Nat.le_of_ble_eq_true rfl), (Nat.le_of_ble_eq_true rfl)⟩ (fun H locs (hX : VX D (fun q : Nat => s.heap.size ≤ q) s.heap (pW h a k v ++ mW a' k' w) H locs) => ?_)
        refine lv_icmp_eq (tgt := 444) hx hb d_Law_law_439 (by decide) (fun _ => ?_) (fun cf => ?_)
        · exact next _ _ H locs hR.up hX
        · exact absurd (sim_count hR q1) cf
      · refine lv_tableOut (tgt := 444) hx hb d_Law_law_42 (Or.inr (by decide)) (by decide) ?_
        exact next v w H locs hR.up hX
      · refine lv_tableOut (tgt := 444) hx hb d_Law_law_42 (Or.inr (by decide)) (by decide) ?_
        exact next v w H locs hR.up hX
end
section
theorem nest_in : ∀ w ∈ nestW, w ∈ lw_tbl := by
  intro w hw
  simp only [nestW, List.mem_cons, List.not_mem_nil, or_false] at hw
  rcases hw with rfl | rfl | rfl | rfl | rfl | rfl
  · exact k_fn_67
  · exact k_fn_63
  · exact k_fn_70
  · exact k_fn_73
  · exact k_fn_77
  · exact k_fn_39
theorem good_cell : GoodIn gw (wsS R_law 9 y_Law_cell (wy y_Law_cell b_Law_cell 2 (some .int))) := by
  intro w hw
  rcases List.mem_append.mp hw with hw | hw
  · simp only [List.mem_cons, List.not_mem_nil, or_false] at hw
    rcases hw with rfl | rfl | rfl
    · exact ⟨k_ml_Law_9, gw_good k_ml_Law_9⟩
    · exact ⟨k_st_Law_cell, gw_good k_st_Law_cell⟩
    · exact ⟨k_ini_Law, gw_good k_ini_Law⟩
  · exact good_wy k_co_Law_cell w hw
/-- a call of cell: nothing changes -/
theorem lc_cell {p : Program} {l : Launch} {e : Env} {s : State} {m : MethodId} {args : Array Value} {below : List Frame} {meth : Method} {c : Code} {H : Heap} {locs : List Loc} {cells slots : Nat} {Q : State → Prop} {pc : Nat} {ls : Array Slot} {rest : List Value} {D : va_G} {ws : va_W} {b L : Nat} {xs : Nat → Int32}
    (CF : CallFix p m c code 4 s args gw R_law) (hX : VX D (fun q : Nat => s.heap.size ≤ q) s.heap ws H locs) (hX0 : va_X b L xs s s.heap) (hbl : b < s.heap.size) (hL : L ≤ 1537) (isR : List Nat) (hRr : isR.map (fun i => ws[i]?) = ws.map some) (hnR : va_nd isR = true) (hsz : ls.size = 4) (hroom : (rest.map fun v => v.category).sum ≤ 8) (hdg : decode code pc = .ok (.invokestatic 9, 3)) (hcs : cells ≤ room_1.cells ∧ slots ≤ room_1.slots)
    (kk : ∀ (H : Heap) (locs : List Loc), VX D (fun q : Nat => s.heap.size ≤ q) s.heap ws H locs → W p l e room_1 s m args below meth c H locs cells slots Q (F0 m (pc + 3) ls (.int (cell0 L xs) :: rest))) : W p l e room_1 s m args below meth c H locs cells slots Q (F0 m pc ls (.int 0 :: .ref b :: rest)) := by
  obtain ⟨hP, hD, hS⟩ := hX
  have hbA : ¬ (fun q : Nat => s.heap.size ≤ q) b := Nat.not_le.mpr hbl
  have hFc := va_free (wc := []) hD hS (fun _ h => h) [] rfl
  refine va_calli (va_runS (As := [.ref b, .int 0]) (rest := rest) CF (c_Law_cell l b L xs H.size hL) (cwS 2 CF.2.2.2.2 good_cell rfl rfl rfl (by decide +kernel) ⟨(Nat.le_of_ble_eq_true rfl), (Nat.le_of_ble_eq_true rfl)⟩) ⟨fun a U g mk q => ⟨q.1, q.2.1, va_X.moved (u := U) (U := U.calling g mk a) (Vm.Alike.refl U.vm) q.2.2⟩, fun U hU hW => ⟨rfl, by rw [hU], by rw [hU]; exact va_X.moved hW.alike (va_X.kept hX0 (hS.2.1 b hbl hbA))⟩⟩ rfl rfl hsz rfl (lv_room hroom) hdg hcs) hS (fun q _ h => hFc q h) hFc (fun r u t H1 locs1 ht hvm hw hB hz1 hk1 hS1 => ?_)
  subst hw
  obtain ⟨hP2, hD2⟩ := va_join (wr := ws) (w1 := []) hP hD [] isR rfl hRr hnR (fun i _ => List.not_mem_nil) hk1 hFc (fun k q h => by simp at h) ⟨fun i j p q h => by simp at h, fun k q h => by simp at h⟩
  rw [List.append_nil] at hP2 hD2
  exact kk H1 locs1 ⟨hP2, hD2, hS1⟩
set_option maxHeartbeats 4000000 in
set_option maxRecDepth 100000 in
/-- THE LAW, from its entry -/
theorem whole_start {p : Program} {e : Env} {s : State} {m : MethodId} {below : List Frame} {meth : Method} {c : Code} (l : Launch) {b L : Nat} {xs : Nat → Int32} (hL : L ≤ 1537) (C0 : lw_At p s m meth c b L xs) : W p l e room_1 s m #[Value.ref b] below meth c s.heap [] 0 0 (lw_Z below #[Value.ref b] s) (entryFrame m ([Value.ref b] : List Value).toArray 4) := by
  obtain ⟨hx, hb, hr, hml, hown, htsA, hX0, hbl, hlocks, hgv⟩ := id C0
  have hts : ∀ w ∈ gw, w.before #[Value.ref b] s = true := fun w hw => htsA w (gw_lw hw)
  have hN : NX true s := fun _ w hw => by
    have h1 := htsA w (nest_in w hw)
    obtain ⟨a, i, b, n, d, k, rfl⟩ := nestW_kind hw
    exact va_Nw.of rfl h1
  have hA : ∀ q : Nat, s.heap.size ≤ q → (fun q : Nat => s.heap.size ≤ q) q := fun _ h => h
  obtain ⟨c0, iS0, hKn0⟩ := u_known (C := R_Ring) (T := F_Ring) (N := 13) (n := 13) hts i_Ring (hts _ k_mk_Ring)
  obtain ⟨c1, iS1, hKn1⟩ := u_known (C := R_Proc) (T := F_Proc) (N := 1) (n := 1) hts i_Proc (hts _ k_mk_Proc)
  obtain ⟨c2, iS2, hKn2⟩ := u_known (C := R_Mod) (T := F_Mod) (N := 16) (n := 16) hts i_Mod (hts _ k_mk_Mod)
  obtain ⟨D, hKc⟩ : ∃ D : va_G, ∀ (k : Nat) (q : vw_C), classes[k]? = some q → u_Kn s q.1 q.2.1 q.2.2 (D.1 k) (D.2 k) := by
    refine ⟨(fun k => if k = 0 then c0 else if k = 1 then c1 else c2, fun k => if k = 0 then iS0 else if k = 1 then iS1 else iS2), ?_⟩
    intro k q hq
    match k, hq with
    | 0, hq => cases hq; exact hKn0
    | 1, hq => cases hq; exact hKn1
    | 2, hq => cases hq; exact hKn2
    | k + 3, hq => simp [classes] at hq
  have hS : va_S (fun q : Nat => s.heap.size ≤ q) s.heap s.heap [] := va_S.rf
  have hK : va_K D classes [] s := ⟨hKc, fun k q h => by simp at h⟩
  have hP : va_P D classes [] s.heap := fun k q h => by simp at h
  have hD : va_D (fun q : Nat => s.heap.size ≤ q) [] := ⟨fun i j p q h => by simp at h, fun k q h => by simp at h⟩
  have hl := lv_entry ([.ref b]) (n := 4) (Nat.le_of_ble_eq_true rfl)
  rw [lg_entry_eq]
  generalize (lg_sl ([.ref b]) ++ List.replicate (4 - (lg_sl ([.ref b])).length) Slot.unset).toArray = ls at hl ⊢
  have hl : lv_has ls 4 [(0, .ref b)] := hl
  have CF : CallFix p m c code 4 s #[Value.ref b] gw R_law := ⟨hx, hb, hml, hown, hts⟩
  refine va_new (ci := 1) (fs := [.null]) (C := R_Proc) (T := F_Proc) (N := 1) hx hb hts i_Proc t_Proc t_Proc_ok hown (hts _ k_cl_Law_7) (hts _ k_mk_Proc) (hts _ k_ini_Proc) hK hP hD hS hA rfl (fun j hj => by rcases (show j = 0 by omega) with rfl; rfl) (Nat.le_of_ble_eq_true rfl) (Nat.le_of_ble_eq_true rfl) d_Law_law_0 (fun h H hP hD hS => ?_)
  have hX : VX D (fun q : Nat => s.heap.size ≤ q) s.heap [(h, .inr (1, [.null]))] H [] := ⟨hP, hD, hS⟩
  refine lv_dup hx hb d_Law_law_3 rfl ?_
  refine lv_aload_n hx hb d_Law_law_4 rfl (lv_at hl 0 rfl) ?_
  refine lv_iconst (v := 0) hx hb d_Law_law_5 (by decide) ?_
  refine lc_cell CF hX hX0 hbl hL [0] rfl (by decide) hl.1 (Nat.le_of_ble_eq_true rfl) d_Law_law_6 ⟨(Nat.le_of_ble_eq_true rfl), (Nat.le_of_ble_eq_true rfl)⟩ (fun H locs hX => ?_)
  obtain ⟨hP, hD, hS⟩ := hX
  have hFc := va_free (wc := [(h, .inr (1, [.null]))]) hD hS hA [0] rfl
  refine va_callv (va_runI (As := [.int (cell0 L xs)]) (rest := [.ref h]) CF (c_Proc_init l D h (cell0 L xs) H.size) (cwI 1 hts (good_wy k_co_Proc_init) rfl rfl rfl (hts _ k_ini_Proc) (hts _ k_ml_Law_15) (hts _ k_im_Proc_init) rfl (by decide +kernel) ⟨(Nat.le_of_ble_eq_true rfl), (Nat.le_of_ble_eq_true rfl)⟩) ⟨Pw.blind, fun U hU hW => ⟨rfl, by rw [hU], by rw [hU]; exact hP, va_K.moved hW.alike hK, hD.weaken (fun _ _ _ _ => trivial), NX.no⟩⟩ rfl rfl hl.1 rfl (lv_room (Nat.le_of_ble_eq_true rfl)) d_Law_law_9 ⟨(Nat.le_of_ble_eq_true rfl), (Nat.le_of_ble_eq_true rfl)⟩) hS (fun q _ h => hFc q h) hFc (fun u t H1 locs ht hvm hw hB hz1 hk1 hS1 => ?_)
  obtain ⟨a, k, hP1, hK1, hD1⟩ := hB
  subst hw
  rw [ht] at hP1
  have hK1 := va_K.moved hvm.symm hK1
  obtain ⟨hP2, hD2⟩ := va_join (wr := []) (w1 := pW h a k (rNew (clampP (cell0 L xs)))) hP hD [0] [] rfl rfl (by decide) (by decide) hk1 hFc hP1 hD1
  refine lv_astore_n (lv' := [(1, .ref h), (0, .ref b)]) hx hb d_Law_law_12 rfl hl (by decide) rfl (fun ls hl => ?_)
  refine va_new (ci := 2) (fs := mBlank) (C := R_Mod) (T := F_Mod) (N := 16) (ws := pW h a k (rNew (clampP (cell0 L xs)))) hx hb hts i_Mod t_Mod t_Mod_ok hown (hts _ k_cl_Law_18) (hts _ k_mk_Mod) (hts _ k_ini_Mod) hK hP2 hD2 hS1 hA rfl (fun j hj => by rcases (show j = 0 ∨ j = 1 ∨ j = 2 ∨ j = 3 ∨ j = 4 ∨ j = 5 ∨ j = 6 ∨ j = 7 ∨ j = 8 ∨ j = 9 ∨ j = 10 ∨ j = 11 ∨ j = 12 ∨ j = 13 ∨ j = 14 ∨ j = 15 by omega) with rfl | rfl | rfl | rfl | rfl | rfl | rfl | rfl | rfl | rfl | rfl | rfl | rfl | rfl | rfl | rfl <;> rfl) (Nat.le_of_ble_eq_true rfl) (Nat.le_of_ble_eq_true rfl) d_Law_law_13 (fun g H hP hD hS => ?_)
  have hX : VX D (fun q : Nat => s.heap.size ≤ q) s.heap (pW h a k (rNew (clampP (cell0 L xs))) ++ [(g, .inr (2, mBlank))]) H locs := ⟨hP, hD, hS⟩
  refine lv_dup hx hb d_Law_law_16 rfl ?_
  refine lv_aload_n hx hb d_Law_law_17 rfl (lv_at hl 1 rfl) ?_
  refine lv_iconst (v := 0) hx hb d_Law_law_18 (by decide) ?_
  refine lc_cell CF hX hX0 hbl hL [0, 1, 2, 3, 4, 5, 6, 7, 8, 9, 10] rfl (by decide) hl.1 (Nat.le_of_ble_eq_true rfl) d_Law_law_19 ⟨(Nat.le_of_ble_eq_true rfl), (Nat.le_of_ble_eq_true rfl)⟩ (fun H locs hX => ?_)
  obtain ⟨hP, hD, hS⟩ := hX
  have hPc := hP.sub (ws' := [(g, .inr (2, mBlank))]) [10] rfl
  have hDc := hD.sub (ws' := [(g, .inr (2, mBlank))]) [10] (by decide) rfl
  have hFc := va_free (wc := [(g, .inr (2, mBlank))]) hD hS hA [10] rfl
  refine va_callv (va_runI (As := [.int (cell0 L xs)]) (rest := [.ref g]) CF (c_Mod_init l D g (cell0 L xs) H.size) (cwI 1 hts (good_wy k_co_Mod_init) rfl rfl rfl (hts _ k_ini_Mod) (hts _ k_ml_Law_20) (hts _ k_im_Mod_init) rfl (by decide +kernel) ⟨(Nat.le_of_ble_eq_true rfl), (Nat.le_of_ble_eq_true rfl)⟩) ⟨Pw.blind, fun U hU hW => ⟨rfl, by rw [hU], by rw [hU]; exact hPc, va_K.moved hW.alike hK, hDc.weaken (fun _ _ _ _ => trivial), NX.no⟩⟩ rfl rfl hl.1 rfl (lv_room (Nat.le_of_ble_eq_true rfl)) d_Law_law_22 ⟨(Nat.le_of_ble_eq_true rfl), (Nat.le_of_ble_eq_true rfl)⟩) hS (fun q _ h => hFc q h) hFc (fun u t H1 locs ht hvm hw hB hz1 hk1 hS1 => ?_)
  obtain ⟨a', k', hg, hP1, hK3, hD1⟩ := hB
  subst hw
  rw [ht] at hP1
  have hK3 := va_K.moved hvm.symm hK3
  obtain ⟨hP2, hD2⟩ := va_join (wr := pW h a k (rNew (clampP (cell0 L xs)))) (w1 := mW a' k' (mNew (clampP (cell0 L xs)))) hP hD [10] [0, 1, 2, 3, 4, 5, 6, 7, 8, 9] rfl rfl (by decide) (by decide) hk1 hFc hP1 hD1
  have hXL : VX D (fun q : Nat => s.heap.size ≤ q) s.heap (pW h a k (rNew (clampP (cell0 L xs))) ++ mW a' k' (mNew (clampP (cell0 L xs)))) H1 locs := ⟨hP2, hD2, hS1⟩
  have C : Cx p m c s #[Value.ref b] code 4 R_law D (rT k ++ mT k') (fun q : Nat => s.heap.size ≤ q) true := ⟨CF, hK1.app hK3, hA, hN⟩
  subst hg
  refine lv_astore_n (lv' := [(2, .ref (a' 0)), (1, .ref h), (0, .ref b)]) hx hb d_Law_law_25 rfl hl (by decide) rfl (fun ls hl => ?_)
  refine lv_iconst (v := 1) hx hb d_Law_law_26 (by decide) ?_
  refine lv_istore_n (lv' := [(3, .int 1), (2, .ref (a' 0)), (1, .ref h), (0, .ref b)]) hx hb d_Law_law_27 rfl hl (by decide) rfl (fun ls hl => ?_)
  refine W.widen (k := 20) (n := 283) (Nat.le_of_ble_eq_true rfl) (Nat.le_of_ble_eq_true rfl) ?_
  exact law_loop l hL C0 C 514 0 _ _ H1 locs ls (Nat.zero_le _) (by decide) (rel_0 _) hXL (lv_sub hl [3, 2, 1, 0] rfl)
end
section
set_option maxHeartbeats 4000000 in
theorem lw_walk (l : Launch) (b : Addr) (xs : List Int32) : MetFree l x (headSpec (Jvm.Cond.code x code maxLocals ret :: tables_1) room_1) (lw_P b xs) (fun _ _ _ _ _ => True) lw_Q := by
  refine MetFree.of_bodyS (code := code) (maxLocals := maxLocals) (ret := ret) (by decide) ?_ ?_
  · intro args s m h hn
    obtain ⟨meth, c, h1, h2, h3, h4, h5, h6, -, -⟩ := Cond.code_spec hn (atoms_spec (ws := Jvm.Cond.code x code maxLocals ret :: tables_1) h _ List.mem_cons_self)
    exact ⟨meth, c, h1, h2, h3, h4, h5, h6⟩
  · intro p e s m args below meth c s₁ B hml0 hP _
    obtain ⟨rfl, hx, hbd, hgv⟩ := hP
    obtain ⟨scr, harrAt, hlist, hof, hsmall⟩ := hx
    obtain ⟨hcb, hkn, -, -⟩ := State.arrayAt?_spec harrAt
    have hown : s.vm.findClass R_law = some m.cls := findClass_of_methodNamed B.named
    have hts0 : ∀ c ∈ (Jvm.Cond.code x code maxLocals ret :: tables_1), c.before #[Value.ref b] s = true := atoms_spec (ws := Jvm.Cond.code x code maxLocals ret :: tables_1) B.pre
    have hts : ∀ w ∈ lw_tbl, w.before #[Value.ref b] s = true := k2_hts_sels lw_privs (fun w hw => hts0 w (List.mem_cons_of_mem _ hw)) lw_privs_ok
    have hml : c.maxLocals = 4 := B.maxLocals_eq (hts0 _ List.mem_cons_self)
    have X₀ : Stand p l e room_1 s m #[Value.ref b] below meth c s₁ [] 0 0 := Stand.of_body B
    have hh0 : s₁.heap = s.heap := by rw [B.state]; rfl
    have hsz : scr.slots.size = xs.length := by rw [← Array.length_toList, hlist, List.length_map]
    have hval : ∀ j : Nat, j < xs.length → scr.slots[j]? = some (.int (xs.getD j 0)) := fun j hj => by
      rw [← Array.getElem?_toList, hlist]
      simp [hj]
    have hbl : b < s.heap.size := (Array.getElem?_eq_some_iff.mp hcb).1
    have hX : va_X b xs.length (fun j => xs.getD j 0) s s.heap := ⟨scr, hcb, hof, hkn, hsz, hval⟩
    have K : W p l e room_1 s m #[Value.ref b] below meth c s₁.heap [] 0 0 (lw_Z below #[Value.ref b] s) (entryFrame m ([Value.ref b] : List Value).toArray 4) := by
      rw [hh0]
      exact whole_start l hbd ⟨B.exec, B.bytes, B.returns, hml, hown, hts, hX, hbl, B.notSynchronized, hgv⟩
    obtain ⟨t, a1, o, b1, b2, b3⟩ := K s₁ rfl X₀
    exact ⟨t, o, a1, b1, b2, b3⟩
theorem lw_pre_spec {args : Array Value} {s : State} (h : (Jvm.Cond.and given_1 narrow_1).before args s = true) (hr : rest_1_c.before args s = true) : ∃ (b : Addr) (xs : List Int32), lw_P b xs args s := by
  have hs := flat_of_before _ h
  have hq := flat_of_before _ hr
  have hc : (Cond.count 1).before args s = true := hs _ (by decide +kernel)
  have harr : (Cond.arrayOf (.arg 0) .int).before args s = true := hs _ (by decide +kernel)
  have hle : (Cond.le (.length (.arg 0)) (.int 1537)).before args s = true := hs _ (by decide +kernel)
  have hlen : (Cond.isInt (.length (.arg 0))).before args s = true := hq _ (by decide +kernel)
  have hall : (Cond.all (.arg 0) (.isInt (.elem (.arg 0) (.index 0)))).before args s = true := hq _ (by decide +kernel)
  obtain ⟨b, xs, hb, hx⟩ := State.ints_of_pre rfl harr hlen hall
  have hsm : xs.length < 2 ^ 31 := hx.choose_spec.2.2.2
  have hev : (Term.length (.arg 0)).eval args s none [] s = some (.int xs.length.toInt32) := hx.length_eval hb
  have hv := Cond.le_ints hev (show (Term.int 1537).eval args s none [] s = some (.int 1537) from rfl)
  have hd : xs.length.toInt32 ≤ 1537 := by
    simpa [Cond.before, Cond.holds, hv] using hle
  have hN : xs.length ≤ 1537 := (Int32.ofNat_le_ofNat hsm (by decide)).mp (show Int32.ofNat xs.length ≤ Int32.ofNat 1537 from hd)
  exact ⟨b, xs, Cond.one_arg hc (show args[0]? = some (.ref b) from hb), hx, hN, h⟩
theorem lw_comes (l : Launch) : Comes l x (Jvm.Cond.code x code maxLocals ret :: tables_1) room_1 (fun tb e args s => Calls_1 tb e args s ∧ rest_1 tb e args s ∧ Pre_1 tb e args s)
    (fun _ _ args s o t => lw_Q args s o t) := by
  intro p e ha hc hk s m args below hf hfit hheap happ hpre
  obtain ⟨b, xs, hP⟩ := lw_pre_spec hpre.2.2 hpre.2.1
  obtain ⟨k, o, h1, h2, h3, hQ⟩ := lw_walk l b xs p e ha hc hk s m args below hf ((Spec.applies_iff_loose hf).mp happ).1 hP trivial
  exact ⟨k, o, h1, h2, h3, hQ⟩
theorem lw_frame {s t : State} {o : Outcome} {args : Array Value} (h : Framed s o t [] 20 283) :
    Framed s o t (fieldLocs frame_1_writes args s ++ arrayLocs frame_1_arrays args s ++ staticLocs frame_1_statics s) 20 283 := h
theorem lw_limb (L : Cond) (hL : ∀ (args : Array Value) (s t : State), L.after args s (.returned (some (.int 1))) t = true) :
    ArmFor flags0 classFile x code maxLocals ret World_1 tables_1 room_1 Calls_1 rest_1 Pre_1
      (fun tb e a s o t => postC L tb e a s o t ∧ Framed s o t (fieldLocs frame_1_writes a s ++ arrayLocs frame_1_arrays a s ++ staticLocs frame_1_statics s) 20 283) := by
  intro l _ _ _ p e ha hc hk s m args below hf hfit hheap happ hpre
  obtain ⟨k, o, h1, h2, h3, rfl, hF⟩ := lw_comes l p e ha hc hk s m args below hf hfit hheap happ hpre
  exact ⟨k, _, h1, h2, h3, hL args s _, lw_frame hF⟩
theorem i_vc : Claimed_1_1 ∧ Claimed_1_2 := ⟨lw_limb limb_1_1 (fun args s t => by simp [limb_1_1, Cond.after, Cond.holds, Cond.value]), lw_limb limb_1_2 (fun args s t => Cond.after_iff.mpr (by
  first | (rw [show limb_1_2 = Cond.eq .result (.int 1) from rfl, Cond.eq_ints (x := 1) (y := 1) rfl rfl]; simp; done) | (simp [limb_1_2, Cond.value, Term.eval]; done)))⟩
end
