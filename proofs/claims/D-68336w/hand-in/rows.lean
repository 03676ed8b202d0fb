section
-- ===== PART A: goes FIRST, ahead of the names: the tables' words, and 'selects' of the private methods out of them =====
/-- a private method of a class that the tables say can be made, by its rows of tables_1 -/
def lw_okq (q : MethodName × Nat) : Prop := (q.1.cls ≠ "java/lang/invoke/MethodHandle" ∧ q.1.cls ≠ "java/lang/invoke/VarHandle") ∧ Cond.instantiable q.1.cls q.2 ∈ tables_1 ∧ Cond.privateMethod q.1 ∈ tables_1 ∧ Cond.instanceMethod q.1 ∈ tables_1
theorem lw_p0 : lw_okq (⟨"ProcessRoom", "isMade", "(I)Z"⟩, 3) := ⟨⟨by decide +kernel, by decide +kernel⟩, List.mem_of_getElem? (i := 7) (by decide +kernel), List.mem_of_getElem? (i := 94) (by decide +kernel), List.mem_of_getElem? (i := 95) (by decide +kernel)⟩
theorem lw_p1 : lw_okq (⟨"ProcessRoom", "isInRow", "(I)Z"⟩, 3) := ⟨⟨by decide +kernel, by decide +kernel⟩, List.mem_of_getElem? (i := 7) (by decide +kernel), List.mem_of_getElem? (i := 98) (by decide +kernel), List.mem_of_getElem? (i := 99) (by decide +kernel)⟩
theorem lw_p2 : lw_okq (⟨"ProcessRoom$Scheduler", "sleep", "(I)V"⟩, 7) := ⟨⟨by decide +kernel, by decide +kernel⟩, List.mem_of_getElem? (i := 32) (by decide +kernel), List.mem_of_getElem? (i := 141) (by decide +kernel), List.mem_of_getElem? (i := 142) (by decide +kernel)⟩
theorem lw_p3 : lw_okq (⟨"ProcessRoom$Scheduler", "change", "(I)V"⟩, 7) := ⟨⟨by decide +kernel, by decide +kernel⟩, List.mem_of_getElem? (i := 32) (by decide +kernel), List.mem_of_getElem? (i := 167) (by decide +kernel), List.mem_of_getElem? (i := 168) (by decide +kernel)⟩
theorem lw_p4 : lw_okq (⟨"ProcessRoomModel", "isMade", "(I)Z"⟩, 13) := ⟨⟨by decide +kernel, by decide +kernel⟩, List.mem_of_getElem? (i := 316) (by decide +kernel), List.mem_of_getElem? (i := 377) (by decide +kernel), List.mem_of_getElem? (i := 378) (by decide +kernel)⟩
theorem lw_p5 : lw_okq (⟨"ProcessRoomModel", "presentOne", "()I"⟩, 13) := ⟨⟨by decide +kernel, by decide +kernel⟩, List.mem_of_getElem? (i := 316) (by decide +kernel), List.mem_of_getElem? (i := 381) (by decide +kernel), List.mem_of_getElem? (i := 382) (by decide +kernel)⟩
theorem lw_p6 : lw_okq (⟨"ProcessRoomModel", "wake", "(I)V"⟩, 13) := ⟨⟨by decide +kernel, by decide +kernel⟩, List.mem_of_getElem? (i := 316) (by decide +kernel), List.mem_of_getElem? (i := 385) (by decide +kernel), List.mem_of_getElem? (i := 386) (by decide +kernel)⟩
theorem lw_p7 : lw_okq (⟨"ProcessRoomModel", "enter", "(II)V"⟩, 13) := ⟨⟨by decide +kernel, by decide +kernel⟩, List.mem_of_getElem? (i := 316) (by decide +kernel), List.mem_of_getElem? (i := 389) (by decide +kernel), List.mem_of_getElem? (i := 390) (by decide +kernel)⟩
theorem lw_p8 : lw_okq (⟨"ProcessRoomModel", "want", "(I)V"⟩, 13) := ⟨⟨by decide +kernel, by decide +kernel⟩, List.mem_of_getElem? (i := 316) (by decide +kernel), List.mem_of_getElem? (i := 393) (by decide +kernel), List.mem_of_getElem? (i := 394) (by decide +kernel)⟩
theorem lw_p9 : lw_okq (⟨"ProcessRoomModel", "putAside", "()V"⟩, 13) := ⟨⟨by decide +kernel, by decide +kernel⟩, List.mem_of_getElem? (i := 316) (by decide +kernel), List.mem_of_getElem? (i := 401) (by decide +kernel), List.mem_of_getElem? (i := 402) (by decide +kernel)⟩
theorem lw_p10 : lw_okq (⟨"ProcessRoomModel", "find", "(II)I"⟩, 13) := ⟨⟨by decide +kernel, by decide +kernel⟩, List.mem_of_getElem? (i := 316) (by decide +kernel), List.mem_of_getElem? (i := 405) (by decide +kernel), List.mem_of_getElem? (i := 406) (by decide +kernel)⟩
theorem lw_p11 : lw_okq (⟨"ProcessRoomModel", "give", "(I)V"⟩, 13) := ⟨⟨by decide +kernel, by decide +kernel⟩, List.mem_of_getElem? (i := 316) (by decide +kernel), List.mem_of_getElem? (i := 424) (by decide +kernel), List.mem_of_getElem? (i := 425) (by decide +kernel)⟩
def lw_privs_1 : List (MethodName × Nat) := [(⟨"ProcessRoom", "isMade", "(I)Z"⟩, 3), (⟨"ProcessRoom", "isInRow", "(I)Z"⟩, 3), (⟨"ProcessRoom$Scheduler", "sleep", "(I)V"⟩, 7), (⟨"ProcessRoom$Scheduler", "change", "(I)V"⟩, 7), (⟨"ProcessRoomModel", "isMade", "(I)Z"⟩, 13), (⟨"ProcessRoomModel", "presentOne", "()I"⟩, 13), (⟨"ProcessRoomModel", "wake", "(I)V"⟩, 13), (⟨"ProcessRoomModel", "enter", "(II)V"⟩, 13), (⟨"ProcessRoomModel", "want", "(I)V"⟩, 13), (⟨"ProcessRoomModel", "putAside", "()V"⟩, 13), (⟨"ProcessRoomModel", "find", "(II)I"⟩, 13), (⟨"ProcessRoomModel", "give", "(I)V"⟩, 13)]
theorem lw_r1 : ∀ q ∈ lw_privs_1, lw_okq q := List.forall_mem_cons.mpr ⟨lw_p0, List.forall_mem_cons.mpr ⟨lw_p1, List.forall_mem_cons.mpr ⟨lw_p2, List.forall_mem_cons.mpr ⟨lw_p3, List.forall_mem_cons.mpr ⟨lw_p4, List.forall_mem_cons.mpr ⟨lw_p5, List.forall_mem_cons.mpr ⟨lw_p6, List.forall_mem_cons.mpr ⟨lw_p7, List.forall_mem_cons.mpr ⟨lw_p8, List.forall_mem_cons.mpr ⟨lw_p9, List.forall_mem_cons.mpr ⟨lw_p10, List.forall_mem_cons.mpr ⟨lw_p11, fun _ h => absurd h List.not_mem_nil⟩⟩⟩⟩⟩⟩⟩⟩⟩⟩⟩⟩
def lw_privs : List (MethodName × Nat) := lw_privs_1
def lw_tbl : List Cond := k2_sels lw_privs ++ tables_1
theorem lw_privs_ok : ∀ q ∈ lw_privs, lw_okq q := lw_r1
/-- the words that every method here carries: all of the tables that keep -/
def w_all : List Cond := lw_tbl.filter goodWord
theorem wa_in {w : Cond} (h : w ∈ lw_tbl) (hg : goodWord w = true) : w ∈ w_all := List.mem_filter.mpr ⟨h, hg⟩
theorem wa_sub {w : Cond} (h : w ∈ w_all) : w ∈ lw_tbl := (List.mem_filter.mp h).1
theorem wa_good {w : Cond} (h : w ∈ w_all) : (w.onTables && w.keeps) = true ∨ ∃ ty, w = .arrayClass ty := good_of_word (List.mem_filter.mp h).2
def R_X : String := "ProcessRoom"
def R_P : String := "ProcessRoom$Plain"
def R_L : String := "ProcessRoom$Links"
def R_S : String := "ProcessRoom$Scheduler"
def R_M : String := "ProcessRoomModel"
def R_W : String := "ProcessRoomLaw"
abbrev b_X_init : ByteArray := prog_1_method_1_code
def y_X_init : MethodName := ⟨R_X, "<init>", "()V"⟩
abbrev b_P_init : ByteArray := prog_3_method_1_code
def y_P_init : MethodName := ⟨R_P, "<init>", "()V"⟩
abbrev b_L_init : ByteArray := prog_2_method_1_code
def y_L_init : MethodName := ⟨R_L, "<init>", "()V"⟩
abbrev b_S_init : ByteArray := prog_4_method_1_code
def y_S_init : MethodName := ⟨R_S, "<init>", "(LProcessRoom$Links;I)V"⟩
abbrev b_P_put : ByteArray := prog_3_method_3_code
def y_P_put : MethodName := ⟨R_P, "put", "(III)V"⟩
abbrev b_S_begin : ByteArray := prog_4_method_2_code
def y_S_begin : MethodName := ⟨R_S, "begin", "(I)V"⟩
abbrev b_X_make : ByteArray := prog_1_method_9_code
def y_X_make : MethodName := ⟨R_X, "make", "(III)Z"⟩
abbrev b_X_isPriority : ByteArray := prog_1_method_5_code
def y_X_isPriority : MethodName := ⟨R_X, "isPriority", "(I)Z"⟩
abbrev b_X_process : ByteArray := prog_1_method_2_code
def y_X_process : MethodName := ⟨R_X, "process", "(I)I"⟩
abbrev b_X_resume : ByteArray := prog_1_method_10_code
def y_X_resume : MethodName := ⟨R_X, "resume", "(I)Z"⟩
abbrev b_X_isMade : ByteArray := prog_1_method_4_code
def y_X_isMade : MethodName := ⟨R_X, "isMade", "(I)Z"⟩
abbrev b_X_isInRow : ByteArray := prog_1_method_8_code
def y_X_isInRow : MethodName := ⟨R_X, "isInRow", "(I)Z"⟩
abbrev b_P_get : ByteArray := prog_3_method_2_code
def y_P_get : MethodName := ⟨R_P, "get", "(II)I"⟩
abbrev b_S_present : ByteArray := prog_4_method_9_code
def y_S_present : MethodName := ⟨R_S, "present", "()I"⟩
abbrev b_S_active : ByteArray := prog_4_method_8_code
def y_S_active : MethodName := ⟨R_S, "active", "()I"⟩
abbrev b_S_wake : ByteArray := prog_4_method_15_code
def y_S_wake : MethodName := ⟨R_S, "wake", "(I)V"⟩
abbrev b_S_priority : ByteArray := prog_4_method_11_code
def y_S_priority : MethodName := ⟨R_S, "priority", "(I)I"⟩
abbrev b_P_process : ByteArray := prog_3_method_6_code
def y_P_process : MethodName := ⟨R_P, "process", "(I)I"⟩
abbrev b_P_number : ByteArray := prog_3_method_4_code
def y_P_number : MethodName := ⟨R_P, "number", "(IIII)I"⟩
abbrev b_S_sleep : ByteArray := prog_4_method_13_code
def y_S_sleep : MethodName := ⟨R_S, "sleep", "(I)V"⟩
abbrev b_S_readyRow : ByteArray := prog_4_method_12_code
def y_S_readyRow : MethodName := ⟨R_S, "readyRow", "(I)I"⟩
abbrev b_P_row : ByteArray := prog_3_method_5_code
def y_P_row : MethodName := ⟨R_P, "row", "(I)I"⟩
abbrev b_S_addLast : ByteArray := prog_4_method_5_code
def y_S_addLast : MethodName := ⟨R_S, "addLast", "(II)V"⟩
abbrev b_S_isEmpty : ByteArray := prog_4_method_4_code
def y_S_isEmpty : MethodName := ⟨R_S, "isEmpty", "(I)Z"⟩
abbrev b_S_change : ByteArray := prog_4_method_14_code
def y_S_change : MethodName := ⟨R_S, "change", "(I)V"⟩
abbrev b_X_suspend : ByteArray := prog_1_method_11_code
def y_X_suspend : MethodName := ⟨R_X, "suspend", "()I"⟩
abbrev b_S_putAside : ByteArray := prog_4_method_16_code
def y_S_putAside : MethodName := ⟨R_S, "putAside", "()V"⟩
abbrev b_S_removeFirst : ByteArray := prog_4_method_6_code
def y_S_removeFirst : MethodName := ⟨R_S, "removeFirst", "(I)I"⟩
abbrev b_X_numberOf : ByteArray := prog_1_method_3_code
def y_X_numberOf : MethodName := ⟨R_X, "numberOf", "(I)I"⟩
abbrev b_X_end : ByteArray := prog_1_method_12_code
def y_X_end : MethodName := ⟨R_X, "end", "()I"⟩
abbrev b_S_forget : ByteArray := prog_4_method_23_code
def y_S_forget : MethodName := ⟨R_S, "forget", "(I)V"⟩
abbrev b_X_await : ByteArray := prog_1_method_13_code
def y_X_await : MethodName := ⟨R_X, "await", "(I)I"⟩
abbrev b_X_isSemaphore : ByteArray := prog_1_method_6_code
def y_X_isSemaphore : MethodName := ⟨R_X, "isSemaphore", "(I)Z"⟩
abbrev b_X_semaphore : ByteArray := prog_1_method_7_code
def y_X_semaphore : MethodName := ⟨R_X, "semaphore", "(I)I"⟩
abbrev b_S_await : ByteArray := prog_4_method_19_code
def y_S_await : MethodName := ⟨R_S, "await", "(I)Z"⟩
abbrev b_S_small : ByteArray := prog_4_method_3_code
def y_S_small : MethodName := ⟨R_S, "small", "(I)I"⟩
abbrev b_X_signal : ByteArray := prog_1_method_14_code
def y_X_signal : MethodName := ⟨R_X, "signal", "(I)Z"⟩
abbrev b_S_signal : ByteArray := prog_4_method_18_code
def y_S_signal : MethodName := ⟨R_S, "signal", "(I)V"⟩
abbrev b_X_post : ByteArray := prog_1_method_15_code
def y_X_post : MethodName := ⟨R_X, "post", "(I)I"⟩
abbrev b_S_post : ByteArray := prog_4_method_20_code
def y_S_post : MethodName := ⟨R_S, "post", "(I)I"⟩
abbrev b_X_step : ByteArray := prog_1_method_16_code
def y_X_step : MethodName := ⟨R_X, "step", "()I"⟩
abbrev b_S_step : ByteArray := prog_4_method_22_code
def y_S_step : MethodName := ⟨R_S, "step", "()Z"⟩
abbrev b_X_active : ByteArray := prog_1_method_21_code
def y_X_active : MethodName := ⟨R_X, "active", "()I"⟩
abbrev b_X_work : ByteArray := prog_1_method_17_code
def y_X_work : MethodName := ⟨R_X, "work", "(I)Z"⟩
abbrev b_S_isWanted : ByteArray := prog_4_method_10_code
def y_S_isWanted : MethodName := ⟨R_S, "isWanted", "()Z"⟩
abbrev b_X_take : ByteArray := prog_1_method_18_code
def y_X_take : MethodName := ⟨R_X, "take", "(I)Z"⟩
abbrev b_S_remove : ByteArray := prog_4_method_7_code
def y_S_remove : MethodName := ⟨R_S, "remove", "(I)V"⟩
abbrev b_X_rate : ByteArray := prog_1_method_19_code
def y_X_rate : MethodName := ⟨R_X, "rate", "(II)I"⟩
abbrev b_X_yield : ByteArray := prog_1_method_20_code
def y_X_yield : MethodName := ⟨R_X, "yield", "()Z"⟩
abbrev b_S_giveWay : ByteArray := prog_4_method_17_code
def y_S_giveWay : MethodName := ⟨R_S, "giveWay", "()Z"⟩
abbrev b_X_present : ByteArray := prog_1_method_22_code
def y_X_present : MethodName := ⟨R_X, "present", "()I"⟩
abbrev b_X_wanted : ByteArray := prog_1_method_23_code
def y_X_wanted : MethodName := ⟨R_X, "wanted", "()Z"⟩
abbrev b_X_here : ByteArray := prog_1_method_24_code
def y_X_here : MethodName := ⟨R_X, "here", "()I"⟩
abbrev b_X_place : ByteArray := prog_1_method_25_code
def y_X_place : MethodName := ⟨R_X, "place", "(I)I"⟩
abbrev b_X_priority : ByteArray := prog_1_method_26_code
def y_X_priority : MethodName := ⟨R_X, "priority", "(I)I"⟩
abbrev b_X_row : ByteArray := prog_1_method_27_code
def y_X_row : MethodName := ⟨R_X, "row", "(I)I"⟩
abbrev b_X_at : ByteArray := prog_1_method_28_code
def y_X_at : MethodName := ⟨R_X, "at", "(II)I"⟩
abbrev b_X_extra : ByteArray := prog_1_method_29_code
def y_X_extra : MethodName := ⟨R_X, "extra", "(I)I"⟩
abbrev b_X_posted : ByteArray := prog_1_method_30_code
def y_X_posted : MethodName := ⟨R_X, "posted", "(I)I"⟩
abbrev b_S_posted : ByteArray := prog_4_method_21_code
def y_S_posted : MethodName := ⟨R_S, "posted", "(I)I"⟩
abbrev b_M_init : ByteArray := prog_6_method_1_code
def y_M_init : MethodName := ⟨R_M, "<init>", "()V"⟩
abbrev b_M_make : ByteArray := prog_6_method_13_code
def y_M_make : MethodName := ⟨R_M, "make", "(III)Z"⟩
abbrev b_M_isProcess : ByteArray := prog_6_method_2_code
def y_M_isProcess : MethodName := ⟨R_M, "isProcess", "(I)Z"⟩
abbrev b_M_isPriority : ByteArray := prog_6_method_5_code
def y_M_isPriority : MethodName := ⟨R_M, "isPriority", "(I)Z"⟩
abbrev b_M_resume : ByteArray := prog_6_method_14_code
def y_M_resume : MethodName := ⟨R_M, "resume", "(I)Z"⟩
abbrev b_M_isMade : ByteArray := prog_6_method_3_code
def y_M_isMade : MethodName := ⟨R_M, "isMade", "(I)Z"⟩
abbrev b_M_presentOne : ByteArray := prog_6_method_8_code
def y_M_presentOne : MethodName := ⟨R_M, "presentOne", "()I"⟩
abbrev b_M_wake : ByteArray := prog_6_method_10_code
def y_M_wake : MethodName := ⟨R_M, "wake", "(I)V"⟩
abbrev b_M_enter : ByteArray := prog_6_method_6_code
def y_M_enter : MethodName := ⟨R_M, "enter", "(II)V"⟩
abbrev b_M_want : ByteArray := prog_6_method_9_code
def y_M_want : MethodName := ⟨R_M, "want", "(I)V"⟩
abbrev b_M_suspend : ByteArray := prog_6_method_15_code
def y_M_suspend : MethodName := ⟨R_M, "suspend", "()I"⟩
abbrev b_M_putAside : ByteArray := prog_6_method_11_code
def y_M_putAside : MethodName := ⟨R_M, "putAside", "()V"⟩
abbrev b_M_find : ByteArray := prog_6_method_7_code
def y_M_find : MethodName := ⟨R_M, "find", "(II)I"⟩
abbrev b_M_end : ByteArray := prog_6_method_16_code
def y_M_end : MethodName := ⟨R_M, "end", "()I"⟩
abbrev b_M_await : ByteArray := prog_6_method_17_code
def y_M_await : MethodName := ⟨R_M, "await", "(I)I"⟩
abbrev b_M_isSemaphore : ByteArray := prog_6_method_4_code
def y_M_isSemaphore : MethodName := ⟨R_M, "isSemaphore", "(I)Z"⟩
abbrev b_M_signal : ByteArray := prog_6_method_18_code
def y_M_signal : MethodName := ⟨R_M, "signal", "(I)Z"⟩
abbrev b_M_give : ByteArray := prog_6_method_12_code
def y_M_give : MethodName := ⟨R_M, "give", "(I)V"⟩
abbrev b_M_post : ByteArray := prog_6_method_19_code
def y_M_post : MethodName := ⟨R_M, "post", "(I)I"⟩
abbrev b_M_step : ByteArray := prog_6_method_20_code
def y_M_step : MethodName := ⟨R_M, "step", "()I"⟩
abbrev b_M_work : ByteArray := prog_6_method_21_code
def y_M_work : MethodName := ⟨R_M, "work", "(I)Z"⟩
abbrev b_M_take : ByteArray := prog_6_method_22_code
def y_M_take : MethodName := ⟨R_M, "take", "(I)Z"⟩
abbrev b_M_rate : ByteArray := prog_6_method_23_code
def y_M_rate : MethodName := ⟨R_M, "rate", "(II)I"⟩
abbrev b_M_yield : ByteArray := prog_6_method_24_code
def y_M_yield : MethodName := ⟨R_M, "yield", "()Z"⟩
abbrev b_M_active : ByteArray := prog_6_method_25_code
def y_M_active : MethodName := ⟨R_M, "active", "()I"⟩
abbrev b_M_present : ByteArray := prog_6_method_26_code
def y_M_present : MethodName := ⟨R_M, "present", "()I"⟩
abbrev b_M_wanted : ByteArray := prog_6_method_27_code
def y_M_wanted : MethodName := ⟨R_M, "wanted", "()Z"⟩
abbrev b_M_here : ByteArray := prog_6_method_28_code
def y_M_here : MethodName := ⟨R_M, "here", "()I"⟩
abbrev b_M_place : ByteArray := prog_6_method_29_code
def y_M_place : MethodName := ⟨R_M, "place", "(I)I"⟩
abbrev b_M_priority : ByteArray := prog_6_method_30_code
def y_M_priority : MethodName := ⟨R_M, "priority", "(I)I"⟩
abbrev b_M_row : ByteArray := prog_6_method_31_code
def y_M_row : MethodName := ⟨R_M, "row", "(I)I"⟩
abbrev b_M_at : ByteArray := prog_6_method_32_code
def y_M_at : MethodName := ⟨R_M, "at", "(II)I"⟩
abbrev b_M_extra : ByteArray := prog_6_method_33_code
def y_M_extra : MethodName := ⟨R_M, "extra", "(I)I"⟩
abbrev b_M_posted : ByteArray := prog_6_method_34_code
def y_M_posted : MethodName := ⟨R_M, "posted", "(I)I"⟩
def F_P : u_T := fun k => match k with
  | 0 => ("ProcessRoom$Plain", "cells", "[I", true)
  | _ => ("ProcessRoom$Plain", "rows", "[I", true)
def t_P : Nat → FieldType := fun k => match k with
  | 0 => .array (.int)
  | _ => .array (.int)
theorem n_P : ∀ a, a < 2 → ∀ b, b < 2 → a ≠ b → (F_P a).2.1 ≠ (F_P b).2.1 := by decide +kernel
theorem t_P_ok : ∀ k, k < 2 → parseFieldDescriptor (F_P k).2.2.1 = some (t_P k) := by decide +kernel
theorem i_P : ∀ w ∈ u_ws R_P F_P 2, w ∈ w_all := by decide +kernel
def F_S : u_T := fun k => match k with
  | 0 => ("ProcessRoom$Scheduler", "fields", "LProcessRoom$Links;", true)
  | 1 => ("ProcessRoom$Scheduler", "scheduler", "I", false)
  | 2 => ("ProcessRoom$Scheduler", "wanted", "Z", false)
  | 3 => ("ProcessRoom$Scheduler", "wantedProcess", "I", false)
  | 4 => ("ProcessRoom$Scheduler", "posts", "[I", true)
  | 5 => ("ProcessRoom$Scheduler", "postCount", "I", false)
  | _ => ("ProcessRoom$Scheduler", "here", "I", false)
def t_S : Nat → FieldType := fun k => match k with
  | 0 => .object "ProcessRoom$Links"
  | 1 => .int
  | 2 => .boolean
  | 3 => .int
  | 4 => .array (.int)
  | 5 => .int
  | _ => .int
theorem n_S : ∀ a, a < 7 → ∀ b, b < 7 → a ≠ b → (F_S a).2.1 ≠ (F_S b).2.1 := by decide +kernel
theorem t_S_ok : ∀ k, k < 7 → parseFieldDescriptor (F_S k).2.2.1 = some (t_S k) := by decide +kernel
theorem i_S : ∀ w ∈ u_ws R_S F_S 7, w ∈ w_all := by decide +kernel
def F_X : u_T := fun k => match k with
  | 0 => ("ProcessRoom", "plain", "LProcessRoom$Plain;", true)
  | 1 => ("ProcessRoom", "scheduler", "LProcessRoom$Scheduler;", true)
  | _ => ("ProcessRoom", "made", "[Z", true)
def t_X : Nat → FieldType := fun k => match k with
  | 0 => .object "ProcessRoom$Plain"
  | 1 => .object "ProcessRoom$Scheduler"
  | _ => .array (.boolean)
theorem n_X : ∀ a, a < 3 → ∀ b, b < 3 → a ≠ b → (F_X a).2.1 ≠ (F_X b).2.1 := by decide +kernel
theorem t_X_ok : ∀ k, k < 3 → parseFieldDescriptor (F_X k).2.2.1 = some (t_X k) := by decide +kernel
theorem i_X : ∀ w ∈ u_ws R_X F_X 3, w ∈ w_all := by decide +kernel
def F_M : u_T := fun k => match k with
  | 0 => ("ProcessRoomModel", "made", "[Z", true)
  | 1 => ("ProcessRoomModel", "priorities", "[I", true)
  | 2 => ("ProcessRoomModel", "places", "[I", true)
  | 3 => ("ProcessRoomModel", "rows", "[I", true)
  | 4 => ("ProcessRoomModel", "when", "[J", true)
  | 5 => ("ProcessRoomModel", "now", "J", false)
  | 6 => ("ProcessRoomModel", "extras", "[I", true)
  | 7 => ("ProcessRoomModel", "posts", "I", false)
  | 8 => ("ProcessRoomModel", "posted", "[I", true)
  | 9 => ("ProcessRoomModel", "active", "I", false)
  | 10 => ("ProcessRoomModel", "here", "I", false)
  | 11 => ("ProcessRoomModel", "wanted", "Z", false)
  | _ => ("ProcessRoomModel", "change", "I", false)
def t_M : Nat → FieldType := fun k => match k with
  | 0 => .array (.boolean)
  | 1 => .array (.int)
  | 2 => .array (.int)
  | 3 => .array (.int)
  | 4 => .array (.long)
  | 5 => .long
  | 6 => .array (.int)
  | 7 => .int
  | 8 => .array (.int)
  | 9 => .int
  | 10 => .int
  | 11 => .boolean
  | _ => .int
theorem n_M : ∀ a, a < 13 → ∀ b, b < 13 → a ≠ b → (F_M a).2.1 ≠ (F_M b).2.1 := by decide +kernel
theorem t_M_ok : ∀ k, k < 13 → parseFieldDescriptor (F_M k).2.2.1 = some (t_M k) := by decide +kernel
theorem i_M : ∀ w ∈ u_ws R_M F_M 13, w ∈ w_all := by decide +kernel
abbrev cls : List vw_C := [(R_X, F_X, 3), (R_P, F_P, 2), (R_S, F_S, 7), (R_M, F_M, 13)]
theorem se_X_isMade : (.selects R_X y_X_isMade y_X_isMade : Cond) ∈ w_all := wa_in (List.mem_of_getElem? (i := 0) (by decide +kernel)) rfl
theorem se_X_isInRow : (.selects R_X y_X_isInRow y_X_isInRow : Cond) ∈ w_all := wa_in (List.mem_of_getElem? (i := 1) (by decide +kernel)) rfl
theorem se_S_sleep : (.selects R_S y_S_sleep y_S_sleep : Cond) ∈ w_all := wa_in (List.mem_of_getElem? (i := 2) (by decide +kernel)) rfl
theorem se_S_change : (.selects R_S y_S_change y_S_change : Cond) ∈ w_all := wa_in (List.mem_of_getElem? (i := 3) (by decide +kernel)) rfl
theorem se_M_isMade : (.selects R_M y_M_isMade y_M_isMade : Cond) ∈ w_all := wa_in (List.mem_of_getElem? (i := 4) (by decide +kernel)) rfl
theorem se_M_presentOne : (.selects R_M y_M_presentOne y_M_presentOne : Cond) ∈ w_all := wa_in (List.mem_of_getElem? (i := 5) (by decide +kernel)) rfl
theorem se_M_wake : (.selects R_M y_M_wake y_M_wake : Cond) ∈ w_all := wa_in (List.mem_of_getElem? (i := 6) (by decide +kernel)) rfl
theorem se_M_enter : (.selects R_M y_M_enter y_M_enter : Cond) ∈ w_all := wa_in (List.mem_of_getElem? (i := 7) (by decide +kernel)) rfl
theorem se_M_want : (.selects R_M y_M_want y_M_want : Cond) ∈ w_all := wa_in (List.mem_of_getElem? (i := 8) (by decide +kernel)) rfl
theorem se_M_putAside : (.selects R_M y_M_putAside y_M_putAside : Cond) ∈ w_all := wa_in (List.mem_of_getElem? (i := 9) (by decide +kernel)) rfl
theorem se_M_find : (.selects R_M y_M_find y_M_find : Cond) ∈ w_all := wa_in (List.mem_of_getElem? (i := 10) (by decide +kernel)) rfl
theorem se_M_give : (.selects R_M y_M_give y_M_give : Cond) ∈ w_all := wa_in (List.mem_of_getElem? (i := 11) (by decide +kernel)) rfl
theorem ini_W : (.initialized R_W : Cond) ∈ w_all := wa_in (List.mem_of_getElem? (i := 12) (by decide +kernel)) rfl
theorem ini_X : (.initialized R_X : Cond) ∈ w_all := wa_in (List.mem_of_getElem? (i := 13) (by decide +kernel)) rfl
theorem ini_L : (.initialized R_L : Cond) ∈ w_all := wa_in (List.mem_of_getElem? (i := 14) (by decide +kernel)) rfl
theorem ini_P : (.initialized R_P : Cond) ∈ w_all := wa_in (List.mem_of_getElem? (i := 15) (by decide +kernel)) rfl
theorem ini_S : (.initialized R_S : Cond) ∈ w_all := wa_in (List.mem_of_getElem? (i := 16) (by decide +kernel)) rfl
theorem ini_M : (.initialized R_M : Cond) ∈ w_all := wa_in (List.mem_of_getElem? (i := 17) (by decide +kernel)) rfl
theorem cl_W_7 : (.classLink R_W 7 R_X : Cond) ∈ w_all := wa_in (List.mem_of_getElem? (i := 18) (by decide +kernel)) rfl
theorem ins_X : (.instantiable R_X 3 : Cond) ∈ w_all := wa_in (List.mem_of_getElem? (i := 19) (by decide +kernel)) rfl
theorem ml_W_9 : (.methodLink R_W 9 y_X_init : Cond) ∈ w_all := wa_in (List.mem_of_getElem? (i := 20) (by decide +kernel)) rfl
theorem im_X_init : (.instanceMethod y_X_init : Cond) ∈ w_all := wa_in (List.mem_of_getElem? (i := 21) (by decide +kernel)) rfl
theorem cd_X_init : (.code y_X_init b_X_init 2 none : Cond) ∈ w_all := wa_in (List.mem_of_getElem? (i := 22) (by decide +kernel)) rfl
theorem ml_X_1 : (.methodLink R_X 1 objectInit : Cond) ∈ w_all := wa_in (List.mem_of_getElem? (i := 23) (by decide +kernel)) rfl
theorem im_O_init : (.instanceMethod objectInit : Cond) ∈ w_all := wa_in (List.mem_of_getElem? (i := 24) (by decide +kernel)) rfl
theorem cd_O_init : (.code objectInit ⟨#[0xb1]⟩ 1 none : Cond) ∈ w_all := wa_in (List.mem_of_getElem? (i := 25) (by decide +kernel)) rfl
theorem cl_X_7 : (.classLink R_X 7 R_P : Cond) ∈ w_all := wa_in (List.mem_of_getElem? (i := 26) (by decide +kernel)) rfl
theorem ins_P : (.instantiable R_P 2 : Cond) ∈ w_all := wa_in (List.mem_of_getElem? (i := 27) (by decide +kernel)) rfl
theorem im_P_init : (.instanceMethod y_P_init : Cond) ∈ w_all := wa_in (List.mem_of_getElem? (i := 29) (by decide +kernel)) rfl
theorem cd_P_init : (.code y_P_init b_P_init 1 none : Cond) ∈ w_all := wa_in (List.mem_of_getElem? (i := 30) (by decide +kernel)) rfl
theorem im_L_init : (.instanceMethod y_L_init : Cond) ∈ w_all := wa_in (List.mem_of_getElem? (i := 32) (by decide +kernel)) rfl
theorem cd_L_init : (.code y_L_init b_L_init 1 none : Cond) ∈ w_all := wa_in (List.mem_of_getElem? (i := 33) (by decide +kernel)) rfl
theorem ml_L_1 : (.methodLink R_L 1 objectInit : Cond) ∈ w_all := wa_in (List.mem_of_getElem? (i := 34) (by decide +kernel)) rfl
theorem fl_P_9 : (.fieldLink R_P 9 "ProcessRoom$Plain" "cells" "[I" : Cond) ∈ w_all := wa_in (List.mem_of_getElem? (i := 35) (by decide +kernel)) rfl
theorem fl_P_15 : (.fieldLink R_P 15 "ProcessRoom$Plain" "rows" "[I" : Cond) ∈ w_all := wa_in (List.mem_of_getElem? (i := 36) (by decide +kernel)) rfl
theorem ac_int : (.arrayClass .int : Cond) ∈ w_all := wa_in (List.mem_of_getElem? (i := 42) (by decide +kernel)) rfl
theorem cl_X_16 : (.classLink R_X 16 R_S : Cond) ∈ w_all := wa_in (List.mem_of_getElem? (i := 43) (by decide +kernel)) rfl
theorem ins_S : (.instantiable R_S 7 : Cond) ∈ w_all := wa_in (List.mem_of_getElem? (i := 44) (by decide +kernel)) rfl
theorem ml_X_18 : (.methodLink R_X 18 y_S_init : Cond) ∈ w_all := wa_in (List.mem_of_getElem? (i := 45) (by decide +kernel)) rfl
theorem im_S_init : (.instanceMethod y_S_init : Cond) ∈ w_all := wa_in (List.mem_of_getElem? (i := 46) (by decide +kernel)) rfl
theorem cd_S_init : (.code y_S_init b_S_init 3 none : Cond) ∈ w_all := wa_in (List.mem_of_getElem? (i := 47) (by decide +kernel)) rfl
theorem ml_S_3 : (.methodLink R_S 3 objectInit : Cond) ∈ w_all := wa_in (List.mem_of_getElem? (i := 48) (by decide +kernel)) rfl
theorem fl_S_9 : (.fieldLink R_S 9 "ProcessRoom$Scheduler" "fields" "LProcessRoom$Links;" : Cond) ∈ w_all := wa_in (List.mem_of_getElem? (i := 49) (by decide +kernel)) rfl
theorem fl_S_19 : (.fieldLink R_S 19 "ProcessRoom$Scheduler" "scheduler" "I" : Cond) ∈ w_all := wa_in (List.mem_of_getElem? (i := 50) (by decide +kernel)) rfl
theorem fl_S_23 : (.fieldLink R_S 23 "ProcessRoom$Scheduler" "wanted" "Z" : Cond) ∈ w_all := wa_in (List.mem_of_getElem? (i := 51) (by decide +kernel)) rfl
theorem fl_S_27 : (.fieldLink R_S 27 "ProcessRoom$Scheduler" "wantedProcess" "I" : Cond) ∈ w_all := wa_in (List.mem_of_getElem? (i := 52) (by decide +kernel)) rfl
theorem fl_S_15 : (.fieldLink R_S 15 "ProcessRoom$Scheduler" "posts" "[I" : Cond) ∈ w_all := wa_in (List.mem_of_getElem? (i := 53) (by decide +kernel)) rfl
theorem fl_S_30 : (.fieldLink R_S 30 "ProcessRoom$Scheduler" "postCount" "I" : Cond) ∈ w_all := wa_in (List.mem_of_getElem? (i := 54) (by decide +kernel)) rfl
theorem fl_S_33 : (.fieldLink R_S 33 "ProcessRoom$Scheduler" "here" "I" : Cond) ∈ w_all := wa_in (List.mem_of_getElem? (i := 55) (by decide +kernel)) rfl
theorem fl_X_97 : (.fieldLink R_X 97 "ProcessRoom$Scheduler" "here" "I" : Cond) ∈ w_all := wa_in (List.mem_of_getElem? (i := 56) (by decide +kernel)) rfl
theorem ml_X_29 : (.methodLink R_X 29 y_P_put : Cond) ∈ w_all := wa_in (List.mem_of_getElem? (i := 72) (by decide +kernel)) rfl
theorem im_P_put : (.instanceMethod y_P_put : Cond) ∈ w_all := wa_in (List.mem_of_getElem? (i := 73) (by decide +kernel)) rfl
theorem se_P_put : (.selects R_P y_P_put y_P_put : Cond) ∈ w_all := wa_in (List.mem_of_getElem? (i := 74) (by decide +kernel)) rfl
theorem cd_P_put : (.code y_P_put b_P_put 4 none : Cond) ∈ w_all := wa_in (List.mem_of_getElem? (i := 75) (by decide +kernel)) rfl
theorem ml_X_33 : (.methodLink R_X 33 y_S_begin : Cond) ∈ w_all := wa_in (List.mem_of_getElem? (i := 76) (by decide +kernel)) rfl
theorem im_S_begin : (.instanceMethod y_S_begin : Cond) ∈ w_all := wa_in (List.mem_of_getElem? (i := 77) (by decide +kernel)) rfl
theorem se_S_begin : (.selects R_S y_S_begin y_S_begin : Cond) ∈ w_all := wa_in (List.mem_of_getElem? (i := 78) (by decide +kernel)) rfl
theorem cd_S_begin : (.code y_S_begin b_S_begin 2 none : Cond) ∈ w_all := wa_in (List.mem_of_getElem? (i := 79) (by decide +kernel)) rfl
theorem fl_X_10 : (.fieldLink R_X 10 "ProcessRoom" "plain" "LProcessRoom$Plain;" : Cond) ∈ w_all := wa_in (List.mem_of_getElem? (i := 80) (by decide +kernel)) rfl
theorem fl_X_21 : (.fieldLink R_X 21 "ProcessRoom" "scheduler" "LProcessRoom$Scheduler;" : Cond) ∈ w_all := wa_in (List.mem_of_getElem? (i := 81) (by decide +kernel)) rfl
theorem fl_X_25 : (.fieldLink R_X 25 "ProcessRoom" "made" "[Z" : Cond) ∈ w_all := wa_in (List.mem_of_getElem? (i := 82) (by decide +kernel)) rfl
theorem ac_boolean : (.arrayClass .boolean : Cond) ∈ w_all := wa_in (List.mem_of_getElem? (i := 90) (by decide +kernel)) rfl
theorem ml_W_13 : (.methodLink R_W 13 y_X_make : Cond) ∈ w_all := wa_in (List.mem_of_getElem? (i := 91) (by decide +kernel)) rfl
theorem im_X_make : (.instanceMethod y_X_make : Cond) ∈ w_all := wa_in (List.mem_of_getElem? (i := 92) (by decide +kernel)) rfl
theorem se_X_make : (.selects R_X y_X_make y_X_make : Cond) ∈ w_all := wa_in (List.mem_of_getElem? (i := 93) (by decide +kernel)) rfl
theorem cd_X_make : (.code y_X_make b_X_make 4 (some .boolean) : Cond) ∈ w_all := wa_in (List.mem_of_getElem? (i := 94) (by decide +kernel)) rfl
theorem ml_X_49 : (.methodLink R_X 49 y_X_isPriority : Cond) ∈ w_all := wa_in (List.mem_of_getElem? (i := 95) (by decide +kernel)) rfl
theorem st_X_isPriority : (.static y_X_isPriority : Cond) ∈ w_all := wa_in (List.mem_of_getElem? (i := 96) (by decide +kernel)) rfl
theorem cd_X_isPriority : (.code y_X_isPriority b_X_isPriority 1 (some .boolean) : Cond) ∈ w_all := wa_in (List.mem_of_getElem? (i := 97) (by decide +kernel)) rfl
theorem ml_X_41 : (.methodLink R_X 41 y_X_process : Cond) ∈ w_all := wa_in (List.mem_of_getElem? (i := 98) (by decide +kernel)) rfl
theorem st_X_process : (.static y_X_process : Cond) ∈ w_all := wa_in (List.mem_of_getElem? (i := 99) (by decide +kernel)) rfl
theorem cd_X_process : (.code y_X_process b_X_process 1 (some .int) : Cond) ∈ w_all := wa_in (List.mem_of_getElem? (i := 100) (by decide +kernel)) rfl
theorem ml_W_18 : (.methodLink R_W 18 y_X_resume : Cond) ∈ w_all := wa_in (List.mem_of_getElem? (i := 101) (by decide +kernel)) rfl
theorem im_X_resume : (.instanceMethod y_X_resume : Cond) ∈ w_all := wa_in (List.mem_of_getElem? (i := 102) (by decide +kernel)) rfl
theorem se_X_resume : (.selects R_X y_X_resume y_X_resume : Cond) ∈ w_all := wa_in (List.mem_of_getElem? (i := 103) (by decide +kernel)) rfl
theorem cd_X_resume : (.code y_X_resume b_X_resume 2 (some .boolean) : Cond) ∈ w_all := wa_in (List.mem_of_getElem? (i := 104) (by decide +kernel)) rfl
theorem ml_X_37 : (.methodLink R_X 37 y_X_isMade : Cond) ∈ w_all := wa_in (List.mem_of_getElem? (i := 105) (by decide +kernel)) rfl
theorem im_X_isMade : (.instanceMethod y_X_isMade : Cond) ∈ w_all := wa_in (List.mem_of_getElem? (i := 107) (by decide +kernel)) rfl
theorem cd_X_isMade : (.code y_X_isMade b_X_isMade 2 (some .boolean) : Cond) ∈ w_all := wa_in (List.mem_of_getElem? (i := 108) (by decide +kernel)) rfl
theorem ml_X_52 : (.methodLink R_X 52 y_X_isInRow : Cond) ∈ w_all := wa_in (List.mem_of_getElem? (i := 109) (by decide +kernel)) rfl
theorem im_X_isInRow : (.instanceMethod y_X_isInRow : Cond) ∈ w_all := wa_in (List.mem_of_getElem? (i := 111) (by decide +kernel)) rfl
theorem cd_X_isInRow : (.code y_X_isInRow b_X_isInRow 2 (some .boolean) : Cond) ∈ w_all := wa_in (List.mem_of_getElem? (i := 112) (by decide +kernel)) rfl
theorem ml_X_45 : (.methodLink R_X 45 y_P_get : Cond) ∈ w_all := wa_in (List.mem_of_getElem? (i := 113) (by decide +kernel)) rfl
theorem im_P_get : (.instanceMethod y_P_get : Cond) ∈ w_all := wa_in (List.mem_of_getElem? (i := 114) (by decide +kernel)) rfl
theorem se_P_get : (.selects R_P y_P_get y_P_get : Cond) ∈ w_all := wa_in (List.mem_of_getElem? (i := 115) (by decide +kernel)) rfl
theorem cd_P_get : (.code y_P_get b_P_get 3 (some .int) : Cond) ∈ w_all := wa_in (List.mem_of_getElem? (i := 116) (by decide +kernel)) rfl
theorem ml_X_55 : (.methodLink R_X 55 y_S_present : Cond) ∈ w_all := wa_in (List.mem_of_getElem? (i := 117) (by decide +kernel)) rfl
theorem im_S_present : (.instanceMethod y_S_present : Cond) ∈ w_all := wa_in (List.mem_of_getElem? (i := 118) (by decide +kernel)) rfl
theorem se_S_present : (.selects R_S y_S_present y_S_present : Cond) ∈ w_all := wa_in (List.mem_of_getElem? (i := 119) (by decide +kernel)) rfl
theorem cd_S_present : (.code y_S_present b_S_present 1 (some .int) : Cond) ∈ w_all := wa_in (List.mem_of_getElem? (i := 120) (by decide +kernel)) rfl
theorem ml_S_57 : (.methodLink R_S 57 y_S_active : Cond) ∈ w_all := wa_in (List.mem_of_getElem? (i := 121) (by decide +kernel)) rfl
theorem im_S_active : (.instanceMethod y_S_active : Cond) ∈ w_all := wa_in (List.mem_of_getElem? (i := 122) (by decide +kernel)) rfl
theorem se_S_active : (.selects R_S y_S_active y_S_active : Cond) ∈ w_all := wa_in (List.mem_of_getElem? (i := 123) (by decide +kernel)) rfl
theorem cd_S_active : (.code y_S_active b_S_active 1 (some .int) : Cond) ∈ w_all := wa_in (List.mem_of_getElem? (i := 124) (by decide +kernel)) rfl
theorem ml_S_36 : (.methodLink R_S 36 ⟨R_L, "get", "(II)I"⟩ : Cond) ∈ w_all := wa_in (List.mem_of_getElem? (i := 125) (by decide +kernel)) rfl
theorem sm_get : (.sameMethod R_L R_L "get" "(II)I" : Cond) ∈ w_all := wa_in (List.mem_of_getElem? (i := 127) (by decide +kernel)) rfl
theorem sa_P_get : (.selects R_P ⟨R_L, "get", "(II)I"⟩ y_P_get : Cond) ∈ w_all := wa_in (List.mem_of_getElem? (i := 128) (by decide +kernel)) rfl
theorem ml_X_59 : (.methodLink R_X 59 y_S_active : Cond) ∈ w_all := wa_in (List.mem_of_getElem? (i := 129) (by decide +kernel)) rfl
theorem ml_X_62 : (.methodLink R_X 62 y_S_wake : Cond) ∈ w_all := wa_in (List.mem_of_getElem? (i := 130) (by decide +kernel)) rfl
theorem im_S_wake : (.instanceMethod y_S_wake : Cond) ∈ w_all := wa_in (List.mem_of_getElem? (i := 131) (by decide +kernel)) rfl
theorem se_S_wake : (.selects R_S y_S_wake y_S_wake : Cond) ∈ w_all := wa_in (List.mem_of_getElem? (i := 132) (by decide +kernel)) rfl
theorem cd_S_wake : (.code y_S_wake b_S_wake 3 none : Cond) ∈ w_all := wa_in (List.mem_of_getElem? (i := 133) (by decide +kernel)) rfl
theorem ml_S_78 : (.methodLink R_S 78 y_S_present : Cond) ∈ w_all := wa_in (List.mem_of_getElem? (i := 134) (by decide +kernel)) rfl
theorem ml_S_68 : (.methodLink R_S 68 y_S_priority : Cond) ∈ w_all := wa_in (List.mem_of_getElem? (i := 135) (by decide +kernel)) rfl
theorem im_S_priority : (.instanceMethod y_S_priority : Cond) ∈ w_all := wa_in (List.mem_of_getElem? (i := 136) (by decide +kernel)) rfl
theorem se_S_priority : (.selects R_S y_S_priority y_S_priority : Cond) ∈ w_all := wa_in (List.mem_of_getElem? (i := 137) (by decide +kernel)) rfl
theorem cd_S_priority : (.code y_S_priority b_S_priority 2 (some .int) : Cond) ∈ w_all := wa_in (List.mem_of_getElem? (i := 138) (by decide +kernel)) rfl
theorem ml_S_42 : (.methodLink R_S 42 ⟨R_L, "process", "(I)I"⟩ : Cond) ∈ w_all := wa_in (List.mem_of_getElem? (i := 139) (by decide +kernel)) rfl
theorem sm_process : (.sameMethod R_L R_L "process" "(I)I" : Cond) ∈ w_all := wa_in (List.mem_of_getElem? (i := 141) (by decide +kernel)) rfl
theorem sa_P_process : (.selects R_P ⟨R_L, "process", "(I)I"⟩ y_P_process : Cond) ∈ w_all := wa_in (List.mem_of_getElem? (i := 142) (by decide +kernel)) rfl
theorem im_P_process : (.instanceMethod y_P_process : Cond) ∈ w_all := wa_in (List.mem_of_getElem? (i := 143) (by decide +kernel)) rfl
theorem cd_P_process : (.code y_P_process b_P_process 2 (some .int) : Cond) ∈ w_all := wa_in (List.mem_of_getElem? (i := 144) (by decide +kernel)) rfl
theorem ml_S_61 : (.methodLink R_S 61 ⟨R_L, "number", "(IIII)I"⟩ : Cond) ∈ w_all := wa_in (List.mem_of_getElem? (i := 145) (by decide +kernel)) rfl
theorem sm_number : (.sameMethod R_L R_L "number" "(IIII)I" : Cond) ∈ w_all := wa_in (List.mem_of_getElem? (i := 147) (by decide +kernel)) rfl
theorem sa_P_number : (.selects R_P ⟨R_L, "number", "(IIII)I"⟩ y_P_number : Cond) ∈ w_all := wa_in (List.mem_of_getElem? (i := 148) (by decide +kernel)) rfl
theorem im_P_number : (.instanceMethod y_P_number : Cond) ∈ w_all := wa_in (List.mem_of_getElem? (i := 149) (by decide +kernel)) rfl
theorem cd_P_number : (.code y_P_number b_P_number 5 (some .int) : Cond) ∈ w_all := wa_in (List.mem_of_getElem? (i := 150) (by decide +kernel)) rfl
theorem ml_P_18 : (.methodLink R_P 18 y_P_get : Cond) ∈ w_all := wa_in (List.mem_of_getElem? (i := 151) (by decide +kernel)) rfl
theorem ml_S_81 : (.methodLink R_S 81 y_S_sleep : Cond) ∈ w_all := wa_in (List.mem_of_getElem? (i := 152) (by decide +kernel)) rfl
theorem im_S_sleep : (.instanceMethod y_S_sleep : Cond) ∈ w_all := wa_in (List.mem_of_getElem? (i := 154) (by decide +kernel)) rfl
theorem cd_S_sleep : (.code y_S_sleep b_S_sleep 2 none : Cond) ∈ w_all := wa_in (List.mem_of_getElem? (i := 155) (by decide +kernel)) rfl
theorem ml_S_71 : (.methodLink R_S 71 y_S_readyRow : Cond) ∈ w_all := wa_in (List.mem_of_getElem? (i := 156) (by decide +kernel)) rfl
theorem im_S_readyRow : (.instanceMethod y_S_readyRow : Cond) ∈ w_all := wa_in (List.mem_of_getElem? (i := 157) (by decide +kernel)) rfl
theorem se_S_readyRow : (.selects R_S y_S_readyRow y_S_readyRow : Cond) ∈ w_all := wa_in (List.mem_of_getElem? (i := 158) (by decide +kernel)) rfl
theorem cd_S_readyRow : (.code y_S_readyRow b_S_readyRow 2 (some .int) : Cond) ∈ w_all := wa_in (List.mem_of_getElem? (i := 159) (by decide +kernel)) rfl
theorem ml_S_65 : (.methodLink R_S 65 ⟨R_L, "row", "(I)I"⟩ : Cond) ∈ w_all := wa_in (List.mem_of_getElem? (i := 160) (by decide +kernel)) rfl
theorem sm_row : (.sameMethod R_L R_L "row" "(I)I" : Cond) ∈ w_all := wa_in (List.mem_of_getElem? (i := 162) (by decide +kernel)) rfl
theorem sa_P_row : (.selects R_P ⟨R_L, "row", "(I)I"⟩ y_P_row : Cond) ∈ w_all := wa_in (List.mem_of_getElem? (i := 163) (by decide +kernel)) rfl
theorem im_P_row : (.instanceMethod y_P_row : Cond) ∈ w_all := wa_in (List.mem_of_getElem? (i := 164) (by decide +kernel)) rfl
theorem cd_P_row : (.code y_P_row b_P_row 2 (some .int) : Cond) ∈ w_all := wa_in (List.mem_of_getElem? (i := 165) (by decide +kernel)) rfl
theorem ml_S_74 : (.methodLink R_S 74 y_S_addLast : Cond) ∈ w_all := wa_in (List.mem_of_getElem? (i := 166) (by decide +kernel)) rfl
theorem im_S_addLast : (.instanceMethod y_S_addLast : Cond) ∈ w_all := wa_in (List.mem_of_getElem? (i := 167) (by decide +kernel)) rfl
theorem se_S_addLast : (.selects R_S y_S_addLast y_S_addLast : Cond) ∈ w_all := wa_in (List.mem_of_getElem? (i := 168) (by decide +kernel)) rfl
theorem cd_S_addLast : (.code y_S_addLast b_S_addLast 3 none : Cond) ∈ w_all := wa_in (List.mem_of_getElem? (i := 169) (by decide +kernel)) rfl
theorem ml_S_46 : (.methodLink R_S 46 y_S_isEmpty : Cond) ∈ w_all := wa_in (List.mem_of_getElem? (i := 170) (by decide +kernel)) rfl
theorem im_S_isEmpty : (.instanceMethod y_S_isEmpty : Cond) ∈ w_all := wa_in (List.mem_of_getElem? (i := 171) (by decide +kernel)) rfl
theorem se_S_isEmpty : (.selects R_S y_S_isEmpty y_S_isEmpty : Cond) ∈ w_all := wa_in (List.mem_of_getElem? (i := 172) (by decide +kernel)) rfl
theorem cd_S_isEmpty : (.code y_S_isEmpty b_S_isEmpty 2 (some .boolean) : Cond) ∈ w_all := wa_in (List.mem_of_getElem? (i := 173) (by decide +kernel)) rfl
theorem ml_S_50 : (.methodLink R_S 50 ⟨R_L, "put", "(III)V"⟩ : Cond) ∈ w_all := wa_in (List.mem_of_getElem? (i := 174) (by decide +kernel)) rfl
theorem sm_put : (.sameMethod R_L R_L "put" "(III)V" : Cond) ∈ w_all := wa_in (List.mem_of_getElem? (i := 176) (by decide +kernel)) rfl
theorem sa_P_put : (.selects R_P ⟨R_L, "put", "(III)V"⟩ y_P_put : Cond) ∈ w_all := wa_in (List.mem_of_getElem? (i := 177) (by decide +kernel)) rfl
theorem ml_S_85 : (.methodLink R_S 85 y_S_change : Cond) ∈ w_all := wa_in (List.mem_of_getElem? (i := 178) (by decide +kernel)) rfl
theorem im_S_change : (.instanceMethod y_S_change : Cond) ∈ w_all := wa_in (List.mem_of_getElem? (i := 180) (by decide +kernel)) rfl
theorem cd_S_change : (.code y_S_change b_S_change 2 none : Cond) ∈ w_all := wa_in (List.mem_of_getElem? (i := 181) (by decide +kernel)) rfl
theorem ml_W_23 : (.methodLink R_W 23 y_X_suspend : Cond) ∈ w_all := wa_in (List.mem_of_getElem? (i := 182) (by decide +kernel)) rfl
theorem im_X_suspend : (.instanceMethod y_X_suspend : Cond) ∈ w_all := wa_in (List.mem_of_getElem? (i := 183) (by decide +kernel)) rfl
theorem se_X_suspend : (.selects R_X y_X_suspend y_X_suspend : Cond) ∈ w_all := wa_in (List.mem_of_getElem? (i := 184) (by decide +kernel)) rfl
theorem cd_X_suspend : (.code y_X_suspend b_X_suspend 2 (some .int) : Cond) ∈ w_all := wa_in (List.mem_of_getElem? (i := 185) (by decide +kernel)) rfl
theorem ml_X_65 : (.methodLink R_X 65 y_S_putAside : Cond) ∈ w_all := wa_in (List.mem_of_getElem? (i := 186) (by decide +kernel)) rfl
theorem im_S_putAside : (.instanceMethod y_S_putAside : Cond) ∈ w_all := wa_in (List.mem_of_getElem? (i := 187) (by decide +kernel)) rfl
theorem se_S_putAside : (.selects R_S y_S_putAside y_S_putAside : Cond) ∈ w_all := wa_in (List.mem_of_getElem? (i := 188) (by decide +kernel)) rfl
theorem cd_S_putAside : (.code y_S_putAside b_S_putAside 2 none : Cond) ∈ w_all := wa_in (List.mem_of_getElem? (i := 189) (by decide +kernel)) rfl
theorem ml_S_54 : (.methodLink R_S 54 y_S_removeFirst : Cond) ∈ w_all := wa_in (List.mem_of_getElem? (i := 190) (by decide +kernel)) rfl
theorem im_S_removeFirst : (.instanceMethod y_S_removeFirst : Cond) ∈ w_all := wa_in (List.mem_of_getElem? (i := 191) (by decide +kernel)) rfl
theorem se_S_removeFirst : (.selects R_S y_S_removeFirst y_S_removeFirst : Cond) ∈ w_all := wa_in (List.mem_of_getElem? (i := 192) (by decide +kernel)) rfl
theorem cd_S_removeFirst : (.code y_S_removeFirst b_S_removeFirst 4 (some .int) : Cond) ∈ w_all := wa_in (List.mem_of_getElem? (i := 193) (by decide +kernel)) rfl
theorem ml_X_68 : (.methodLink R_X 68 y_X_numberOf : Cond) ∈ w_all := wa_in (List.mem_of_getElem? (i := 194) (by decide +kernel)) rfl
theorem st_X_numberOf : (.static y_X_numberOf : Cond) ∈ w_all := wa_in (List.mem_of_getElem? (i := 195) (by decide +kernel)) rfl
theorem cd_X_numberOf : (.code y_X_numberOf b_X_numberOf 1 (some .int) : Cond) ∈ w_all := wa_in (List.mem_of_getElem? (i := 196) (by decide +kernel)) rfl
theorem ml_W_28 : (.methodLink R_W 28 y_X_end : Cond) ∈ w_all := wa_in (List.mem_of_getElem? (i := 197) (by decide +kernel)) rfl
theorem im_X_end : (.instanceMethod y_X_end : Cond) ∈ w_all := wa_in (List.mem_of_getElem? (i := 198) (by decide +kernel)) rfl
theorem se_X_end : (.selects R_X y_X_end y_X_end : Cond) ∈ w_all := wa_in (List.mem_of_getElem? (i := 199) (by decide +kernel)) rfl
theorem cd_X_end : (.code y_X_end b_X_end 2 (some .int) : Cond) ∈ w_all := wa_in (List.mem_of_getElem? (i := 200) (by decide +kernel)) rfl
theorem ml_X_71 : (.methodLink R_X 71 y_S_forget : Cond) ∈ w_all := wa_in (List.mem_of_getElem? (i := 201) (by decide +kernel)) rfl
theorem im_S_forget : (.instanceMethod y_S_forget : Cond) ∈ w_all := wa_in (List.mem_of_getElem? (i := 202) (by decide +kernel)) rfl
theorem se_S_forget : (.selects R_S y_S_forget y_S_forget : Cond) ∈ w_all := wa_in (List.mem_of_getElem? (i := 203) (by decide +kernel)) rfl
theorem cd_S_forget : (.code y_S_forget b_S_forget 2 none : Cond) ∈ w_all := wa_in (List.mem_of_getElem? (i := 204) (by decide +kernel)) rfl
theorem ml_W_32 : (.methodLink R_W 32 y_X_await : Cond) ∈ w_all := wa_in (List.mem_of_getElem? (i := 205) (by decide +kernel)) rfl
theorem im_X_await : (.instanceMethod y_X_await : Cond) ∈ w_all := wa_in (List.mem_of_getElem? (i := 206) (by decide +kernel)) rfl
theorem se_X_await : (.selects R_X y_X_await y_X_await : Cond) ∈ w_all := wa_in (List.mem_of_getElem? (i := 207) (by decide +kernel)) rfl
theorem cd_X_await : (.code y_X_await b_X_await 2 (some .int) : Cond) ∈ w_all := wa_in (List.mem_of_getElem? (i := 208) (by decide +kernel)) rfl
theorem ml_X_74 : (.methodLink R_X 74 y_X_isSemaphore : Cond) ∈ w_all := wa_in (List.mem_of_getElem? (i := 209) (by decide +kernel)) rfl
theorem st_X_isSemaphore : (.static y_X_isSemaphore : Cond) ∈ w_all := wa_in (List.mem_of_getElem? (i := 210) (by decide +kernel)) rfl
theorem cd_X_isSemaphore : (.code y_X_isSemaphore b_X_isSemaphore 1 (some .boolean) : Cond) ∈ w_all := wa_in (List.mem_of_getElem? (i := 211) (by decide +kernel)) rfl
theorem ml_X_77 : (.methodLink R_X 77 y_X_semaphore : Cond) ∈ w_all := wa_in (List.mem_of_getElem? (i := 212) (by decide +kernel)) rfl
theorem st_X_semaphore : (.static y_X_semaphore : Cond) ∈ w_all := wa_in (List.mem_of_getElem? (i := 213) (by decide +kernel)) rfl
theorem cd_X_semaphore : (.code y_X_semaphore b_X_semaphore 1 (some .int) : Cond) ∈ w_all := wa_in (List.mem_of_getElem? (i := 214) (by decide +kernel)) rfl
theorem ml_X_80 : (.methodLink R_X 80 y_S_await : Cond) ∈ w_all := wa_in (List.mem_of_getElem? (i := 215) (by decide +kernel)) rfl
theorem im_S_await : (.instanceMethod y_S_await : Cond) ∈ w_all := wa_in (List.mem_of_getElem? (i := 216) (by decide +kernel)) rfl
theorem se_S_await : (.selects R_S y_S_await y_S_await : Cond) ∈ w_all := wa_in (List.mem_of_getElem? (i := 217) (by decide +kernel)) rfl
theorem cd_S_await : (.code y_S_await b_S_await 3 (some .boolean) : Cond) ∈ w_all := wa_in (List.mem_of_getElem? (i := 218) (by decide +kernel)) rfl
theorem ct_S_91 : (.constant R_S 91 (-1073741824) : Cond) ∈ w_all := wa_in (List.mem_of_getElem? (i := 219) (by decide +kernel)) rfl
theorem ct_S_99 : (.constant R_S 99 (1073741823) : Cond) ∈ w_all := wa_in (List.mem_of_getElem? (i := 220) (by decide +kernel)) rfl
theorem ml_S_93 : (.methodLink R_S 93 y_S_small : Cond) ∈ w_all := wa_in (List.mem_of_getElem? (i := 221) (by decide +kernel)) rfl
theorem st_S_small : (.static y_S_small : Cond) ∈ w_all := wa_in (List.mem_of_getElem? (i := 222) (by decide +kernel)) rfl
theorem cd_S_small : (.code y_S_small b_S_small 1 (some .int) : Cond) ∈ w_all := wa_in (List.mem_of_getElem? (i := 223) (by decide +kernel)) rfl
theorem ml_S_88 : (.methodLink R_S 88 y_S_putAside : Cond) ∈ w_all := wa_in (List.mem_of_getElem? (i := 224) (by decide +kernel)) rfl
theorem ml_W_37 : (.methodLink R_W 37 y_X_signal : Cond) ∈ w_all := wa_in (List.mem_of_getElem? (i := 225) (by decide +kernel)) rfl
theorem im_X_signal : (.instanceMethod y_X_signal : Cond) ∈ w_all := wa_in (List.mem_of_getElem? (i := 226) (by decide +kernel)) rfl
theorem se_X_signal : (.selects R_X y_X_signal y_X_signal : Cond) ∈ w_all := wa_in (List.mem_of_getElem? (i := 227) (by decide +kernel)) rfl
theorem cd_X_signal : (.code y_X_signal b_X_signal 2 (some .boolean) : Cond) ∈ w_all := wa_in (List.mem_of_getElem? (i := 228) (by decide +kernel)) rfl
theorem ml_X_83 : (.methodLink R_X 83 y_S_signal : Cond) ∈ w_all := wa_in (List.mem_of_getElem? (i := 229) (by decide +kernel)) rfl
theorem im_S_signal : (.instanceMethod y_S_signal : Cond) ∈ w_all := wa_in (List.mem_of_getElem? (i := 230) (by decide +kernel)) rfl
theorem se_S_signal : (.selects R_S y_S_signal y_S_signal : Cond) ∈ w_all := wa_in (List.mem_of_getElem? (i := 231) (by decide +kernel)) rfl
theorem cd_S_signal : (.code y_S_signal b_S_signal 2 none : Cond) ∈ w_all := wa_in (List.mem_of_getElem? (i := 232) (by decide +kernel)) rfl
theorem ct_S_92 : (.constant R_S 92 (1073741822) : Cond) ∈ w_all := wa_in (List.mem_of_getElem? (i := 233) (by decide +kernel)) rfl
theorem ml_S_96 : (.methodLink R_S 96 y_S_wake : Cond) ∈ w_all := wa_in (List.mem_of_getElem? (i := 234) (by decide +kernel)) rfl
theorem ml_W_41 : (.methodLink R_W 41 y_X_post : Cond) ∈ w_all := wa_in (List.mem_of_getElem? (i := 235) (by decide +kernel)) rfl
theorem im_X_post : (.instanceMethod y_X_post : Cond) ∈ w_all := wa_in (List.mem_of_getElem? (i := 236) (by decide +kernel)) rfl
theorem se_X_post : (.selects R_X y_X_post y_X_post : Cond) ∈ w_all := wa_in (List.mem_of_getElem? (i := 237) (by decide +kernel)) rfl
theorem cd_X_post : (.code y_X_post b_X_post 2 (some .int) : Cond) ∈ w_all := wa_in (List.mem_of_getElem? (i := 238) (by decide +kernel)) rfl
theorem ml_X_86 : (.methodLink R_X 86 y_S_post : Cond) ∈ w_all := wa_in (List.mem_of_getElem? (i := 239) (by decide +kernel)) rfl
theorem im_S_post : (.instanceMethod y_S_post : Cond) ∈ w_all := wa_in (List.mem_of_getElem? (i := 240) (by decide +kernel)) rfl
theorem se_S_post : (.selects R_S y_S_post y_S_post : Cond) ∈ w_all := wa_in (List.mem_of_getElem? (i := 241) (by decide +kernel)) rfl
theorem cd_S_post : (.code y_S_post b_S_post 2 (some .int) : Cond) ∈ w_all := wa_in (List.mem_of_getElem? (i := 242) (by decide +kernel)) rfl
theorem ml_W_45 : (.methodLink R_W 45 y_X_step : Cond) ∈ w_all := wa_in (List.mem_of_getElem? (i := 243) (by decide +kernel)) rfl
theorem im_X_step : (.instanceMethod y_X_step : Cond) ∈ w_all := wa_in (List.mem_of_getElem? (i := 244) (by decide +kernel)) rfl
theorem se_X_step : (.selects R_X y_X_step y_X_step : Cond) ∈ w_all := wa_in (List.mem_of_getElem? (i := 245) (by decide +kernel)) rfl
theorem cd_X_step : (.code y_X_step b_X_step 1 (some .int) : Cond) ∈ w_all := wa_in (List.mem_of_getElem? (i := 246) (by decide +kernel)) rfl
theorem ml_X_89 : (.methodLink R_X 89 y_S_step : Cond) ∈ w_all := wa_in (List.mem_of_getElem? (i := 247) (by decide +kernel)) rfl
theorem im_S_step : (.instanceMethod y_S_step : Cond) ∈ w_all := wa_in (List.mem_of_getElem? (i := 248) (by decide +kernel)) rfl
theorem se_S_step : (.selects R_S y_S_step y_S_step : Cond) ∈ w_all := wa_in (List.mem_of_getElem? (i := 249) (by decide +kernel)) rfl
theorem cd_S_step : (.code y_S_step b_S_step 2 (some .boolean) : Cond) ∈ w_all := wa_in (List.mem_of_getElem? (i := 250) (by decide +kernel)) rfl
theorem ml_S_100 : (.methodLink R_S 100 y_S_signal : Cond) ∈ w_all := wa_in (List.mem_of_getElem? (i := 251) (by decide +kernel)) rfl
theorem ml_X_93 : (.methodLink R_X 93 y_X_active : Cond) ∈ w_all := wa_in (List.mem_of_getElem? (i := 252) (by decide +kernel)) rfl
theorem im_X_active : (.instanceMethod y_X_active : Cond) ∈ w_all := wa_in (List.mem_of_getElem? (i := 253) (by decide +kernel)) rfl
theorem se_X_active : (.selects R_X y_X_active y_X_active : Cond) ∈ w_all := wa_in (List.mem_of_getElem? (i := 254) (by decide +kernel)) rfl
theorem cd_X_active : (.code y_X_active b_X_active 1 (some .int) : Cond) ∈ w_all := wa_in (List.mem_of_getElem? (i := 255) (by decide +kernel)) rfl
theorem ml_W_49 : (.methodLink R_W 49 y_X_work : Cond) ∈ w_all := wa_in (List.mem_of_getElem? (i := 256) (by decide +kernel)) rfl
theorem im_X_work : (.instanceMethod y_X_work : Cond) ∈ w_all := wa_in (List.mem_of_getElem? (i := 257) (by decide +kernel)) rfl
theorem se_X_work : (.selects R_X y_X_work y_X_work : Cond) ∈ w_all := wa_in (List.mem_of_getElem? (i := 258) (by decide +kernel)) rfl
theorem cd_X_work : (.code y_X_work b_X_work 2 (some .boolean) : Cond) ∈ w_all := wa_in (List.mem_of_getElem? (i := 259) (by decide +kernel)) rfl
theorem ml_X_94 : (.methodLink R_X 94 y_S_isWanted : Cond) ∈ w_all := wa_in (List.mem_of_getElem? (i := 260) (by decide +kernel)) rfl
theorem im_S_isWanted : (.instanceMethod y_S_isWanted : Cond) ∈ w_all := wa_in (List.mem_of_getElem? (i := 261) (by decide +kernel)) rfl
theorem se_S_isWanted : (.selects R_S y_S_isWanted y_S_isWanted : Cond) ∈ w_all := wa_in (List.mem_of_getElem? (i := 262) (by decide +kernel)) rfl
theorem cd_S_isWanted : (.code y_S_isWanted b_S_isWanted 1 (some .boolean) : Cond) ∈ w_all := wa_in (List.mem_of_getElem? (i := 263) (by decide +kernel)) rfl
theorem ml_W_53 : (.methodLink R_W 53 y_X_take : Cond) ∈ w_all := wa_in (List.mem_of_getElem? (i := 264) (by decide +kernel)) rfl
theorem im_X_take : (.instanceMethod y_X_take : Cond) ∈ w_all := wa_in (List.mem_of_getElem? (i := 265) (by decide +kernel)) rfl
theorem se_X_take : (.selects R_X y_X_take y_X_take : Cond) ∈ w_all := wa_in (List.mem_of_getElem? (i := 266) (by decide +kernel)) rfl
theorem cd_X_take : (.code y_X_take b_X_take 2 (some .boolean) : Cond) ∈ w_all := wa_in (List.mem_of_getElem? (i := 267) (by decide +kernel)) rfl
theorem ml_X_101 : (.methodLink R_X 101 y_S_remove : Cond) ∈ w_all := wa_in (List.mem_of_getElem? (i := 268) (by decide +kernel)) rfl
theorem im_S_remove : (.instanceMethod y_S_remove : Cond) ∈ w_all := wa_in (List.mem_of_getElem? (i := 269) (by decide +kernel)) rfl
theorem se_S_remove : (.selects R_S y_S_remove y_S_remove : Cond) ∈ w_all := wa_in (List.mem_of_getElem? (i := 270) (by decide +kernel)) rfl
theorem cd_S_remove : (.code y_S_remove b_S_remove 5 none : Cond) ∈ w_all := wa_in (List.mem_of_getElem? (i := 271) (by decide +kernel)) rfl
theorem ml_W_57 : (.methodLink R_W 57 y_X_rate : Cond) ∈ w_all := wa_in (List.mem_of_getElem? (i := 272) (by decide +kernel)) rfl
theorem im_X_rate : (.instanceMethod y_X_rate : Cond) ∈ w_all := wa_in (List.mem_of_getElem? (i := 273) (by decide +kernel)) rfl
theorem se_X_rate : (.selects R_X y_X_rate y_X_rate : Cond) ∈ w_all := wa_in (List.mem_of_getElem? (i := 274) (by decide +kernel)) rfl
theorem cd_X_rate : (.code y_X_rate b_X_rate 4 (some .int) : Cond) ∈ w_all := wa_in (List.mem_of_getElem? (i := 275) (by decide +kernel)) rfl
theorem ml_X_104 : (.methodLink R_X 104 y_S_priority : Cond) ∈ w_all := wa_in (List.mem_of_getElem? (i := 276) (by decide +kernel)) rfl
theorem ml_W_62 : (.methodLink R_W 62 y_X_yield : Cond) ∈ w_all := wa_in (List.mem_of_getElem? (i := 277) (by decide +kernel)) rfl
theorem im_X_yield : (.instanceMethod y_X_yield : Cond) ∈ w_all := wa_in (List.mem_of_getElem? (i := 278) (by decide +kernel)) rfl
theorem se_X_yield : (.selects R_X y_X_yield y_X_yield : Cond) ∈ w_all := wa_in (List.mem_of_getElem? (i := 279) (by decide +kernel)) rfl
theorem cd_X_yield : (.code y_X_yield b_X_yield 1 (some .boolean) : Cond) ∈ w_all := wa_in (List.mem_of_getElem? (i := 280) (by decide +kernel)) rfl
theorem ml_X_107 : (.methodLink R_X 107 y_S_giveWay : Cond) ∈ w_all := wa_in (List.mem_of_getElem? (i := 281) (by decide +kernel)) rfl
theorem im_S_giveWay : (.instanceMethod y_S_giveWay : Cond) ∈ w_all := wa_in (List.mem_of_getElem? (i := 282) (by decide +kernel)) rfl
theorem se_S_giveWay : (.selects R_S y_S_giveWay y_S_giveWay : Cond) ∈ w_all := wa_in (List.mem_of_getElem? (i := 283) (by decide +kernel)) rfl
theorem cd_S_giveWay : (.code y_S_giveWay b_S_giveWay 2 (some .boolean) : Cond) ∈ w_all := wa_in (List.mem_of_getElem? (i := 284) (by decide +kernel)) rfl
theorem ml_W_67 : (.methodLink R_W 67 y_X_active : Cond) ∈ w_all := wa_in (List.mem_of_getElem? (i := 285) (by decide +kernel)) rfl
theorem ml_W_71 : (.methodLink R_W 71 y_X_present : Cond) ∈ w_all := wa_in (List.mem_of_getElem? (i := 286) (by decide +kernel)) rfl
theorem im_X_present : (.instanceMethod y_X_present : Cond) ∈ w_all := wa_in (List.mem_of_getElem? (i := 287) (by decide +kernel)) rfl
theorem se_X_present : (.selects R_X y_X_present y_X_present : Cond) ∈ w_all := wa_in (List.mem_of_getElem? (i := 288) (by decide +kernel)) rfl
theorem cd_X_present : (.code y_X_present b_X_present 1 (some .int) : Cond) ∈ w_all := wa_in (List.mem_of_getElem? (i := 289) (by decide +kernel)) rfl
theorem ml_W_75 : (.methodLink R_W 75 y_X_wanted : Cond) ∈ w_all := wa_in (List.mem_of_getElem? (i := 290) (by decide +kernel)) rfl
theorem im_X_wanted : (.instanceMethod y_X_wanted : Cond) ∈ w_all := wa_in (List.mem_of_getElem? (i := 291) (by decide +kernel)) rfl
theorem se_X_wanted : (.selects R_X y_X_wanted y_X_wanted : Cond) ∈ w_all := wa_in (List.mem_of_getElem? (i := 292) (by decide +kernel)) rfl
theorem cd_X_wanted : (.code y_X_wanted b_X_wanted 1 (some .boolean) : Cond) ∈ w_all := wa_in (List.mem_of_getElem? (i := 293) (by decide +kernel)) rfl
theorem ml_W_79 : (.methodLink R_W 79 y_X_here : Cond) ∈ w_all := wa_in (List.mem_of_getElem? (i := 294) (by decide +kernel)) rfl
theorem im_X_here : (.instanceMethod y_X_here : Cond) ∈ w_all := wa_in (List.mem_of_getElem? (i := 295) (by decide +kernel)) rfl
theorem se_X_here : (.selects R_X y_X_here y_X_here : Cond) ∈ w_all := wa_in (List.mem_of_getElem? (i := 296) (by decide +kernel)) rfl
theorem cd_X_here : (.code y_X_here b_X_here 1 (some .int) : Cond) ∈ w_all := wa_in (List.mem_of_getElem? (i := 297) (by decide +kernel)) rfl
theorem ml_W_83 : (.methodLink R_W 83 y_X_place : Cond) ∈ w_all := wa_in (List.mem_of_getElem? (i := 298) (by decide +kernel)) rfl
theorem im_X_place : (.instanceMethod y_X_place : Cond) ∈ w_all := wa_in (List.mem_of_getElem? (i := 299) (by decide +kernel)) rfl
theorem se_X_place : (.selects R_X y_X_place y_X_place : Cond) ∈ w_all := wa_in (List.mem_of_getElem? (i := 300) (by decide +kernel)) rfl
theorem cd_X_place : (.code y_X_place b_X_place 2 (some .int) : Cond) ∈ w_all := wa_in (List.mem_of_getElem? (i := 301) (by decide +kernel)) rfl
theorem ml_W_87 : (.methodLink R_W 87 y_X_priority : Cond) ∈ w_all := wa_in (List.mem_of_getElem? (i := 302) (by decide +kernel)) rfl
theorem im_X_priority : (.instanceMethod y_X_priority : Cond) ∈ w_all := wa_in (List.mem_of_getElem? (i := 303) (by decide +kernel)) rfl
theorem se_X_priority : (.selects R_X y_X_priority y_X_priority : Cond) ∈ w_all := wa_in (List.mem_of_getElem? (i := 304) (by decide +kernel)) rfl
theorem cd_X_priority : (.code y_X_priority b_X_priority 2 (some .int) : Cond) ∈ w_all := wa_in (List.mem_of_getElem? (i := 305) (by decide +kernel)) rfl
theorem ml_W_91 : (.methodLink R_W 91 y_X_row : Cond) ∈ w_all := wa_in (List.mem_of_getElem? (i := 306) (by decide +kernel)) rfl
theorem im_X_row : (.instanceMethod y_X_row : Cond) ∈ w_all := wa_in (List.mem_of_getElem? (i := 307) (by decide +kernel)) rfl
theorem se_X_row : (.selects R_X y_X_row y_X_row : Cond) ∈ w_all := wa_in (List.mem_of_getElem? (i := 308) (by decide +kernel)) rfl
theorem cd_X_row : (.code y_X_row b_X_row 3 (some .int) : Cond) ∈ w_all := wa_in (List.mem_of_getElem? (i := 309) (by decide +kernel)) rfl
theorem ml_W_95 : (.methodLink R_W 95 y_X_at : Cond) ∈ w_all := wa_in (List.mem_of_getElem? (i := 310) (by decide +kernel)) rfl
theorem im_X_at : (.instanceMethod y_X_at : Cond) ∈ w_all := wa_in (List.mem_of_getElem? (i := 311) (by decide +kernel)) rfl
theorem se_X_at : (.selects R_X y_X_at y_X_at : Cond) ∈ w_all := wa_in (List.mem_of_getElem? (i := 312) (by decide +kernel)) rfl
theorem cd_X_at : (.code y_X_at b_X_at 6 (some .int) : Cond) ∈ w_all := wa_in (List.mem_of_getElem? (i := 313) (by decide +kernel)) rfl
theorem ml_X_110 : (.methodLink R_X 110 y_S_readyRow : Cond) ∈ w_all := wa_in (List.mem_of_getElem? (i := 314) (by decide +kernel)) rfl
theorem ml_W_99 : (.methodLink R_W 99 y_X_extra : Cond) ∈ w_all := wa_in (List.mem_of_getElem? (i := 315) (by decide +kernel)) rfl
theorem im_X_extra : (.instanceMethod y_X_extra : Cond) ∈ w_all := wa_in (List.mem_of_getElem? (i := 316) (by decide +kernel)) rfl
theorem se_X_extra : (.selects R_X y_X_extra y_X_extra : Cond) ∈ w_all := wa_in (List.mem_of_getElem? (i := 317) (by decide +kernel)) rfl
theorem cd_X_extra : (.code y_X_extra b_X_extra 2 (some .int) : Cond) ∈ w_all := wa_in (List.mem_of_getElem? (i := 318) (by decide +kernel)) rfl
theorem ml_W_103 : (.methodLink R_W 103 y_X_posted : Cond) ∈ w_all := wa_in (List.mem_of_getElem? (i := 319) (by decide +kernel)) rfl
theorem im_X_posted : (.instanceMethod y_X_posted : Cond) ∈ w_all := wa_in (List.mem_of_getElem? (i := 320) (by decide +kernel)) rfl
theorem se_X_posted : (.selects R_X y_X_posted y_X_posted : Cond) ∈ w_all := wa_in (List.mem_of_getElem? (i := 321) (by decide +kernel)) rfl
theorem cd_X_posted : (.code y_X_posted b_X_posted 3 (some .int) : Cond) ∈ w_all := wa_in (List.mem_of_getElem? (i := 322) (by decide +kernel)) rfl
theorem ml_X_113 : (.methodLink R_X 113 y_S_posted : Cond) ∈ w_all := wa_in (List.mem_of_getElem? (i := 323) (by decide +kernel)) rfl
theorem im_S_posted : (.instanceMethod y_S_posted : Cond) ∈ w_all := wa_in (List.mem_of_getElem? (i := 324) (by decide +kernel)) rfl
theorem se_S_posted : (.selects R_S y_S_posted y_S_posted : Cond) ∈ w_all := wa_in (List.mem_of_getElem? (i := 325) (by decide +kernel)) rfl
theorem cd_S_posted : (.code y_S_posted b_S_posted 2 (some .int) : Cond) ∈ w_all := wa_in (List.mem_of_getElem? (i := 326) (by decide +kernel)) rfl
theorem cl_W_10 : (.classLink R_W 10 R_M : Cond) ∈ w_all := wa_in (List.mem_of_getElem? (i := 327) (by decide +kernel)) rfl
theorem ins_M : (.instantiable R_M 13 : Cond) ∈ w_all := wa_in (List.mem_of_getElem? (i := 328) (by decide +kernel)) rfl
theorem ml_W_12 : (.methodLink R_W 12 y_M_init : Cond) ∈ w_all := wa_in (List.mem_of_getElem? (i := 329) (by decide +kernel)) rfl
theorem im_M_init : (.instanceMethod y_M_init : Cond) ∈ w_all := wa_in (List.mem_of_getElem? (i := 330) (by decide +kernel)) rfl
theorem cd_M_init : (.code y_M_init b_M_init 1 none : Cond) ∈ w_all := wa_in (List.mem_of_getElem? (i := 331) (by decide +kernel)) rfl
theorem ml_M_1 : (.methodLink R_M 1 objectInit : Cond) ∈ w_all := wa_in (List.mem_of_getElem? (i := 332) (by decide +kernel)) rfl
theorem fl_M_7 : (.fieldLink R_M 7 "ProcessRoomModel" "made" "[Z" : Cond) ∈ w_all := wa_in (List.mem_of_getElem? (i := 333) (by decide +kernel)) rfl
theorem fl_M_13 : (.fieldLink R_M 13 "ProcessRoomModel" "priorities" "[I" : Cond) ∈ w_all := wa_in (List.mem_of_getElem? (i := 334) (by decide +kernel)) rfl
theorem fl_M_17 : (.fieldLink R_M 17 "ProcessRoomModel" "places" "[I" : Cond) ∈ w_all := wa_in (List.mem_of_getElem? (i := 335) (by decide +kernel)) rfl
theorem fl_M_20 : (.fieldLink R_M 20 "ProcessRoomModel" "rows" "[I" : Cond) ∈ w_all := wa_in (List.mem_of_getElem? (i := 336) (by decide +kernel)) rfl
theorem fl_M_23 : (.fieldLink R_M 23 "ProcessRoomModel" "when" "[J" : Cond) ∈ w_all := wa_in (List.mem_of_getElem? (i := 337) (by decide +kernel)) rfl
theorem fl_M_44 : (.fieldLink R_M 44 "ProcessRoomModel" "now" "J" : Cond) ∈ w_all := wa_in (List.mem_of_getElem? (i := 338) (by decide +kernel)) rfl
theorem fl_M_27 : (.fieldLink R_M 27 "ProcessRoomModel" "extras" "[I" : Cond) ∈ w_all := wa_in (List.mem_of_getElem? (i := 339) (by decide +kernel)) rfl
theorem fl_M_86 : (.fieldLink R_M 86 "ProcessRoomModel" "posts" "I" : Cond) ∈ w_all := wa_in (List.mem_of_getElem? (i := 340) (by decide +kernel)) rfl
theorem fl_M_30 : (.fieldLink R_M 30 "ProcessRoomModel" "posted" "[I" : Cond) ∈ w_all := wa_in (List.mem_of_getElem? (i := 341) (by decide +kernel)) rfl
theorem fl_M_33 : (.fieldLink R_M 33 "ProcessRoomModel" "active" "I" : Cond) ∈ w_all := wa_in (List.mem_of_getElem? (i := 342) (by decide +kernel)) rfl
theorem fl_M_89 : (.fieldLink R_M 89 "ProcessRoomModel" "here" "I" : Cond) ∈ w_all := wa_in (List.mem_of_getElem? (i := 343) (by decide +kernel)) rfl
theorem fl_M_48 : (.fieldLink R_M 48 "ProcessRoomModel" "wanted" "Z" : Cond) ∈ w_all := wa_in (List.mem_of_getElem? (i := 344) (by decide +kernel)) rfl
theorem fl_M_37 : (.fieldLink R_M 37 "ProcessRoomModel" "change" "I" : Cond) ∈ w_all := wa_in (List.mem_of_getElem? (i := 345) (by decide +kernel)) rfl
theorem ac_long : (.arrayClass .long : Cond) ∈ w_all := wa_in (List.mem_of_getElem? (i := 373) (by decide +kernel)) rfl
theorem ml_W_17 : (.methodLink R_W 17 y_M_make : Cond) ∈ w_all := wa_in (List.mem_of_getElem? (i := 374) (by decide +kernel)) rfl
theorem im_M_make : (.instanceMethod y_M_make : Cond) ∈ w_all := wa_in (List.mem_of_getElem? (i := 375) (by decide +kernel)) rfl
theorem se_M_make : (.selects R_M y_M_make y_M_make : Cond) ∈ w_all := wa_in (List.mem_of_getElem? (i := 376) (by decide +kernel)) rfl
theorem cd_M_make : (.code y_M_make b_M_make 4 (some .boolean) : Cond) ∈ w_all := wa_in (List.mem_of_getElem? (i := 377) (by decide +kernel)) rfl
theorem ml_M_40 : (.methodLink R_M 40 y_M_isProcess : Cond) ∈ w_all := wa_in (List.mem_of_getElem? (i := 378) (by decide +kernel)) rfl
theorem st_M_isProcess : (.static y_M_isProcess : Cond) ∈ w_all := wa_in (List.mem_of_getElem? (i := 379) (by decide +kernel)) rfl
theorem cd_M_isProcess : (.code y_M_isProcess b_M_isProcess 1 (some .boolean) : Cond) ∈ w_all := wa_in (List.mem_of_getElem? (i := 380) (by decide +kernel)) rfl
theorem ml_M_71 : (.methodLink R_M 71 y_M_isPriority : Cond) ∈ w_all := wa_in (List.mem_of_getElem? (i := 381) (by decide +kernel)) rfl
theorem st_M_isPriority : (.static y_M_isPriority : Cond) ∈ w_all := wa_in (List.mem_of_getElem? (i := 382) (by decide +kernel)) rfl
theorem cd_M_isPriority : (.code y_M_isPriority b_M_isPriority 1 (some .boolean) : Cond) ∈ w_all := wa_in (List.mem_of_getElem? (i := 383) (by decide +kernel)) rfl
theorem ml_W_22 : (.methodLink R_W 22 y_M_resume : Cond) ∈ w_all := wa_in (List.mem_of_getElem? (i := 384) (by decide +kernel)) rfl
theorem im_M_resume : (.instanceMethod y_M_resume : Cond) ∈ w_all := wa_in (List.mem_of_getElem? (i := 385) (by decide +kernel)) rfl
theorem se_M_resume : (.selects R_M y_M_resume y_M_resume : Cond) ∈ w_all := wa_in (List.mem_of_getElem? (i := 386) (by decide +kernel)) rfl
theorem cd_M_resume : (.code y_M_resume b_M_resume 2 (some .boolean) : Cond) ∈ w_all := wa_in (List.mem_of_getElem? (i := 387) (by decide +kernel)) rfl
theorem ml_M_74 : (.methodLink R_M 74 y_M_isMade : Cond) ∈ w_all := wa_in (List.mem_of_getElem? (i := 388) (by decide +kernel)) rfl
theorem im_M_isMade : (.instanceMethod y_M_isMade : Cond) ∈ w_all := wa_in (List.mem_of_getElem? (i := 390) (by decide +kernel)) rfl
theorem cd_M_isMade : (.code y_M_isMade b_M_isMade 2 (some .boolean) : Cond) ∈ w_all := wa_in (List.mem_of_getElem? (i := 391) (by decide +kernel)) rfl
theorem ml_M_52 : (.methodLink R_M 52 y_M_presentOne : Cond) ∈ w_all := wa_in (List.mem_of_getElem? (i := 392) (by decide +kernel)) rfl
theorem im_M_presentOne : (.instanceMethod y_M_presentOne : Cond) ∈ w_all := wa_in (List.mem_of_getElem? (i := 394) (by decide +kernel)) rfl
theorem cd_M_presentOne : (.code y_M_presentOne b_M_presentOne 1 (some .int) : Cond) ∈ w_all := wa_in (List.mem_of_getElem? (i := 395) (by decide +kernel)) rfl
theorem ml_M_68 : (.methodLink R_M 68 y_M_wake : Cond) ∈ w_all := wa_in (List.mem_of_getElem? (i := 396) (by decide +kernel)) rfl
theorem im_M_wake : (.instanceMethod y_M_wake : Cond) ∈ w_all := wa_in (List.mem_of_getElem? (i := 398) (by decide +kernel)) rfl
theorem cd_M_wake : (.code y_M_wake b_M_wake 3 none : Cond) ∈ w_all := wa_in (List.mem_of_getElem? (i := 399) (by decide +kernel)) rfl
theorem ml_M_56 : (.methodLink R_M 56 y_M_enter : Cond) ∈ w_all := wa_in (List.mem_of_getElem? (i := 400) (by decide +kernel)) rfl
theorem im_M_enter : (.instanceMethod y_M_enter : Cond) ∈ w_all := wa_in (List.mem_of_getElem? (i := 402) (by decide +kernel)) rfl
theorem cd_M_enter : (.code y_M_enter b_M_enter 3 none : Cond) ∈ w_all := wa_in (List.mem_of_getElem? (i := 403) (by decide +kernel)) rfl
theorem ml_M_60 : (.methodLink R_M 60 y_M_want : Cond) ∈ w_all := wa_in (List.mem_of_getElem? (i := 404) (by decide +kernel)) rfl
theorem im_M_want : (.instanceMethod y_M_want : Cond) ∈ w_all := wa_in (List.mem_of_getElem? (i := 406) (by decide +kernel)) rfl
theorem cd_M_want : (.code y_M_want b_M_want 2 none : Cond) ∈ w_all := wa_in (List.mem_of_getElem? (i := 407) (by decide +kernel)) rfl
theorem ml_W_27 : (.methodLink R_W 27 y_M_suspend : Cond) ∈ w_all := wa_in (List.mem_of_getElem? (i := 408) (by decide +kernel)) rfl
theorem im_M_suspend : (.instanceMethod y_M_suspend : Cond) ∈ w_all := wa_in (List.mem_of_getElem? (i := 409) (by decide +kernel)) rfl
theorem se_M_suspend : (.selects R_M y_M_suspend y_M_suspend : Cond) ∈ w_all := wa_in (List.mem_of_getElem? (i := 410) (by decide +kernel)) rfl
theorem cd_M_suspend : (.code y_M_suspend b_M_suspend 2 (some .int) : Cond) ∈ w_all := wa_in (List.mem_of_getElem? (i := 411) (by decide +kernel)) rfl
theorem ml_M_77 : (.methodLink R_M 77 y_M_putAside : Cond) ∈ w_all := wa_in (List.mem_of_getElem? (i := 412) (by decide +kernel)) rfl
theorem im_M_putAside : (.instanceMethod y_M_putAside : Cond) ∈ w_all := wa_in (List.mem_of_getElem? (i := 414) (by decide +kernel)) rfl
theorem cd_M_putAside : (.code y_M_putAside b_M_putAside 4 none : Cond) ∈ w_all := wa_in (List.mem_of_getElem? (i := 415) (by decide +kernel)) rfl
theorem ml_M_64 : (.methodLink R_M 64 y_M_find : Cond) ∈ w_all := wa_in (List.mem_of_getElem? (i := 416) (by decide +kernel)) rfl
theorem im_M_find : (.instanceMethod y_M_find : Cond) ∈ w_all := wa_in (List.mem_of_getElem? (i := 418) (by decide +kernel)) rfl
theorem cd_M_find : (.code y_M_find b_M_find 8 (some .int) : Cond) ∈ w_all := wa_in (List.mem_of_getElem? (i := 419) (by decide +kernel)) rfl
theorem ml_W_31 : (.methodLink R_W 31 y_M_end : Cond) ∈ w_all := wa_in (List.mem_of_getElem? (i := 420) (by decide +kernel)) rfl
theorem im_M_end : (.instanceMethod y_M_end : Cond) ∈ w_all := wa_in (List.mem_of_getElem? (i := 421) (by decide +kernel)) rfl
theorem se_M_end : (.selects R_M y_M_end y_M_end : Cond) ∈ w_all := wa_in (List.mem_of_getElem? (i := 422) (by decide +kernel)) rfl
theorem cd_M_end : (.code y_M_end b_M_end 2 (some .int) : Cond) ∈ w_all := wa_in (List.mem_of_getElem? (i := 423) (by decide +kernel)) rfl
theorem ml_W_36 : (.methodLink R_W 36 y_M_await : Cond) ∈ w_all := wa_in (List.mem_of_getElem? (i := 424) (by decide +kernel)) rfl
theorem im_M_await : (.instanceMethod y_M_await : Cond) ∈ w_all := wa_in (List.mem_of_getElem? (i := 425) (by decide +kernel)) rfl
theorem se_M_await : (.selects R_M y_M_await y_M_await : Cond) ∈ w_all := wa_in (List.mem_of_getElem? (i := 426) (by decide +kernel)) rfl
theorem cd_M_await : (.code y_M_await b_M_await 3 (some .int) : Cond) ∈ w_all := wa_in (List.mem_of_getElem? (i := 427) (by decide +kernel)) rfl
theorem ml_M_80 : (.methodLink R_M 80 y_M_isSemaphore : Cond) ∈ w_all := wa_in (List.mem_of_getElem? (i := 428) (by decide +kernel)) rfl
theorem st_M_isSemaphore : (.static y_M_isSemaphore : Cond) ∈ w_all := wa_in (List.mem_of_getElem? (i := 429) (by decide +kernel)) rfl
theorem cd_M_isSemaphore : (.code y_M_isSemaphore b_M_isSemaphore 1 (some .boolean) : Cond) ∈ w_all := wa_in (List.mem_of_getElem? (i := 430) (by decide +kernel)) rfl
theorem ml_W_40 : (.methodLink R_W 40 y_M_signal : Cond) ∈ w_all := wa_in (List.mem_of_getElem? (i := 431) (by decide +kernel)) rfl
theorem im_M_signal : (.instanceMethod y_M_signal : Cond) ∈ w_all := wa_in (List.mem_of_getElem? (i := 432) (by decide +kernel)) rfl
theorem se_M_signal : (.selects R_M y_M_signal y_M_signal : Cond) ∈ w_all := wa_in (List.mem_of_getElem? (i := 433) (by decide +kernel)) rfl
theorem cd_M_signal : (.code y_M_signal b_M_signal 2 (some .boolean) : Cond) ∈ w_all := wa_in (List.mem_of_getElem? (i := 434) (by decide +kernel)) rfl
theorem ml_M_83 : (.methodLink R_M 83 y_M_give : Cond) ∈ w_all := wa_in (List.mem_of_getElem? (i := 435) (by decide +kernel)) rfl
theorem im_M_give : (.instanceMethod y_M_give : Cond) ∈ w_all := wa_in (List.mem_of_getElem? (i := 437) (by decide +kernel)) rfl
theorem cd_M_give : (.code y_M_give b_M_give 3 none : Cond) ∈ w_all := wa_in (List.mem_of_getElem? (i := 438) (by decide +kernel)) rfl
theorem ml_W_44 : (.methodLink R_W 44 y_M_post : Cond) ∈ w_all := wa_in (List.mem_of_getElem? (i := 439) (by decide +kernel)) rfl
theorem im_M_post : (.instanceMethod y_M_post : Cond) ∈ w_all := wa_in (List.mem_of_getElem? (i := 440) (by decide +kernel)) rfl
theorem se_M_post : (.selects R_M y_M_post y_M_post : Cond) ∈ w_all := wa_in (List.mem_of_getElem? (i := 441) (by decide +kernel)) rfl
theorem cd_M_post : (.code y_M_post b_M_post 2 (some .int) : Cond) ∈ w_all := wa_in (List.mem_of_getElem? (i := 442) (by decide +kernel)) rfl
theorem ml_W_48 : (.methodLink R_W 48 y_M_step : Cond) ∈ w_all := wa_in (List.mem_of_getElem? (i := 443) (by decide +kernel)) rfl
theorem im_M_step : (.instanceMethod y_M_step : Cond) ∈ w_all := wa_in (List.mem_of_getElem? (i := 444) (by decide +kernel)) rfl
theorem se_M_step : (.selects R_M y_M_step y_M_step : Cond) ∈ w_all := wa_in (List.mem_of_getElem? (i := 445) (by decide +kernel)) rfl
theorem cd_M_step : (.code y_M_step b_M_step 2 (some .int) : Cond) ∈ w_all := wa_in (List.mem_of_getElem? (i := 446) (by decide +kernel)) rfl
theorem ml_W_52 : (.methodLink R_W 52 y_M_work : Cond) ∈ w_all := wa_in (List.mem_of_getElem? (i := 447) (by decide +kernel)) rfl
theorem im_M_work : (.instanceMethod y_M_work : Cond) ∈ w_all := wa_in (List.mem_of_getElem? (i := 448) (by decide +kernel)) rfl
theorem se_M_work : (.selects R_M y_M_work y_M_work : Cond) ∈ w_all := wa_in (List.mem_of_getElem? (i := 449) (by decide +kernel)) rfl
theorem cd_M_work : (.code y_M_work b_M_work 2 (some .boolean) : Cond) ∈ w_all := wa_in (List.mem_of_getElem? (i := 450) (by decide +kernel)) rfl
theorem ml_W_56 : (.methodLink R_W 56 y_M_take : Cond) ∈ w_all := wa_in (List.mem_of_getElem? (i := 451) (by decide +kernel)) rfl
theorem im_M_take : (.instanceMethod y_M_take : Cond) ∈ w_all := wa_in (List.mem_of_getElem? (i := 452) (by decide +kernel)) rfl
theorem se_M_take : (.selects R_M y_M_take y_M_take : Cond) ∈ w_all := wa_in (List.mem_of_getElem? (i := 453) (by decide +kernel)) rfl
theorem cd_M_take : (.code y_M_take b_M_take 2 (some .boolean) : Cond) ∈ w_all := wa_in (List.mem_of_getElem? (i := 454) (by decide +kernel)) rfl
theorem ml_W_61 : (.methodLink R_W 61 y_M_rate : Cond) ∈ w_all := wa_in (List.mem_of_getElem? (i := 455) (by decide +kernel)) rfl
theorem im_M_rate : (.instanceMethod y_M_rate : Cond) ∈ w_all := wa_in (List.mem_of_getElem? (i := 456) (by decide +kernel)) rfl
theorem se_M_rate : (.selects R_M y_M_rate y_M_rate : Cond) ∈ w_all := wa_in (List.mem_of_getElem? (i := 457) (by decide +kernel)) rfl
theorem cd_M_rate : (.code y_M_rate b_M_rate 4 (some .int) : Cond) ∈ w_all := wa_in (List.mem_of_getElem? (i := 458) (by decide +kernel)) rfl
theorem ml_W_66 : (.methodLink R_W 66 y_M_yield : Cond) ∈ w_all := wa_in (List.mem_of_getElem? (i := 459) (by decide +kernel)) rfl
theorem im_M_yield : (.instanceMethod y_M_yield : Cond) ∈ w_all := wa_in (List.mem_of_getElem? (i := 460) (by decide +kernel)) rfl
theorem se_M_yield : (.selects R_M y_M_yield y_M_yield : Cond) ∈ w_all := wa_in (List.mem_of_getElem? (i := 461) (by decide +kernel)) rfl
theorem cd_M_yield : (.code y_M_yield b_M_yield 2 (some .boolean) : Cond) ∈ w_all := wa_in (List.mem_of_getElem? (i := 462) (by decide +kernel)) rfl
theorem ml_W_70 : (.methodLink R_W 70 y_M_active : Cond) ∈ w_all := wa_in (List.mem_of_getElem? (i := 463) (by decide +kernel)) rfl
theorem im_M_active : (.instanceMethod y_M_active : Cond) ∈ w_all := wa_in (List.mem_of_getElem? (i := 464) (by decide +kernel)) rfl
theorem se_M_active : (.selects R_M y_M_active y_M_active : Cond) ∈ w_all := wa_in (List.mem_of_getElem? (i := 465) (by decide +kernel)) rfl
theorem cd_M_active : (.code y_M_active b_M_active 1 (some .int) : Cond) ∈ w_all := wa_in (List.mem_of_getElem? (i := 466) (by decide +kernel)) rfl
theorem ml_W_74 : (.methodLink R_W 74 y_M_present : Cond) ∈ w_all := wa_in (List.mem_of_getElem? (i := 467) (by decide +kernel)) rfl
theorem im_M_present : (.instanceMethod y_M_present : Cond) ∈ w_all := wa_in (List.mem_of_getElem? (i := 468) (by decide +kernel)) rfl
theorem se_M_present : (.selects R_M y_M_present y_M_present : Cond) ∈ w_all := wa_in (List.mem_of_getElem? (i := 469) (by decide +kernel)) rfl
theorem cd_M_present : (.code y_M_present b_M_present 1 (some .int) : Cond) ∈ w_all := wa_in (List.mem_of_getElem? (i := 470) (by decide +kernel)) rfl
theorem ml_W_78 : (.methodLink R_W 78 y_M_wanted : Cond) ∈ w_all := wa_in (List.mem_of_getElem? (i := 471) (by decide +kernel)) rfl
theorem im_M_wanted : (.instanceMethod y_M_wanted : Cond) ∈ w_all := wa_in (List.mem_of_getElem? (i := 472) (by decide +kernel)) rfl
theorem se_M_wanted : (.selects R_M y_M_wanted y_M_wanted : Cond) ∈ w_all := wa_in (List.mem_of_getElem? (i := 473) (by decide +kernel)) rfl
theorem cd_M_wanted : (.code y_M_wanted b_M_wanted 1 (some .boolean) : Cond) ∈ w_all := wa_in (List.mem_of_getElem? (i := 474) (by decide +kernel)) rfl
theorem ml_W_82 : (.methodLink R_W 82 y_M_here : Cond) ∈ w_all := wa_in (List.mem_of_getElem? (i := 475) (by decide +kernel)) rfl
theorem im_M_here : (.instanceMethod y_M_here : Cond) ∈ w_all := wa_in (List.mem_of_getElem? (i := 476) (by decide +kernel)) rfl
theorem se_M_here : (.selects R_M y_M_here y_M_here : Cond) ∈ w_all := wa_in (List.mem_of_getElem? (i := 477) (by decide +kernel)) rfl
theorem cd_M_here : (.code y_M_here b_M_here 1 (some .int) : Cond) ∈ w_all := wa_in (List.mem_of_getElem? (i := 478) (by decide +kernel)) rfl
theorem ml_W_86 : (.methodLink R_W 86 y_M_place : Cond) ∈ w_all := wa_in (List.mem_of_getElem? (i := 479) (by decide +kernel)) rfl
theorem im_M_place : (.instanceMethod y_M_place : Cond) ∈ w_all := wa_in (List.mem_of_getElem? (i := 480) (by decide +kernel)) rfl
theorem se_M_place : (.selects R_M y_M_place y_M_place : Cond) ∈ w_all := wa_in (List.mem_of_getElem? (i := 481) (by decide +kernel)) rfl
theorem cd_M_place : (.code y_M_place b_M_place 2 (some .int) : Cond) ∈ w_all := wa_in (List.mem_of_getElem? (i := 482) (by decide +kernel)) rfl
theorem ml_W_90 : (.methodLink R_W 90 y_M_priority : Cond) ∈ w_all := wa_in (List.mem_of_getElem? (i := 483) (by decide +kernel)) rfl
theorem im_M_priority : (.instanceMethod y_M_priority : Cond) ∈ w_all := wa_in (List.mem_of_getElem? (i := 484) (by decide +kernel)) rfl
theorem se_M_priority : (.selects R_M y_M_priority y_M_priority : Cond) ∈ w_all := wa_in (List.mem_of_getElem? (i := 485) (by decide +kernel)) rfl
theorem cd_M_priority : (.code y_M_priority b_M_priority 2 (some .int) : Cond) ∈ w_all := wa_in (List.mem_of_getElem? (i := 486) (by decide +kernel)) rfl
theorem ml_W_94 : (.methodLink R_W 94 y_M_row : Cond) ∈ w_all := wa_in (List.mem_of_getElem? (i := 487) (by decide +kernel)) rfl
theorem im_M_row : (.instanceMethod y_M_row : Cond) ∈ w_all := wa_in (List.mem_of_getElem? (i := 488) (by decide +kernel)) rfl
theorem se_M_row : (.selects R_M y_M_row y_M_row : Cond) ∈ w_all := wa_in (List.mem_of_getElem? (i := 489) (by decide +kernel)) rfl
theorem cd_M_row : (.code y_M_row b_M_row 2 (some .int) : Cond) ∈ w_all := wa_in (List.mem_of_getElem? (i := 490) (by decide +kernel)) rfl
theorem ml_W_98 : (.methodLink R_W 98 y_M_at : Cond) ∈ w_all := wa_in (List.mem_of_getElem? (i := 491) (by decide +kernel)) rfl
theorem im_M_at : (.instanceMethod y_M_at : Cond) ∈ w_all := wa_in (List.mem_of_getElem? (i := 492) (by decide +kernel)) rfl
theorem se_M_at : (.selects R_M y_M_at y_M_at : Cond) ∈ w_all := wa_in (List.mem_of_getElem? (i := 493) (by decide +kernel)) rfl
theorem cd_M_at : (.code y_M_at b_M_at 4 (some .int) : Cond) ∈ w_all := wa_in (List.mem_of_getElem? (i := 494) (by decide +kernel)) rfl
theorem ml_W_102 : (.methodLink R_W 102 y_M_extra : Cond) ∈ w_all := wa_in (List.mem_of_getElem? (i := 495) (by decide +kernel)) rfl
theorem im_M_extra : (.instanceMethod y_M_extra : Cond) ∈ w_all := wa_in (List.mem_of_getElem? (i := 496) (by decide +kernel)) rfl
theorem se_M_extra : (.selects R_M y_M_extra y_M_extra : Cond) ∈ w_all := wa_in (List.mem_of_getElem? (i := 497) (by decide +kernel)) rfl
theorem cd_M_extra : (.code y_M_extra b_M_extra 2 (some .int) : Cond) ∈ w_all := wa_in (List.mem_of_getElem? (i := 498) (by decide +kernel)) rfl
theorem ml_W_106 : (.methodLink R_W 106 y_M_posted : Cond) ∈ w_all := wa_in (List.mem_of_getElem? (i := 499) (by decide +kernel)) rfl
theorem im_M_posted : (.instanceMethod y_M_posted : Cond) ∈ w_all := wa_in (List.mem_of_getElem? (i := 500) (by decide +kernel)) rfl
theorem se_M_posted : (.selects R_M y_M_posted y_M_posted : Cond) ∈ w_all := wa_in (List.mem_of_getElem? (i := 501) (by decide +kernel)) rfl
theorem cd_M_posted : (.code y_M_posted b_M_posted 2 (some .int) : Cond) ∈ w_all := wa_in (List.mem_of_getElem? (i := 502) (by decide +kernel)) rfl
theorem mln_X_9 : (.methodLinkNest R_X 9 y_P_init R_X : Cond) ∈ lw_tbl := List.mem_of_getElem? (i := 28) (by decide +kernel)
theorem mln_P_3 : (.methodLinkNest R_P 3 y_L_init R_X : Cond) ∈ lw_tbl := List.mem_of_getElem? (i := 31) (by decide +kernel)
theorem de_get : (.declares ⟨R_L, "get", "(II)I"⟩ : Cond) ∈ lw_tbl := List.mem_of_getElem? (i := 126) (by decide +kernel)
theorem de_process : (.declares ⟨R_L, "process", "(I)I"⟩ : Cond) ∈ lw_tbl := List.mem_of_getElem? (i := 140) (by decide +kernel)
theorem de_number : (.declares ⟨R_L, "number", "(IIII)I"⟩ : Cond) ∈ lw_tbl := List.mem_of_getElem? (i := 146) (by decide +kernel)
theorem de_row : (.declares ⟨R_L, "row", "(I)I"⟩ : Cond) ∈ lw_tbl := List.mem_of_getElem? (i := 161) (by decide +kernel)
theorem de_put : (.declares ⟨R_L, "put", "(III)V"⟩ : Cond) ∈ lw_tbl := List.mem_of_getElem? (i := 175) (by decide +kernel)
end
section
/-! my layer over the kit: a world that is a function of a pure state; contracts over it; calls as one row -/
/-- the five abstract methods are declared, the two nest mates' constructors are linked -/
def dN (U : State) : Prop := va_Nw (.declares ⟨R_L, "get", "(II)I"⟩) U ∧ va_Nw (.declares ⟨R_L, "put", "(III)V"⟩) U ∧ va_Nw (.declares ⟨R_L, "number", "(IIII)I"⟩) U ∧ va_Nw (.declares ⟨R_L, "row", "(I)I"⟩) U ∧ va_Nw (.declares ⟨R_L, "process", "(I)I"⟩) U ∧ va_Nw (.methodLinkNest R_X 9 y_P_init R_X) U ∧ va_Nw (.methodLinkNest R_P 3 y_L_init R_X) U
theorem dN.warm {s U : State} (hW : s.WarmedH U.vm) (h : dN s) : dN U := ⟨va_Nw.warmD hW h.1, va_Nw.warmD hW h.2.1, va_Nw.warmD hW h.2.2.1, va_Nw.warmD hW h.2.2.2.1, va_Nw.warmD hW h.2.2.2.2.1, va_Nw.warmM hW h.2.2.2.2.2.1, va_Nw.warmM hW h.2.2.2.2.2.2⟩
theorem dN.same {u U : State} (hv : u.vm = U.vm) (h : dN u) : dN U := ⟨va_Nw.same rfl hv h.1, va_Nw.same rfl hv h.2.1, va_Nw.same rfl hv h.2.2.1, va_Nw.same rfl hv h.2.2.2.1, va_Nw.same rfl hv h.2.2.2.2.1, va_Nw.same rfl hv h.2.2.2.2.2.1, va_Nw.same rfl hv h.2.2.2.2.2.2⟩
/-- the array types -/
abbrev ty3 (cI cZ cJ : ClassId) : List (ClassId × FieldType) := [(cI, .int), (cZ, .boolean), (cJ, .long)]
/-- a world at a state, ahead of a method and behind it -/
def gI (D : va_G) (tys : List (ClassId × FieldType)) (A : Nat → Prop) (ws : va_W) (U : State) : Prop := va_P D cls ws U.heap ∧ va_K D cls tys U ∧ va_D A ws ∧ dN U
def gB (D : va_G) (tys : List (ClassId × FieldType)) (A : Nat → Prop) (ws : va_W) (t : State) : Prop := va_P D cls ws t.heap ∧ va_K D cls tys t ∧ va_D A ws
/-- contracts: an int (or a boolean) comes back; nothing comes back -/
def gMi {S : Type} (l : Launch) (D : va_G) (tys : List (ClassId × FieldType)) (Wd : S → va_W) (y : MethodName) (b : ByteArray) (mL : Nat) (ret : Option FieldType) (rm : Room) (mc ms : Nat) (av : List Value) (ws : va_W) (post : Int32 → S → Prop) : Prop :=
  ∀ sz : Nat, Met l y (.code y b mL ret :: w_all) rm (va_Pc av (fun U => U.heap.size = sz ∧ gI D tys (fun _ => True) ws U)) (va_Qi post (fun u t => gB D tys (va_A ws sz) (Wd u) t) (va_A ws sz)) mc ms (va_A ws sz)
def gMv {S : Type} (l : Launch) (D : va_G) (tys : List (ClassId × FieldType)) (Wd : S → va_W) (y : MethodName) (b : ByteArray) (mL : Nat) (rm : Room) (mc ms : Nat) (av : List Value) (ws : va_W) (post : S → Prop) : Prop :=
  ∀ sz : Nat, Met l y (.code y b mL none :: w_all) rm (va_Pc av (fun U => U.heap.size = sz ∧ gI D tys (fun _ => True) ws U)) (va_Qv post (fun u t => gB D tys (va_A ws sz) (Wd u) t) (va_A ws sz)) mc ms (va_A ws sz)
/-- what stays through a method's body -/
def gC (p : Program) (s : State) (m : MethodId) (args : Array Value) (meth : Method) (c : Code) (cc : ByteArray) (nL : Nat) (own : String) (ret : Option FieldType) (D : va_G) (tys : List (ClassId × FieldType)) (A : Nat → Prop) : Prop :=
  p.tables.exec = Jvm.exec ∧ c.code = cc ∧ c.maxLocals = nL ∧ s.vm.findClass own = some m.cls ∧ (∀ w ∈ w_all, w.before args s = true) ∧ va_K D cls tys s ∧ (∀ q, s.heap.size ≤ q → A q) ∧ dN s ∧ meth.sig.returnType = ret ∧ meth.locks = false
/-- the heap now -/
def gV (D : va_G) (A : Nat → Prop) (s : State) (ws : va_W) (H : Heap) (locs : List Loc) : Prop := va_P D cls ws H ∧ va_D A ws ∧ va_S A s.heap H locs
section
variable {p : Program} {l : Launch} {e : Env} {R : Room} {s : State} {m : MethodId} {args : Array Value} {below : List Frame} {meth : Method} {c : Code} {H : Heap} {locs : List Loc} {cells slots : Nat} {Q : State → Prop}
variable {cc : ByteArray} {nL : Nat} {own : String} {ret : Option FieldType} {D : va_G} {tys : List (ClassId × FieldType)} {A : Nat → Prop} {pc : Nat} {ls : Array Slot} {rest st0 : List Value} {ws : va_W}
theorem gC.x (C : gC p s m args meth c cc nL own ret D tys A) : p.tables.exec = Jvm.exec := C.1
theorem gC.b (C : gC p s m args meth c cc nL own ret D tys A) : c.code = cc := C.2.1
theorem gC.ml (C : gC p s m args meth c cc nL own ret D tys A) : c.maxLocals = nL := C.2.2.1
theorem gC.ow (C : gC p s m args meth c cc nL own ret D tys A) : s.vm.findClass own = some m.cls := C.2.2.2.1
theorem gC.ts (C : gC p s m args meth c cc nL own ret D tys A) : ∀ w ∈ w_all, w.before args s = true := C.2.2.2.2.1
theorem gC.K (C : gC p s m args meth c cc nL own ret D tys A) : va_K D cls tys s := C.2.2.2.2.2.1
theorem gC.hA (C : gC p s m args meth c cc nL own ret D tys A) : ∀ q, s.heap.size ≤ q → A q := C.2.2.2.2.2.2.1
theorem gC.N (C : gC p s m args meth c cc nL own ret D tys A) : dN s := C.2.2.2.2.2.2.2.1
theorem gC.r (C : gC p s m args meth c cc nL own ret D tys A) : meth.sig.returnType = ret := C.2.2.2.2.2.2.2.2.1
theorem gC.lk (C : gC p s m args meth c cc nL own ret D tys A) : meth.locks = false := C.2.2.2.2.2.2.2.2.2
/-- a contract out of a walk -/
theorem gMi.of {S : Type} {Wd : S → va_W} {y : MethodName} {b : ByteArray} {mL mc ms : Nat} {rm : Room} {av : List Value} {post : Int32 → S → Prop} (hy : plainName y.cls = true) (hn : (lg_sl av).length ≤ mL)
    (h : ∀ (p : Program) (e : Env) (s : State) (m : MethodId) (below : List Frame) (meth : Method) (c : Code) (A : Nat → Prop) (ls : Array Slot), gC p s m av.toArray meth c b mL y.cls ret D tys A → (meth.name = y.name) → lv_has ls mL (lv_args 0 av) → gV D A s ws s.heap [] →
      W p l e rm s m av.toArray below meth c s.heap [] 0 0 (MQ below (va_Qi post (fun u t => gB D tys A (Wd u) t) A) av.toArray s mc ms A) (F0 m 0 ls [])) : gMi l D tys Wd y b mL ret rm mc ms av ws post := by
  intro sz
  refine Met.ofW (cc := b) (maxL := mL) (ret := ret) hy rfl ?_
  intro p e s m args below meth c s₁ B hml hv
  obtain ⟨rfl, hsz, hP, hK, hD0, hN⟩ := hv
  have hts := atoms_spec (ws := .code y b mL ret :: w_all) B.pre
  subst hsz
  have hD := hD0.self (sz := s.heap.size)
  have hl := lv_entry av (n := mL) hn
  rw [lg_entry_eq]
  exact h p e s m below meth c (va_A ws s.heap.size) _ ⟨B.exec, B.bytes, hml, findClass_of_methodNamed B.named, fun w hw => hts w (List.mem_cons_of_mem _ hw), hK, fun q h => Or.inr h, hN, B.returns, B.notSynchronized⟩ (name_of_methodNamed B.named B.method).1 hl ⟨hP, hD, va_S.rf⟩
theorem gMv.of {S : Type} {Wd : S → va_W} {y : MethodName} {b : ByteArray} {mL mc ms : Nat} {rm : Room} {av : List Value} {post : S → Prop} (hy : plainName y.cls = true) (hn : (lg_sl av).length ≤ mL)
    (h : ∀ (p : Program) (e : Env) (s : State) (m : MethodId) (below : List Frame) (meth : Method) (c : Code) (A : Nat → Prop) (ls : Array Slot), gC p s m av.toArray meth c b mL y.cls none D tys A → (meth.name = y.name) → lv_has ls mL (lv_args 0 av) → gV D A s ws s.heap [] →
      W p l e rm s m av.toArray below meth c s.heap [] 0 0 (MQ below (va_Qv post (fun u t => gB D tys A (Wd u) t) A) av.toArray s mc ms A) (F0 m 0 ls [])) : gMv l D tys Wd y b mL rm mc ms av ws post := by
  intro sz
  refine Met.ofW (cc := b) (maxL := mL) (ret := none) hy rfl ?_
  intro p e s m args below meth c s₁ B hml hv
  obtain ⟨rfl, hsz, hP, hK, hD0, hN⟩ := hv
  have hts := atoms_spec (ws := .code y b mL none :: w_all) B.pre
  subst hsz
  have hD := hD0.self (sz := s.heap.size)
  have hl := lv_entry av (n := mL) hn
  rw [lg_entry_eq]
  exact h p e s m below meth c (va_A ws s.heap.size) _ ⟨B.exec, B.bytes, hml, findClass_of_methodNamed B.named, fun w hw => hts w (List.mem_cons_of_mem _ hw), hK, fun q h => Or.inr h, hN, B.returns, B.notSynchronized⟩ (name_of_methodNamed B.named B.method).1 hl ⟨hP, hD, va_S.rf⟩
/-- ends -/
theorem g_iret {S : Type} {Wd : S → va_W} {post : Int32 → S → Prop} {v : Int32} (C : gC p s m args meth c cc nL own (some .int) D tys A) (u : S) (V : gV D A s (Wd u) H locs) (hp : post v u) (hdg : decode cc pc = .ok (.ireturn, 1)) :
    W p l e R s m args below meth c H locs cells slots (MQ below (va_Qi post (fun u t => gB D tys A (Wd u) t) A) args s cells slots A) (F0 m pc ls [.int v]) :=
  W.iret (v := v) C.x C.b C.r (fun t ht hW => ⟨⟨v, u, rfl, hp, by rw [ht]; exact V.1, va_K.moved hW.alike C.K, V.2.1⟩, V.2.2.F ht⟩) V.2.2.2.2 hdg C.lk
theorem g_zret {S : Type} {Wd : S → va_W} {post : Int32 → S → Prop} {v : Int32} (C : gC p s m args meth c cc nL own (some .boolean) D tys A) (u : S) (V : gV D A s (Wd u) H locs) (hp : post v u) (hn : v = 0 ∨ v = 1) (hdg : decode cc pc = .ok (.ireturn, 1)) :
    W p l e R s m args below meth c H locs cells slots (MQ below (va_Qi post (fun u t => gB D tys A (Wd u) t) A) args s cells slots A) (F0 m pc ls [.int v]) :=
  W.zret (v := v) (ty := .boolean) C.x C.b C.r (by rcases hn with rfl | rfl <;> rfl) (fun t ht hW => ⟨⟨v, u, rfl, hp, by rw [ht]; exact V.1, va_K.moved hW.alike C.K, V.2.1⟩, V.2.2.F ht⟩) V.2.2.2.2 hdg C.lk
theorem g_vret {S : Type} {Wd : S → va_W} {post : S → Prop} (C : gC p s m args meth c cc nL own none D tys A) (u : S) (V : gV D A s (Wd u) H locs) (hp : post u) (hdg : decode cc pc = .ok (.return_, 1)) :
    W p l e R s m args below meth c H locs cells slots (MQ below (va_Qv post (fun u t => gB D tys A (Wd u) t) A) args s cells slots A) (F0 m pc ls []) :=
  W.vret C.x C.b C.r (fun t ht hW => ⟨⟨u, rfl, hp, by rw [ht]; exact V.1, va_K.moved hW.alike C.K, V.2.1⟩, V.2.2.F ht⟩) V.2.2.2.2 hdg C.lk
/-- fields -/
theorem g_get {Cn ref : String} {T : u_T} {N ci index a : Nat} (C : gC p s m args meth c cc nL own ret D tys A) (V : gV D A s ws H locs) (hin : ∀ w ∈ u_ws Cn T N, w ∈ w_all) (q0 : Nat) {fs : List Value} (he : ws[q0]? = some (a, .inr (ci, fs))) (hc : cls[ci]? = some (Cn, T, N)) (k : Nat) (hk : k < N) (href : (T k).1 = ref) (hl : Cond.fieldLink own index ref (T k).2.1 (T k).2.2.1 ∈ w_all) {v : Value} (hv : fs[k]? = some v) (hdg : decode cc pc = .ok (.getfield index, 3))
    (kk : W p l e R s m args below meth c H locs cells slots Q (F0 m (pc + 3) ls (v :: rest))) : W p l e R s m args below meth c H locs cells slots Q (F0 m pc ls (.ref a :: rest)) :=
  va_get C.x C.b C.ts hin C.ow C.K V.1 q0 he hc k hk (C.ts _ hl) (fun _ h9 => by rw [← href]; exact h9) hv hdg kk
theorem g_put {Cn ref : String} {T : u_T} {N ci index a : Nat} (C : gC p s m args meth c cc nL own ret D tys A) (V : gV D A s ws H locs) (hin : ∀ w ∈ u_ws Cn T N, w ∈ w_all) (ty0 : Nat → FieldType) (hty : ∀ k, k < N → parseFieldDescriptor (T k).2.2.1 = some (ty0 k)) (hnm : ∀ a, a < N → ∀ b, b < N → a ≠ b → (T a).2.1 ≠ (T b).2.1) (q0 : Nat) {fs : List Value} (he : ws[q0]? = some (a, .inr (ci, fs))) (hc : cls[ci]? = some (Cn, T, N)) (k : Nat) (hk : k < N) (href : (T k).1 = ref) (hl : Cond.fieldLink own index ref (T k).2.1 (T k).2.2.1 ∈ w_all) (hfin : (T k).2.2.2 = false) {v : Value} (hn : narrow (ty0 k) v = v) (hfit : fits (ty0 k) v = true) (hlen : k < fs.length) {ws' : va_W} (hw : ws.set q0 (a, .inr (ci, fs.set k v)) = ws') (hdg : decode cc pc = .ok (.putfield index, 3))
    (kk : ∀ (H : Heap) (locs : List Loc), gV D A s ws' H locs → W p l e R s m args below meth c H locs cells slots Q (F0 m (pc + 3) ls rest)) : W p l e R s m args below meth c H locs cells slots Q (F0 m pc ls (v :: .ref a :: rest)) := by
  subst hw
  exact va_put C.x C.b C.ts hin ty0 hty hnm C.ow C.K V.1 V.2.1 V.2.2 q0 he hc k hk (C.ts _ hl) (fun _ h9 => by rw [← href]; exact h9) hfin (hty k hk) hn hfit hlen hdg (fun H1 l1 a b c => kk H1 l1 ⟨a, b, c⟩)
theorem g_putF {Cn : String} {T : u_T} {N ci index a : Nat} (C : gC p s m args meth c cc nL own ret D tys A) (hmn : meth.name = "<init>") (V : gV D A s ws H locs) (hin : ∀ w ∈ u_ws Cn T N, w ∈ w_all) (ty0 : Nat → FieldType) (hty : ∀ k, k < N → parseFieldDescriptor (T k).2.2.1 = some (ty0 k)) (hnm : ∀ a, a < N → ∀ b, b < N → a ≠ b → (T a).2.1 ≠ (T b).2.1) (q0 : Nat) {fs : List Value} (he : ws[q0]? = some (a, .inr (ci, fs))) (hc : cls[ci]? = some (Cn, T, N)) (k : Nat) (hk : k < N) (href : (T k).1 = own) (hl : Cond.fieldLink own index own (T k).2.1 (T k).2.2.1 ∈ w_all) (hfin : (T k).2.2.2 = true) {v : Value} (hn : narrow (ty0 k) v = v) (hfit : fits (ty0 k) v = true) (hlen : k < fs.length) {ws' : va_W} (hw : ws.set q0 (a, .inr (ci, fs.set k v)) = ws') (hdg : decode cc pc = .ok (.putfield index, 3))
    (kk : ∀ (H : Heap) (locs : List Loc), gV D A s ws' H locs → W p l e R s m args below meth c H locs cells slots Q (F0 m (pc + 3) ls rest)) : W p l e R s m args below meth c H locs cells slots Q (F0 m pc ls (v :: .ref a :: rest)) := by
  subst hw
  exact va_putF C.x C.b C.ts hin ty0 hty hnm C.ow C.K V.1 V.2.1 V.2.2 q0 he hc k hk (C.ts _ hl) (fun _ h9 => by rw [← href]; exact h9) hfin hmn href (hty k hk) hn hfit hlen hdg (fun H1 l1 a b c => kk H1 l1 ⟨a, b, c⟩)
/-- calls: the words of a call's place -/
def csV (own : String) (idx : Nat) (Cn : String) (y : MethodName) (b : ByteArray) (mL : Nat) (ret : Option FieldType) (n : Nat) : Prop :=
  GoodIn w_all (wsV own idx Cn y (.code y b mL ret :: w_all)) ∧ (y.cls = Cn ∧ y.cls ≠ "java/lang/invoke/MethodHandle" ∧ y.cls ≠ "java/lang/invoke/VarHandle" ∧ (parseMethodDescriptor y.desc).map (fun d => d.parameters.length) = some n)
theorem csV.of {Cn : String} {idx n mL : Nat} {y : MethodName} {b : ByteArray} (h1 : Cond.methodLink own idx y ∈ w_all) (h2 : Cond.instanceMethod y ∈ w_all) (h3 : Cond.selects Cn y y ∈ w_all) (h4 : Cond.initialized Cn ∈ w_all) (h5 : Cond.code y b mL ret ∈ w_all) (hd : y.cls = Cn ∧ y.cls ≠ "java/lang/invoke/MethodHandle" ∧ y.cls ≠ "java/lang/invoke/VarHandle" ∧ (parseMethodDescriptor y.desc).map (fun d => d.parameters.length) = some n) : csV own idx Cn y b mL ret n := by
  refine ⟨fun w hw => ?_, hd⟩
  have hin : w ∈ w_all := by
    simp only [wsV, List.mem_append, List.mem_cons, List.not_mem_nil, or_false] at hw
    rcases hw with (rfl | rfl | rfl | rfl) | rfl | hw <;> assumption
  exact ⟨hin, wa_good hin⟩
def csS (own : String) (idx : Nat) (y : MethodName) (b : ByteArray) (mL : Nat) (ret : Option FieldType) (n : Nat) : Prop :=
  GoodIn w_all (wsS own idx y (.code y b mL ret :: w_all)) ∧ (y.cls = own ∧ y.cls ≠ "java/lang/invoke/MethodHandle" ∧ y.cls ≠ "java/lang/invoke/VarHandle" ∧ (parseMethodDescriptor y.desc).map (fun d => d.parameters.length) = some n)
theorem csS.of {idx n mL : Nat} {y : MethodName} {b : ByteArray} (h1 : Cond.methodLink own idx y ∈ w_all) (h2 : Cond.static y ∈ w_all) (h4 : Cond.initialized own ∈ w_all) (h5 : Cond.code y b mL ret ∈ w_all) (hd : y.cls = own ∧ y.cls ≠ "java/lang/invoke/MethodHandle" ∧ y.cls ≠ "java/lang/invoke/VarHandle" ∧ (parseMethodDescriptor y.desc).map (fun d => d.parameters.length) = some n) : csS own idx y b mL ret n := by
  refine ⟨fun w hw => ?_, hd⟩
  have hin : w ∈ w_all := by
    simp only [wsS, List.mem_append, List.mem_cons, List.not_mem_nil, or_false] at hw
    rcases hw with (rfl | rfl | rfl) | rfl | hw <;> assumption
  exact ⟨hin, wa_good hin⟩
def csU (own : String) (idx : Nat) (Cn owner : String) (x y : MethodName) (b : ByteArray) (mL : Nat) (ret : Option FieldType) (n : Nat) : Prop :=
  GoodIn w_all (va_wsU own idx Cn owner x y (.code y b mL ret :: w_all)) ∧ (owner ≠ "java/lang/invoke/MethodHandle" ∧ owner ≠ "java/lang/invoke/VarHandle" ∧ (parseMethodDescriptor x.desc).map (fun d => d.parameters.length) = some n)
theorem csU.of {Cn owner : String} {idx n mL : Nat} {x y : MethodName} {b : ByteArray} (h1 : Cond.methodLink own idx x ∈ w_all) (h2 : Cond.sameMethod x.cls owner x.name x.desc ∈ w_all) (h3 : Cond.selects Cn x y ∈ w_all) (h4 : Cond.instanceMethod y ∈ w_all) (h6 : Cond.initialized y.cls ∈ w_all) (h5 : Cond.code y b mL ret ∈ w_all) (hd : owner ≠ "java/lang/invoke/MethodHandle" ∧ owner ≠ "java/lang/invoke/VarHandle" ∧ (parseMethodDescriptor x.desc).map (fun d => d.parameters.length) = some n) : csU own idx Cn owner x y b mL ret n := by
  refine ⟨fun w hw => ?_, hd⟩
  have hin : w ∈ w_all := by
    simp only [va_wsU, List.mem_append, List.mem_cons, List.not_mem_nil, or_false] at hw
    rcases hw with (rfl | rfl | rfl | rfl | rfl) | rfl | hw <;> assumption
  exact ⟨hin, wa_good hin⟩
def csI (own : String) (idx : Nat) (y : MethodName) (b : ByteArray) (mL : Nat) (n : Nat) : Prop :=
  GoodIn w_all (.code y b mL none :: w_all) ∧ Cond.initialized y.cls ∈ w_all ∧ Cond.methodLink own idx y ∈ w_all ∧ Cond.instanceMethod y ∈ w_all ∧ y.name = "<init>" ∧ (y.cls ≠ "java/lang/invoke/MethodHandle" ∧ y.cls ≠ "java/lang/invoke/VarHandle" ∧ (parseMethodDescriptor y.desc).map (fun d => d.parameters.length) = some n)
theorem wa_code {y : MethodName} {b : ByteArray} {mL : Nat} (h5 : Cond.code y b mL ret ∈ w_all) : GoodIn w_all (.code y b mL ret :: w_all) := fun w hw => by
  have hin : w ∈ w_all := by
    rcases List.mem_cons.mp hw with rfl | hw <;> assumption
  exact ⟨hin, wa_good hin⟩
/-- blindness, and a callee's start -/
theorem gI.blind {av : List Value} {sz : Nat} : FrameBlind (va_Pc av (fun U => U.heap.size = sz ∧ gI D tys (fun _ => True) ws U)) := fun a U g mk q => by
  obtain ⟨q0, q1, qP, qK, qD, qN⟩ := q
  exact ⟨q0, q1, qP, va_K.moved (u := U) (U := U.calling g mk a) (Vm.Alike.refl U.vm) qK, qD, dN.same (u := U) (U := U.calling g mk a) rfl qN⟩
theorem gI.start {wc : va_W} {av : List Value} (C : gC p s m args meth c cc nL own ret D tys A) (hP : va_P D cls wc H) {B : Nat → Prop} (hD : va_D B wc) : ∀ U : State, U.heap = H → s.WarmedH U.vm → va_Pc av (fun U => U.heap.size = H.size ∧ gI D tys (fun _ => True) wc U) av.toArray U := fun U hU hW =>
  ⟨rfl, by rw [hU], by rw [hU]; exact hP, va_K.moved hW.alike C.K, hD.weaken (fun _ _ _ _ => trivial), dN.warm hW C.N⟩
theorem rg_map (w : va_W) : (List.range w.length).map (fun i => w[i]?) = w.map some := by
  apply List.ext_getElem?
  intro i
  by_cases h : i < w.length
  · simp [h]
  · simp [h]
theorem gV.free {isC : List Nat} {wc : va_W} (C : gC p s m args meth c cc nL own ret D tys A) (V : gV D A s ws H locs) (hC : isC.map (fun i => ws[i]?) = wc.map some) : ∀ q, va_A wc H.size q → A q := va_free V.2.1 V.2.2 C.hA isC hC
/-- behind a call of an int -/
theorem g_backi {S : Type} {Wd : S → va_W} {post : Int32 → S → Prop} {wc wr : va_W} {a : Array Value} {mc ms : Nat} (isC isR : List Nat) (C : gC p s m args meth c cc nL own ret D tys A) (V : gV D A s ws H locs) (hC : isC.map (fun i => ws[i]?) = wc.map some) (hR : isR.map (fun i => ws[i]?) = wr.map some) (hn : va_nd isR = true) (hdis : ∀ i ∈ isR, i ∉ isC)
    (hr : va_Run p l e R s m args below meth c H locs cells slots mc ms (F0 m pc ls st0) rest (va_Qi post (fun u t => gB D tys (va_A wc H.size) (Wd u) t) (va_A wc H.size) a) (va_A wc H.size))
    (kk : ∀ (r : Int32) (u : S) (H : Heap) (locs : List Loc), post r u → gV D A s (wr ++ Wd u) H locs → W p l e R s m args below meth c H locs (cells + mc) (slots + ms) Q (F0 m (pc + 3) ls (.int r :: rest))) : W p l e R s m args below meth c H locs cells slots Q (F0 m pc ls st0) := by
  have hF := V.free C hC
  refine va_calli hr V.2.2 (fun q _ h => hF q h) hF (fun r u t H1 locs1 ht hvm hw hB hz1 hk1 hS => ?_)
  obtain ⟨hP1, hK1, hD1⟩ := hB
  rw [ht] at hP1
  obtain ⟨hP, hD⟩ := va_join (wr := wr) (w1 := Wd u) V.1 V.2.1 isC isR hC hR hn hdis hk1 hF hP1 hD1
  exact kk r u H1 locs1 hw ⟨hP, hD, hS⟩
theorem g_backv {S : Type} {Wd : S → va_W} {post : S → Prop} {wc wr : va_W} {a : Array Value} {mc ms : Nat} (isC isR : List Nat) (C : gC p s m args meth c cc nL own ret D tys A) (V : gV D A s ws H locs) (hC : isC.map (fun i => ws[i]?) = wc.map some) (hR : isR.map (fun i => ws[i]?) = wr.map some) (hn : va_nd isR = true) (hdis : ∀ i ∈ isR, i ∉ isC)
    (hr : va_Run p l e R s m args below meth c H locs cells slots mc ms (F0 m pc ls st0) rest (va_Qv post (fun u t => gB D tys (va_A wc H.size) (Wd u) t) (va_A wc H.size) a) (va_A wc H.size))
    (kk : ∀ (u : S) (H : Heap) (locs : List Loc), post u → gV D A s (wr ++ Wd u) H locs → W p l e R s m args below meth c H locs (cells + mc) (slots + ms) Q (F0 m (pc + 3) ls rest)) : W p l e R s m args below meth c H locs cells slots Q (F0 m pc ls st0) := by
  have hF := V.free C hC
  refine va_callv hr V.2.2 (fun q _ h => hF q h) hF (fun u t H1 locs1 ht hvm hw hB hz1 hk1 hS => ?_)
  obtain ⟨hP1, hK1, hD1⟩ := hB
  rw [ht] at hP1
  obtain ⟨hP, hD⟩ := va_join (wr := wr) (w1 := Wd u) V.1 V.2.1 isC isR hC hR hn hdis hk1 hF hP1 hD1
  exact kk u H1 locs1 hw ⟨hP, hD, hS⟩
theorem gV.sub {wc : va_W} (V : gV D A s ws H locs) (isC : List Nat) (hn : va_nd isC = true) (hC : isC.map (fun i => ws[i]?) = wc.map some) : gV D A s wc H locs := by
  refine ⟨fun k q hk => ?_, V.2.1.sub isC hn hC, V.2.2⟩
  have h1 : (isC.map (fun i => ws[i]?))[k]? = some (some q) := by rw [hC, List.getElem?_map, hk]; rfl
  rw [List.getElem?_map] at h1
  cases hi : isC[k]? with
  | none => rw [hi] at h1; cases h1
  | some i => rw [hi] at h1; exact V.1 i q (Option.some.inj h1)
/-- calls within one world: the whole of it goes along -/
theorem g_iV {S : Type} {Wd : S → va_W} {post : Int32 → S → Prop} {y : MethodName} {b : ByteArray} {mL n idx a ci q0 : Nat} {ret' : Option FieldType} {rm : Room} {As : List Value} {Cn : String} {T : u_T} {N : Nat} {fs : List Value} (C : gC p s m args meth c cc nL own ret D tys A) (V : gV D A s ws H locs) (cs : csV own idx Cn y b mL ret' n) (hM : gMi l D tys Wd y b mL ret' rm 0 0 (.ref a :: As) ws post) (he : ws[q0]? = some (a, .inr (ci, fs))) (hc : cls[ci]? = some (Cn, T, N))
    (hR : rm.cells = 0 ∧ rm.slots = 0 ∧ rm.frames + 1 ≤ R.frames ∧ 8 + (mL + 11) + rm.locals ≤ R.locals ∧ cells ≤ R.cells ∧ slots ≤ R.slots) (hlen : As.length = n) (hls : ls.size = nL) (hst : st0 = As.reverse ++ .ref a :: rest) (hrm : (rest.map fun v => v.category).sum ≤ 8) (hdg : decode cc pc = .ok (.invokevirtual idx, 3))
    (kk : ∀ (r : Int32) (u : S) (H : Heap) (locs : List Loc), post r u → gV D A s (Wd u) H locs → W p l e R s m args below meth c H locs cells slots Q (F0 m (pc + 3) ls (.int r :: rest))) : W p l e R s m args below meth c H locs cells slots Q (F0 m pc ls st0) :=
  g_backi (wr := []) (List.range ws.length) [] C V (rg_map ws) rfl rfl (fun _ h => by cases h) (va_runV (As := As) (rest := rest) (Ts := w_all) ⟨C.x, C.b, C.ml, C.ow, C.ts⟩ (hM H.size) (cwV n C.ts cs.1 rfl hR.1 hR.2.1 cs.2 ⟨hR.2.2.1, hR.2.2.2.1⟩) ⟨gI.blind, va_recv C.K V.1 hc he, gI.start C V.1 V.2.1⟩ rfl hlen hls hst (lv_room hrm) hdg ⟨hR.2.2.2.2.1, hR.2.2.2.2.2⟩) kk
theorem g_vV {S : Type} {Wd : S → va_W} {post : S → Prop} {y : MethodName} {b : ByteArray} {mL n idx a ci q0 : Nat} {rm : Room} {As : List Value} {Cn : String} {T : u_T} {N : Nat} {fs : List Value} (C : gC p s m args meth c cc nL own ret D tys A) (V : gV D A s ws H locs) (cs : csV own idx Cn y b mL none n) (hM : gMv l D tys Wd y b mL rm 0 0 (.ref a :: As) ws post) (he : ws[q0]? = some (a, .inr (ci, fs))) (hc : cls[ci]? = some (Cn, T, N))
    (hR : rm.cells = 0 ∧ rm.slots = 0 ∧ rm.frames + 1 ≤ R.frames ∧ 8 + (mL + 11) + rm.locals ≤ R.locals ∧ cells ≤ R.cells ∧ slots ≤ R.slots) (hlen : As.length = n) (hls : ls.size = nL) (hst : st0 = As.reverse ++ .ref a :: rest) (hrm : (rest.map fun v => v.category).sum ≤ 8) (hdg : decode cc pc = .ok (.invokevirtual idx, 3))
    (kk : ∀ (u : S) (H : Heap) (locs : List Loc), post u → gV D A s (Wd u) H locs → W p l e R s m args below meth c H locs cells slots Q (F0 m (pc + 3) ls rest)) : W p l e R s m args below meth c H locs cells slots Q (F0 m pc ls st0) :=
  g_backv (wr := []) (List.range ws.length) [] C V (rg_map ws) rfl rfl (fun _ h => by cases h) (va_runV (As := As) (rest := rest) (Ts := w_all) ⟨C.x, C.b, C.ml, C.ow, C.ts⟩ (hM H.size) (cwV n C.ts cs.1 rfl hR.1 hR.2.1 cs.2 ⟨hR.2.2.1, hR.2.2.2.1⟩) ⟨gI.blind, va_recv C.K V.1 hc he, gI.start C V.1 V.2.1⟩ rfl hlen hls hst (lv_room hrm) hdg ⟨hR.2.2.2.2.1, hR.2.2.2.2.2⟩) kk
theorem g_iS {S : Type} {Wd : S → va_W} {post : Int32 → S → Prop} {y : MethodName} {b : ByteArray} {mL n idx : Nat} {ret' : Option FieldType} {rm : Room} {As : List Value} (C : gC p s m args meth c cc nL own ret D tys A) (V : gV D A s ws H locs) (cs : csS own idx y b mL ret' n) (hM : gMi l D tys Wd y b mL ret' rm 0 0 As ws post)
    (hR : rm.cells = 0 ∧ rm.slots = 0 ∧ rm.frames + 1 ≤ R.frames ∧ 8 + (mL + 11) + rm.locals ≤ R.locals ∧ cells ≤ R.cells ∧ slots ≤ R.slots) (hlen : As.length = n) (hls : ls.size = nL) (hst : st0 = As.reverse ++ rest) (hrm : (rest.map fun v => v.category).sum ≤ 8) (hdg : decode cc pc = .ok (.invokestatic idx, 3))
    (kk : ∀ (r : Int32) (u : S) (H : Heap) (locs : List Loc), post r u → gV D A s (Wd u) H locs → W p l e R s m args below meth c H locs cells slots Q (F0 m (pc + 3) ls (.int r :: rest))) : W p l e R s m args below meth c H locs cells slots Q (F0 m pc ls st0) :=
  g_backi (wr := []) (List.range ws.length) [] C V (rg_map ws) rfl rfl (fun _ h => by cases h) (va_runS (As := As) (rest := rest) (Ts := w_all) ⟨C.x, C.b, C.ml, C.ow, C.ts⟩ (hM H.size) (cwS n C.ts cs.1 rfl hR.1 hR.2.1 cs.2 ⟨hR.2.2.1, hR.2.2.2.1⟩) ⟨gI.blind, gI.start C V.1 V.2.1⟩ rfl hlen hls hst (lv_room hrm) hdg ⟨hR.2.2.2.2.1, hR.2.2.2.2.2⟩) kk
theorem g_iU {S : Type} {Wd : S → va_W} {post : Int32 → S → Prop} {x y : MethodName} {b : ByteArray} {mL n idx a ci q0 : Nat} {ret' : Option FieldType} {rm : Room} {As : List Value} {Cn owner : String} {T : u_T} {N : Nat} {fs : List Value} (C : gC p s m args meth c cc nL own ret D tys A) (V : gV D A s ws H locs) (hz : dN s → va_Nw (.declares ⟨owner, x.name, x.desc⟩) s) (cs : csU own idx Cn owner x y b mL ret' n) (hM : gMi l D tys Wd y b mL ret' rm 0 0 (.ref a :: As) ws post) (he : ws[q0]? = some (a, .inr (ci, fs))) (hc : cls[ci]? = some (Cn, T, N))
    (hR : rm.cells = 0 ∧ rm.slots = 0 ∧ rm.frames + 1 ≤ R.frames ∧ 8 + (mL + 11) + rm.locals ≤ R.locals ∧ cells ≤ R.cells ∧ slots ≤ R.slots) (hlen : As.length = n) (hls : ls.size = nL) (hst : st0 = As.reverse ++ .ref a :: rest) (hrm : (rest.map fun v => v.category).sum ≤ 8) (hdg : decode cc pc = .ok (.invokevirtual idx, 3))
    (kk : ∀ (r : Int32) (u : S) (H : Heap) (locs : List Loc), post r u → gV D A s (Wd u) H locs → W p l e R s m args below meth c H locs cells slots Q (F0 m (pc + 3) ls (.int r :: rest))) : W p l e R s m args below meth c H locs cells slots Q (F0 m pc ls st0) :=
  g_backi (wr := []) (List.range ws.length) [] C V (rg_map ws) rfl rfl (fun _ h => by cases h) (va_runU (x := x) (owner := owner) (As := As) (rest := rest) (Ts := w_all) ⟨C.x, C.b, C.ml, C.ow, C.ts⟩ (hM H.size) (va_cwA n C.ts cs.1 rfl hR.1 hR.2.1 (hz C.N) cs.2 ⟨hR.2.2.1, hR.2.2.2.1⟩) ⟨gI.blind, va_recv C.K V.1 hc he, gI.start C V.1 V.2.1⟩ rfl hlen hls hst (lv_room hrm) hdg ⟨hR.2.2.2.2.1, hR.2.2.2.2.2⟩) kk
theorem g_vU {S : Type} {Wd : S → va_W} {post : S → Prop} {x y : MethodName} {b : ByteArray} {mL n idx a ci q0 : Nat} {rm : Room} {As : List Value} {Cn owner : String} {T : u_T} {N : Nat} {fs : List Value} (C : gC p s m args meth c cc nL own ret D tys A) (V : gV D A s ws H locs) (hz : dN s → va_Nw (.declares ⟨owner, x.name, x.desc⟩) s) (cs : csU own idx Cn owner x y b mL none n) (hM : gMv l D tys Wd y b mL rm 0 0 (.ref a :: As) ws post) (he : ws[q0]? = some (a, .inr (ci, fs))) (hc : cls[ci]? = some (Cn, T, N))
    (hR : rm.cells = 0 ∧ rm.slots = 0 ∧ rm.frames + 1 ≤ R.frames ∧ 8 + (mL + 11) + rm.locals ≤ R.locals ∧ cells ≤ R.cells ∧ slots ≤ R.slots) (hlen : As.length = n) (hls : ls.size = nL) (hst : st0 = As.reverse ++ .ref a :: rest) (hrm : (rest.map fun v => v.category).sum ≤ 8) (hdg : decode cc pc = .ok (.invokevirtual idx, 3))
    (kk : ∀ (u : S) (H : Heap) (locs : List Loc), post u → gV D A s (Wd u) H locs → W p l e R s m args below meth c H locs cells slots Q (F0 m (pc + 3) ls rest)) : W p l e R s m args below meth c H locs cells slots Q (F0 m pc ls st0) :=
  g_backv (wr := []) (List.range ws.length) [] C V (rg_map ws) rfl rfl (fun _ h => by cases h) (va_runU (x := x) (owner := owner) (As := As) (rest := rest) (Ts := w_all) ⟨C.x, C.b, C.ml, C.ow, C.ts⟩ (hM H.size) (va_cwA n C.ts cs.1 rfl hR.1 hR.2.1 (hz C.N) cs.2 ⟨hR.2.2.1, hR.2.2.2.1⟩) ⟨gI.blind, va_recv C.K V.1 hc he, gI.start C V.1 V.2.1⟩ rfl hlen hls hst (lv_room hrm) hdg ⟨hR.2.2.2.2.1, hR.2.2.2.2.2⟩) kk
end
end
section
theorem d_X_init_0 : decode b_X_init 0 = .ok (.aload_n 0, 1) := by decide +kernel
theorem d_X_init_1 : decode b_X_init 1 = .ok (.invokespecial 1, 3) := by decide +kernel
theorem d_X_init_4 : decode b_X_init 4 = .ok (.aload_n 0, 1) := by decide +kernel
theorem d_X_init_5 : decode b_X_init 5 = .ok (.new 7, 3) := by decide +kernel
theorem d_X_init_8 : decode b_X_init 8 = .ok (.dup, 1) := by decide +kernel
theorem d_X_init_9 : decode b_X_init 9 = .ok (.invokespecial 9, 3) := by decide +kernel
theorem d_X_init_12 : decode b_X_init 12 = .ok (.putfield 10, 3) := by decide +kernel
theorem d_X_init_15 : decode b_X_init 15 = .ok (.aload_n 0, 1) := by decide +kernel
theorem d_X_init_16 : decode b_X_init 16 = .ok (.new 16, 3) := by decide +kernel
theorem d_X_init_19 : decode b_X_init 19 = .ok (.dup, 1) := by decide +kernel
theorem d_X_init_20 : decode b_X_init 20 = .ok (.aload_n 0, 1) := by decide +kernel
theorem d_X_init_21 : decode b_X_init 21 = .ok (.getfield 10, 3) := by decide +kernel
theorem d_X_init_24 : decode b_X_init 24 = .ok (.bipush 40, 2) := by decide +kernel
theorem d_X_init_26 : decode b_X_init 26 = .ok (.invokespecial 18, 3) := by decide +kernel
theorem d_X_init_29 : decode b_X_init 29 = .ok (.putfield 21, 3) := by decide +kernel
theorem d_X_init_32 : decode b_X_init 32 = .ok (.aload_n 0, 1) := by decide +kernel
theorem d_X_init_33 : decode b_X_init 33 = .ok (.bipush 32, 2) := by decide +kernel
theorem d_X_init_35 : decode b_X_init 35 = .ok (.newarray .boolean, 2) := by decide +kernel
theorem d_X_init_37 : decode b_X_init 37 = .ok (.putfield 25, 3) := by decide +kernel
theorem d_X_init_40 : decode b_X_init 40 = .ok (.iconst 0, 1) := by decide +kernel
theorem d_X_init_41 : decode b_X_init 41 = .ok (.istore_n 1, 1) := by decide +kernel
theorem d_X_init_42 : decode b_X_init 42 = .ok (.iload_n 1, 1) := by decide +kernel
theorem d_X_init_43 : decode b_X_init 43 = .ok (.bipush 16, 2) := by decide +kernel
theorem d_X_init_45 : decode b_X_init 45 = .ok (.if_icmp .ge 24, 3) := by decide +kernel
theorem d_X_init_48 : decode b_X_init 48 = .ok (.aload_n 0, 1) := by decide +kernel
theorem d_X_init_49 : decode b_X_init 49 = .ok (.getfield 10, 3) := by decide +kernel
theorem d_X_init_52 : decode b_X_init 52 = .ok (.bipush 66, 2) := by decide +kernel
theorem d_X_init_54 : decode b_X_init 54 = .ok (.iconst 2, 1) := by decide +kernel
theorem d_X_init_55 : decode b_X_init 55 = .ok (.iload_n 1, 1) := by decide +kernel
theorem d_X_init_56 : decode b_X_init 56 = .ok (.imul, 1) := by decide +kernel
theorem d_X_init_57 : decode b_X_init 57 = .ok (.iadd, 1) := by decide +kernel
theorem d_X_init_58 : decode b_X_init 58 = .ok (.iconst 2, 1) := by decide +kernel
theorem d_X_init_59 : decode b_X_init 59 = .ok (.iconst 1, 1) := by decide +kernel
theorem d_X_init_60 : decode b_X_init 60 = .ok (.invokevirtual 29, 3) := by decide +kernel
theorem d_X_init_63 : decode b_X_init 63 = .ok (.iinc 1 1, 3) := by decide +kernel
theorem d_X_init_66 : decode b_X_init 66 = .ok (.goto (-24), 3) := by decide +kernel
theorem d_X_init_69 : decode b_X_init 69 = .ok (.iconst 0, 1) := by decide +kernel
theorem d_X_init_70 : decode b_X_init 70 = .ok (.istore_n 1, 1) := by decide +kernel
theorem d_X_init_71 : decode b_X_init 71 = .ok (.iload_n 1, 1) := by decide +kernel
theorem d_X_init_72 : decode b_X_init 72 = .ok (.bipush 8, 2) := by decide +kernel
theorem d_X_init_74 : decode b_X_init 74 = .ok (.if_icmp .ge 25, 3) := by decide +kernel
theorem d_X_init_77 : decode b_X_init 77 = .ok (.aload_n 0, 1) := by decide +kernel
theorem d_X_init_78 : decode b_X_init 78 = .ok (.getfield 10, 3) := by decide +kernel
theorem d_X_init_81 : decode b_X_init 81 = .ok (.bipush 120, 2) := by decide +kernel
theorem d_X_init_83 : decode b_X_init 83 = .ok (.iload_n 1, 1) := by decide +kernel
theorem d_X_init_84 : decode b_X_init 84 = .ok (.bipush 98, 2) := by decide +kernel
theorem d_X_init_86 : decode b_X_init 86 = .ok (.iconst 2, 1) := by decide +kernel
theorem d_X_init_87 : decode b_X_init 87 = .ok (.iload_n 1, 1) := by decide +kernel
theorem d_X_init_88 : decode b_X_init 88 = .ok (.imul, 1) := by decide +kernel
theorem d_X_init_89 : decode b_X_init 89 = .ok (.iadd, 1) := by decide +kernel
theorem d_X_init_90 : decode b_X_init 90 = .ok (.invokevirtual 29, 3) := by decide +kernel
theorem d_X_init_93 : decode b_X_init 93 = .ok (.iinc 1 1, 3) := by decide +kernel
theorem d_X_init_96 : decode b_X_init 96 = .ok (.goto (-25), 3) := by decide +kernel
theorem d_X_init_99 : decode b_X_init 99 = .ok (.aload_n 0, 1) := by decide +kernel
theorem d_X_init_100 : decode b_X_init 100 = .ok (.getfield 10, 3) := by decide +kernel
theorem d_X_init_103 : decode b_X_init 103 = .ok (.bipush 114, 2) := by decide +kernel
theorem d_X_init_105 : decode b_X_init 105 = .ok (.iconst 0, 1) := by decide +kernel
theorem d_X_init_106 : decode b_X_init 106 = .ok (.bipush 120, 2) := by decide +kernel
theorem d_X_init_108 : decode b_X_init 108 = .ok (.invokevirtual 29, 3) := by decide +kernel
theorem d_X_init_111 : decode b_X_init 111 = .ok (.aload_n 0, 1) := by decide +kernel
theorem d_X_init_112 : decode b_X_init 112 = .ok (.getfield 21, 3) := by decide +kernel
theorem d_X_init_115 : decode b_X_init 115 = .ok (.bipush 114, 2) := by decide +kernel
theorem d_X_init_117 : decode b_X_init 117 = .ok (.invokevirtual 33, 3) := by decide +kernel
theorem d_X_init_120 : decode b_X_init 120 = .ok (.return_, 1) := by decide +kernel
theorem d_P_init_0 : decode b_P_init 0 = .ok (.aload_n 0, 1) := by decide +kernel
theorem d_P_init_1 : decode b_P_init 1 = .ok (.invokespecial 3, 3) := by decide +kernel
theorem d_P_init_4 : decode b_P_init 4 = .ok (.aload_n 0, 1) := by decide +kernel
theorem d_P_init_5 : decode b_P_init 5 = .ok (.sipush 256, 3) := by decide +kernel
theorem d_P_init_8 : decode b_P_init 8 = .ok (.newarray .int, 2) := by decide +kernel
theorem d_P_init_10 : decode b_P_init 10 = .ok (.putfield 9, 3) := by decide +kernel
theorem d_P_init_13 : decode b_P_init 13 = .ok (.aload_n 0, 1) := by decide +kernel
theorem d_P_init_14 : decode b_P_init 14 = .ok (.bipush 8, 2) := by decide +kernel
theorem d_P_init_16 : decode b_P_init 16 = .ok (.newarray .int, 2) := by decide +kernel
theorem d_P_init_18 : decode b_P_init 18 = .ok (.putfield 15, 3) := by decide +kernel
theorem d_P_init_21 : decode b_P_init 21 = .ok (.return_, 1) := by decide +kernel
theorem d_L_init_0 : decode b_L_init 0 = .ok (.aload_n 0, 1) := by decide +kernel
theorem d_L_init_1 : decode b_L_init 1 = .ok (.invokespecial 1, 3) := by decide +kernel
theorem d_L_init_4 : decode b_L_init 4 = .ok (.return_, 1) := by decide +kernel
theorem d_S_init_0 : decode b_S_init 0 = .ok (.aload_n 0, 1) := by decide +kernel
theorem d_S_init_1 : decode b_S_init 1 = .ok (.invokespecial 3, 3) := by decide +kernel
theorem d_S_init_4 : decode b_S_init 4 = .ok (.aload_n 0, 1) := by decide +kernel
theorem d_S_init_5 : decode b_S_init 5 = .ok (.aload_n 1, 1) := by decide +kernel
theorem d_S_init_6 : decode b_S_init 6 = .ok (.putfield 9, 3) := by decide +kernel
theorem d_S_init_9 : decode b_S_init 9 = .ok (.aload_n 0, 1) := by decide +kernel
theorem d_S_init_10 : decode b_S_init 10 = .ok (.iload_n 2, 1) := by decide +kernel
theorem d_S_init_11 : decode b_S_init 11 = .ok (.newarray .int, 2) := by decide +kernel
theorem d_S_init_13 : decode b_S_init 13 = .ok (.putfield 15, 3) := by decide +kernel
theorem d_S_init_16 : decode b_S_init 16 = .ok (.return_, 1) := by decide +kernel
theorem d_P_put_0 : decode b_P_put 0 = .ok (.iload_n 1, 1) := by decide +kernel
theorem d_P_put_1 : decode b_P_put 1 = .ok (.bipush 120, 2) := by decide +kernel
theorem d_P_put_3 : decode b_P_put 3 = .ok (.if_icmp .ne 13, 3) := by decide +kernel
theorem d_P_put_6 : decode b_P_put 6 = .ok (.aload_n 0, 1) := by decide +kernel
theorem d_P_put_7 : decode b_P_put 7 = .ok (.getfield 15, 3) := by decide +kernel
theorem d_P_put_10 : decode b_P_put 10 = .ok (.iload_n 2, 1) := by decide +kernel
theorem d_P_put_11 : decode b_P_put 11 = .ok (.iload_n 3, 1) := by decide +kernel
theorem d_P_put_12 : decode b_P_put 12 = .ok (.iastore, 1) := by decide +kernel
theorem d_P_put_13 : decode b_P_put 13 = .ok (.goto 16, 3) := by decide +kernel
theorem d_P_put_16 : decode b_P_put 16 = .ok (.aload_n 0, 1) := by decide +kernel
theorem d_P_put_17 : decode b_P_put 17 = .ok (.getfield 9, 3) := by decide +kernel
theorem d_P_put_20 : decode b_P_put 20 = .ok (.iconst 4, 1) := by decide +kernel
theorem d_P_put_21 : decode b_P_put 21 = .ok (.iload_n 1, 1) := by decide +kernel
theorem d_P_put_22 : decode b_P_put 22 = .ok (.iconst 1, 1) := by decide +kernel
theorem d_P_put_23 : decode b_P_put 23 = .ok (.ishr, 1) := by decide +kernel
theorem d_P_put_24 : decode b_P_put 24 = .ok (.imul, 1) := by decide +kernel
theorem d_P_put_25 : decode b_P_put 25 = .ok (.iload_n 2, 1) := by decide +kernel
theorem d_P_put_26 : decode b_P_put 26 = .ok (.iadd, 1) := by decide +kernel
theorem d_P_put_27 : decode b_P_put 27 = .ok (.iload_n 3, 1) := by decide +kernel
theorem d_P_put_28 : decode b_P_put 28 = .ok (.iastore, 1) := by decide +kernel
theorem d_P_put_29 : decode b_P_put 29 = .ok (.return_, 1) := by decide +kernel
theorem d_S_begin_0 : decode b_S_begin 0 = .ok (.aload_n 0, 1) := by decide +kernel
theorem d_S_begin_1 : decode b_S_begin 1 = .ok (.iload_n 1, 1) := by decide +kernel
theorem d_S_begin_2 : decode b_S_begin 2 = .ok (.putfield 19, 3) := by decide +kernel
theorem d_S_begin_5 : decode b_S_begin 5 = .ok (.aload_n 0, 1) := by decide +kernel
theorem d_S_begin_6 : decode b_S_begin 6 = .ok (.iconst 0, 1) := by decide +kernel
theorem d_S_begin_7 : decode b_S_begin 7 = .ok (.putfield 23, 3) := by decide +kernel
theorem d_S_begin_10 : decode b_S_begin 10 = .ok (.aload_n 0, 1) := by decide +kernel
theorem d_S_begin_11 : decode b_S_begin 11 = .ok (.iconst 0, 1) := by decide +kernel
theorem d_S_begin_12 : decode b_S_begin 12 = .ok (.putfield 27, 3) := by decide +kernel
theorem d_S_begin_15 : decode b_S_begin 15 = .ok (.aload_n 0, 1) := by decide +kernel
theorem d_S_begin_16 : decode b_S_begin 16 = .ok (.iconst 0, 1) := by decide +kernel
theorem d_S_begin_17 : decode b_S_begin 17 = .ok (.putfield 30, 3) := by decide +kernel
theorem d_S_begin_20 : decode b_S_begin 20 = .ok (.aload_n 0, 1) := by decide +kernel
theorem d_S_begin_21 : decode b_S_begin 21 = .ok (.iconst 0, 1) := by decide +kernel
theorem d_S_begin_22 : decode b_S_begin 22 = .ok (.putfield 33, 3) := by decide +kernel
theorem d_S_begin_25 : decode b_S_begin 25 = .ok (.return_, 1) := by decide +kernel
theorem d_X_make_0 : decode b_X_make 0 = .ok (.iload_n 1, 1) := by decide +kernel
theorem d_X_make_1 : decode b_X_make 1 = .ok (.ifCond .lt 25, 3) := by decide +kernel
theorem d_X_make_4 : decode b_X_make 4 = .ok (.iload_n 1, 1) := by decide +kernel
theorem d_X_make_5 : decode b_X_make 5 = .ok (.bipush 32, 2) := by decide +kernel
theorem d_X_make_7 : decode b_X_make 7 = .ok (.if_icmp .ge 19, 3) := by decide +kernel
theorem d_X_make_10 : decode b_X_make 10 = .ok (.aload_n 0, 1) := by decide +kernel
theorem d_X_make_11 : decode b_X_make 11 = .ok (.getfield 25, 3) := by decide +kernel
theorem d_X_make_14 : decode b_X_make 14 = .ok (.iload_n 1, 1) := by decide +kernel
theorem d_X_make_15 : decode b_X_make 15 = .ok (.baload, 1) := by decide +kernel
theorem d_X_make_16 : decode b_X_make 16 = .ok (.ifCond .ne 10, 3) := by decide +kernel
theorem d_X_make_19 : decode b_X_make 19 = .ok (.iload_n 2, 1) := by decide +kernel
theorem d_X_make_20 : decode b_X_make 20 = .ok (.invokestatic 49, 3) := by decide +kernel
theorem d_X_make_23 : decode b_X_make 23 = .ok (.ifCond .ne 5, 3) := by decide +kernel
theorem d_X_make_26 : decode b_X_make 26 = .ok (.iconst 0, 1) := by decide +kernel
theorem d_X_make_27 : decode b_X_make 27 = .ok (.ireturn, 1) := by decide +kernel
theorem d_X_make_28 : decode b_X_make 28 = .ok (.aload_n 0, 1) := by decide +kernel
theorem d_X_make_29 : decode b_X_make 29 = .ok (.getfield 25, 3) := by decide +kernel
theorem d_X_make_32 : decode b_X_make 32 = .ok (.iload_n 1, 1) := by decide +kernel
theorem d_X_make_33 : decode b_X_make 33 = .ok (.iconst 1, 1) := by decide +kernel
theorem d_X_make_34 : decode b_X_make 34 = .ok (.bastore, 1) := by decide +kernel
theorem d_X_make_35 : decode b_X_make 35 = .ok (.aload_n 0, 1) := by decide +kernel
theorem d_X_make_36 : decode b_X_make 36 = .ok (.getfield 10, 3) := by decide +kernel
theorem d_X_make_39 : decode b_X_make 39 = .ok (.iload_n 1, 1) := by decide +kernel
theorem d_X_make_40 : decode b_X_make 40 = .ok (.invokestatic 41, 3) := by decide +kernel
theorem d_X_make_43 : decode b_X_make 43 = .ok (.iconst 0, 1) := by decide +kernel
theorem d_X_make_44 : decode b_X_make 44 = .ok (.iconst 0, 1) := by decide +kernel
theorem d_X_make_45 : decode b_X_make 45 = .ok (.invokevirtual 29, 3) := by decide +kernel
theorem d_X_make_48 : decode b_X_make 48 = .ok (.aload_n 0, 1) := by decide +kernel
theorem d_X_make_49 : decode b_X_make 49 = .ok (.getfield 10, 3) := by decide +kernel
theorem d_X_make_52 : decode b_X_make 52 = .ok (.iload_n 1, 1) := by decide +kernel
theorem d_X_make_53 : decode b_X_make 53 = .ok (.invokestatic 41, 3) := by decide +kernel
theorem d_X_make_56 : decode b_X_make 56 = .ok (.iconst 1, 1) := by decide +kernel
theorem d_X_make_57 : decode b_X_make 57 = .ok (.iload_n 3, 1) := by decide +kernel
theorem d_X_make_58 : decode b_X_make 58 = .ok (.invokevirtual 29, 3) := by decide +kernel
theorem d_X_make_61 : decode b_X_make 61 = .ok (.aload_n 0, 1) := by decide +kernel
theorem d_X_make_62 : decode b_X_make 62 = .ok (.getfield 10, 3) := by decide +kernel
theorem d_X_make_65 : decode b_X_make 65 = .ok (.iload_n 1, 1) := by decide +kernel
theorem d_X_make_66 : decode b_X_make 66 = .ok (.invokestatic 41, 3) := by decide +kernel
theorem d_X_make_69 : decode b_X_make 69 = .ok (.iconst 2, 1) := by decide +kernel
theorem d_X_make_70 : decode b_X_make 70 = .ok (.iload_n 2, 1) := by decide +kernel
theorem d_X_make_71 : decode b_X_make 71 = .ok (.iconst 1, 1) := by decide +kernel
theorem d_X_make_72 : decode b_X_make 72 = .ok (.ishl, 1) := by decide +kernel
theorem d_X_make_73 : decode b_X_make 73 = .ok (.iconst 1, 1) := by decide +kernel
theorem d_X_make_74 : decode b_X_make 74 = .ok (.ior, 1) := by decide +kernel
theorem d_X_make_75 : decode b_X_make 75 = .ok (.invokevirtual 29, 3) := by decide +kernel
theorem d_X_make_78 : decode b_X_make 78 = .ok (.aload_n 0, 1) := by decide +kernel
theorem d_X_make_79 : decode b_X_make 79 = .ok (.getfield 10, 3) := by decide +kernel
theorem d_X_make_82 : decode b_X_make 82 = .ok (.iload_n 1, 1) := by decide +kernel
theorem d_X_make_83 : decode b_X_make 83 = .ok (.invokestatic 41, 3) := by decide +kernel
theorem d_X_make_86 : decode b_X_make 86 = .ok (.iconst 3, 1) := by decide +kernel
theorem d_X_make_87 : decode b_X_make 87 = .ok (.iconst 0, 1) := by decide +kernel
theorem d_X_make_88 : decode b_X_make 88 = .ok (.invokevirtual 29, 3) := by decide +kernel
theorem d_X_make_91 : decode b_X_make 91 = .ok (.iconst 1, 1) := by decide +kernel
theorem d_X_make_92 : decode b_X_make 92 = .ok (.ireturn, 1) := by decide +kernel
theorem d_X_isPriority_0 : decode b_X_isPriority 0 = .ok (.iload_n 0, 1) := by decide +kernel
theorem d_X_isPriority_1 : decode b_X_isPriority 1 = .ok (.iconst 1, 1) := by decide +kernel
theorem d_X_isPriority_2 : decode b_X_isPriority 2 = .ok (.if_icmp .lt 13, 3) := by decide +kernel
theorem d_X_isPriority_5 : decode b_X_isPriority 5 = .ok (.iload_n 0, 1) := by decide +kernel
theorem d_X_isPriority_6 : decode b_X_isPriority 6 = .ok (.bipush 8, 2) := by decide +kernel
theorem d_X_isPriority_8 : decode b_X_isPriority 8 = .ok (.if_icmp .gt 7, 3) := by decide +kernel
theorem d_X_isPriority_11 : decode b_X_isPriority 11 = .ok (.iconst 1, 1) := by decide +kernel
theorem d_X_isPriority_12 : decode b_X_isPriority 12 = .ok (.goto 4, 3) := by decide +kernel
theorem d_X_isPriority_15 : decode b_X_isPriority 15 = .ok (.iconst 0, 1) := by decide +kernel
theorem d_X_isPriority_16 : decode b_X_isPriority 16 = .ok (.ireturn, 1) := by decide +kernel
theorem d_X_process_0 : decode b_X_process 0 = .ok (.iconst 2, 1) := by decide +kernel
theorem d_X_process_1 : decode b_X_process 1 = .ok (.iconst 2, 1) := by decide +kernel
theorem d_X_process_2 : decode b_X_process 2 = .ok (.iload_n 0, 1) := by decide +kernel
theorem d_X_process_3 : decode b_X_process 3 = .ok (.imul, 1) := by decide +kernel
theorem d_X_process_4 : decode b_X_process 4 = .ok (.iadd, 1) := by decide +kernel
theorem d_X_process_5 : decode b_X_process 5 = .ok (.ireturn, 1) := by decide +kernel
theorem d_X_resume_0 : decode b_X_resume 0 = .ok (.aload_n 0, 1) := by decide +kernel
theorem d_X_resume_1 : decode b_X_resume 1 = .ok (.iload_n 1, 1) := by decide +kernel
theorem d_X_resume_2 : decode b_X_resume 2 = .ok (.invokevirtual 37, 3) := by decide +kernel
theorem d_X_resume_5 : decode b_X_resume 5 = .ok (.ifCond .eq 39, 3) := by decide +kernel
theorem d_X_resume_8 : decode b_X_resume 8 = .ok (.aload_n 0, 1) := by decide +kernel
theorem d_X_resume_9 : decode b_X_resume 9 = .ok (.iload_n 1, 1) := by decide +kernel
theorem d_X_resume_10 : decode b_X_resume 10 = .ok (.invokevirtual 52, 3) := by decide +kernel
theorem d_X_resume_13 : decode b_X_resume 13 = .ok (.ifCond .ne 31, 3) := by decide +kernel
theorem d_X_resume_16 : decode b_X_resume 16 = .ok (.aload_n 0, 1) := by decide +kernel
theorem d_X_resume_17 : decode b_X_resume 17 = .ok (.getfield 21, 3) := by decide +kernel
theorem d_X_resume_20 : decode b_X_resume 20 = .ok (.invokevirtual 55, 3) := by decide +kernel
theorem d_X_resume_23 : decode b_X_resume 23 = .ok (.iload_n 1, 1) := by decide +kernel
theorem d_X_resume_24 : decode b_X_resume 24 = .ok (.invokestatic 41, 3) := by decide +kernel
theorem d_X_resume_27 : decode b_X_resume 27 = .ok (.if_icmp .eq 17, 3) := by decide +kernel
theorem d_X_resume_30 : decode b_X_resume 30 = .ok (.aload_n 0, 1) := by decide +kernel
theorem d_X_resume_31 : decode b_X_resume 31 = .ok (.getfield 21, 3) := by decide +kernel
theorem d_X_resume_34 : decode b_X_resume 34 = .ok (.invokevirtual 59, 3) := by decide +kernel
theorem d_X_resume_37 : decode b_X_resume 37 = .ok (.iload_n 1, 1) := by decide +kernel
theorem d_X_resume_38 : decode b_X_resume 38 = .ok (.invokestatic 41, 3) := by decide +kernel
theorem d_X_resume_41 : decode b_X_resume 41 = .ok (.if_icmp .ne 5, 3) := by decide +kernel
theorem d_X_resume_44 : decode b_X_resume 44 = .ok (.iconst 0, 1) := by decide +kernel
theorem d_X_resume_45 : decode b_X_resume 45 = .ok (.ireturn, 1) := by decide +kernel
theorem d_X_resume_46 : decode b_X_resume 46 = .ok (.aload_n 0, 1) := by decide +kernel
theorem d_X_resume_47 : decode b_X_resume 47 = .ok (.getfield 21, 3) := by decide +kernel
theorem d_X_resume_50 : decode b_X_resume 50 = .ok (.iload_n 1, 1) := by decide +kernel
theorem d_X_resume_51 : decode b_X_resume 51 = .ok (.invokestatic 41, 3) := by decide +kernel
theorem d_X_resume_54 : decode b_X_resume 54 = .ok (.invokevirtual 62, 3) := by decide +kernel
theorem d_X_resume_57 : decode b_X_resume 57 = .ok (.iconst 1, 1) := by decide +kernel
theorem d_X_resume_58 : decode b_X_resume 58 = .ok (.ireturn, 1) := by decide +kernel
theorem d_X_isMade_0 : decode b_X_isMade 0 = .ok (.iload_n 1, 1) := by decide +kernel
theorem d_X_isMade_1 : decode b_X_isMade 1 = .ok (.ifCond .lt 22, 3) := by decide +kernel
theorem d_X_isMade_4 : decode b_X_isMade 4 = .ok (.iload_n 1, 1) := by decide +kernel
theorem d_X_isMade_5 : decode b_X_isMade 5 = .ok (.bipush 32, 2) := by decide +kernel
theorem d_X_isMade_7 : decode b_X_isMade 7 = .ok (.if_icmp .ge 16, 3) := by decide +kernel
theorem d_X_isMade_10 : decode b_X_isMade 10 = .ok (.aload_n 0, 1) := by decide +kernel
theorem d_X_isMade_11 : decode b_X_isMade 11 = .ok (.getfield 25, 3) := by decide +kernel
theorem d_X_isMade_14 : decode b_X_isMade 14 = .ok (.iload_n 1, 1) := by decide +kernel
theorem d_X_isMade_15 : decode b_X_isMade 15 = .ok (.baload, 1) := by decide +kernel
theorem d_X_isMade_16 : decode b_X_isMade 16 = .ok (.ifCond .eq 7, 3) := by decide +kernel
theorem d_X_isMade_19 : decode b_X_isMade 19 = .ok (.iconst 1, 1) := by decide +kernel
theorem d_X_isMade_20 : decode b_X_isMade 20 = .ok (.goto 4, 3) := by decide +kernel
theorem d_X_isMade_23 : decode b_X_isMade 23 = .ok (.iconst 0, 1) := by decide +kernel
theorem d_X_isMade_24 : decode b_X_isMade 24 = .ok (.ireturn, 1) := by decide +kernel
theorem d_X_isInRow_0 : decode b_X_isInRow 0 = .ok (.aload_n 0, 1) := by decide +kernel
theorem d_X_isInRow_1 : decode b_X_isInRow 1 = .ok (.iload_n 1, 1) := by decide +kernel
theorem d_X_isInRow_2 : decode b_X_isInRow 2 = .ok (.invokevirtual 37, 3) := by decide +kernel
theorem d_X_isInRow_5 : decode b_X_isInRow 5 = .ok (.ifCond .eq 22, 3) := by decide +kernel
theorem d_X_isInRow_8 : decode b_X_isInRow 8 = .ok (.aload_n 0, 1) := by decide +kernel
theorem d_X_isInRow_9 : decode b_X_isInRow 9 = .ok (.getfield 10, 3) := by decide +kernel
theorem d_X_isInRow_12 : decode b_X_isInRow 12 = .ok (.iload_n 1, 1) := by decide +kernel
theorem d_X_isInRow_13 : decode b_X_isInRow 13 = .ok (.invokestatic 41, 3) := by decide +kernel
theorem d_X_isInRow_16 : decode b_X_isInRow 16 = .ok (.iconst 3, 1) := by decide +kernel
theorem d_X_isInRow_17 : decode b_X_isInRow 17 = .ok (.invokevirtual 45, 3) := by decide +kernel
theorem d_X_isInRow_20 : decode b_X_isInRow 20 = .ok (.ifCond .eq 7, 3) := by decide +kernel
theorem d_X_isInRow_23 : decode b_X_isInRow 23 = .ok (.iconst 1, 1) := by decide +kernel
theorem d_X_isInRow_24 : decode b_X_isInRow 24 = .ok (.goto 4, 3) := by decide +kernel
theorem d_X_isInRow_27 : decode b_X_isInRow 27 = .ok (.iconst 0, 1) := by decide +kernel
theorem d_X_isInRow_28 : decode b_X_isInRow 28 = .ok (.ireturn, 1) := by decide +kernel
theorem d_P_get_0 : decode b_P_get 0 = .ok (.iload_n 1, 1) := by decide +kernel
theorem d_P_get_1 : decode b_P_get 1 = .ok (.bipush 120, 2) := by decide +kernel
theorem d_P_get_3 : decode b_P_get 3 = .ok (.if_icmp .ne 12, 3) := by decide +kernel
theorem d_P_get_6 : decode b_P_get 6 = .ok (.aload_n 0, 1) := by decide +kernel
theorem d_P_get_7 : decode b_P_get 7 = .ok (.getfield 15, 3) := by decide +kernel
theorem d_P_get_10 : decode b_P_get 10 = .ok (.iload_n 2, 1) := by decide +kernel
theorem d_P_get_11 : decode b_P_get 11 = .ok (.iaload, 1) := by decide +kernel
theorem d_P_get_12 : decode b_P_get 12 = .ok (.goto 15, 3) := by decide +kernel
theorem d_P_get_15 : decode b_P_get 15 = .ok (.aload_n 0, 1) := by decide +kernel
theorem d_P_get_16 : decode b_P_get 16 = .ok (.getfield 9, 3) := by decide +kernel
theorem d_P_get_19 : decode b_P_get 19 = .ok (.iconst 4, 1) := by decide +kernel
theorem d_P_get_20 : decode b_P_get 20 = .ok (.iload_n 1, 1) := by decide +kernel
theorem d_P_get_21 : decode b_P_get 21 = .ok (.iconst 1, 1) := by decide +kernel
theorem d_P_get_22 : decode b_P_get 22 = .ok (.ishr, 1) := by decide +kernel
theorem d_P_get_23 : decode b_P_get 23 = .ok (.imul, 1) := by decide +kernel
theorem d_P_get_24 : decode b_P_get 24 = .ok (.iload_n 2, 1) := by decide +kernel
theorem d_P_get_25 : decode b_P_get 25 = .ok (.iadd, 1) := by decide +kernel
theorem d_P_get_26 : decode b_P_get 26 = .ok (.iaload, 1) := by decide +kernel
theorem d_P_get_27 : decode b_P_get 27 = .ok (.ireturn, 1) := by decide +kernel
theorem d_S_present_0 : decode b_S_present 0 = .ok (.aload_n 0, 1) := by decide +kernel
theorem d_S_present_1 : decode b_S_present 1 = .ok (.getfield 23, 3) := by decide +kernel
theorem d_S_present_4 : decode b_S_present 4 = .ok (.ifCond .eq 10, 3) := by decide +kernel
theorem d_S_present_7 : decode b_S_present 7 = .ok (.aload_n 0, 1) := by decide +kernel
theorem d_S_present_8 : decode b_S_present 8 = .ok (.getfield 27, 3) := by decide +kernel
theorem d_S_present_11 : decode b_S_present 11 = .ok (.goto 7, 3) := by decide +kernel
theorem d_S_present_14 : decode b_S_present 14 = .ok (.aload_n 0, 1) := by decide +kernel
theorem d_S_present_15 : decode b_S_present 15 = .ok (.invokevirtual 57, 3) := by decide +kernel
theorem d_S_present_18 : decode b_S_present 18 = .ok (.ireturn, 1) := by decide +kernel
theorem d_S_active_0 : decode b_S_active 0 = .ok (.aload_n 0, 1) := by decide +kernel
theorem d_S_active_1 : decode b_S_active 1 = .ok (.getfield 9, 3) := by decide +kernel
theorem d_S_active_4 : decode b_S_active 4 = .ok (.aload_n 0, 1) := by decide +kernel
theorem d_S_active_5 : decode b_S_active 5 = .ok (.getfield 19, 3) := by decide +kernel
theorem d_S_active_8 : decode b_S_active 8 = .ok (.iconst 1, 1) := by decide +kernel
theorem d_S_active_9 : decode b_S_active 9 = .ok (.invokevirtual 36, 3) := by decide +kernel
theorem d_S_active_12 : decode b_S_active 12 = .ok (.ireturn, 1) := by decide +kernel
theorem d_S_wake_0 : decode b_S_wake 0 = .ok (.aload_n 0, 1) := by decide +kernel
theorem d_S_wake_1 : decode b_S_wake 1 = .ok (.invokevirtual 78, 3) := by decide +kernel
theorem d_S_wake_4 : decode b_S_wake 4 = .ok (.istore_n 2, 1) := by decide +kernel
theorem d_S_wake_5 : decode b_S_wake 5 = .ok (.iload_n 2, 1) := by decide +kernel
theorem d_S_wake_6 : decode b_S_wake 6 = .ok (.ifCond .eq 22, 3) := by decide +kernel
theorem d_S_wake_9 : decode b_S_wake 9 = .ok (.aload_n 0, 1) := by decide +kernel
theorem d_S_wake_10 : decode b_S_wake 10 = .ok (.iload_n 2, 1) := by decide +kernel
theorem d_S_wake_11 : decode b_S_wake 11 = .ok (.invokevirtual 68, 3) := by decide +kernel
theorem d_S_wake_14 : decode b_S_wake 14 = .ok (.aload_n 0, 1) := by decide +kernel
theorem d_S_wake_15 : decode b_S_wake 15 = .ok (.iload_n 1, 1) := by decide +kernel
theorem d_S_wake_16 : decode b_S_wake 16 = .ok (.invokevirtual 68, 3) := by decide +kernel
theorem d_S_wake_19 : decode b_S_wake 19 = .ok (.if_icmp .lt 9, 3) := by decide +kernel
theorem d_S_wake_22 : decode b_S_wake 22 = .ok (.aload_n 0, 1) := by decide +kernel
theorem d_S_wake_23 : decode b_S_wake 23 = .ok (.iload_n 1, 1) := by decide +kernel
theorem d_S_wake_24 : decode b_S_wake 24 = .ok (.invokevirtual 81, 3) := by decide +kernel
theorem d_S_wake_27 : decode b_S_wake 27 = .ok (.return_, 1) := by decide +kernel
theorem d_S_wake_28 : decode b_S_wake 28 = .ok (.iload_n 2, 1) := by decide +kernel
theorem d_S_wake_29 : decode b_S_wake 29 = .ok (.ifCond .eq 8, 3) := by decide +kernel
theorem d_S_wake_32 : decode b_S_wake 32 = .ok (.aload_n 0, 1) := by decide +kernel
theorem d_S_wake_33 : decode b_S_wake 33 = .ok (.iload_n 2, 1) := by decide +kernel
theorem d_S_wake_34 : decode b_S_wake 34 = .ok (.invokevirtual 81, 3) := by decide +kernel
theorem d_S_wake_37 : decode b_S_wake 37 = .ok (.aload_n 0, 1) := by decide +kernel
theorem d_S_wake_38 : decode b_S_wake 38 = .ok (.iload_n 1, 1) := by decide +kernel
theorem d_S_wake_39 : decode b_S_wake 39 = .ok (.invokevirtual 85, 3) := by decide +kernel
theorem d_S_wake_42 : decode b_S_wake 42 = .ok (.return_, 1) := by decide +kernel
theorem d_S_priority_0 : decode b_S_priority 0 = .ok (.aload_n 0, 1) := by decide +kernel
theorem d_S_priority_1 : decode b_S_priority 1 = .ok (.getfield 9, 3) := by decide +kernel
theorem d_S_priority_4 : decode b_S_priority 4 = .ok (.aload_n 0, 1) := by decide +kernel
theorem d_S_priority_5 : decode b_S_priority 5 = .ok (.getfield 9, 3) := by decide +kernel
theorem d_S_priority_8 : decode b_S_priority 8 = .ok (.iload_n 1, 1) := by decide +kernel
theorem d_S_priority_9 : decode b_S_priority 9 = .ok (.invokevirtual 42, 3) := by decide +kernel
theorem d_S_priority_12 : decode b_S_priority 12 = .ok (.iconst 2, 1) := by decide +kernel
theorem d_S_priority_13 : decode b_S_priority 13 = .ok (.iconst 1, 1) := by decide +kernel
theorem d_S_priority_14 : decode b_S_priority 14 = .ok (.bipush 8, 2) := by decide +kernel
theorem d_S_priority_16 : decode b_S_priority 16 = .ok (.invokevirtual 61, 3) := by decide +kernel
theorem d_S_priority_19 : decode b_S_priority 19 = .ok (.ireturn, 1) := by decide +kernel
theorem d_P_process_0 : decode b_P_process 0 = .ok (.iload_n 1, 1) := by decide +kernel
theorem d_P_process_1 : decode b_P_process 1 = .ok (.ireturn, 1) := by decide +kernel
theorem d_P_number_0 : decode b_P_number 0 = .ok (.aload_n 0, 1) := by decide +kernel
theorem d_P_number_1 : decode b_P_number 1 = .ok (.iload_n 1, 1) := by decide +kernel
theorem d_P_number_2 : decode b_P_number 2 = .ok (.iload_n 2, 1) := by decide +kernel
theorem d_P_number_3 : decode b_P_number 3 = .ok (.invokevirtual 18, 3) := by decide +kernel
theorem d_P_number_6 : decode b_P_number 6 = .ok (.iconst 1, 1) := by decide +kernel
theorem d_P_number_7 : decode b_P_number 7 = .ok (.ishr, 1) := by decide +kernel
theorem d_P_number_8 : decode b_P_number 8 = .ok (.ireturn, 1) := by decide +kernel
theorem d_S_sleep_0 : decode b_S_sleep 0 = .ok (.aload_n 0, 1) := by decide +kernel
theorem d_S_sleep_1 : decode b_S_sleep 1 = .ok (.aload_n 0, 1) := by decide +kernel
theorem d_S_sleep_2 : decode b_S_sleep 2 = .ok (.aload_n 0, 1) := by decide +kernel
theorem d_S_sleep_3 : decode b_S_sleep 3 = .ok (.iload_n 1, 1) := by decide +kernel
theorem d_S_sleep_4 : decode b_S_sleep 4 = .ok (.invokevirtual 68, 3) := by decide +kernel
theorem d_S_sleep_7 : decode b_S_sleep 7 = .ok (.invokevirtual 71, 3) := by decide +kernel
theorem d_S_sleep_10 : decode b_S_sleep 10 = .ok (.iload_n 1, 1) := by decide +kernel
theorem d_S_sleep_11 : decode b_S_sleep 11 = .ok (.invokevirtual 74, 3) := by decide +kernel
theorem d_S_sleep_14 : decode b_S_sleep 14 = .ok (.return_, 1) := by decide +kernel
theorem d_S_readyRow_0 : decode b_S_readyRow 0 = .ok (.aload_n 0, 1) := by decide +kernel
theorem d_S_readyRow_1 : decode b_S_readyRow 1 = .ok (.getfield 9, 3) := by decide +kernel
theorem d_S_readyRow_4 : decode b_S_readyRow 4 = .ok (.aload_n 0, 1) := by decide +kernel
theorem d_S_readyRow_5 : decode b_S_readyRow 5 = .ok (.getfield 9, 3) := by decide +kernel
theorem d_S_readyRow_8 : decode b_S_readyRow 8 = .ok (.aload_n 0, 1) := by decide +kernel
theorem d_S_readyRow_9 : decode b_S_readyRow 9 = .ok (.getfield 9, 3) := by decide +kernel
theorem d_S_readyRow_12 : decode b_S_readyRow 12 = .ok (.aload_n 0, 1) := by decide +kernel
theorem d_S_readyRow_13 : decode b_S_readyRow 13 = .ok (.getfield 19, 3) := by decide +kernel
theorem d_S_readyRow_16 : decode b_S_readyRow 16 = .ok (.iconst 0, 1) := by decide +kernel
theorem d_S_readyRow_17 : decode b_S_readyRow 17 = .ok (.invokevirtual 36, 3) := by decide +kernel
theorem d_S_readyRow_20 : decode b_S_readyRow 20 = .ok (.iload_n 1, 1) := by decide +kernel
theorem d_S_readyRow_21 : decode b_S_readyRow 21 = .ok (.iconst 1, 1) := by decide +kernel
theorem d_S_readyRow_22 : decode b_S_readyRow 22 = .ok (.isub, 1) := by decide +kernel
theorem d_S_readyRow_23 : decode b_S_readyRow 23 = .ok (.invokevirtual 36, 3) := by decide +kernel
theorem d_S_readyRow_26 : decode b_S_readyRow 26 = .ok (.invokevirtual 65, 3) := by decide +kernel
theorem d_S_readyRow_29 : decode b_S_readyRow 29 = .ok (.ireturn, 1) := by decide +kernel
theorem d_P_row_0 : decode b_P_row 0 = .ok (.iload_n 1, 1) := by decide +kernel
theorem d_P_row_1 : decode b_P_row 1 = .ok (.ireturn, 1) := by decide +kernel
theorem d_S_addLast_0 : decode b_S_addLast 0 = .ok (.aload_n 0, 1) := by decide +kernel
theorem d_S_addLast_1 : decode b_S_addLast 1 = .ok (.getfield 9, 3) := by decide +kernel
theorem d_S_addLast_4 : decode b_S_addLast 4 = .ok (.iload_n 2, 1) := by decide +kernel
theorem d_S_addLast_5 : decode b_S_addLast 5 = .ok (.invokevirtual 42, 3) := by decide +kernel
theorem d_S_addLast_8 : decode b_S_addLast 8 = .ok (.pop, 1) := by decide +kernel
theorem d_S_addLast_9 : decode b_S_addLast 9 = .ok (.aload_n 0, 1) := by decide +kernel
theorem d_S_addLast_10 : decode b_S_addLast 10 = .ok (.iload_n 1, 1) := by decide +kernel
theorem d_S_addLast_11 : decode b_S_addLast 11 = .ok (.invokevirtual 46, 3) := by decide +kernel
theorem d_S_addLast_14 : decode b_S_addLast 14 = .ok (.ifCond .eq 16, 3) := by decide +kernel
theorem d_S_addLast_17 : decode b_S_addLast 17 = .ok (.aload_n 0, 1) := by decide +kernel
theorem d_S_addLast_18 : decode b_S_addLast 18 = .ok (.getfield 9, 3) := by decide +kernel
theorem d_S_addLast_21 : decode b_S_addLast 21 = .ok (.iload_n 1, 1) := by decide +kernel
theorem d_S_addLast_22 : decode b_S_addLast 22 = .ok (.iconst 0, 1) := by decide +kernel
theorem d_S_addLast_23 : decode b_S_addLast 23 = .ok (.iload_n 2, 1) := by decide +kernel
theorem d_S_addLast_24 : decode b_S_addLast 24 = .ok (.invokevirtual 50, 3) := by decide +kernel
theorem d_S_addLast_27 : decode b_S_addLast 27 = .ok (.goto 28, 3) := by decide +kernel
theorem d_S_addLast_30 : decode b_S_addLast 30 = .ok (.aload_n 0, 1) := by decide +kernel
theorem d_S_addLast_31 : decode b_S_addLast 31 = .ok (.getfield 9, 3) := by decide +kernel
theorem d_S_addLast_34 : decode b_S_addLast 34 = .ok (.aload_n 0, 1) := by decide +kernel
theorem d_S_addLast_35 : decode b_S_addLast 35 = .ok (.getfield 9, 3) := by decide +kernel
theorem d_S_addLast_38 : decode b_S_addLast 38 = .ok (.aload_n 0, 1) := by decide +kernel
theorem d_S_addLast_39 : decode b_S_addLast 39 = .ok (.getfield 9, 3) := by decide +kernel
theorem d_S_addLast_42 : decode b_S_addLast 42 = .ok (.iload_n 1, 1) := by decide +kernel
theorem d_S_addLast_43 : decode b_S_addLast 43 = .ok (.iconst 1, 1) := by decide +kernel
theorem d_S_addLast_44 : decode b_S_addLast 44 = .ok (.invokevirtual 36, 3) := by decide +kernel
theorem d_S_addLast_47 : decode b_S_addLast 47 = .ok (.invokevirtual 42, 3) := by decide +kernel
theorem d_S_addLast_50 : decode b_S_addLast 50 = .ok (.iconst 0, 1) := by decide +kernel
theorem d_S_addLast_51 : decode b_S_addLast 51 = .ok (.iload_n 2, 1) := by decide +kernel
theorem d_S_addLast_52 : decode b_S_addLast 52 = .ok (.invokevirtual 50, 3) := by decide +kernel
theorem d_S_addLast_55 : decode b_S_addLast 55 = .ok (.aload_n 0, 1) := by decide +kernel
theorem d_S_addLast_56 : decode b_S_addLast 56 = .ok (.getfield 9, 3) := by decide +kernel
theorem d_S_addLast_59 : decode b_S_addLast 59 = .ok (.iload_n 1, 1) := by decide +kernel
theorem d_S_addLast_60 : decode b_S_addLast 60 = .ok (.iconst 1, 1) := by decide +kernel
theorem d_S_addLast_61 : decode b_S_addLast 61 = .ok (.iload_n 2, 1) := by decide +kernel
theorem d_S_addLast_62 : decode b_S_addLast 62 = .ok (.invokevirtual 50, 3) := by decide +kernel
theorem d_S_addLast_65 : decode b_S_addLast 65 = .ok (.aload_n 0, 1) := by decide +kernel
theorem d_S_addLast_66 : decode b_S_addLast 66 = .ok (.getfield 9, 3) := by decide +kernel
theorem d_S_addLast_69 : decode b_S_addLast 69 = .ok (.iload_n 2, 1) := by decide +kernel
theorem d_S_addLast_70 : decode b_S_addLast 70 = .ok (.iconst 0, 1) := by decide +kernel
theorem d_S_addLast_71 : decode b_S_addLast 71 = .ok (.iconst 0, 1) := by decide +kernel
theorem d_S_addLast_72 : decode b_S_addLast 72 = .ok (.invokevirtual 50, 3) := by decide +kernel
theorem d_S_addLast_75 : decode b_S_addLast 75 = .ok (.aload_n 0, 1) := by decide +kernel
theorem d_S_addLast_76 : decode b_S_addLast 76 = .ok (.getfield 9, 3) := by decide +kernel
theorem d_S_addLast_79 : decode b_S_addLast 79 = .ok (.iload_n 2, 1) := by decide +kernel
theorem d_S_addLast_80 : decode b_S_addLast 80 = .ok (.iconst 3, 1) := by decide +kernel
theorem d_S_addLast_81 : decode b_S_addLast 81 = .ok (.iload_n 1, 1) := by decide +kernel
theorem d_S_addLast_82 : decode b_S_addLast 82 = .ok (.invokevirtual 50, 3) := by decide +kernel
theorem d_S_addLast_85 : decode b_S_addLast 85 = .ok (.return_, 1) := by decide +kernel
theorem d_S_isEmpty_0 : decode b_S_isEmpty 0 = .ok (.aload_n 0, 1) := by decide +kernel
theorem d_S_isEmpty_1 : decode b_S_isEmpty 1 = .ok (.getfield 9, 3) := by decide +kernel
theorem d_S_isEmpty_4 : decode b_S_isEmpty 4 = .ok (.iload_n 1, 1) := by decide +kernel
theorem d_S_isEmpty_5 : decode b_S_isEmpty 5 = .ok (.iconst 0, 1) := by decide +kernel
theorem d_S_isEmpty_6 : decode b_S_isEmpty 6 = .ok (.invokevirtual 36, 3) := by decide +kernel
theorem d_S_isEmpty_9 : decode b_S_isEmpty 9 = .ok (.ifCond .ne 7, 3) := by decide +kernel
theorem d_S_isEmpty_12 : decode b_S_isEmpty 12 = .ok (.iconst 1, 1) := by decide +kernel
theorem d_S_isEmpty_13 : decode b_S_isEmpty 13 = .ok (.goto 4, 3) := by decide +kernel
theorem d_S_isEmpty_16 : decode b_S_isEmpty 16 = .ok (.iconst 0, 1) := by decide +kernel
theorem d_S_isEmpty_17 : decode b_S_isEmpty 17 = .ok (.ireturn, 1) := by decide +kernel
theorem d_S_change_0 : decode b_S_change 0 = .ok (.aload_n 0, 1) := by decide +kernel
theorem d_S_change_1 : decode b_S_change 1 = .ok (.iconst 1, 1) := by decide +kernel
theorem d_S_change_2 : decode b_S_change 2 = .ok (.putfield 23, 3) := by decide +kernel
theorem d_S_change_5 : decode b_S_change 5 = .ok (.aload_n 0, 1) := by decide +kernel
theorem d_S_change_6 : decode b_S_change 6 = .ok (.iload_n 1, 1) := by decide +kernel
theorem d_S_change_7 : decode b_S_change 7 = .ok (.putfield 27, 3) := by decide +kernel
theorem d_S_change_10 : decode b_S_change 10 = .ok (.return_, 1) := by decide +kernel
theorem d_X_suspend_0 : decode b_X_suspend 0 = .ok (.aload_n 0, 1) := by decide +kernel
theorem d_X_suspend_1 : decode b_X_suspend 1 = .ok (.getfield 21, 3) := by decide +kernel
theorem d_X_suspend_4 : decode b_X_suspend 4 = .ok (.invokevirtual 55, 3) := by decide +kernel
theorem d_X_suspend_7 : decode b_X_suspend 7 = .ok (.istore_n 1, 1) := by decide +kernel
theorem d_X_suspend_8 : decode b_X_suspend 8 = .ok (.iload_n 1, 1) := by decide +kernel
theorem d_X_suspend_9 : decode b_X_suspend 9 = .ok (.ifCond .eq 10, 3) := by decide +kernel
theorem d_X_suspend_12 : decode b_X_suspend 12 = .ok (.aload_n 0, 1) := by decide +kernel
theorem d_X_suspend_13 : decode b_X_suspend 13 = .ok (.getfield 21, 3) := by decide +kernel
theorem d_X_suspend_16 : decode b_X_suspend 16 = .ok (.invokevirtual 65, 3) := by decide +kernel
theorem d_X_suspend_19 : decode b_X_suspend 19 = .ok (.iload_n 1, 1) := by decide +kernel
theorem d_X_suspend_20 : decode b_X_suspend 20 = .ok (.invokestatic 68, 3) := by decide +kernel
theorem d_X_suspend_23 : decode b_X_suspend 23 = .ok (.ireturn, 1) := by decide +kernel
theorem d_S_putAside_0 : decode b_S_putAside 0 = .ok (.bipush 8, 2) := by decide +kernel
theorem d_S_putAside_2 : decode b_S_putAside 2 = .ok (.istore_n 1, 1) := by decide +kernel
theorem d_S_putAside_3 : decode b_S_putAside 3 = .ok (.iload_n 1, 1) := by decide +kernel
theorem d_S_putAside_4 : decode b_S_putAside 4 = .ok (.ifCond .le 21, 3) := by decide +kernel
theorem d_S_putAside_7 : decode b_S_putAside 7 = .ok (.aload_n 0, 1) := by decide +kernel
theorem d_S_putAside_8 : decode b_S_putAside 8 = .ok (.aload_n 0, 1) := by decide +kernel
theorem d_S_putAside_9 : decode b_S_putAside 9 = .ok (.iload_n 1, 1) := by decide +kernel
theorem d_S_putAside_10 : decode b_S_putAside 10 = .ok (.invokevirtual 71, 3) := by decide +kernel
theorem d_S_putAside_13 : decode b_S_putAside 13 = .ok (.invokevirtual 46, 3) := by decide +kernel
theorem d_S_putAside_16 : decode b_S_putAside 16 = .ok (.ifCond .eq 9, 3) := by decide +kernel
theorem d_S_putAside_19 : decode b_S_putAside 19 = .ok (.iinc 1 (-1), 3) := by decide +kernel
theorem d_S_putAside_22 : decode b_S_putAside 22 = .ok (.goto (-19), 3) := by decide +kernel
theorem d_S_putAside_25 : decode b_S_putAside 25 = .ok (.aload_n 0, 1) := by decide +kernel
theorem d_S_putAside_26 : decode b_S_putAside 26 = .ok (.iload_n 1, 1) := by decide +kernel
theorem d_S_putAside_27 : decode b_S_putAside 27 = .ok (.ifCond .ne 7, 3) := by decide +kernel
theorem d_S_putAside_30 : decode b_S_putAside 30 = .ok (.iconst 0, 1) := by decide +kernel
theorem d_S_putAside_31 : decode b_S_putAside 31 = .ok (.goto 12, 3) := by decide +kernel
theorem d_S_putAside_34 : decode b_S_putAside 34 = .ok (.aload_n 0, 1) := by decide +kernel
theorem d_S_putAside_35 : decode b_S_putAside 35 = .ok (.aload_n 0, 1) := by decide +kernel
theorem d_S_putAside_36 : decode b_S_putAside 36 = .ok (.iload_n 1, 1) := by decide +kernel
theorem d_S_putAside_37 : decode b_S_putAside 37 = .ok (.invokevirtual 71, 3) := by decide +kernel
theorem d_S_putAside_40 : decode b_S_putAside 40 = .ok (.invokevirtual 54, 3) := by decide +kernel
theorem d_S_putAside_43 : decode b_S_putAside 43 = .ok (.invokevirtual 85, 3) := by decide +kernel
theorem d_S_putAside_46 : decode b_S_putAside 46 = .ok (.return_, 1) := by decide +kernel
theorem d_S_removeFirst_0 : decode b_S_removeFirst 0 = .ok (.aload_n 0, 1) := by decide +kernel
theorem d_S_removeFirst_1 : decode b_S_removeFirst 1 = .ok (.getfield 9, 3) := by decide +kernel
theorem d_S_removeFirst_4 : decode b_S_removeFirst 4 = .ok (.aload_n 0, 1) := by decide +kernel
theorem d_S_removeFirst_5 : decode b_S_removeFirst 5 = .ok (.getfield 9, 3) := by decide +kernel
theorem d_S_removeFirst_8 : decode b_S_removeFirst 8 = .ok (.iload_n 1, 1) := by decide +kernel
theorem d_S_removeFirst_9 : decode b_S_removeFirst 9 = .ok (.iconst 0, 1) := by decide +kernel
theorem d_S_removeFirst_10 : decode b_S_removeFirst 10 = .ok (.invokevirtual 36, 3) := by decide +kernel
theorem d_S_removeFirst_13 : decode b_S_removeFirst 13 = .ok (.invokevirtual 42, 3) := by decide +kernel
theorem d_S_removeFirst_16 : decode b_S_removeFirst 16 = .ok (.istore_n 2, 1) := by decide +kernel
theorem d_S_removeFirst_17 : decode b_S_removeFirst 17 = .ok (.aload_n 0, 1) := by decide +kernel
theorem d_S_removeFirst_18 : decode b_S_removeFirst 18 = .ok (.getfield 9, 3) := by decide +kernel
theorem d_S_removeFirst_21 : decode b_S_removeFirst 21 = .ok (.iload_n 2, 1) := by decide +kernel
theorem d_S_removeFirst_22 : decode b_S_removeFirst 22 = .ok (.iconst 0, 1) := by decide +kernel
theorem d_S_removeFirst_23 : decode b_S_removeFirst 23 = .ok (.invokevirtual 36, 3) := by decide +kernel
theorem d_S_removeFirst_26 : decode b_S_removeFirst 26 = .ok (.istore_n 3, 1) := by decide +kernel
theorem d_S_removeFirst_27 : decode b_S_removeFirst 27 = .ok (.aload_n 0, 1) := by decide +kernel
theorem d_S_removeFirst_28 : decode b_S_removeFirst 28 = .ok (.getfield 9, 3) := by decide +kernel
theorem d_S_removeFirst_31 : decode b_S_removeFirst 31 = .ok (.iload_n 1, 1) := by decide +kernel
theorem d_S_removeFirst_32 : decode b_S_removeFirst 32 = .ok (.iconst 0, 1) := by decide +kernel
theorem d_S_removeFirst_33 : decode b_S_removeFirst 33 = .ok (.iload_n 3, 1) := by decide +kernel
theorem d_S_removeFirst_34 : decode b_S_removeFirst 34 = .ok (.invokevirtual 50, 3) := by decide +kernel
theorem d_S_removeFirst_37 : decode b_S_removeFirst 37 = .ok (.iload_n 3, 1) := by decide +kernel
theorem d_S_removeFirst_38 : decode b_S_removeFirst 38 = .ok (.ifCond .ne 13, 3) := by decide +kernel
theorem d_S_removeFirst_41 : decode b_S_removeFirst 41 = .ok (.aload_n 0, 1) := by decide +kernel
theorem d_S_removeFirst_42 : decode b_S_removeFirst 42 = .ok (.getfield 9, 3) := by decide +kernel
theorem d_S_removeFirst_45 : decode b_S_removeFirst 45 = .ok (.iload_n 1, 1) := by decide +kernel
theorem d_S_removeFirst_46 : decode b_S_removeFirst 46 = .ok (.iconst 1, 1) := by decide +kernel
theorem d_S_removeFirst_47 : decode b_S_removeFirst 47 = .ok (.iconst 0, 1) := by decide +kernel
theorem d_S_removeFirst_48 : decode b_S_removeFirst 48 = .ok (.invokevirtual 50, 3) := by decide +kernel
theorem d_S_removeFirst_51 : decode b_S_removeFirst 51 = .ok (.aload_n 0, 1) := by decide +kernel
theorem d_S_removeFirst_52 : decode b_S_removeFirst 52 = .ok (.getfield 9, 3) := by decide +kernel
theorem d_S_removeFirst_55 : decode b_S_removeFirst 55 = .ok (.iload_n 2, 1) := by decide +kernel
theorem d_S_removeFirst_56 : decode b_S_removeFirst 56 = .ok (.iconst 0, 1) := by decide +kernel
theorem d_S_removeFirst_57 : decode b_S_removeFirst 57 = .ok (.iconst 0, 1) := by decide +kernel
theorem d_S_removeFirst_58 : decode b_S_removeFirst 58 = .ok (.invokevirtual 50, 3) := by decide +kernel
theorem d_S_removeFirst_61 : decode b_S_removeFirst 61 = .ok (.aload_n 0, 1) := by decide +kernel
theorem d_S_removeFirst_62 : decode b_S_removeFirst 62 = .ok (.getfield 9, 3) := by decide +kernel
theorem d_S_removeFirst_65 : decode b_S_removeFirst 65 = .ok (.iload_n 2, 1) := by decide +kernel
theorem d_S_removeFirst_66 : decode b_S_removeFirst 66 = .ok (.iconst 3, 1) := by decide +kernel
theorem d_S_removeFirst_67 : decode b_S_removeFirst 67 = .ok (.iconst 0, 1) := by decide +kernel
theorem d_S_removeFirst_68 : decode b_S_removeFirst 68 = .ok (.invokevirtual 50, 3) := by decide +kernel
theorem d_S_removeFirst_71 : decode b_S_removeFirst 71 = .ok (.iload_n 2, 1) := by decide +kernel
theorem d_S_removeFirst_72 : decode b_S_removeFirst 72 = .ok (.ireturn, 1) := by decide +kernel
theorem d_X_numberOf_0 : decode b_X_numberOf 0 = .ok (.iload_n 0, 1) := by decide +kernel
theorem d_X_numberOf_1 : decode b_X_numberOf 1 = .ok (.ifCond .ne 7, 3) := by decide +kernel
theorem d_X_numberOf_4 : decode b_X_numberOf 4 = .ok (.iconst (-1), 1) := by decide +kernel
theorem d_X_numberOf_5 : decode b_X_numberOf 5 = .ok (.goto 8, 3) := by decide +kernel
theorem d_X_numberOf_8 : decode b_X_numberOf 8 = .ok (.iload_n 0, 1) := by decide +kernel
theorem d_X_numberOf_9 : decode b_X_numberOf 9 = .ok (.iconst 2, 1) := by decide +kernel
theorem d_X_numberOf_10 : decode b_X_numberOf 10 = .ok (.idiv, 1) := by decide +kernel
theorem d_X_numberOf_11 : decode b_X_numberOf 11 = .ok (.iconst 1, 1) := by decide +kernel
theorem d_X_numberOf_12 : decode b_X_numberOf 12 = .ok (.isub, 1) := by decide +kernel
theorem d_X_numberOf_13 : decode b_X_numberOf 13 = .ok (.ireturn, 1) := by decide +kernel
theorem d_X_end_0 : decode b_X_end 0 = .ok (.aload_n 0, 1) := by decide +kernel
theorem d_X_end_1 : decode b_X_end 1 = .ok (.getfield 21, 3) := by decide +kernel
theorem d_X_end_4 : decode b_X_end 4 = .ok (.invokevirtual 55, 3) := by decide +kernel
theorem d_X_end_7 : decode b_X_end 7 = .ok (.istore_n 1, 1) := by decide +kernel
theorem d_X_end_8 : decode b_X_end 8 = .ok (.iload_n 1, 1) := by decide +kernel
theorem d_X_end_9 : decode b_X_end 9 = .ok (.ifCond .ne 5, 3) := by decide +kernel
theorem d_X_end_12 : decode b_X_end 12 = .ok (.iconst (-1), 1) := by decide +kernel
theorem d_X_end_13 : decode b_X_end 13 = .ok (.ireturn, 1) := by decide +kernel
theorem d_X_end_14 : decode b_X_end 14 = .ok (.aload_n 0, 1) := by decide +kernel
theorem d_X_end_15 : decode b_X_end 15 = .ok (.getfield 21, 3) := by decide +kernel
theorem d_X_end_18 : decode b_X_end 18 = .ok (.invokevirtual 65, 3) := by decide +kernel
theorem d_X_end_21 : decode b_X_end 21 = .ok (.aload_n 0, 1) := by decide +kernel
theorem d_X_end_22 : decode b_X_end 22 = .ok (.getfield 21, 3) := by decide +kernel
theorem d_X_end_25 : decode b_X_end 25 = .ok (.iload_n 1, 1) := by decide +kernel
theorem d_X_end_26 : decode b_X_end 26 = .ok (.invokevirtual 71, 3) := by decide +kernel
theorem d_X_end_29 : decode b_X_end 29 = .ok (.aload_n 0, 1) := by decide +kernel
theorem d_X_end_30 : decode b_X_end 30 = .ok (.getfield 25, 3) := by decide +kernel
theorem d_X_end_33 : decode b_X_end 33 = .ok (.iload_n 1, 1) := by decide +kernel
theorem d_X_end_34 : decode b_X_end 34 = .ok (.invokestatic 68, 3) := by decide +kernel
theorem d_X_end_37 : decode b_X_end 37 = .ok (.iconst 0, 1) := by decide +kernel
theorem d_X_end_38 : decode b_X_end 38 = .ok (.bastore, 1) := by decide +kernel
theorem d_X_end_39 : decode b_X_end 39 = .ok (.iload_n 1, 1) := by decide +kernel
theorem d_X_end_40 : decode b_X_end 40 = .ok (.invokestatic 68, 3) := by decide +kernel
theorem d_X_end_43 : decode b_X_end 43 = .ok (.ireturn, 1) := by decide +kernel
theorem d_S_forget_0 : decode b_S_forget 0 = .ok (.aload_n 0, 1) := by decide +kernel
theorem d_S_forget_1 : decode b_S_forget 1 = .ok (.invokevirtual 57, 3) := by decide +kernel
theorem d_S_forget_4 : decode b_S_forget 4 = .ok (.iload_n 1, 1) := by decide +kernel
theorem d_S_forget_5 : decode b_S_forget 5 = .ok (.if_icmp .ne 16, 3) := by decide +kernel
theorem d_S_forget_8 : decode b_S_forget 8 = .ok (.aload_n 0, 1) := by decide +kernel
theorem d_S_forget_9 : decode b_S_forget 9 = .ok (.getfield 9, 3) := by decide +kernel
theorem d_S_forget_12 : decode b_S_forget 12 = .ok (.aload_n 0, 1) := by decide +kernel
theorem d_S_forget_13 : decode b_S_forget 13 = .ok (.getfield 19, 3) := by decide +kernel
theorem d_S_forget_16 : decode b_S_forget 16 = .ok (.iconst 1, 1) := by decide +kernel
theorem d_S_forget_17 : decode b_S_forget 17 = .ok (.iconst 0, 1) := by decide +kernel
theorem d_S_forget_18 : decode b_S_forget 18 = .ok (.invokevirtual 50, 3) := by decide +kernel
theorem d_S_forget_21 : decode b_S_forget 21 = .ok (.return_, 1) := by decide +kernel
theorem d_X_await_0 : decode b_X_await 0 = .ok (.iload_n 1, 1) := by decide +kernel
theorem d_X_await_1 : decode b_X_await 1 = .ok (.invokestatic 74, 3) := by decide +kernel
theorem d_X_await_4 : decode b_X_await 4 = .ok (.ifCond .eq 13, 3) := by decide +kernel
theorem d_X_await_7 : decode b_X_await 7 = .ok (.aload_n 0, 1) := by decide +kernel
theorem d_X_await_8 : decode b_X_await 8 = .ok (.getfield 21, 3) := by decide +kernel
theorem d_X_await_11 : decode b_X_await 11 = .ok (.invokevirtual 55, 3) := by decide +kernel
theorem d_X_await_14 : decode b_X_await 14 = .ok (.ifCond .ne 5, 3) := by decide +kernel
theorem d_X_await_17 : decode b_X_await 17 = .ok (.iconst (-1), 1) := by decide +kernel
theorem d_X_await_18 : decode b_X_await 18 = .ok (.ireturn, 1) := by decide +kernel
theorem d_X_await_19 : decode b_X_await 19 = .ok (.aload_n 0, 1) := by decide +kernel
theorem d_X_await_20 : decode b_X_await 20 = .ok (.getfield 21, 3) := by decide +kernel
theorem d_X_await_23 : decode b_X_await 23 = .ok (.iload_n 1, 1) := by decide +kernel
theorem d_X_await_24 : decode b_X_await 24 = .ok (.invokestatic 77, 3) := by decide +kernel
theorem d_X_await_27 : decode b_X_await 27 = .ok (.invokevirtual 80, 3) := by decide +kernel
theorem d_X_await_30 : decode b_X_await 30 = .ok (.ifCond .eq 7, 3) := by decide +kernel
theorem d_X_await_33 : decode b_X_await 33 = .ok (.iconst 1, 1) := by decide +kernel
theorem d_X_await_34 : decode b_X_await 34 = .ok (.goto 4, 3) := by decide +kernel
theorem d_X_await_37 : decode b_X_await 37 = .ok (.iconst 0, 1) := by decide +kernel
theorem d_X_await_38 : decode b_X_await 38 = .ok (.ireturn, 1) := by decide +kernel
theorem d_X_isSemaphore_0 : decode b_X_isSemaphore 0 = .ok (.iload_n 0, 1) := by decide +kernel
theorem d_X_isSemaphore_1 : decode b_X_isSemaphore 1 = .ok (.ifCond .lt 13, 3) := by decide +kernel
theorem d_X_isSemaphore_4 : decode b_X_isSemaphore 4 = .ok (.iload_n 0, 1) := by decide +kernel
theorem d_X_isSemaphore_5 : decode b_X_isSemaphore 5 = .ok (.bipush 16, 2) := by decide +kernel
theorem d_X_isSemaphore_7 : decode b_X_isSemaphore 7 = .ok (.if_icmp .ge 7, 3) := by decide +kernel
theorem d_X_isSemaphore_10 : decode b_X_isSemaphore 10 = .ok (.iconst 1, 1) := by decide +kernel
theorem d_X_isSemaphore_11 : decode b_X_isSemaphore 11 = .ok (.goto 4, 3) := by decide +kernel
theorem d_X_isSemaphore_14 : decode b_X_isSemaphore 14 = .ok (.iconst 0, 1) := by decide +kernel
theorem d_X_isSemaphore_15 : decode b_X_isSemaphore 15 = .ok (.ireturn, 1) := by decide +kernel
theorem d_X_semaphore_0 : decode b_X_semaphore 0 = .ok (.bipush 66, 2) := by decide +kernel
theorem d_X_semaphore_2 : decode b_X_semaphore 2 = .ok (.iconst 2, 1) := by decide +kernel
theorem d_X_semaphore_3 : decode b_X_semaphore 3 = .ok (.iload_n 0, 1) := by decide +kernel
theorem d_X_semaphore_4 : decode b_X_semaphore 4 = .ok (.imul, 1) := by decide +kernel
theorem d_X_semaphore_5 : decode b_X_semaphore 5 = .ok (.iadd, 1) := by decide +kernel
theorem d_X_semaphore_6 : decode b_X_semaphore 6 = .ok (.ireturn, 1) := by decide +kernel
theorem d_S_await_0 : decode b_S_await 0 = .ok (.aload_n 0, 1) := by decide +kernel
theorem d_S_await_1 : decode b_S_await 1 = .ok (.getfield 9, 3) := by decide +kernel
theorem d_S_await_4 : decode b_S_await 4 = .ok (.iload_n 1, 1) := by decide +kernel
theorem d_S_await_5 : decode b_S_await 5 = .ok (.iconst 2, 1) := by decide +kernel
theorem d_S_await_6 : decode b_S_await 6 = .ok (.ldc 91, 2) := by decide +kernel
theorem d_S_await_8 : decode b_S_await 8 = .ok (.ldc 99, 2) := by decide +kernel
theorem d_S_await_10 : decode b_S_await 10 = .ok (.invokevirtual 61, 3) := by decide +kernel
theorem d_S_await_13 : decode b_S_await 13 = .ok (.istore_n 2, 1) := by decide +kernel
theorem d_S_await_14 : decode b_S_await 14 = .ok (.iload_n 2, 1) := by decide +kernel
theorem d_S_await_15 : decode b_S_await 15 = .ok (.ifCond .le 20, 3) := by decide +kernel
theorem d_S_await_18 : decode b_S_await 18 = .ok (.aload_n 0, 1) := by decide +kernel
theorem d_S_await_19 : decode b_S_await 19 = .ok (.getfield 9, 3) := by decide +kernel
theorem d_S_await_22 : decode b_S_await 22 = .ok (.iload_n 1, 1) := by decide +kernel
theorem d_S_await_23 : decode b_S_await 23 = .ok (.iconst 2, 1) := by decide +kernel
theorem d_S_await_24 : decode b_S_await 24 = .ok (.iload_n 2, 1) := by decide +kernel
theorem d_S_await_25 : decode b_S_await 25 = .ok (.iconst 1, 1) := by decide +kernel
theorem d_S_await_26 : decode b_S_await 26 = .ok (.isub, 1) := by decide +kernel
theorem d_S_await_27 : decode b_S_await 27 = .ok (.invokestatic 93, 3) := by decide +kernel
theorem d_S_await_30 : decode b_S_await 30 = .ok (.invokevirtual 50, 3) := by decide +kernel
theorem d_S_await_33 : decode b_S_await 33 = .ok (.iconst 1, 1) := by decide +kernel
theorem d_S_await_34 : decode b_S_await 34 = .ok (.ireturn, 1) := by decide +kernel
theorem d_S_await_35 : decode b_S_await 35 = .ok (.aload_n 0, 1) := by decide +kernel
theorem d_S_await_36 : decode b_S_await 36 = .ok (.iload_n 1, 1) := by decide +kernel
theorem d_S_await_37 : decode b_S_await 37 = .ok (.aload_n 0, 1) := by decide +kernel
theorem d_S_await_38 : decode b_S_await 38 = .ok (.invokevirtual 78, 3) := by decide +kernel
theorem d_S_await_41 : decode b_S_await 41 = .ok (.invokevirtual 74, 3) := by decide +kernel
theorem d_S_await_44 : decode b_S_await 44 = .ok (.aload_n 0, 1) := by decide +kernel
theorem d_S_await_45 : decode b_S_await 45 = .ok (.invokevirtual 88, 3) := by decide +kernel
theorem d_S_await_48 : decode b_S_await 48 = .ok (.iconst 0, 1) := by decide +kernel
theorem d_S_await_49 : decode b_S_await 49 = .ok (.ireturn, 1) := by decide +kernel
theorem d_S_small_0 : decode b_S_small 0 = .ok (.iload_n 0, 1) := by decide +kernel
theorem d_S_small_1 : decode b_S_small 1 = .ok (.iconst 1, 1) := by decide +kernel
theorem d_S_small_2 : decode b_S_small 2 = .ok (.ishl, 1) := by decide +kernel
theorem d_S_small_3 : decode b_S_small 3 = .ok (.iconst 1, 1) := by decide +kernel
theorem d_S_small_4 : decode b_S_small 4 = .ok (.ior, 1) := by decide +kernel
theorem d_S_small_5 : decode b_S_small 5 = .ok (.ireturn, 1) := by decide +kernel
theorem d_X_signal_0 : decode b_X_signal 0 = .ok (.iload_n 1, 1) := by decide +kernel
theorem d_X_signal_1 : decode b_X_signal 1 = .ok (.invokestatic 74, 3) := by decide +kernel
theorem d_X_signal_4 : decode b_X_signal 4 = .ok (.ifCond .eq 14, 3) := by decide +kernel
theorem d_X_signal_7 : decode b_X_signal 7 = .ok (.aload_n 0, 1) := by decide +kernel
theorem d_X_signal_8 : decode b_X_signal 8 = .ok (.getfield 21, 3) := by decide +kernel
theorem d_X_signal_11 : decode b_X_signal 11 = .ok (.iload_n 1, 1) := by decide +kernel
theorem d_X_signal_12 : decode b_X_signal 12 = .ok (.invokestatic 77, 3) := by decide +kernel
theorem d_X_signal_15 : decode b_X_signal 15 = .ok (.invokevirtual 83, 3) := by decide +kernel
theorem d_X_signal_18 : decode b_X_signal 18 = .ok (.iload_n 1, 1) := by decide +kernel
theorem d_X_signal_19 : decode b_X_signal 19 = .ok (.invokestatic 74, 3) := by decide +kernel
theorem d_X_signal_22 : decode b_X_signal 22 = .ok (.ireturn, 1) := by decide +kernel
theorem d_S_signal_0 : decode b_S_signal 0 = .ok (.aload_n 0, 1) := by decide +kernel
theorem d_S_signal_1 : decode b_S_signal 1 = .ok (.aload_n 0, 1) := by decide +kernel
theorem d_S_signal_2 : decode b_S_signal 2 = .ok (.getfield 9, 3) := by decide +kernel
theorem d_S_signal_5 : decode b_S_signal 5 = .ok (.iload_n 1, 1) := by decide +kernel
theorem d_S_signal_6 : decode b_S_signal 6 = .ok (.invokevirtual 65, 3) := by decide +kernel
theorem d_S_signal_9 : decode b_S_signal 9 = .ok (.invokevirtual 46, 3) := by decide +kernel
theorem d_S_signal_12 : decode b_S_signal 12 = .ok (.ifCond .eq 33, 3) := by decide +kernel
theorem d_S_signal_15 : decode b_S_signal 15 = .ok (.aload_n 0, 1) := by decide +kernel
theorem d_S_signal_16 : decode b_S_signal 16 = .ok (.getfield 9, 3) := by decide +kernel
theorem d_S_signal_19 : decode b_S_signal 19 = .ok (.iload_n 1, 1) := by decide +kernel
theorem d_S_signal_20 : decode b_S_signal 20 = .ok (.iconst 2, 1) := by decide +kernel
theorem d_S_signal_21 : decode b_S_signal 21 = .ok (.aload_n 0, 1) := by decide +kernel
theorem d_S_signal_22 : decode b_S_signal 22 = .ok (.getfield 9, 3) := by decide +kernel
theorem d_S_signal_25 : decode b_S_signal 25 = .ok (.iload_n 1, 1) := by decide +kernel
theorem d_S_signal_26 : decode b_S_signal 26 = .ok (.iconst 2, 1) := by decide +kernel
theorem d_S_signal_27 : decode b_S_signal 27 = .ok (.ldc 91, 2) := by decide +kernel
theorem d_S_signal_29 : decode b_S_signal 29 = .ok (.ldc 92, 2) := by decide +kernel
theorem d_S_signal_31 : decode b_S_signal 31 = .ok (.invokevirtual 61, 3) := by decide +kernel
theorem d_S_signal_34 : decode b_S_signal 34 = .ok (.iconst 1, 1) := by decide +kernel
theorem d_S_signal_35 : decode b_S_signal 35 = .ok (.iadd, 1) := by decide +kernel
theorem d_S_signal_36 : decode b_S_signal 36 = .ok (.invokestatic 93, 3) := by decide +kernel
theorem d_S_signal_39 : decode b_S_signal 39 = .ok (.invokevirtual 50, 3) := by decide +kernel
theorem d_S_signal_42 : decode b_S_signal 42 = .ok (.goto 12, 3) := by decide +kernel
theorem d_S_signal_45 : decode b_S_signal 45 = .ok (.aload_n 0, 1) := by decide +kernel
theorem d_S_signal_46 : decode b_S_signal 46 = .ok (.aload_n 0, 1) := by decide +kernel
theorem d_S_signal_47 : decode b_S_signal 47 = .ok (.iload_n 1, 1) := by decide +kernel
theorem d_S_signal_48 : decode b_S_signal 48 = .ok (.invokevirtual 54, 3) := by decide +kernel
theorem d_S_signal_51 : decode b_S_signal 51 = .ok (.invokevirtual 96, 3) := by decide +kernel
theorem d_S_signal_54 : decode b_S_signal 54 = .ok (.return_, 1) := by decide +kernel
theorem d_X_post_0 : decode b_X_post 0 = .ok (.iload_n 1, 1) := by decide +kernel
theorem d_X_post_1 : decode b_X_post 1 = .ok (.invokestatic 74, 3) := by decide +kernel
theorem d_X_post_4 : decode b_X_post 4 = .ok (.ifCond .eq 17, 3) := by decide +kernel
theorem d_X_post_7 : decode b_X_post 7 = .ok (.aload_n 0, 1) := by decide +kernel
theorem d_X_post_8 : decode b_X_post 8 = .ok (.getfield 21, 3) := by decide +kernel
theorem d_X_post_11 : decode b_X_post 11 = .ok (.iload_n 1, 1) := by decide +kernel
theorem d_X_post_12 : decode b_X_post 12 = .ok (.invokestatic 77, 3) := by decide +kernel
theorem d_X_post_15 : decode b_X_post 15 = .ok (.invokevirtual 86, 3) := by decide +kernel
theorem d_X_post_18 : decode b_X_post 18 = .ok (.goto 4, 3) := by decide +kernel
theorem d_X_post_21 : decode b_X_post 21 = .ok (.iconst (-1), 1) := by decide +kernel
theorem d_X_post_22 : decode b_X_post 22 = .ok (.ireturn, 1) := by decide +kernel
theorem d_S_post_0 : decode b_S_post 0 = .ok (.aload_n 0, 1) := by decide +kernel
theorem d_S_post_1 : decode b_S_post 1 = .ok (.getfield 30, 3) := by decide +kernel
theorem d_S_post_4 : decode b_S_post 4 = .ok (.aload_n 0, 1) := by decide +kernel
theorem d_S_post_5 : decode b_S_post 5 = .ok (.getfield 15, 3) := by decide +kernel
theorem d_S_post_8 : decode b_S_post 8 = .ok (.arraylength, 1) := by decide +kernel
theorem d_S_post_9 : decode b_S_post 9 = .ok (.if_icmp .ne 5, 3) := by decide +kernel
theorem d_S_post_12 : decode b_S_post 12 = .ok (.iconst (-1), 1) := by decide +kernel
theorem d_S_post_13 : decode b_S_post 13 = .ok (.ireturn, 1) := by decide +kernel
theorem d_S_post_14 : decode b_S_post 14 = .ok (.aload_n 0, 1) := by decide +kernel
theorem d_S_post_15 : decode b_S_post 15 = .ok (.getfield 15, 3) := by decide +kernel
theorem d_S_post_18 : decode b_S_post 18 = .ok (.aload_n 0, 1) := by decide +kernel
theorem d_S_post_19 : decode b_S_post 19 = .ok (.dup, 1) := by decide +kernel
theorem d_S_post_20 : decode b_S_post 20 = .ok (.getfield 30, 3) := by decide +kernel
theorem d_S_post_23 : decode b_S_post 23 = .ok (.dup_x1, 1) := by decide +kernel
theorem d_S_post_24 : decode b_S_post 24 = .ok (.iconst 1, 1) := by decide +kernel
theorem d_S_post_25 : decode b_S_post 25 = .ok (.iadd, 1) := by decide +kernel
theorem d_S_post_26 : decode b_S_post 26 = .ok (.putfield 30, 3) := by decide +kernel
theorem d_S_post_29 : decode b_S_post 29 = .ok (.iload_n 1, 1) := by decide +kernel
theorem d_S_post_30 : decode b_S_post 30 = .ok (.iastore, 1) := by decide +kernel
theorem d_S_post_31 : decode b_S_post 31 = .ok (.aload_n 0, 1) := by decide +kernel
theorem d_S_post_32 : decode b_S_post 32 = .ok (.getfield 30, 3) := by decide +kernel
theorem d_S_post_35 : decode b_S_post 35 = .ok (.ireturn, 1) := by decide +kernel
theorem d_X_step_0 : decode b_X_step 0 = .ok (.aload_n 0, 1) := by decide +kernel
theorem d_X_step_1 : decode b_X_step 1 = .ok (.getfield 21, 3) := by decide +kernel
theorem d_X_step_4 : decode b_X_step 4 = .ok (.invokevirtual 89, 3) := by decide +kernel
theorem d_X_step_7 : decode b_X_step 7 = .ok (.pop, 1) := by decide +kernel
theorem d_X_step_8 : decode b_X_step 8 = .ok (.aload_n 0, 1) := by decide +kernel
theorem d_X_step_9 : decode b_X_step 9 = .ok (.invokevirtual 93, 3) := by decide +kernel
theorem d_X_step_12 : decode b_X_step 12 = .ok (.ireturn, 1) := by decide +kernel
theorem d_S_step_0 : decode b_S_step 0 = .ok (.iconst 0, 1) := by decide +kernel
theorem d_S_step_1 : decode b_S_step 1 = .ok (.istore_n 1, 1) := by decide +kernel
theorem d_S_step_2 : decode b_S_step 2 = .ok (.iload_n 1, 1) := by decide +kernel
theorem d_S_step_3 : decode b_S_step 3 = .ok (.aload_n 0, 1) := by decide +kernel
theorem d_S_step_4 : decode b_S_step 4 = .ok (.getfield 30, 3) := by decide +kernel
theorem d_S_step_7 : decode b_S_step 7 = .ok (.if_icmp .ge 19, 3) := by decide +kernel
theorem d_S_step_10 : decode b_S_step 10 = .ok (.aload_n 0, 1) := by decide +kernel
theorem d_S_step_11 : decode b_S_step 11 = .ok (.aload_n 0, 1) := by decide +kernel
theorem d_S_step_12 : decode b_S_step 12 = .ok (.getfield 15, 3) := by decide +kernel
theorem d_S_step_15 : decode b_S_step 15 = .ok (.iload_n 1, 1) := by decide +kernel
theorem d_S_step_16 : decode b_S_step 16 = .ok (.iaload, 1) := by decide +kernel
theorem d_S_step_17 : decode b_S_step 17 = .ok (.invokevirtual 100, 3) := by decide +kernel
theorem d_S_step_20 : decode b_S_step 20 = .ok (.iinc 1 1, 3) := by decide +kernel
theorem d_S_step_23 : decode b_S_step 23 = .ok (.goto (-21), 3) := by decide +kernel
theorem d_S_step_26 : decode b_S_step 26 = .ok (.aload_n 0, 1) := by decide +kernel
theorem d_S_step_27 : decode b_S_step 27 = .ok (.iconst 0, 1) := by decide +kernel
theorem d_S_step_28 : decode b_S_step 28 = .ok (.putfield 30, 3) := by decide +kernel
theorem d_S_step_31 : decode b_S_step 31 = .ok (.aload_n 0, 1) := by decide +kernel
theorem d_S_step_32 : decode b_S_step 32 = .ok (.getfield 23, 3) := by decide +kernel
theorem d_S_step_35 : decode b_S_step 35 = .ok (.ifCond .ne 5, 3) := by decide +kernel
theorem d_S_step_38 : decode b_S_step 38 = .ok (.iconst 0, 1) := by decide +kernel
theorem d_S_step_39 : decode b_S_step 39 = .ok (.ireturn, 1) := by decide +kernel
theorem d_S_step_40 : decode b_S_step 40 = .ok (.aload_n 0, 1) := by decide +kernel
theorem d_S_step_41 : decode b_S_step 41 = .ok (.invokevirtual 57, 3) := by decide +kernel
theorem d_S_step_44 : decode b_S_step 44 = .ok (.istore_n 1, 1) := by decide +kernel
theorem d_S_step_45 : decode b_S_step 45 = .ok (.iload_n 1, 1) := by decide +kernel
theorem d_S_step_46 : decode b_S_step 46 = .ok (.ifCond .eq 23, 3) := by decide +kernel
theorem d_S_step_49 : decode b_S_step 49 = .ok (.aload_n 0, 1) := by decide +kernel
theorem d_S_step_50 : decode b_S_step 50 = .ok (.getfield 9, 3) := by decide +kernel
theorem d_S_step_53 : decode b_S_step 53 = .ok (.aload_n 0, 1) := by decide +kernel
theorem d_S_step_54 : decode b_S_step 54 = .ok (.getfield 9, 3) := by decide +kernel
theorem d_S_step_57 : decode b_S_step 57 = .ok (.iload_n 1, 1) := by decide +kernel
theorem d_S_step_58 : decode b_S_step 58 = .ok (.invokevirtual 42, 3) := by decide +kernel
theorem d_S_step_61 : decode b_S_step 61 = .ok (.iconst 1, 1) := by decide +kernel
theorem d_S_step_62 : decode b_S_step 62 = .ok (.aload_n 0, 1) := by decide +kernel
theorem d_S_step_63 : decode b_S_step 63 = .ok (.getfield 33, 3) := by decide +kernel
theorem d_S_step_66 : decode b_S_step 66 = .ok (.invokevirtual 50, 3) := by decide +kernel
theorem d_S_step_69 : decode b_S_step 69 = .ok (.aload_n 0, 1) := by decide +kernel
theorem d_S_step_70 : decode b_S_step 70 = .ok (.getfield 9, 3) := by decide +kernel
theorem d_S_step_73 : decode b_S_step 73 = .ok (.aload_n 0, 1) := by decide +kernel
theorem d_S_step_74 : decode b_S_step 74 = .ok (.getfield 19, 3) := by decide +kernel
theorem d_S_step_77 : decode b_S_step 77 = .ok (.iconst 1, 1) := by decide +kernel
theorem d_S_step_78 : decode b_S_step 78 = .ok (.aload_n 0, 1) := by decide +kernel
theorem d_S_step_79 : decode b_S_step 79 = .ok (.getfield 27, 3) := by decide +kernel
theorem d_S_step_82 : decode b_S_step 82 = .ok (.invokevirtual 50, 3) := by decide +kernel
theorem d_S_step_85 : decode b_S_step 85 = .ok (.aload_n 0, 1) := by decide +kernel
theorem d_S_step_86 : decode b_S_step 86 = .ok (.aload_n 0, 1) := by decide +kernel
theorem d_S_step_87 : decode b_S_step 87 = .ok (.getfield 27, 3) := by decide +kernel
theorem d_S_step_90 : decode b_S_step 90 = .ok (.ifCond .ne 7, 3) := by decide +kernel
theorem d_S_step_93 : decode b_S_step 93 = .ok (.iconst 0, 1) := by decide +kernel
theorem d_S_step_94 : decode b_S_step 94 = .ok (.goto 22, 3) := by decide +kernel
theorem d_S_step_97 : decode b_S_step 97 = .ok (.aload_n 0, 1) := by decide +kernel
theorem d_S_step_98 : decode b_S_step 98 = .ok (.getfield 9, 3) := by decide +kernel
theorem d_S_step_101 : decode b_S_step 101 = .ok (.aload_n 0, 1) := by decide +kernel
theorem d_S_step_102 : decode b_S_step 102 = .ok (.getfield 9, 3) := by decide +kernel
theorem d_S_step_105 : decode b_S_step 105 = .ok (.aload_n 0, 1) := by decide +kernel
theorem d_S_step_106 : decode b_S_step 106 = .ok (.getfield 27, 3) := by decide +kernel
theorem d_S_step_109 : decode b_S_step 109 = .ok (.invokevirtual 42, 3) := by decide +kernel
theorem d_S_step_112 : decode b_S_step 112 = .ok (.iconst 1, 1) := by decide +kernel
theorem d_S_step_113 : decode b_S_step 113 = .ok (.invokevirtual 36, 3) := by decide +kernel
theorem d_S_step_116 : decode b_S_step 116 = .ok (.putfield 33, 3) := by decide +kernel
theorem d_S_step_119 : decode b_S_step 119 = .ok (.aload_n 0, 1) := by decide +kernel
theorem d_S_step_120 : decode b_S_step 120 = .ok (.iconst 0, 1) := by decide +kernel
theorem d_S_step_121 : decode b_S_step 121 = .ok (.putfield 23, 3) := by decide +kernel
theorem d_S_step_124 : decode b_S_step 124 = .ok (.iconst 1, 1) := by decide +kernel
theorem d_S_step_125 : decode b_S_step 125 = .ok (.ireturn, 1) := by decide +kernel
theorem d_X_active_0 : decode b_X_active 0 = .ok (.aload_n 0, 1) := by decide +kernel
theorem d_X_active_1 : decode b_X_active 1 = .ok (.getfield 21, 3) := by decide +kernel
theorem d_X_active_4 : decode b_X_active 4 = .ok (.invokevirtual 59, 3) := by decide +kernel
theorem d_X_active_7 : decode b_X_active 7 = .ok (.invokestatic 68, 3) := by decide +kernel
theorem d_X_active_10 : decode b_X_active 10 = .ok (.ireturn, 1) := by decide +kernel
theorem d_X_work_0 : decode b_X_work 0 = .ok (.iload_n 1, 1) := by decide +kernel
theorem d_X_work_1 : decode b_X_work 1 = .ok (.iconst 1, 1) := by decide +kernel
theorem d_X_work_2 : decode b_X_work 2 = .ok (.if_icmp .lt 30, 3) := by decide +kernel
theorem d_X_work_5 : decode b_X_work 5 = .ok (.iload_n 1, 1) := by decide +kernel
theorem d_X_work_6 : decode b_X_work 6 = .ok (.sipush 1000, 3) := by decide +kernel
theorem d_X_work_9 : decode b_X_work 9 = .ok (.if_icmp .gt 23, 3) := by decide +kernel
theorem d_X_work_12 : decode b_X_work 12 = .ok (.aload_n 0, 1) := by decide +kernel
theorem d_X_work_13 : decode b_X_work 13 = .ok (.getfield 21, 3) := by decide +kernel
theorem d_X_work_16 : decode b_X_work 16 = .ok (.invokevirtual 59, 3) := by decide +kernel
theorem d_X_work_19 : decode b_X_work 19 = .ok (.ifCond .eq 13, 3) := by decide +kernel
theorem d_X_work_22 : decode b_X_work 22 = .ok (.aload_n 0, 1) := by decide +kernel
theorem d_X_work_23 : decode b_X_work 23 = .ok (.getfield 21, 3) := by decide +kernel
theorem d_X_work_26 : decode b_X_work 26 = .ok (.invokevirtual 94, 3) := by decide +kernel
theorem d_X_work_29 : decode b_X_work 29 = .ok (.ifCond .eq 5, 3) := by decide +kernel
theorem d_X_work_32 : decode b_X_work 32 = .ok (.iconst 0, 1) := by decide +kernel
theorem d_X_work_33 : decode b_X_work 33 = .ok (.ireturn, 1) := by decide +kernel
theorem d_X_work_34 : decode b_X_work 34 = .ok (.aload_n 0, 1) := by decide +kernel
theorem d_X_work_35 : decode b_X_work 35 = .ok (.getfield 21, 3) := by decide +kernel
theorem d_X_work_38 : decode b_X_work 38 = .ok (.dup, 1) := by decide +kernel
theorem d_X_work_39 : decode b_X_work 39 = .ok (.getfield 97, 3) := by decide +kernel
theorem d_X_work_42 : decode b_X_work 42 = .ok (.iload_n 1, 1) := by decide +kernel
theorem d_X_work_43 : decode b_X_work 43 = .ok (.iadd, 1) := by decide +kernel
theorem d_X_work_44 : decode b_X_work 44 = .ok (.putfield 97, 3) := by decide +kernel
theorem d_X_work_47 : decode b_X_work 47 = .ok (.iconst 1, 1) := by decide +kernel
theorem d_X_work_48 : decode b_X_work 48 = .ok (.ireturn, 1) := by decide +kernel
theorem d_S_isWanted_0 : decode b_S_isWanted 0 = .ok (.aload_n 0, 1) := by decide +kernel
theorem d_S_isWanted_1 : decode b_S_isWanted 1 = .ok (.getfield 23, 3) := by decide +kernel
theorem d_S_isWanted_4 : decode b_S_isWanted 4 = .ok (.ireturn, 1) := by decide +kernel
theorem d_X_take_0 : decode b_X_take 0 = .ok (.aload_n 0, 1) := by decide +kernel
theorem d_X_take_1 : decode b_X_take 1 = .ok (.iload_n 1, 1) := by decide +kernel
theorem d_X_take_2 : decode b_X_take 2 = .ok (.invokevirtual 52, 3) := by decide +kernel
theorem d_X_take_5 : decode b_X_take 5 = .ok (.ifCond .ne 5, 3) := by decide +kernel
theorem d_X_take_8 : decode b_X_take 8 = .ok (.iconst 0, 1) := by decide +kernel
theorem d_X_take_9 : decode b_X_take 9 = .ok (.ireturn, 1) := by decide +kernel
theorem d_X_take_10 : decode b_X_take 10 = .ok (.aload_n 0, 1) := by decide +kernel
theorem d_X_take_11 : decode b_X_take 11 = .ok (.getfield 21, 3) := by decide +kernel
theorem d_X_take_14 : decode b_X_take 14 = .ok (.iload_n 1, 1) := by decide +kernel
theorem d_X_take_15 : decode b_X_take 15 = .ok (.invokestatic 41, 3) := by decide +kernel
theorem d_X_take_18 : decode b_X_take 18 = .ok (.invokevirtual 101, 3) := by decide +kernel
theorem d_X_take_21 : decode b_X_take 21 = .ok (.iconst 1, 1) := by decide +kernel
theorem d_X_take_22 : decode b_X_take 22 = .ok (.ireturn, 1) := by decide +kernel
theorem d_S_remove_0 : decode b_S_remove 0 = .ok (.aload_n 0, 1) := by decide +kernel
theorem d_S_remove_1 : decode b_S_remove 1 = .ok (.getfield 9, 3) := by decide +kernel
theorem d_S_remove_4 : decode b_S_remove 4 = .ok (.iload_n 1, 1) := by decide +kernel
theorem d_S_remove_5 : decode b_S_remove 5 = .ok (.iconst 3, 1) := by decide +kernel
theorem d_S_remove_6 : decode b_S_remove 6 = .ok (.invokevirtual 36, 3) := by decide +kernel
theorem d_S_remove_9 : decode b_S_remove 9 = .ok (.istore_n 2, 1) := by decide +kernel
theorem d_S_remove_10 : decode b_S_remove 10 = .ok (.aload_n 0, 1) := by decide +kernel
theorem d_S_remove_11 : decode b_S_remove 11 = .ok (.getfield 9, 3) := by decide +kernel
theorem d_S_remove_14 : decode b_S_remove 14 = .ok (.iload_n 2, 1) := by decide +kernel
theorem d_S_remove_15 : decode b_S_remove 15 = .ok (.iconst 0, 1) := by decide +kernel
theorem d_S_remove_16 : decode b_S_remove 16 = .ok (.invokevirtual 36, 3) := by decide +kernel
theorem d_S_remove_19 : decode b_S_remove 19 = .ok (.iload_n 1, 1) := by decide +kernel
theorem d_S_remove_20 : decode b_S_remove 20 = .ok (.if_icmp .ne 10, 3) := by decide +kernel
theorem d_S_remove_23 : decode b_S_remove 23 = .ok (.aload_n 0, 1) := by decide +kernel
theorem d_S_remove_24 : decode b_S_remove 24 = .ok (.iload_n 2, 1) := by decide +kernel
theorem d_S_remove_25 : decode b_S_remove 25 = .ok (.invokevirtual 54, 3) := by decide +kernel
theorem d_S_remove_28 : decode b_S_remove 28 = .ok (.pop, 1) := by decide +kernel
theorem d_S_remove_29 : decode b_S_remove 29 = .ok (.return_, 1) := by decide +kernel
theorem d_S_remove_30 : decode b_S_remove 30 = .ok (.aload_n 0, 1) := by decide +kernel
theorem d_S_remove_31 : decode b_S_remove 31 = .ok (.getfield 9, 3) := by decide +kernel
theorem d_S_remove_34 : decode b_S_remove 34 = .ok (.iload_n 2, 1) := by decide +kernel
theorem d_S_remove_35 : decode b_S_remove 35 = .ok (.iconst 0, 1) := by decide +kernel
theorem d_S_remove_36 : decode b_S_remove 36 = .ok (.invokevirtual 36, 3) := by decide +kernel
theorem d_S_remove_39 : decode b_S_remove 39 = .ok (.istore_n 3, 1) := by decide +kernel
theorem d_S_remove_40 : decode b_S_remove 40 = .ok (.aload_n 0, 1) := by decide +kernel
theorem d_S_remove_41 : decode b_S_remove 41 = .ok (.getfield 9, 3) := by decide +kernel
theorem d_S_remove_44 : decode b_S_remove 44 = .ok (.iload_n 3, 1) := by decide +kernel
theorem d_S_remove_45 : decode b_S_remove 45 = .ok (.iconst 0, 1) := by decide +kernel
theorem d_S_remove_46 : decode b_S_remove 46 = .ok (.invokevirtual 36, 3) := by decide +kernel
theorem d_S_remove_49 : decode b_S_remove 49 = .ok (.iload_n 1, 1) := by decide +kernel
theorem d_S_remove_50 : decode b_S_remove 50 = .ok (.if_icmp .eq 16, 3) := by decide +kernel
theorem d_S_remove_53 : decode b_S_remove 53 = .ok (.aload_n 0, 1) := by decide +kernel
theorem d_S_remove_54 : decode b_S_remove 54 = .ok (.getfield 9, 3) := by decide +kernel
theorem d_S_remove_57 : decode b_S_remove 57 = .ok (.iload_n 3, 1) := by decide +kernel
theorem d_S_remove_58 : decode b_S_remove 58 = .ok (.iconst 0, 1) := by decide +kernel
theorem d_S_remove_59 : decode b_S_remove 59 = .ok (.invokevirtual 36, 3) := by decide +kernel
theorem d_S_remove_62 : decode b_S_remove 62 = .ok (.istore_n 3, 1) := by decide +kernel
theorem d_S_remove_63 : decode b_S_remove 63 = .ok (.goto (-23), 3) := by decide +kernel
theorem d_S_remove_66 : decode b_S_remove 66 = .ok (.aload_n 0, 1) := by decide +kernel
theorem d_S_remove_67 : decode b_S_remove 67 = .ok (.getfield 9, 3) := by decide +kernel
theorem d_S_remove_70 : decode b_S_remove 70 = .ok (.iload_n 1, 1) := by decide +kernel
theorem d_S_remove_71 : decode b_S_remove 71 = .ok (.iconst 0, 1) := by decide +kernel
theorem d_S_remove_72 : decode b_S_remove 72 = .ok (.invokevirtual 36, 3) := by decide +kernel
theorem d_S_remove_75 : decode b_S_remove 75 = .ok (.istore 4, 2) := by decide +kernel
theorem d_S_remove_77 : decode b_S_remove 77 = .ok (.aload_n 0, 1) := by decide +kernel
theorem d_S_remove_78 : decode b_S_remove 78 = .ok (.getfield 9, 3) := by decide +kernel
theorem d_S_remove_81 : decode b_S_remove 81 = .ok (.iload_n 3, 1) := by decide +kernel
theorem d_S_remove_82 : decode b_S_remove 82 = .ok (.iconst 0, 1) := by decide +kernel
theorem d_S_remove_83 : decode b_S_remove 83 = .ok (.iload 4, 2) := by decide +kernel
theorem d_S_remove_85 : decode b_S_remove 85 = .ok (.invokevirtual 50, 3) := by decide +kernel
theorem d_S_remove_88 : decode b_S_remove 88 = .ok (.iload 4, 2) := by decide +kernel
theorem d_S_remove_90 : decode b_S_remove 90 = .ok (.ifCond .ne 13, 3) := by decide +kernel
theorem d_S_remove_93 : decode b_S_remove 93 = .ok (.aload_n 0, 1) := by decide +kernel
theorem d_S_remove_94 : decode b_S_remove 94 = .ok (.getfield 9, 3) := by decide +kernel
theorem d_S_remove_97 : decode b_S_remove 97 = .ok (.iload_n 2, 1) := by decide +kernel
theorem d_S_remove_98 : decode b_S_remove 98 = .ok (.iconst 1, 1) := by decide +kernel
theorem d_S_remove_99 : decode b_S_remove 99 = .ok (.iload_n 3, 1) := by decide +kernel
theorem d_S_remove_100 : decode b_S_remove 100 = .ok (.invokevirtual 50, 3) := by decide +kernel
theorem d_S_remove_103 : decode b_S_remove 103 = .ok (.aload_n 0, 1) := by decide +kernel
theorem d_S_remove_104 : decode b_S_remove 104 = .ok (.getfield 9, 3) := by decide +kernel
theorem d_S_remove_107 : decode b_S_remove 107 = .ok (.iload_n 1, 1) := by decide +kernel
theorem d_S_remove_108 : decode b_S_remove 108 = .ok (.iconst 0, 1) := by decide +kernel
theorem d_S_remove_109 : decode b_S_remove 109 = .ok (.iconst 0, 1) := by decide +kernel
theorem d_S_remove_110 : decode b_S_remove 110 = .ok (.invokevirtual 50, 3) := by decide +kernel
theorem d_S_remove_113 : decode b_S_remove 113 = .ok (.aload_n 0, 1) := by decide +kernel
theorem d_S_remove_114 : decode b_S_remove 114 = .ok (.getfield 9, 3) := by decide +kernel
theorem d_S_remove_117 : decode b_S_remove 117 = .ok (.iload_n 1, 1) := by decide +kernel
theorem d_S_remove_118 : decode b_S_remove 118 = .ok (.iconst 3, 1) := by decide +kernel
theorem d_S_remove_119 : decode b_S_remove 119 = .ok (.iconst 0, 1) := by decide +kernel
theorem d_S_remove_120 : decode b_S_remove 120 = .ok (.invokevirtual 50, 3) := by decide +kernel
theorem d_S_remove_123 : decode b_S_remove 123 = .ok (.return_, 1) := by decide +kernel
theorem d_X_rate_0 : decode b_X_rate 0 = .ok (.aload_n 0, 1) := by decide +kernel
theorem d_X_rate_1 : decode b_X_rate 1 = .ok (.iload_n 1, 1) := by decide +kernel
theorem d_X_rate_2 : decode b_X_rate 2 = .ok (.invokevirtual 37, 3) := by decide +kernel
theorem d_X_rate_5 : decode b_X_rate 5 = .ok (.ifCond .eq 10, 3) := by decide +kernel
theorem d_X_rate_8 : decode b_X_rate 8 = .ok (.iload_n 2, 1) := by decide +kernel
theorem d_X_rate_9 : decode b_X_rate 9 = .ok (.invokestatic 49, 3) := by decide +kernel
theorem d_X_rate_12 : decode b_X_rate 12 = .ok (.ifCond .ne 5, 3) := by decide +kernel
theorem d_X_rate_15 : decode b_X_rate 15 = .ok (.iconst (-1), 1) := by decide +kernel
theorem d_X_rate_16 : decode b_X_rate 16 = .ok (.ireturn, 1) := by decide +kernel
theorem d_X_rate_17 : decode b_X_rate 17 = .ok (.aload_n 0, 1) := by decide +kernel
theorem d_X_rate_18 : decode b_X_rate 18 = .ok (.getfield 21, 3) := by decide +kernel
theorem d_X_rate_21 : decode b_X_rate 21 = .ok (.iload_n 1, 1) := by decide +kernel
theorem d_X_rate_22 : decode b_X_rate 22 = .ok (.invokestatic 41, 3) := by decide +kernel
theorem d_X_rate_25 : decode b_X_rate 25 = .ok (.invokevirtual 104, 3) := by decide +kernel
theorem d_X_rate_28 : decode b_X_rate 28 = .ok (.istore_n 3, 1) := by decide +kernel
theorem d_X_rate_29 : decode b_X_rate 29 = .ok (.aload_n 0, 1) := by decide +kernel
theorem d_X_rate_30 : decode b_X_rate 30 = .ok (.getfield 10, 3) := by decide +kernel
theorem d_X_rate_33 : decode b_X_rate 33 = .ok (.iload_n 1, 1) := by decide +kernel
theorem d_X_rate_34 : decode b_X_rate 34 = .ok (.invokestatic 41, 3) := by decide +kernel
theorem d_X_rate_37 : decode b_X_rate 37 = .ok (.iconst 2, 1) := by decide +kernel
theorem d_X_rate_38 : decode b_X_rate 38 = .ok (.iload_n 2, 1) := by decide +kernel
theorem d_X_rate_39 : decode b_X_rate 39 = .ok (.iconst 1, 1) := by decide +kernel
theorem d_X_rate_40 : decode b_X_rate 40 = .ok (.ishl, 1) := by decide +kernel
theorem d_X_rate_41 : decode b_X_rate 41 = .ok (.iconst 1, 1) := by decide +kernel
theorem d_X_rate_42 : decode b_X_rate 42 = .ok (.ior, 1) := by decide +kernel
theorem d_X_rate_43 : decode b_X_rate 43 = .ok (.invokevirtual 29, 3) := by decide +kernel
theorem d_X_rate_46 : decode b_X_rate 46 = .ok (.iload_n 3, 1) := by decide +kernel
theorem d_X_rate_47 : decode b_X_rate 47 = .ok (.ireturn, 1) := by decide +kernel
theorem d_X_yield_0 : decode b_X_yield 0 = .ok (.aload_n 0, 1) := by decide +kernel
theorem d_X_yield_1 : decode b_X_yield 1 = .ok (.getfield 21, 3) := by decide +kernel
theorem d_X_yield_4 : decode b_X_yield 4 = .ok (.invokevirtual 107, 3) := by decide +kernel
theorem d_X_yield_7 : decode b_X_yield 7 = .ok (.ireturn, 1) := by decide +kernel
theorem d_S_giveWay_0 : decode b_S_giveWay 0 = .ok (.aload_n 0, 1) := by decide +kernel
theorem d_S_giveWay_1 : decode b_S_giveWay 1 = .ok (.invokevirtual 78, 3) := by decide +kernel
theorem d_S_giveWay_4 : decode b_S_giveWay 4 = .ok (.istore_n 1, 1) := by decide +kernel
theorem d_S_giveWay_5 : decode b_S_giveWay 5 = .ok (.iload_n 1, 1) := by decide +kernel
theorem d_S_giveWay_6 : decode b_S_giveWay 6 = .ok (.ifCond .eq 19, 3) := by decide +kernel
theorem d_S_giveWay_9 : decode b_S_giveWay 9 = .ok (.aload_n 0, 1) := by decide +kernel
theorem d_S_giveWay_10 : decode b_S_giveWay 10 = .ok (.aload_n 0, 1) := by decide +kernel
theorem d_S_giveWay_11 : decode b_S_giveWay 11 = .ok (.aload_n 0, 1) := by decide +kernel
theorem d_S_giveWay_12 : decode b_S_giveWay 12 = .ok (.iload_n 1, 1) := by decide +kernel
theorem d_S_giveWay_13 : decode b_S_giveWay 13 = .ok (.invokevirtual 68, 3) := by decide +kernel
theorem d_S_giveWay_16 : decode b_S_giveWay 16 = .ok (.invokevirtual 71, 3) := by decide +kernel
theorem d_S_giveWay_19 : decode b_S_giveWay 19 = .ok (.invokevirtual 46, 3) := by decide +kernel
theorem d_S_giveWay_22 : decode b_S_giveWay 22 = .ok (.ifCond .eq 5, 3) := by decide +kernel
theorem d_S_giveWay_25 : decode b_S_giveWay 25 = .ok (.iconst 0, 1) := by decide +kernel
theorem d_S_giveWay_26 : decode b_S_giveWay 26 = .ok (.ireturn, 1) := by decide +kernel
theorem d_S_giveWay_27 : decode b_S_giveWay 27 = .ok (.aload_n 0, 1) := by decide +kernel
theorem d_S_giveWay_28 : decode b_S_giveWay 28 = .ok (.iload_n 1, 1) := by decide +kernel
theorem d_S_giveWay_29 : decode b_S_giveWay 29 = .ok (.invokevirtual 81, 3) := by decide +kernel
theorem d_S_giveWay_32 : decode b_S_giveWay 32 = .ok (.aload_n 0, 1) := by decide +kernel
theorem d_S_giveWay_33 : decode b_S_giveWay 33 = .ok (.invokevirtual 88, 3) := by decide +kernel
theorem d_S_giveWay_36 : decode b_S_giveWay 36 = .ok (.iconst 1, 1) := by decide +kernel
theorem d_S_giveWay_37 : decode b_S_giveWay 37 = .ok (.ireturn, 1) := by decide +kernel
theorem d_X_present_0 : decode b_X_present 0 = .ok (.aload_n 0, 1) := by decide +kernel
theorem d_X_present_1 : decode b_X_present 1 = .ok (.getfield 21, 3) := by decide +kernel
theorem d_X_present_4 : decode b_X_present 4 = .ok (.invokevirtual 55, 3) := by decide +kernel
theorem d_X_present_7 : decode b_X_present 7 = .ok (.invokestatic 68, 3) := by decide +kernel
theorem d_X_present_10 : decode b_X_present 10 = .ok (.ireturn, 1) := by decide +kernel
theorem d_X_wanted_0 : decode b_X_wanted 0 = .ok (.aload_n 0, 1) := by decide +kernel
theorem d_X_wanted_1 : decode b_X_wanted 1 = .ok (.getfield 21, 3) := by decide +kernel
theorem d_X_wanted_4 : decode b_X_wanted 4 = .ok (.invokevirtual 94, 3) := by decide +kernel
theorem d_X_wanted_7 : decode b_X_wanted 7 = .ok (.ireturn, 1) := by decide +kernel
theorem d_X_here_0 : decode b_X_here 0 = .ok (.aload_n 0, 1) := by decide +kernel
theorem d_X_here_1 : decode b_X_here 1 = .ok (.getfield 21, 3) := by decide +kernel
theorem d_X_here_4 : decode b_X_here 4 = .ok (.getfield 97, 3) := by decide +kernel
theorem d_X_here_7 : decode b_X_here 7 = .ok (.ireturn, 1) := by decide +kernel
theorem d_X_place_0 : decode b_X_place 0 = .ok (.aload_n 0, 1) := by decide +kernel
theorem d_X_place_1 : decode b_X_place 1 = .ok (.iload_n 1, 1) := by decide +kernel
theorem d_X_place_2 : decode b_X_place 2 = .ok (.invokevirtual 37, 3) := by decide +kernel
theorem d_X_place_5 : decode b_X_place 5 = .ok (.ifCond .eq 18, 3) := by decide +kernel
theorem d_X_place_8 : decode b_X_place 8 = .ok (.aload_n 0, 1) := by decide +kernel
theorem d_X_place_9 : decode b_X_place 9 = .ok (.getfield 10, 3) := by decide +kernel
theorem d_X_place_12 : decode b_X_place 12 = .ok (.iload_n 1, 1) := by decide +kernel
theorem d_X_place_13 : decode b_X_place 13 = .ok (.invokestatic 41, 3) := by decide +kernel
theorem d_X_place_16 : decode b_X_place 16 = .ok (.iconst 1, 1) := by decide +kernel
theorem d_X_place_17 : decode b_X_place 17 = .ok (.invokevirtual 45, 3) := by decide +kernel
theorem d_X_place_20 : decode b_X_place 20 = .ok (.goto 4, 3) := by decide +kernel
theorem d_X_place_23 : decode b_X_place 23 = .ok (.iconst 0, 1) := by decide +kernel
theorem d_X_place_24 : decode b_X_place 24 = .ok (.ireturn, 1) := by decide +kernel
theorem d_X_priority_0 : decode b_X_priority 0 = .ok (.aload_n 0, 1) := by decide +kernel
theorem d_X_priority_1 : decode b_X_priority 1 = .ok (.iload_n 1, 1) := by decide +kernel
theorem d_X_priority_2 : decode b_X_priority 2 = .ok (.invokevirtual 37, 3) := by decide +kernel
theorem d_X_priority_5 : decode b_X_priority 5 = .ok (.ifCond .eq 17, 3) := by decide +kernel
theorem d_X_priority_8 : decode b_X_priority 8 = .ok (.aload_n 0, 1) := by decide +kernel
theorem d_X_priority_9 : decode b_X_priority 9 = .ok (.getfield 21, 3) := by decide +kernel
theorem d_X_priority_12 : decode b_X_priority 12 = .ok (.iload_n 1, 1) := by decide +kernel
theorem d_X_priority_13 : decode b_X_priority 13 = .ok (.invokestatic 41, 3) := by decide +kernel
theorem d_X_priority_16 : decode b_X_priority 16 = .ok (.invokevirtual 104, 3) := by decide +kernel
theorem d_X_priority_19 : decode b_X_priority 19 = .ok (.goto 4, 3) := by decide +kernel
theorem d_X_priority_22 : decode b_X_priority 22 = .ok (.iconst (-1), 1) := by decide +kernel
theorem d_X_priority_23 : decode b_X_priority 23 = .ok (.ireturn, 1) := by decide +kernel
theorem d_X_row_0 : decode b_X_row 0 = .ok (.aload_n 0, 1) := by decide +kernel
theorem d_X_row_1 : decode b_X_row 1 = .ok (.iload_n 1, 1) := by decide +kernel
theorem d_X_row_2 : decode b_X_row 2 = .ok (.invokevirtual 37, 3) := by decide +kernel
theorem d_X_row_5 : decode b_X_row 5 = .ok (.ifCond .ne 5, 3) := by decide +kernel
theorem d_X_row_8 : decode b_X_row 8 = .ok (.iconst (-1), 1) := by decide +kernel
theorem d_X_row_9 : decode b_X_row 9 = .ok (.ireturn, 1) := by decide +kernel
theorem d_X_row_10 : decode b_X_row 10 = .ok (.aload_n 0, 1) := by decide +kernel
theorem d_X_row_11 : decode b_X_row 11 = .ok (.getfield 10, 3) := by decide +kernel
theorem d_X_row_14 : decode b_X_row 14 = .ok (.iload_n 1, 1) := by decide +kernel
theorem d_X_row_15 : decode b_X_row 15 = .ok (.invokestatic 41, 3) := by decide +kernel
theorem d_X_row_18 : decode b_X_row 18 = .ok (.iconst 3, 1) := by decide +kernel
theorem d_X_row_19 : decode b_X_row 19 = .ok (.invokevirtual 45, 3) := by decide +kernel
theorem d_X_row_22 : decode b_X_row 22 = .ok (.istore_n 2, 1) := by decide +kernel
theorem d_X_row_23 : decode b_X_row 23 = .ok (.iload_n 2, 1) := by decide +kernel
theorem d_X_row_24 : decode b_X_row 24 = .ok (.ifCond .ne 7, 3) := by decide +kernel
theorem d_X_row_27 : decode b_X_row 27 = .ok (.iconst 0, 1) := by decide +kernel
theorem d_X_row_28 : decode b_X_row 28 = .ok (.goto 29, 3) := by decide +kernel
theorem d_X_row_31 : decode b_X_row 31 = .ok (.iload_n 2, 1) := by decide +kernel
theorem d_X_row_32 : decode b_X_row 32 = .ok (.bipush 98, 2) := by decide +kernel
theorem d_X_row_34 : decode b_X_row 34 = .ok (.if_icmp .ge 15, 3) := by decide +kernel
theorem d_X_row_37 : decode b_X_row 37 = .ok (.bipush 16, 2) := by decide +kernel
theorem d_X_row_39 : decode b_X_row 39 = .ok (.iload_n 2, 1) := by decide +kernel
theorem d_X_row_40 : decode b_X_row 40 = .ok (.bipush 66, 2) := by decide +kernel
theorem d_X_row_42 : decode b_X_row 42 = .ok (.isub, 1) := by decide +kernel
theorem d_X_row_43 : decode b_X_row 43 = .ok (.iconst 2, 1) := by decide +kernel
theorem d_X_row_44 : decode b_X_row 44 = .ok (.idiv, 1) := by decide +kernel
theorem d_X_row_45 : decode b_X_row 45 = .ok (.iadd, 1) := by decide +kernel
theorem d_X_row_46 : decode b_X_row 46 = .ok (.goto 11, 3) := by decide +kernel
theorem d_X_row_49 : decode b_X_row 49 = .ok (.iconst 1, 1) := by decide +kernel
theorem d_X_row_50 : decode b_X_row 50 = .ok (.iload_n 2, 1) := by decide +kernel
theorem d_X_row_51 : decode b_X_row 51 = .ok (.bipush 98, 2) := by decide +kernel
theorem d_X_row_53 : decode b_X_row 53 = .ok (.isub, 1) := by decide +kernel
theorem d_X_row_54 : decode b_X_row 54 = .ok (.iconst 2, 1) := by decide +kernel
theorem d_X_row_55 : decode b_X_row 55 = .ok (.idiv, 1) := by decide +kernel
theorem d_X_row_56 : decode b_X_row 56 = .ok (.iadd, 1) := by decide +kernel
theorem d_X_row_57 : decode b_X_row 57 = .ok (.ireturn, 1) := by decide +kernel
theorem d_X_at_0 : decode b_X_at 0 = .ok (.iload_n 1, 1) := by decide +kernel
theorem d_X_at_1 : decode b_X_at 1 = .ok (.invokestatic 49, 3) := by decide +kernel
theorem d_X_at_4 : decode b_X_at 4 = .ok (.istore_n 3, 1) := by decide +kernel
theorem d_X_at_5 : decode b_X_at 5 = .ok (.iload_n 3, 1) := by decide +kernel
theorem d_X_at_6 : decode b_X_at 6 = .ok (.ifCond .ne 13, 3) := by decide +kernel
theorem d_X_at_9 : decode b_X_at 9 = .ok (.iload_n 1, 1) := by decide +kernel
theorem d_X_at_10 : decode b_X_at 10 = .ok (.bipush 16, 2) := by decide +kernel
theorem d_X_at_12 : decode b_X_at 12 = .ok (.isub, 1) := by decide +kernel
theorem d_X_at_13 : decode b_X_at 13 = .ok (.invokestatic 74, 3) := by decide +kernel
theorem d_X_at_16 : decode b_X_at 16 = .ok (.ifCond .eq 7, 3) := by decide +kernel
theorem d_X_at_19 : decode b_X_at 19 = .ok (.iload_n 2, 1) := by decide +kernel
theorem d_X_at_20 : decode b_X_at 20 = .ok (.ifCond .ge 5, 3) := by decide +kernel
theorem d_X_at_23 : decode b_X_at 23 = .ok (.iconst (-1), 1) := by decide +kernel
theorem d_X_at_24 : decode b_X_at 24 = .ok (.ireturn, 1) := by decide +kernel
theorem d_X_at_25 : decode b_X_at 25 = .ok (.aload_n 0, 1) := by decide +kernel
theorem d_X_at_26 : decode b_X_at 26 = .ok (.getfield 10, 3) := by decide +kernel
theorem d_X_at_29 : decode b_X_at 29 = .ok (.iload_n 3, 1) := by decide +kernel
theorem d_X_at_30 : decode b_X_at 30 = .ok (.ifCond .eq 14, 3) := by decide +kernel
theorem d_X_at_33 : decode b_X_at 33 = .ok (.aload_n 0, 1) := by decide +kernel
theorem d_X_at_34 : decode b_X_at 34 = .ok (.getfield 21, 3) := by decide +kernel
theorem d_X_at_37 : decode b_X_at 37 = .ok (.iload_n 1, 1) := by decide +kernel
theorem d_X_at_38 : decode b_X_at 38 = .ok (.invokevirtual 110, 3) := by decide +kernel
theorem d_X_at_41 : decode b_X_at 41 = .ok (.goto 10, 3) := by decide +kernel
theorem d_X_at_44 : decode b_X_at 44 = .ok (.iload_n 1, 1) := by decide +kernel
theorem d_X_at_45 : decode b_X_at 45 = .ok (.bipush 16, 2) := by decide +kernel
theorem d_X_at_47 : decode b_X_at 47 = .ok (.isub, 1) := by decide +kernel
theorem d_X_at_48 : decode b_X_at 48 = .ok (.invokestatic 77, 3) := by decide +kernel
theorem d_X_at_51 : decode b_X_at 51 = .ok (.iconst 0, 1) := by decide +kernel
theorem d_X_at_52 : decode b_X_at 52 = .ok (.invokevirtual 45, 3) := by decide +kernel
theorem d_X_at_55 : decode b_X_at 55 = .ok (.istore 4, 2) := by decide +kernel
theorem d_X_at_57 : decode b_X_at 57 = .ok (.iconst 0, 1) := by decide +kernel
theorem d_X_at_58 : decode b_X_at 58 = .ok (.istore 5, 2) := by decide +kernel
theorem d_X_at_60 : decode b_X_at 60 = .ok (.iload 5, 2) := by decide +kernel
theorem d_X_at_62 : decode b_X_at 62 = .ok (.iload_n 2, 1) := by decide +kernel
theorem d_X_at_63 : decode b_X_at 63 = .ok (.if_icmp .ge 26, 3) := by decide +kernel
theorem d_X_at_66 : decode b_X_at 66 = .ok (.iload 4, 2) := by decide +kernel
theorem d_X_at_68 : decode b_X_at 68 = .ok (.ifCond .eq 21, 3) := by decide +kernel
theorem d_X_at_71 : decode b_X_at 71 = .ok (.aload_n 0, 1) := by decide +kernel
theorem d_X_at_72 : decode b_X_at 72 = .ok (.getfield 10, 3) := by decide +kernel
theorem d_X_at_75 : decode b_X_at 75 = .ok (.iload 4, 2) := by decide +kernel
theorem d_X_at_77 : decode b_X_at 77 = .ok (.iconst 0, 1) := by decide +kernel
theorem d_X_at_78 : decode b_X_at 78 = .ok (.invokevirtual 45, 3) := by decide +kernel
theorem d_X_at_81 : decode b_X_at 81 = .ok (.istore 4, 2) := by decide +kernel
theorem d_X_at_83 : decode b_X_at 83 = .ok (.iinc 5 1, 3) := by decide +kernel
theorem d_X_at_86 : decode b_X_at 86 = .ok (.goto (-26), 3) := by decide +kernel
theorem d_X_at_89 : decode b_X_at 89 = .ok (.iload 4, 2) := by decide +kernel
theorem d_X_at_91 : decode b_X_at 91 = .ok (.invokestatic 68, 3) := by decide +kernel
theorem d_X_at_94 : decode b_X_at 94 = .ok (.ireturn, 1) := by decide +kernel
theorem d_X_extra_0 : decode b_X_extra 0 = .ok (.iload_n 1, 1) := by decide +kernel
theorem d_X_extra_1 : decode b_X_extra 1 = .ok (.invokestatic 74, 3) := by decide +kernel
theorem d_X_extra_4 : decode b_X_extra 4 = .ok (.ifCond .eq 20, 3) := by decide +kernel
theorem d_X_extra_7 : decode b_X_extra 7 = .ok (.aload_n 0, 1) := by decide +kernel
theorem d_X_extra_8 : decode b_X_extra 8 = .ok (.getfield 10, 3) := by decide +kernel
theorem d_X_extra_11 : decode b_X_extra 11 = .ok (.iload_n 1, 1) := by decide +kernel
theorem d_X_extra_12 : decode b_X_extra 12 = .ok (.invokestatic 77, 3) := by decide +kernel
theorem d_X_extra_15 : decode b_X_extra 15 = .ok (.iconst 2, 1) := by decide +kernel
theorem d_X_extra_16 : decode b_X_extra 16 = .ok (.invokevirtual 45, 3) := by decide +kernel
theorem d_X_extra_19 : decode b_X_extra 19 = .ok (.iconst 1, 1) := by decide +kernel
theorem d_X_extra_20 : decode b_X_extra 20 = .ok (.ishr, 1) := by decide +kernel
theorem d_X_extra_21 : decode b_X_extra 21 = .ok (.goto 4, 3) := by decide +kernel
theorem d_X_extra_24 : decode b_X_extra 24 = .ok (.iconst (-1), 1) := by decide +kernel
theorem d_X_extra_25 : decode b_X_extra 25 = .ok (.ireturn, 1) := by decide +kernel
theorem d_X_posted_0 : decode b_X_posted 0 = .ok (.aload_n 0, 1) := by decide +kernel
theorem d_X_posted_1 : decode b_X_posted 1 = .ok (.getfield 21, 3) := by decide +kernel
theorem d_X_posted_4 : decode b_X_posted 4 = .ok (.iload_n 1, 1) := by decide +kernel
theorem d_X_posted_5 : decode b_X_posted 5 = .ok (.invokevirtual 113, 3) := by decide +kernel
theorem d_X_posted_8 : decode b_X_posted 8 = .ok (.istore_n 2, 1) := by decide +kernel
theorem d_X_posted_9 : decode b_X_posted 9 = .ok (.iload_n 2, 1) := by decide +kernel
theorem d_X_posted_10 : decode b_X_posted 10 = .ok (.ifCond .ne 7, 3) := by decide +kernel
theorem d_X_posted_13 : decode b_X_posted 13 = .ok (.iconst (-1), 1) := by decide +kernel
theorem d_X_posted_14 : decode b_X_posted 14 = .ok (.goto 9, 3) := by decide +kernel
theorem d_X_posted_17 : decode b_X_posted 17 = .ok (.iload_n 2, 1) := by decide +kernel
theorem d_X_posted_18 : decode b_X_posted 18 = .ok (.bipush 66, 2) := by decide +kernel
theorem d_X_posted_20 : decode b_X_posted 20 = .ok (.isub, 1) := by decide +kernel
theorem d_X_posted_21 : decode b_X_posted 21 = .ok (.iconst 2, 1) := by decide +kernel
theorem d_X_posted_22 : decode b_X_posted 22 = .ok (.idiv, 1) := by decide +kernel
theorem d_X_posted_23 : decode b_X_posted 23 = .ok (.ireturn, 1) := by decide +kernel
theorem d_S_posted_0 : decode b_S_posted 0 = .ok (.iload_n 1, 1) := by decide +kernel
theorem d_S_posted_1 : decode b_S_posted 1 = .ok (.ifCond .lt 11, 3) := by decide +kernel
theorem d_S_posted_4 : decode b_S_posted 4 = .ok (.iload_n 1, 1) := by decide +kernel
theorem d_S_posted_5 : decode b_S_posted 5 = .ok (.aload_n 0, 1) := by decide +kernel
theorem d_S_posted_6 : decode b_S_posted 6 = .ok (.getfield 30, 3) := by decide +kernel
theorem d_S_posted_9 : decode b_S_posted 9 = .ok (.if_icmp .lt 7, 3) := by decide +kernel
theorem d_S_posted_12 : decode b_S_posted 12 = .ok (.iconst 0, 1) := by decide +kernel
theorem d_S_posted_13 : decode b_S_posted 13 = .ok (.goto 9, 3) := by decide +kernel
theorem d_S_posted_16 : decode b_S_posted 16 = .ok (.aload_n 0, 1) := by decide +kernel
theorem d_S_posted_17 : decode b_S_posted 17 = .ok (.getfield 15, 3) := by decide +kernel
theorem d_S_posted_20 : decode b_S_posted 20 = .ok (.iload_n 1, 1) := by decide +kernel
theorem d_S_posted_21 : decode b_S_posted 21 = .ok (.iaload, 1) := by decide +kernel
theorem d_S_posted_22 : decode b_S_posted 22 = .ok (.ireturn, 1) := by decide +kernel
theorem d_M_init_0 : decode b_M_init 0 = .ok (.aload_n 0, 1) := by decide +kernel
theorem d_M_init_1 : decode b_M_init 1 = .ok (.invokespecial 1, 3) := by decide +kernel
theorem d_M_init_4 : decode b_M_init 4 = .ok (.aload_n 0, 1) := by decide +kernel
theorem d_M_init_5 : decode b_M_init 5 = .ok (.bipush 32, 2) := by decide +kernel
theorem d_M_init_7 : decode b_M_init 7 = .ok (.newarray .boolean, 2) := by decide +kernel
theorem d_M_init_9 : decode b_M_init 9 = .ok (.putfield 7, 3) := by decide +kernel
theorem d_M_init_12 : decode b_M_init 12 = .ok (.aload_n 0, 1) := by decide +kernel
theorem d_M_init_13 : decode b_M_init 13 = .ok (.bipush 32, 2) := by decide +kernel
theorem d_M_init_15 : decode b_M_init 15 = .ok (.newarray .int, 2) := by decide +kernel
theorem d_M_init_17 : decode b_M_init 17 = .ok (.putfield 13, 3) := by decide +kernel
theorem d_M_init_20 : decode b_M_init 20 = .ok (.aload_n 0, 1) := by decide +kernel
theorem d_M_init_21 : decode b_M_init 21 = .ok (.bipush 32, 2) := by decide +kernel
theorem d_M_init_23 : decode b_M_init 23 = .ok (.newarray .int, 2) := by decide +kernel
theorem d_M_init_25 : decode b_M_init 25 = .ok (.putfield 17, 3) := by decide +kernel
theorem d_M_init_28 : decode b_M_init 28 = .ok (.aload_n 0, 1) := by decide +kernel
theorem d_M_init_29 : decode b_M_init 29 = .ok (.bipush 32, 2) := by decide +kernel
theorem d_M_init_31 : decode b_M_init 31 = .ok (.newarray .int, 2) := by decide +kernel
theorem d_M_init_33 : decode b_M_init 33 = .ok (.putfield 20, 3) := by decide +kernel
theorem d_M_init_36 : decode b_M_init 36 = .ok (.aload_n 0, 1) := by decide +kernel
theorem d_M_init_37 : decode b_M_init 37 = .ok (.bipush 32, 2) := by decide +kernel
theorem d_M_init_39 : decode b_M_init 39 = .ok (.newarray .long, 2) := by decide +kernel
theorem d_M_init_41 : decode b_M_init 41 = .ok (.putfield 23, 3) := by decide +kernel
theorem d_M_init_44 : decode b_M_init 44 = .ok (.aload_n 0, 1) := by decide +kernel
theorem d_M_init_45 : decode b_M_init 45 = .ok (.bipush 16, 2) := by decide +kernel
theorem d_M_init_47 : decode b_M_init 47 = .ok (.newarray .int, 2) := by decide +kernel
theorem d_M_init_49 : decode b_M_init 49 = .ok (.putfield 27, 3) := by decide +kernel
theorem d_M_init_52 : decode b_M_init 52 = .ok (.aload_n 0, 1) := by decide +kernel
theorem d_M_init_53 : decode b_M_init 53 = .ok (.bipush 40, 2) := by decide +kernel
theorem d_M_init_55 : decode b_M_init 55 = .ok (.newarray .int, 2) := by decide +kernel
theorem d_M_init_57 : decode b_M_init 57 = .ok (.putfield 30, 3) := by decide +kernel
theorem d_M_init_60 : decode b_M_init 60 = .ok (.aload_n 0, 1) := by decide +kernel
theorem d_M_init_61 : decode b_M_init 61 = .ok (.iconst (-1), 1) := by decide +kernel
theorem d_M_init_62 : decode b_M_init 62 = .ok (.putfield 33, 3) := by decide +kernel
theorem d_M_init_65 : decode b_M_init 65 = .ok (.aload_n 0, 1) := by decide +kernel
theorem d_M_init_66 : decode b_M_init 66 = .ok (.iconst (-1), 1) := by decide +kernel
theorem d_M_init_67 : decode b_M_init 67 = .ok (.putfield 37, 3) := by decide +kernel
theorem d_M_init_70 : decode b_M_init 70 = .ok (.return_, 1) := by decide +kernel
theorem d_M_make_0 : decode b_M_make 0 = .ok (.iload_n 1, 1) := by decide +kernel
theorem d_M_make_1 : decode b_M_make 1 = .ok (.invokestatic 40, 3) := by decide +kernel
theorem d_M_make_4 : decode b_M_make 4 = .ok (.ifCond .eq 19, 3) := by decide +kernel
theorem d_M_make_7 : decode b_M_make 7 = .ok (.aload_n 0, 1) := by decide +kernel
theorem d_M_make_8 : decode b_M_make 8 = .ok (.getfield 7, 3) := by decide +kernel
theorem d_M_make_11 : decode b_M_make 11 = .ok (.iload_n 1, 1) := by decide +kernel
theorem d_M_make_12 : decode b_M_make 12 = .ok (.baload, 1) := by decide +kernel
theorem d_M_make_13 : decode b_M_make 13 = .ok (.ifCond .ne 10, 3) := by decide +kernel
theorem d_M_make_16 : decode b_M_make 16 = .ok (.iload_n 2, 1) := by decide +kernel
theorem d_M_make_17 : decode b_M_make 17 = .ok (.invokestatic 71, 3) := by decide +kernel
theorem d_M_make_20 : decode b_M_make 20 = .ok (.ifCond .ne 5, 3) := by decide +kernel
theorem d_M_make_23 : decode b_M_make 23 = .ok (.iconst 0, 1) := by decide +kernel
theorem d_M_make_24 : decode b_M_make 24 = .ok (.ireturn, 1) := by decide +kernel
theorem d_M_make_25 : decode b_M_make 25 = .ok (.aload_n 0, 1) := by decide +kernel
theorem d_M_make_26 : decode b_M_make 26 = .ok (.getfield 7, 3) := by decide +kernel
theorem d_M_make_29 : decode b_M_make 29 = .ok (.iload_n 1, 1) := by decide +kernel
theorem d_M_make_30 : decode b_M_make 30 = .ok (.iconst 1, 1) := by decide +kernel
theorem d_M_make_31 : decode b_M_make 31 = .ok (.bastore, 1) := by decide +kernel
theorem d_M_make_32 : decode b_M_make 32 = .ok (.aload_n 0, 1) := by decide +kernel
theorem d_M_make_33 : decode b_M_make 33 = .ok (.getfield 13, 3) := by decide +kernel
theorem d_M_make_36 : decode b_M_make 36 = .ok (.iload_n 1, 1) := by decide +kernel
theorem d_M_make_37 : decode b_M_make 37 = .ok (.iload_n 2, 1) := by decide +kernel
theorem d_M_make_38 : decode b_M_make 38 = .ok (.iastore, 1) := by decide +kernel
theorem d_M_make_39 : decode b_M_make 39 = .ok (.aload_n 0, 1) := by decide +kernel
theorem d_M_make_40 : decode b_M_make 40 = .ok (.getfield 17, 3) := by decide +kernel
theorem d_M_make_43 : decode b_M_make 43 = .ok (.iload_n 1, 1) := by decide +kernel
theorem d_M_make_44 : decode b_M_make 44 = .ok (.iload_n 3, 1) := by decide +kernel
theorem d_M_make_45 : decode b_M_make 45 = .ok (.iastore, 1) := by decide +kernel
theorem d_M_make_46 : decode b_M_make 46 = .ok (.aload_n 0, 1) := by decide +kernel
theorem d_M_make_47 : decode b_M_make 47 = .ok (.getfield 20, 3) := by decide +kernel
theorem d_M_make_50 : decode b_M_make 50 = .ok (.iload_n 1, 1) := by decide +kernel
theorem d_M_make_51 : decode b_M_make 51 = .ok (.iconst 0, 1) := by decide +kernel
theorem d_M_make_52 : decode b_M_make 52 = .ok (.iastore, 1) := by decide +kernel
theorem d_M_make_53 : decode b_M_make 53 = .ok (.iconst 1, 1) := by decide +kernel
theorem d_M_make_54 : decode b_M_make 54 = .ok (.ireturn, 1) := by decide +kernel
theorem d_M_isProcess_0 : decode b_M_isProcess 0 = .ok (.iload_n 0, 1) := by decide +kernel
theorem d_M_isProcess_1 : decode b_M_isProcess 1 = .ok (.ifCond .lt 13, 3) := by decide +kernel
theorem d_M_isProcess_4 : decode b_M_isProcess 4 = .ok (.iload_n 0, 1) := by decide +kernel
theorem d_M_isProcess_5 : decode b_M_isProcess 5 = .ok (.bipush 32, 2) := by decide +kernel
theorem d_M_isProcess_7 : decode b_M_isProcess 7 = .ok (.if_icmp .ge 7, 3) := by decide +kernel
theorem d_M_isProcess_10 : decode b_M_isProcess 10 = .ok (.iconst 1, 1) := by decide +kernel
theorem d_M_isProcess_11 : decode b_M_isProcess 11 = .ok (.goto 4, 3) := by decide +kernel
theorem d_M_isProcess_14 : decode b_M_isProcess 14 = .ok (.iconst 0, 1) := by decide +kernel
theorem d_M_isProcess_15 : decode b_M_isProcess 15 = .ok (.ireturn, 1) := by decide +kernel
theorem d_M_isPriority_0 : decode b_M_isPriority 0 = .ok (.iload_n 0, 1) := by decide +kernel
theorem d_M_isPriority_1 : decode b_M_isPriority 1 = .ok (.iconst 1, 1) := by decide +kernel
theorem d_M_isPriority_2 : decode b_M_isPriority 2 = .ok (.if_icmp .lt 13, 3) := by decide +kernel
theorem d_M_isPriority_5 : decode b_M_isPriority 5 = .ok (.iload_n 0, 1) := by decide +kernel
theorem d_M_isPriority_6 : decode b_M_isPriority 6 = .ok (.bipush 8, 2) := by decide +kernel
theorem d_M_isPriority_8 : decode b_M_isPriority 8 = .ok (.if_icmp .gt 7, 3) := by decide +kernel
theorem d_M_isPriority_11 : decode b_M_isPriority 11 = .ok (.iconst 1, 1) := by decide +kernel
theorem d_M_isPriority_12 : decode b_M_isPriority 12 = .ok (.goto 4, 3) := by decide +kernel
theorem d_M_isPriority_15 : decode b_M_isPriority 15 = .ok (.iconst 0, 1) := by decide +kernel
theorem d_M_isPriority_16 : decode b_M_isPriority 16 = .ok (.ireturn, 1) := by decide +kernel
theorem d_M_resume_0 : decode b_M_resume 0 = .ok (.aload_n 0, 1) := by decide +kernel
theorem d_M_resume_1 : decode b_M_resume 1 = .ok (.iload_n 1, 1) := by decide +kernel
theorem d_M_resume_2 : decode b_M_resume 2 = .ok (.invokevirtual 74, 3) := by decide +kernel
theorem d_M_resume_5 : decode b_M_resume 5 = .ok (.ifCond .eq 28, 3) := by decide +kernel
theorem d_M_resume_8 : decode b_M_resume 8 = .ok (.aload_n 0, 1) := by decide +kernel
theorem d_M_resume_9 : decode b_M_resume 9 = .ok (.getfield 20, 3) := by decide +kernel
theorem d_M_resume_12 : decode b_M_resume 12 = .ok (.iload_n 1, 1) := by decide +kernel
theorem d_M_resume_13 : decode b_M_resume 13 = .ok (.iaload, 1) := by decide +kernel
theorem d_M_resume_14 : decode b_M_resume 14 = .ok (.ifCond .ne 19, 3) := by decide +kernel
theorem d_M_resume_17 : decode b_M_resume 17 = .ok (.iload_n 1, 1) := by decide +kernel
theorem d_M_resume_18 : decode b_M_resume 18 = .ok (.aload_n 0, 1) := by decide +kernel
theorem d_M_resume_19 : decode b_M_resume 19 = .ok (.invokevirtual 52, 3) := by decide +kernel
theorem d_M_resume_22 : decode b_M_resume 22 = .ok (.if_icmp .eq 11, 3) := by decide +kernel
theorem d_M_resume_25 : decode b_M_resume 25 = .ok (.iload_n 1, 1) := by decide +kernel
theorem d_M_resume_26 : decode b_M_resume 26 = .ok (.aload_n 0, 1) := by decide +kernel
theorem d_M_resume_27 : decode b_M_resume 27 = .ok (.getfield 33, 3) := by decide +kernel
theorem d_M_resume_30 : decode b_M_resume 30 = .ok (.if_icmp .ne 5, 3) := by decide +kernel
theorem d_M_resume_33 : decode b_M_resume 33 = .ok (.iconst 0, 1) := by decide +kernel
theorem d_M_resume_34 : decode b_M_resume 34 = .ok (.ireturn, 1) := by decide +kernel
theorem d_M_resume_35 : decode b_M_resume 35 = .ok (.aload_n 0, 1) := by decide +kernel
theorem d_M_resume_36 : decode b_M_resume 36 = .ok (.iload_n 1, 1) := by decide +kernel
theorem d_M_resume_37 : decode b_M_resume 37 = .ok (.invokevirtual 68, 3) := by decide +kernel
theorem d_M_resume_40 : decode b_M_resume 40 = .ok (.iconst 1, 1) := by decide +kernel
theorem d_M_resume_41 : decode b_M_resume 41 = .ok (.ireturn, 1) := by decide +kernel
theorem d_M_isMade_0 : decode b_M_isMade 0 = .ok (.iload_n 1, 1) := by decide +kernel
theorem d_M_isMade_1 : decode b_M_isMade 1 = .ok (.invokestatic 40, 3) := by decide +kernel
theorem d_M_isMade_4 : decode b_M_isMade 4 = .ok (.ifCond .eq 16, 3) := by decide +kernel
theorem d_M_isMade_7 : decode b_M_isMade 7 = .ok (.aload_n 0, 1) := by decide +kernel
theorem d_M_isMade_8 : decode b_M_isMade 8 = .ok (.getfield 7, 3) := by decide +kernel
theorem d_M_isMade_11 : decode b_M_isMade 11 = .ok (.iload_n 1, 1) := by decide +kernel
theorem d_M_isMade_12 : decode b_M_isMade 12 = .ok (.baload, 1) := by decide +kernel
theorem d_M_isMade_13 : decode b_M_isMade 13 = .ok (.ifCond .eq 7, 3) := by decide +kernel
theorem d_M_isMade_16 : decode b_M_isMade 16 = .ok (.iconst 1, 1) := by decide +kernel
theorem d_M_isMade_17 : decode b_M_isMade 17 = .ok (.goto 4, 3) := by decide +kernel
theorem d_M_isMade_20 : decode b_M_isMade 20 = .ok (.iconst 0, 1) := by decide +kernel
theorem d_M_isMade_21 : decode b_M_isMade 21 = .ok (.ireturn, 1) := by decide +kernel
theorem d_M_presentOne_0 : decode b_M_presentOne 0 = .ok (.aload_n 0, 1) := by decide +kernel
theorem d_M_presentOne_1 : decode b_M_presentOne 1 = .ok (.getfield 48, 3) := by decide +kernel
theorem d_M_presentOne_4 : decode b_M_presentOne 4 = .ok (.ifCond .eq 10, 3) := by decide +kernel
theorem d_M_presentOne_7 : decode b_M_presentOne 7 = .ok (.aload_n 0, 1) := by decide +kernel
theorem d_M_presentOne_8 : decode b_M_presentOne 8 = .ok (.getfield 37, 3) := by decide +kernel
theorem d_M_presentOne_11 : decode b_M_presentOne 11 = .ok (.goto 7, 3) := by decide +kernel
theorem d_M_presentOne_14 : decode b_M_presentOne 14 = .ok (.aload_n 0, 1) := by decide +kernel
theorem d_M_presentOne_15 : decode b_M_presentOne 15 = .ok (.getfield 33, 3) := by decide +kernel
theorem d_M_presentOne_18 : decode b_M_presentOne 18 = .ok (.ireturn, 1) := by decide +kernel
theorem d_M_wake_0 : decode b_M_wake 0 = .ok (.aload_n 0, 1) := by decide +kernel
theorem d_M_wake_1 : decode b_M_wake 1 = .ok (.invokevirtual 52, 3) := by decide +kernel
theorem d_M_wake_4 : decode b_M_wake 4 = .ok (.istore_n 2, 1) := by decide +kernel
theorem d_M_wake_5 : decode b_M_wake 5 = .ok (.iload_n 2, 1) := by decide +kernel
theorem d_M_wake_6 : decode b_M_wake 6 = .ok (.ifCond .lt 30, 3) := by decide +kernel
theorem d_M_wake_9 : decode b_M_wake 9 = .ok (.aload_n 0, 1) := by decide +kernel
theorem d_M_wake_10 : decode b_M_wake 10 = .ok (.getfield 13, 3) := by decide +kernel
theorem d_M_wake_13 : decode b_M_wake 13 = .ok (.iload_n 2, 1) := by decide +kernel
theorem d_M_wake_14 : decode b_M_wake 14 = .ok (.iaload, 1) := by decide +kernel
theorem d_M_wake_15 : decode b_M_wake 15 = .ok (.aload_n 0, 1) := by decide +kernel
theorem d_M_wake_16 : decode b_M_wake 16 = .ok (.getfield 13, 3) := by decide +kernel
theorem d_M_wake_19 : decode b_M_wake 19 = .ok (.iload_n 1, 1) := by decide +kernel
theorem d_M_wake_20 : decode b_M_wake 20 = .ok (.iaload, 1) := by decide +kernel
theorem d_M_wake_21 : decode b_M_wake 21 = .ok (.if_icmp .lt 15, 3) := by decide +kernel
theorem d_M_wake_24 : decode b_M_wake 24 = .ok (.aload_n 0, 1) := by decide +kernel
theorem d_M_wake_25 : decode b_M_wake 25 = .ok (.iload_n 1, 1) := by decide +kernel
theorem d_M_wake_26 : decode b_M_wake 26 = .ok (.aload_n 0, 1) := by decide +kernel
theorem d_M_wake_27 : decode b_M_wake 27 = .ok (.getfield 13, 3) := by decide +kernel
theorem d_M_wake_30 : decode b_M_wake 30 = .ok (.iload_n 1, 1) := by decide +kernel
theorem d_M_wake_31 : decode b_M_wake 31 = .ok (.iaload, 1) := by decide +kernel
theorem d_M_wake_32 : decode b_M_wake 32 = .ok (.invokevirtual 56, 3) := by decide +kernel
theorem d_M_wake_35 : decode b_M_wake 35 = .ok (.return_, 1) := by decide +kernel
theorem d_M_wake_36 : decode b_M_wake 36 = .ok (.iload_n 2, 1) := by decide +kernel
theorem d_M_wake_37 : decode b_M_wake 37 = .ok (.ifCond .lt 14, 3) := by decide +kernel
theorem d_M_wake_40 : decode b_M_wake 40 = .ok (.aload_n 0, 1) := by decide +kernel
theorem d_M_wake_41 : decode b_M_wake 41 = .ok (.iload_n 2, 1) := by decide +kernel
theorem d_M_wake_42 : decode b_M_wake 42 = .ok (.aload_n 0, 1) := by decide +kernel
theorem d_M_wake_43 : decode b_M_wake 43 = .ok (.getfield 13, 3) := by decide +kernel
theorem d_M_wake_46 : decode b_M_wake 46 = .ok (.iload_n 2, 1) := by decide +kernel
theorem d_M_wake_47 : decode b_M_wake 47 = .ok (.iaload, 1) := by decide +kernel
theorem d_M_wake_48 : decode b_M_wake 48 = .ok (.invokevirtual 56, 3) := by decide +kernel
theorem d_M_wake_51 : decode b_M_wake 51 = .ok (.aload_n 0, 1) := by decide +kernel
theorem d_M_wake_52 : decode b_M_wake 52 = .ok (.getfield 20, 3) := by decide +kernel
theorem d_M_wake_55 : decode b_M_wake 55 = .ok (.iload_n 1, 1) := by decide +kernel
theorem d_M_wake_56 : decode b_M_wake 56 = .ok (.iconst 0, 1) := by decide +kernel
theorem d_M_wake_57 : decode b_M_wake 57 = .ok (.iastore, 1) := by decide +kernel
theorem d_M_wake_58 : decode b_M_wake 58 = .ok (.aload_n 0, 1) := by decide +kernel
theorem d_M_wake_59 : decode b_M_wake 59 = .ok (.iload_n 1, 1) := by decide +kernel
theorem d_M_wake_60 : decode b_M_wake 60 = .ok (.invokevirtual 60, 3) := by decide +kernel
theorem d_M_wake_63 : decode b_M_wake 63 = .ok (.return_, 1) := by decide +kernel
theorem d_M_enter_0 : decode b_M_enter 0 = .ok (.aload_n 0, 1) := by decide +kernel
theorem d_M_enter_1 : decode b_M_enter 1 = .ok (.getfield 20, 3) := by decide +kernel
theorem d_M_enter_4 : decode b_M_enter 4 = .ok (.iload_n 1, 1) := by decide +kernel
theorem d_M_enter_5 : decode b_M_enter 5 = .ok (.iload_n 2, 1) := by decide +kernel
theorem d_M_enter_6 : decode b_M_enter 6 = .ok (.iastore, 1) := by decide +kernel
theorem d_M_enter_7 : decode b_M_enter 7 = .ok (.aload_n 0, 1) := by decide +kernel
theorem d_M_enter_8 : decode b_M_enter 8 = .ok (.getfield 23, 3) := by decide +kernel
theorem d_M_enter_11 : decode b_M_enter 11 = .ok (.iload_n 1, 1) := by decide +kernel
theorem d_M_enter_12 : decode b_M_enter 12 = .ok (.aload_n 0, 1) := by decide +kernel
theorem d_M_enter_13 : decode b_M_enter 13 = .ok (.getfield 44, 3) := by decide +kernel
theorem d_M_enter_16 : decode b_M_enter 16 = .ok (.lastore, 1) := by decide +kernel
theorem d_M_enter_17 : decode b_M_enter 17 = .ok (.aload_n 0, 1) := by decide +kernel
theorem d_M_enter_18 : decode b_M_enter 18 = .ok (.aload_n 0, 1) := by decide +kernel
theorem d_M_enter_19 : decode b_M_enter 19 = .ok (.getfield 44, 3) := by decide +kernel
theorem d_M_enter_22 : decode b_M_enter 22 = .ok (.lconst 1, 1) := by decide +kernel
theorem d_M_enter_23 : decode b_M_enter 23 = .ok (.ladd, 1) := by decide +kernel
theorem d_M_enter_24 : decode b_M_enter 24 = .ok (.putfield 44, 3) := by decide +kernel
theorem d_M_enter_27 : decode b_M_enter 27 = .ok (.return_, 1) := by decide +kernel
theorem d_M_want_0 : decode b_M_want 0 = .ok (.aload_n 0, 1) := by decide +kernel
theorem d_M_want_1 : decode b_M_want 1 = .ok (.iconst 1, 1) := by decide +kernel
theorem d_M_want_2 : decode b_M_want 2 = .ok (.putfield 48, 3) := by decide +kernel
theorem d_M_want_5 : decode b_M_want 5 = .ok (.aload_n 0, 1) := by decide +kernel
theorem d_M_want_6 : decode b_M_want 6 = .ok (.iload_n 1, 1) := by decide +kernel
theorem d_M_want_7 : decode b_M_want 7 = .ok (.putfield 37, 3) := by decide +kernel
theorem d_M_want_10 : decode b_M_want 10 = .ok (.return_, 1) := by decide +kernel
theorem d_M_suspend_0 : decode b_M_suspend 0 = .ok (.aload_n 0, 1) := by decide +kernel
theorem d_M_suspend_1 : decode b_M_suspend 1 = .ok (.invokevirtual 52, 3) := by decide +kernel
theorem d_M_suspend_4 : decode b_M_suspend 4 = .ok (.istore_n 1, 1) := by decide +kernel
theorem d_M_suspend_5 : decode b_M_suspend 5 = .ok (.iload_n 1, 1) := by decide +kernel
theorem d_M_suspend_6 : decode b_M_suspend 6 = .ok (.ifCond .lt 7, 3) := by decide +kernel
theorem d_M_suspend_9 : decode b_M_suspend 9 = .ok (.aload_n 0, 1) := by decide +kernel
theorem d_M_suspend_10 : decode b_M_suspend 10 = .ok (.invokevirtual 77, 3) := by decide +kernel
theorem d_M_suspend_13 : decode b_M_suspend 13 = .ok (.iload_n 1, 1) := by decide +kernel
theorem d_M_suspend_14 : decode b_M_suspend 14 = .ok (.ireturn, 1) := by decide +kernel
theorem d_M_putAside_0 : decode b_M_putAside 0 = .ok (.iconst (-1), 1) := by decide +kernel
theorem d_M_putAside_1 : decode b_M_putAside 1 = .ok (.istore_n 1, 1) := by decide +kernel
theorem d_M_putAside_2 : decode b_M_putAside 2 = .ok (.iconst 1, 1) := by decide +kernel
theorem d_M_putAside_3 : decode b_M_putAside 3 = .ok (.istore_n 2, 1) := by decide +kernel
theorem d_M_putAside_4 : decode b_M_putAside 4 = .ok (.iload_n 2, 1) := by decide +kernel
theorem d_M_putAside_5 : decode b_M_putAside 5 = .ok (.bipush 8, 2) := by decide +kernel
theorem d_M_putAside_7 : decode b_M_putAside 7 = .ok (.if_icmp .gt 26, 3) := by decide +kernel
theorem d_M_putAside_10 : decode b_M_putAside 10 = .ok (.aload_n 0, 1) := by decide +kernel
theorem d_M_putAside_11 : decode b_M_putAside 11 = .ok (.iload_n 2, 1) := by decide +kernel
theorem d_M_putAside_12 : decode b_M_putAside 12 = .ok (.iconst 0, 1) := by decide +kernel
theorem d_M_putAside_13 : decode b_M_putAside 13 = .ok (.invokevirtual 64, 3) := by decide +kernel
theorem d_M_putAside_16 : decode b_M_putAside 16 = .ok (.istore_n 3, 1) := by decide +kernel
theorem d_M_putAside_17 : decode b_M_putAside 17 = .ok (.iload_n 3, 1) := by decide +kernel
theorem d_M_putAside_18 : decode b_M_putAside 18 = .ok (.ifCond .lt 7, 3) := by decide +kernel
theorem d_M_putAside_21 : decode b_M_putAside 21 = .ok (.iload_n 3, 1) := by decide +kernel
theorem d_M_putAside_22 : decode b_M_putAside 22 = .ok (.goto 4, 3) := by decide +kernel
theorem d_M_putAside_25 : decode b_M_putAside 25 = .ok (.iload_n 1, 1) := by decide +kernel
theorem d_M_putAside_26 : decode b_M_putAside 26 = .ok (.istore_n 1, 1) := by decide +kernel
theorem d_M_putAside_27 : decode b_M_putAside 27 = .ok (.iinc 2 1, 3) := by decide +kernel
theorem d_M_putAside_30 : decode b_M_putAside 30 = .ok (.goto (-26), 3) := by decide +kernel
theorem d_M_putAside_33 : decode b_M_putAside 33 = .ok (.iload_n 1, 1) := by decide +kernel
theorem d_M_putAside_34 : decode b_M_putAside 34 = .ok (.ifCond .lt 10, 3) := by decide +kernel
theorem d_M_putAside_37 : decode b_M_putAside 37 = .ok (.aload_n 0, 1) := by decide +kernel
theorem d_M_putAside_38 : decode b_M_putAside 38 = .ok (.getfield 20, 3) := by decide +kernel
theorem d_M_putAside_41 : decode b_M_putAside 41 = .ok (.iload_n 1, 1) := by decide +kernel
theorem d_M_putAside_42 : decode b_M_putAside 42 = .ok (.iconst 0, 1) := by decide +kernel
theorem d_M_putAside_43 : decode b_M_putAside 43 = .ok (.iastore, 1) := by decide +kernel
theorem d_M_putAside_44 : decode b_M_putAside 44 = .ok (.aload_n 0, 1) := by decide +kernel
theorem d_M_putAside_45 : decode b_M_putAside 45 = .ok (.iload_n 1, 1) := by decide +kernel
theorem d_M_putAside_46 : decode b_M_putAside 46 = .ok (.invokevirtual 60, 3) := by decide +kernel
theorem d_M_putAside_49 : decode b_M_putAside 49 = .ok (.return_, 1) := by decide +kernel
theorem d_M_find_0 : decode b_M_find 0 = .ok (.iload_n 2, 1) := by decide +kernel
theorem d_M_find_1 : decode b_M_find 1 = .ok (.istore_n 3, 1) := by decide +kernel
theorem d_M_find_2 : decode b_M_find 2 = .ok (.iconst (-1), 1) := by decide +kernel
theorem d_M_find_3 : decode b_M_find 3 = .ok (.istore 4, 2) := by decide +kernel
theorem d_M_find_5 : decode b_M_find 5 = .ok (.iload_n 3, 1) := by decide +kernel
theorem d_M_find_6 : decode b_M_find 6 = .ok (.ifCond .lt 128, 3) := by decide +kernel
theorem d_M_find_9 : decode b_M_find 9 = .ok (.iconst (-1), 1) := by decide +kernel
theorem d_M_find_10 : decode b_M_find 10 = .ok (.istore 5, 2) := by decide +kernel
theorem d_M_find_12 : decode b_M_find 12 = .ok (.iconst 0, 1) := by decide +kernel
theorem d_M_find_13 : decode b_M_find 13 = .ok (.istore 6, 2) := by decide +kernel
theorem d_M_find_15 : decode b_M_find 15 = .ok (.iload 6, 2) := by decide +kernel
theorem d_M_find_17 : decode b_M_find 17 = .ok (.bipush 32, 2) := by decide +kernel
theorem d_M_find_19 : decode b_M_find 19 = .ok (.if_icmp .ge 97, 3) := by decide +kernel
theorem d_M_find_22 : decode b_M_find 22 = .ok (.iload 4, 2) := by decide +kernel
theorem d_M_find_24 : decode b_M_find 24 = .ok (.ifCond .lt 21, 3) := by decide +kernel
theorem d_M_find_27 : decode b_M_find 27 = .ok (.aload_n 0, 1) := by decide +kernel
theorem d_M_find_28 : decode b_M_find 28 = .ok (.getfield 23, 3) := by decide +kernel
theorem d_M_find_31 : decode b_M_find 31 = .ok (.iload 6, 2) := by decide +kernel
theorem d_M_find_33 : decode b_M_find 33 = .ok (.laload, 1) := by decide +kernel
theorem d_M_find_34 : decode b_M_find 34 = .ok (.aload_n 0, 1) := by decide +kernel
theorem d_M_find_35 : decode b_M_find 35 = .ok (.getfield 23, 3) := by decide +kernel
theorem d_M_find_38 : decode b_M_find 38 = .ok (.iload 4, 2) := by decide +kernel
theorem d_M_find_40 : decode b_M_find 40 = .ok (.laload, 1) := by decide +kernel
theorem d_M_find_41 : decode b_M_find 41 = .ok (.lcmp, 1) := by decide +kernel
theorem d_M_find_42 : decode b_M_find 42 = .ok (.ifCond .le 7, 3) := by decide +kernel
theorem d_M_find_45 : decode b_M_find 45 = .ok (.iconst 1, 1) := by decide +kernel
theorem d_M_find_46 : decode b_M_find 46 = .ok (.goto 4, 3) := by decide +kernel
theorem d_M_find_49 : decode b_M_find 49 = .ok (.iconst 0, 1) := by decide +kernel
theorem d_M_find_50 : decode b_M_find 50 = .ok (.istore 7, 2) := by decide +kernel
theorem d_M_find_52 : decode b_M_find 52 = .ok (.aload_n 0, 1) := by decide +kernel
theorem d_M_find_53 : decode b_M_find 53 = .ok (.getfield 7, 3) := by decide +kernel
theorem d_M_find_56 : decode b_M_find 56 = .ok (.iload 6, 2) := by decide +kernel
theorem d_M_find_58 : decode b_M_find 58 = .ok (.baload, 1) := by decide +kernel
theorem d_M_find_59 : decode b_M_find 59 = .ok (.ifCond .eq 47, 3) := by decide +kernel
theorem d_M_find_62 : decode b_M_find 62 = .ok (.aload_n 0, 1) := by decide +kernel
theorem d_M_find_63 : decode b_M_find 63 = .ok (.getfield 20, 3) := by decide +kernel
theorem d_M_find_66 : decode b_M_find 66 = .ok (.iload 6, 2) := by decide +kernel
theorem d_M_find_68 : decode b_M_find 68 = .ok (.iaload, 1) := by decide +kernel
theorem d_M_find_69 : decode b_M_find 69 = .ok (.iload_n 1, 1) := by decide +kernel
theorem d_M_find_70 : decode b_M_find 70 = .ok (.if_icmp .ne 36, 3) := by decide +kernel
theorem d_M_find_73 : decode b_M_find 73 = .ok (.iload 7, 2) := by decide +kernel
theorem d_M_find_75 : decode b_M_find 75 = .ok (.ifCond .eq 31, 3) := by decide +kernel
theorem d_M_find_78 : decode b_M_find 78 = .ok (.iload 5, 2) := by decide +kernel
theorem d_M_find_80 : decode b_M_find 80 = .ok (.ifCond .lt 21, 3) := by decide +kernel
theorem d_M_find_83 : decode b_M_find 83 = .ok (.aload_n 0, 1) := by decide +kernel
theorem d_M_find_84 : decode b_M_find 84 = .ok (.getfield 23, 3) := by decide +kernel
theorem d_M_find_87 : decode b_M_find 87 = .ok (.iload 6, 2) := by decide +kernel
theorem d_M_find_89 : decode b_M_find 89 = .ok (.laload, 1) := by decide +kernel
theorem d_M_find_90 : decode b_M_find 90 = .ok (.aload_n 0, 1) := by decide +kernel
theorem d_M_find_91 : decode b_M_find 91 = .ok (.getfield 23, 3) := by decide +kernel
theorem d_M_find_94 : decode b_M_find 94 = .ok (.iload 5, 2) := by decide +kernel
theorem d_M_find_96 : decode b_M_find 96 = .ok (.laload, 1) := by decide +kernel
theorem d_M_find_97 : decode b_M_find 97 = .ok (.lcmp, 1) := by decide +kernel
theorem d_M_find_98 : decode b_M_find 98 = .ok (.ifCond .ge 8, 3) := by decide +kernel
theorem d_M_find_101 : decode b_M_find 101 = .ok (.iload 6, 2) := by decide +kernel
theorem d_M_find_103 : decode b_M_find 103 = .ok (.goto 5, 3) := by decide +kernel
theorem d_M_find_106 : decode b_M_find 106 = .ok (.iload 5, 2) := by decide +kernel
theorem d_M_find_108 : decode b_M_find 108 = .ok (.istore 5, 2) := by decide +kernel
theorem d_M_find_110 : decode b_M_find 110 = .ok (.iinc 6 1, 3) := by decide +kernel
theorem d_M_find_113 : decode b_M_find 113 = .ok (.goto (-98), 3) := by decide +kernel
theorem d_M_find_116 : decode b_M_find 116 = .ok (.iload 5, 2) := by decide +kernel
theorem d_M_find_118 : decode b_M_find 118 = .ok (.ifCond .ge 5, 3) := by decide +kernel
theorem d_M_find_121 : decode b_M_find 121 = .ok (.iconst (-1), 1) := by decide +kernel
theorem d_M_find_122 : decode b_M_find 122 = .ok (.ireturn, 1) := by decide +kernel
theorem d_M_find_123 : decode b_M_find 123 = .ok (.iload 5, 2) := by decide +kernel
theorem d_M_find_125 : decode b_M_find 125 = .ok (.istore 4, 2) := by decide +kernel
theorem d_M_find_127 : decode b_M_find 127 = .ok (.iload_n 3, 1) := by decide +kernel
theorem d_M_find_128 : decode b_M_find 128 = .ok (.iconst 1, 1) := by decide +kernel
theorem d_M_find_129 : decode b_M_find 129 = .ok (.isub, 1) := by decide +kernel
theorem d_M_find_130 : decode b_M_find 130 = .ok (.istore_n 3, 1) := by decide +kernel
theorem d_M_find_131 : decode b_M_find 131 = .ok (.goto (-126), 3) := by decide +kernel
theorem d_M_find_134 : decode b_M_find 134 = .ok (.iload 4, 2) := by decide +kernel
theorem d_M_find_136 : decode b_M_find 136 = .ok (.ireturn, 1) := by decide +kernel
theorem d_M_end_0 : decode b_M_end 0 = .ok (.aload_n 0, 1) := by decide +kernel
theorem d_M_end_1 : decode b_M_end 1 = .ok (.invokevirtual 52, 3) := by decide +kernel
theorem d_M_end_4 : decode b_M_end 4 = .ok (.istore_n 1, 1) := by decide +kernel
theorem d_M_end_5 : decode b_M_end 5 = .ok (.iload_n 1, 1) := by decide +kernel
theorem d_M_end_6 : decode b_M_end 6 = .ok (.ifCond .lt 34, 3) := by decide +kernel
theorem d_M_end_9 : decode b_M_end 9 = .ok (.aload_n 0, 1) := by decide +kernel
theorem d_M_end_10 : decode b_M_end 10 = .ok (.getfield 7, 3) := by decide +kernel
theorem d_M_end_13 : decode b_M_end 13 = .ok (.iload_n 1, 1) := by decide +kernel
theorem d_M_end_14 : decode b_M_end 14 = .ok (.iconst 0, 1) := by decide +kernel
theorem d_M_end_15 : decode b_M_end 15 = .ok (.bastore, 1) := by decide +kernel
theorem d_M_end_16 : decode b_M_end 16 = .ok (.aload_n 0, 1) := by decide +kernel
theorem d_M_end_17 : decode b_M_end 17 = .ok (.invokevirtual 77, 3) := by decide +kernel
theorem d_M_end_20 : decode b_M_end 20 = .ok (.aload_n 0, 1) := by decide +kernel
theorem d_M_end_21 : decode b_M_end 21 = .ok (.iload_n 1, 1) := by decide +kernel
theorem d_M_end_22 : decode b_M_end 22 = .ok (.aload_n 0, 1) := by decide +kernel
theorem d_M_end_23 : decode b_M_end 23 = .ok (.getfield 33, 3) := by decide +kernel
theorem d_M_end_26 : decode b_M_end 26 = .ok (.if_icmp .ne 7, 3) := by decide +kernel
theorem d_M_end_29 : decode b_M_end 29 = .ok (.iconst (-1), 1) := by decide +kernel
theorem d_M_end_30 : decode b_M_end 30 = .ok (.goto 7, 3) := by decide +kernel
theorem d_M_end_33 : decode b_M_end 33 = .ok (.aload_n 0, 1) := by decide +kernel
theorem d_M_end_34 : decode b_M_end 34 = .ok (.getfield 33, 3) := by decide +kernel
theorem d_M_end_37 : decode b_M_end 37 = .ok (.putfield 33, 3) := by decide +kernel
theorem d_M_end_40 : decode b_M_end 40 = .ok (.iload_n 1, 1) := by decide +kernel
theorem d_M_end_41 : decode b_M_end 41 = .ok (.ireturn, 1) := by decide +kernel
theorem d_M_await_0 : decode b_M_await 0 = .ok (.aload_n 0, 1) := by decide +kernel
theorem d_M_await_1 : decode b_M_await 1 = .ok (.invokevirtual 52, 3) := by decide +kernel
theorem d_M_await_4 : decode b_M_await 4 = .ok (.istore_n 2, 1) := by decide +kernel
theorem d_M_await_5 : decode b_M_await 5 = .ok (.iload_n 1, 1) := by decide +kernel
theorem d_M_await_6 : decode b_M_await 6 = .ok (.invokestatic 80, 3) := by decide +kernel
theorem d_M_await_9 : decode b_M_await 9 = .ok (.ifCond .eq 7, 3) := by decide +kernel
theorem d_M_await_12 : decode b_M_await 12 = .ok (.iload_n 2, 1) := by decide +kernel
theorem d_M_await_13 : decode b_M_await 13 = .ok (.ifCond .ge 5, 3) := by decide +kernel
theorem d_M_await_16 : decode b_M_await 16 = .ok (.iconst (-1), 1) := by decide +kernel
theorem d_M_await_17 : decode b_M_await 17 = .ok (.ireturn, 1) := by decide +kernel
theorem d_M_await_18 : decode b_M_await 18 = .ok (.aload_n 0, 1) := by decide +kernel
theorem d_M_await_19 : decode b_M_await 19 = .ok (.getfield 27, 3) := by decide +kernel
theorem d_M_await_22 : decode b_M_await 22 = .ok (.iload_n 1, 1) := by decide +kernel
theorem d_M_await_23 : decode b_M_await 23 = .ok (.iaload, 1) := by decide +kernel
theorem d_M_await_24 : decode b_M_await 24 = .ok (.ifCond .le 19, 3) := by decide +kernel
theorem d_M_await_27 : decode b_M_await 27 = .ok (.aload_n 0, 1) := by decide +kernel
theorem d_M_await_28 : decode b_M_await 28 = .ok (.getfield 27, 3) := by decide +kernel
theorem d_M_await_31 : decode b_M_await 31 = .ok (.iload_n 1, 1) := by decide +kernel
theorem d_M_await_32 : decode b_M_await 32 = .ok (.aload_n 0, 1) := by decide +kernel
theorem d_M_await_33 : decode b_M_await 33 = .ok (.getfield 27, 3) := by decide +kernel
theorem d_M_await_36 : decode b_M_await 36 = .ok (.iload_n 1, 1) := by decide +kernel
theorem d_M_await_37 : decode b_M_await 37 = .ok (.iaload, 1) := by decide +kernel
theorem d_M_await_38 : decode b_M_await 38 = .ok (.iconst 1, 1) := by decide +kernel
theorem d_M_await_39 : decode b_M_await 39 = .ok (.isub, 1) := by decide +kernel
theorem d_M_await_40 : decode b_M_await 40 = .ok (.iastore, 1) := by decide +kernel
theorem d_M_await_41 : decode b_M_await 41 = .ok (.iconst 1, 1) := by decide +kernel
theorem d_M_await_42 : decode b_M_await 42 = .ok (.ireturn, 1) := by decide +kernel
theorem d_M_await_43 : decode b_M_await 43 = .ok (.aload_n 0, 1) := by decide +kernel
theorem d_M_await_44 : decode b_M_await 44 = .ok (.iload_n 2, 1) := by decide +kernel
theorem d_M_await_45 : decode b_M_await 45 = .ok (.bipush 16, 2) := by decide +kernel
theorem d_M_await_47 : decode b_M_await 47 = .ok (.iload_n 1, 1) := by decide +kernel
theorem d_M_await_48 : decode b_M_await 48 = .ok (.iadd, 1) := by decide +kernel
theorem d_M_await_49 : decode b_M_await 49 = .ok (.invokevirtual 56, 3) := by decide +kernel
theorem d_M_await_52 : decode b_M_await 52 = .ok (.aload_n 0, 1) := by decide +kernel
theorem d_M_await_53 : decode b_M_await 53 = .ok (.invokevirtual 77, 3) := by decide +kernel
theorem d_M_await_56 : decode b_M_await 56 = .ok (.iconst 0, 1) := by decide +kernel
theorem d_M_await_57 : decode b_M_await 57 = .ok (.ireturn, 1) := by decide +kernel
theorem d_M_isSemaphore_0 : decode b_M_isSemaphore 0 = .ok (.iload_n 0, 1) := by decide +kernel
theorem d_M_isSemaphore_1 : decode b_M_isSemaphore 1 = .ok (.ifCond .lt 13, 3) := by decide +kernel
theorem d_M_isSemaphore_4 : decode b_M_isSemaphore 4 = .ok (.iload_n 0, 1) := by decide +kernel
theorem d_M_isSemaphore_5 : decode b_M_isSemaphore 5 = .ok (.bipush 16, 2) := by decide +kernel
theorem d_M_isSemaphore_7 : decode b_M_isSemaphore 7 = .ok (.if_icmp .ge 7, 3) := by decide +kernel
theorem d_M_isSemaphore_10 : decode b_M_isSemaphore 10 = .ok (.iconst 1, 1) := by decide +kernel
theorem d_M_isSemaphore_11 : decode b_M_isSemaphore 11 = .ok (.goto 4, 3) := by decide +kernel
theorem d_M_isSemaphore_14 : decode b_M_isSemaphore 14 = .ok (.iconst 0, 1) := by decide +kernel
theorem d_M_isSemaphore_15 : decode b_M_isSemaphore 15 = .ok (.ireturn, 1) := by decide +kernel
theorem d_M_signal_0 : decode b_M_signal 0 = .ok (.iload_n 1, 1) := by decide +kernel
theorem d_M_signal_1 : decode b_M_signal 1 = .ok (.invokestatic 80, 3) := by decide +kernel
theorem d_M_signal_4 : decode b_M_signal 4 = .ok (.ifCond .ne 5, 3) := by decide +kernel
theorem d_M_signal_7 : decode b_M_signal 7 = .ok (.iconst 0, 1) := by decide +kernel
theorem d_M_signal_8 : decode b_M_signal 8 = .ok (.ireturn, 1) := by decide +kernel
theorem d_M_signal_9 : decode b_M_signal 9 = .ok (.aload_n 0, 1) := by decide +kernel
theorem d_M_signal_10 : decode b_M_signal 10 = .ok (.iload_n 1, 1) := by decide +kernel
theorem d_M_signal_11 : decode b_M_signal 11 = .ok (.invokevirtual 83, 3) := by decide +kernel
theorem d_M_signal_14 : decode b_M_signal 14 = .ok (.iconst 1, 1) := by decide +kernel
theorem d_M_signal_15 : decode b_M_signal 15 = .ok (.ireturn, 1) := by decide +kernel
theorem d_M_give_0 : decode b_M_give 0 = .ok (.aload_n 0, 1) := by decide +kernel
theorem d_M_give_1 : decode b_M_give 1 = .ok (.bipush 16, 2) := by decide +kernel
theorem d_M_give_3 : decode b_M_give 3 = .ok (.iload_n 1, 1) := by decide +kernel
theorem d_M_give_4 : decode b_M_give 4 = .ok (.iadd, 1) := by decide +kernel
theorem d_M_give_5 : decode b_M_give 5 = .ok (.iconst 0, 1) := by decide +kernel
theorem d_M_give_6 : decode b_M_give 6 = .ok (.invokevirtual 64, 3) := by decide +kernel
theorem d_M_give_9 : decode b_M_give 9 = .ok (.istore_n 2, 1) := by decide +kernel
theorem d_M_give_10 : decode b_M_give 10 = .ok (.iload_n 2, 1) := by decide +kernel
theorem d_M_give_11 : decode b_M_give 11 = .ok (.ifCond .ge 20, 3) := by decide +kernel
theorem d_M_give_14 : decode b_M_give 14 = .ok (.aload_n 0, 1) := by decide +kernel
theorem d_M_give_15 : decode b_M_give 15 = .ok (.getfield 27, 3) := by decide +kernel
theorem d_M_give_18 : decode b_M_give 18 = .ok (.iload_n 1, 1) := by decide +kernel
theorem d_M_give_19 : decode b_M_give 19 = .ok (.aload_n 0, 1) := by decide +kernel
theorem d_M_give_20 : decode b_M_give 20 = .ok (.getfield 27, 3) := by decide +kernel
theorem d_M_give_23 : decode b_M_give 23 = .ok (.iload_n 1, 1) := by decide +kernel
theorem d_M_give_24 : decode b_M_give 24 = .ok (.iaload, 1) := by decide +kernel
theorem d_M_give_25 : decode b_M_give 25 = .ok (.iconst 1, 1) := by decide +kernel
theorem d_M_give_26 : decode b_M_give 26 = .ok (.iadd, 1) := by decide +kernel
theorem d_M_give_27 : decode b_M_give 27 = .ok (.iastore, 1) := by decide +kernel
theorem d_M_give_28 : decode b_M_give 28 = .ok (.goto 15, 3) := by decide +kernel
theorem d_M_give_31 : decode b_M_give 31 = .ok (.aload_n 0, 1) := by decide +kernel
theorem d_M_give_32 : decode b_M_give 32 = .ok (.getfield 20, 3) := by decide +kernel
theorem d_M_give_35 : decode b_M_give 35 = .ok (.iload_n 2, 1) := by decide +kernel
theorem d_M_give_36 : decode b_M_give 36 = .ok (.iconst 0, 1) := by decide +kernel
theorem d_M_give_37 : decode b_M_give 37 = .ok (.iastore, 1) := by decide +kernel
theorem d_M_give_38 : decode b_M_give 38 = .ok (.aload_n 0, 1) := by decide +kernel
theorem d_M_give_39 : decode b_M_give 39 = .ok (.iload_n 2, 1) := by decide +kernel
theorem d_M_give_40 : decode b_M_give 40 = .ok (.invokevirtual 68, 3) := by decide +kernel
theorem d_M_give_43 : decode b_M_give 43 = .ok (.return_, 1) := by decide +kernel
theorem d_M_post_0 : decode b_M_post 0 = .ok (.iload_n 1, 1) := by decide +kernel
theorem d_M_post_1 : decode b_M_post 1 = .ok (.invokestatic 80, 3) := by decide +kernel
theorem d_M_post_4 : decode b_M_post 4 = .ok (.ifCond .eq 12, 3) := by decide +kernel
theorem d_M_post_7 : decode b_M_post 7 = .ok (.aload_n 0, 1) := by decide +kernel
theorem d_M_post_8 : decode b_M_post 8 = .ok (.getfield 86, 3) := by decide +kernel
theorem d_M_post_11 : decode b_M_post 11 = .ok (.bipush 40, 2) := by decide +kernel
theorem d_M_post_13 : decode b_M_post 13 = .ok (.if_icmp .ne 5, 3) := by decide +kernel
theorem d_M_post_16 : decode b_M_post 16 = .ok (.iconst (-1), 1) := by decide +kernel
theorem d_M_post_17 : decode b_M_post 17 = .ok (.ireturn, 1) := by decide +kernel
theorem d_M_post_18 : decode b_M_post 18 = .ok (.aload_n 0, 1) := by decide +kernel
theorem d_M_post_19 : decode b_M_post 19 = .ok (.getfield 30, 3) := by decide +kernel
theorem d_M_post_22 : decode b_M_post 22 = .ok (.aload_n 0, 1) := by decide +kernel
theorem d_M_post_23 : decode b_M_post 23 = .ok (.getfield 86, 3) := by decide +kernel
theorem d_M_post_26 : decode b_M_post 26 = .ok (.iload_n 1, 1) := by decide +kernel
theorem d_M_post_27 : decode b_M_post 27 = .ok (.iastore, 1) := by decide +kernel
theorem d_M_post_28 : decode b_M_post 28 = .ok (.aload_n 0, 1) := by decide +kernel
theorem d_M_post_29 : decode b_M_post 29 = .ok (.aload_n 0, 1) := by decide +kernel
theorem d_M_post_30 : decode b_M_post 30 = .ok (.getfield 86, 3) := by decide +kernel
theorem d_M_post_33 : decode b_M_post 33 = .ok (.iconst 1, 1) := by decide +kernel
theorem d_M_post_34 : decode b_M_post 34 = .ok (.iadd, 1) := by decide +kernel
theorem d_M_post_35 : decode b_M_post 35 = .ok (.putfield 86, 3) := by decide +kernel
theorem d_M_post_38 : decode b_M_post 38 = .ok (.aload_n 0, 1) := by decide +kernel
theorem d_M_post_39 : decode b_M_post 39 = .ok (.getfield 86, 3) := by decide +kernel
theorem d_M_post_42 : decode b_M_post 42 = .ok (.ireturn, 1) := by decide +kernel
theorem d_M_step_0 : decode b_M_step 0 = .ok (.iconst 0, 1) := by decide +kernel
theorem d_M_step_1 : decode b_M_step 1 = .ok (.istore_n 1, 1) := by decide +kernel
theorem d_M_step_2 : decode b_M_step 2 = .ok (.iload_n 1, 1) := by decide +kernel
theorem d_M_step_3 : decode b_M_step 3 = .ok (.aload_n 0, 1) := by decide +kernel
theorem d_M_step_4 : decode b_M_step 4 = .ok (.getfield 86, 3) := by decide +kernel
theorem d_M_step_7 : decode b_M_step 7 = .ok (.if_icmp .ge 19, 3) := by decide +kernel
theorem d_M_step_10 : decode b_M_step 10 = .ok (.aload_n 0, 1) := by decide +kernel
theorem d_M_step_11 : decode b_M_step 11 = .ok (.aload_n 0, 1) := by decide +kernel
theorem d_M_step_12 : decode b_M_step 12 = .ok (.getfield 30, 3) := by decide +kernel
theorem d_M_step_15 : decode b_M_step 15 = .ok (.iload_n 1, 1) := by decide +kernel
theorem d_M_step_16 : decode b_M_step 16 = .ok (.iaload, 1) := by decide +kernel
theorem d_M_step_17 : decode b_M_step 17 = .ok (.invokevirtual 83, 3) := by decide +kernel
theorem d_M_step_20 : decode b_M_step 20 = .ok (.iinc 1 1, 3) := by decide +kernel
theorem d_M_step_23 : decode b_M_step 23 = .ok (.goto (-21), 3) := by decide +kernel
theorem d_M_step_26 : decode b_M_step 26 = .ok (.aload_n 0, 1) := by decide +kernel
theorem d_M_step_27 : decode b_M_step 27 = .ok (.iconst 0, 1) := by decide +kernel
theorem d_M_step_28 : decode b_M_step 28 = .ok (.putfield 86, 3) := by decide +kernel
theorem d_M_step_31 : decode b_M_step 31 = .ok (.aload_n 0, 1) := by decide +kernel
theorem d_M_step_32 : decode b_M_step 32 = .ok (.getfield 48, 3) := by decide +kernel
theorem d_M_step_35 : decode b_M_step 35 = .ok (.ifCond .eq 60, 3) := by decide +kernel
theorem d_M_step_38 : decode b_M_step 38 = .ok (.aload_n 0, 1) := by decide +kernel
theorem d_M_step_39 : decode b_M_step 39 = .ok (.getfield 33, 3) := by decide +kernel
theorem d_M_step_42 : decode b_M_step 42 = .ok (.ifCond .lt 16, 3) := by decide +kernel
theorem d_M_step_45 : decode b_M_step 45 = .ok (.aload_n 0, 1) := by decide +kernel
theorem d_M_step_46 : decode b_M_step 46 = .ok (.getfield 17, 3) := by decide +kernel
theorem d_M_step_49 : decode b_M_step 49 = .ok (.aload_n 0, 1) := by decide +kernel
theorem d_M_step_50 : decode b_M_step 50 = .ok (.getfield 33, 3) := by decide +kernel
theorem d_M_step_53 : decode b_M_step 53 = .ok (.aload_n 0, 1) := by decide +kernel
theorem d_M_step_54 : decode b_M_step 54 = .ok (.getfield 89, 3) := by decide +kernel
theorem d_M_step_57 : decode b_M_step 57 = .ok (.iastore, 1) := by decide +kernel
theorem d_M_step_58 : decode b_M_step 58 = .ok (.aload_n 0, 1) := by decide +kernel
theorem d_M_step_59 : decode b_M_step 59 = .ok (.aload_n 0, 1) := by decide +kernel
theorem d_M_step_60 : decode b_M_step 60 = .ok (.getfield 37, 3) := by decide +kernel
theorem d_M_step_63 : decode b_M_step 63 = .ok (.putfield 33, 3) := by decide +kernel
theorem d_M_step_66 : decode b_M_step 66 = .ok (.aload_n 0, 1) := by decide +kernel
theorem d_M_step_67 : decode b_M_step 67 = .ok (.aload_n 0, 1) := by decide +kernel
theorem d_M_step_68 : decode b_M_step 68 = .ok (.getfield 33, 3) := by decide +kernel
theorem d_M_step_71 : decode b_M_step 71 = .ok (.ifCond .lt 15, 3) := by decide +kernel
theorem d_M_step_74 : decode b_M_step 74 = .ok (.aload_n 0, 1) := by decide +kernel
theorem d_M_step_75 : decode b_M_step 75 = .ok (.getfield 17, 3) := by decide +kernel
theorem d_M_step_78 : decode b_M_step 78 = .ok (.aload_n 0, 1) := by decide +kernel
theorem d_M_step_79 : decode b_M_step 79 = .ok (.getfield 33, 3) := by decide +kernel
theorem d_M_step_82 : decode b_M_step 82 = .ok (.iaload, 1) := by decide +kernel
theorem d_M_step_83 : decode b_M_step 83 = .ok (.goto 4, 3) := by decide +kernel
theorem d_M_step_86 : decode b_M_step 86 = .ok (.iconst 0, 1) := by decide +kernel
theorem d_M_step_87 : decode b_M_step 87 = .ok (.putfield 89, 3) := by decide +kernel
theorem d_M_step_90 : decode b_M_step 90 = .ok (.aload_n 0, 1) := by decide +kernel
theorem d_M_step_91 : decode b_M_step 91 = .ok (.iconst 0, 1) := by decide +kernel
theorem d_M_step_92 : decode b_M_step 92 = .ok (.putfield 48, 3) := by decide +kernel
theorem d_M_step_95 : decode b_M_step 95 = .ok (.aload_n 0, 1) := by decide +kernel
theorem d_M_step_96 : decode b_M_step 96 = .ok (.getfield 33, 3) := by decide +kernel
theorem d_M_step_99 : decode b_M_step 99 = .ok (.ireturn, 1) := by decide +kernel
theorem d_M_work_0 : decode b_M_work 0 = .ok (.iload_n 1, 1) := by decide +kernel
theorem d_M_work_1 : decode b_M_work 1 = .ok (.iconst 1, 1) := by decide +kernel
theorem d_M_work_2 : decode b_M_work 2 = .ok (.if_icmp .lt 24, 3) := by decide +kernel
theorem d_M_work_5 : decode b_M_work 5 = .ok (.iload_n 1, 1) := by decide +kernel
theorem d_M_work_6 : decode b_M_work 6 = .ok (.sipush 1000, 3) := by decide +kernel
theorem d_M_work_9 : decode b_M_work 9 = .ok (.if_icmp .gt 17, 3) := by decide +kernel
theorem d_M_work_12 : decode b_M_work 12 = .ok (.aload_n 0, 1) := by decide +kernel
theorem d_M_work_13 : decode b_M_work 13 = .ok (.getfield 33, 3) := by decide +kernel
theorem d_M_work_16 : decode b_M_work 16 = .ok (.ifCond .lt 10, 3) := by decide +kernel
theorem d_M_work_19 : decode b_M_work 19 = .ok (.aload_n 0, 1) := by decide +kernel
theorem d_M_work_20 : decode b_M_work 20 = .ok (.getfield 48, 3) := by decide +kernel
theorem d_M_work_23 : decode b_M_work 23 = .ok (.ifCond .eq 5, 3) := by decide +kernel
theorem d_M_work_26 : decode b_M_work 26 = .ok (.iconst 0, 1) := by decide +kernel
theorem d_M_work_27 : decode b_M_work 27 = .ok (.ireturn, 1) := by decide +kernel
theorem d_M_work_28 : decode b_M_work 28 = .ok (.aload_n 0, 1) := by decide +kernel
theorem d_M_work_29 : decode b_M_work 29 = .ok (.aload_n 0, 1) := by decide +kernel
theorem d_M_work_30 : decode b_M_work 30 = .ok (.getfield 89, 3) := by decide +kernel
theorem d_M_work_33 : decode b_M_work 33 = .ok (.iload_n 1, 1) := by decide +kernel
theorem d_M_work_34 : decode b_M_work 34 = .ok (.iadd, 1) := by decide +kernel
theorem d_M_work_35 : decode b_M_work 35 = .ok (.putfield 89, 3) := by decide +kernel
theorem d_M_work_38 : decode b_M_work 38 = .ok (.iconst 1, 1) := by decide +kernel
theorem d_M_work_39 : decode b_M_work 39 = .ok (.ireturn, 1) := by decide +kernel
theorem d_M_take_0 : decode b_M_take 0 = .ok (.aload_n 0, 1) := by decide +kernel
theorem d_M_take_1 : decode b_M_take 1 = .ok (.iload_n 1, 1) := by decide +kernel
theorem d_M_take_2 : decode b_M_take 2 = .ok (.invokevirtual 74, 3) := by decide +kernel
theorem d_M_take_5 : decode b_M_take 5 = .ok (.ifCond .eq 12, 3) := by decide +kernel
theorem d_M_take_8 : decode b_M_take 8 = .ok (.aload_n 0, 1) := by decide +kernel
theorem d_M_take_9 : decode b_M_take 9 = .ok (.getfield 20, 3) := by decide +kernel
theorem d_M_take_12 : decode b_M_take 12 = .ok (.iload_n 1, 1) := by decide +kernel
theorem d_M_take_13 : decode b_M_take 13 = .ok (.iaload, 1) := by decide +kernel
theorem d_M_take_14 : decode b_M_take 14 = .ok (.ifCond .ne 5, 3) := by decide +kernel
theorem d_M_take_17 : decode b_M_take 17 = .ok (.iconst 0, 1) := by decide +kernel
theorem d_M_take_18 : decode b_M_take 18 = .ok (.ireturn, 1) := by decide +kernel
theorem d_M_take_19 : decode b_M_take 19 = .ok (.aload_n 0, 1) := by decide +kernel
theorem d_M_take_20 : decode b_M_take 20 = .ok (.getfield 20, 3) := by decide +kernel
theorem d_M_take_23 : decode b_M_take 23 = .ok (.iload_n 1, 1) := by decide +kernel
theorem d_M_take_24 : decode b_M_take 24 = .ok (.iconst 0, 1) := by decide +kernel
theorem d_M_take_25 : decode b_M_take 25 = .ok (.iastore, 1) := by decide +kernel
theorem d_M_take_26 : decode b_M_take 26 = .ok (.iconst 1, 1) := by decide +kernel
theorem d_M_take_27 : decode b_M_take 27 = .ok (.ireturn, 1) := by decide +kernel
theorem d_M_rate_0 : decode b_M_rate 0 = .ok (.aload_n 0, 1) := by decide +kernel
theorem d_M_rate_1 : decode b_M_rate 1 = .ok (.iload_n 1, 1) := by decide +kernel
theorem d_M_rate_2 : decode b_M_rate 2 = .ok (.invokevirtual 74, 3) := by decide +kernel
theorem d_M_rate_5 : decode b_M_rate 5 = .ok (.ifCond .eq 10, 3) := by decide +kernel
theorem d_M_rate_8 : decode b_M_rate 8 = .ok (.iload_n 2, 1) := by decide +kernel
theorem d_M_rate_9 : decode b_M_rate 9 = .ok (.invokestatic 71, 3) := by decide +kernel
theorem d_M_rate_12 : decode b_M_rate 12 = .ok (.ifCond .ne 5, 3) := by decide +kernel
theorem d_M_rate_15 : decode b_M_rate 15 = .ok (.iconst (-1), 1) := by decide +kernel
theorem d_M_rate_16 : decode b_M_rate 16 = .ok (.ireturn, 1) := by decide +kernel
theorem d_M_rate_17 : decode b_M_rate 17 = .ok (.aload_n 0, 1) := by decide +kernel
theorem d_M_rate_18 : decode b_M_rate 18 = .ok (.getfield 13, 3) := by decide +kernel
theorem d_M_rate_21 : decode b_M_rate 21 = .ok (.iload_n 1, 1) := by decide +kernel
theorem d_M_rate_22 : decode b_M_rate 22 = .ok (.iaload, 1) := by decide +kernel
theorem d_M_rate_23 : decode b_M_rate 23 = .ok (.istore_n 3, 1) := by decide +kernel
theorem d_M_rate_24 : decode b_M_rate 24 = .ok (.aload_n 0, 1) := by decide +kernel
theorem d_M_rate_25 : decode b_M_rate 25 = .ok (.getfield 13, 3) := by decide +kernel
theorem d_M_rate_28 : decode b_M_rate 28 = .ok (.iload_n 1, 1) := by decide +kernel
theorem d_M_rate_29 : decode b_M_rate 29 = .ok (.iload_n 2, 1) := by decide +kernel
theorem d_M_rate_30 : decode b_M_rate 30 = .ok (.iastore, 1) := by decide +kernel
theorem d_M_rate_31 : decode b_M_rate 31 = .ok (.iload_n 3, 1) := by decide +kernel
theorem d_M_rate_32 : decode b_M_rate 32 = .ok (.ireturn, 1) := by decide +kernel
theorem d_M_yield_0 : decode b_M_yield 0 = .ok (.aload_n 0, 1) := by decide +kernel
theorem d_M_yield_1 : decode b_M_yield 1 = .ok (.invokevirtual 52, 3) := by decide +kernel
theorem d_M_yield_4 : decode b_M_yield 4 = .ok (.istore_n 1, 1) := by decide +kernel
theorem d_M_yield_5 : decode b_M_yield 5 = .ok (.iload_n 1, 1) := by decide +kernel
theorem d_M_yield_6 : decode b_M_yield 6 = .ok (.ifCond .lt 17, 3) := by decide +kernel
theorem d_M_yield_9 : decode b_M_yield 9 = .ok (.aload_n 0, 1) := by decide +kernel
theorem d_M_yield_10 : decode b_M_yield 10 = .ok (.aload_n 0, 1) := by decide +kernel
theorem d_M_yield_11 : decode b_M_yield 11 = .ok (.getfield 13, 3) := by decide +kernel
theorem d_M_yield_14 : decode b_M_yield 14 = .ok (.iload_n 1, 1) := by decide +kernel
theorem d_M_yield_15 : decode b_M_yield 15 = .ok (.iaload, 1) := by decide +kernel
theorem d_M_yield_16 : decode b_M_yield 16 = .ok (.iconst 0, 1) := by decide +kernel
theorem d_M_yield_17 : decode b_M_yield 17 = .ok (.invokevirtual 64, 3) := by decide +kernel
theorem d_M_yield_20 : decode b_M_yield 20 = .ok (.ifCond .ge 5, 3) := by decide +kernel
theorem d_M_yield_23 : decode b_M_yield 23 = .ok (.iconst 0, 1) := by decide +kernel
theorem d_M_yield_24 : decode b_M_yield 24 = .ok (.ireturn, 1) := by decide +kernel
theorem d_M_yield_25 : decode b_M_yield 25 = .ok (.aload_n 0, 1) := by decide +kernel
theorem d_M_yield_26 : decode b_M_yield 26 = .ok (.iload_n 1, 1) := by decide +kernel
theorem d_M_yield_27 : decode b_M_yield 27 = .ok (.aload_n 0, 1) := by decide +kernel
theorem d_M_yield_28 : decode b_M_yield 28 = .ok (.getfield 13, 3) := by decide +kernel
theorem d_M_yield_31 : decode b_M_yield 31 = .ok (.iload_n 1, 1) := by decide +kernel
theorem d_M_yield_32 : decode b_M_yield 32 = .ok (.iaload, 1) := by decide +kernel
theorem d_M_yield_33 : decode b_M_yield 33 = .ok (.invokevirtual 56, 3) := by decide +kernel
theorem d_M_yield_36 : decode b_M_yield 36 = .ok (.aload_n 0, 1) := by decide +kernel
theorem d_M_yield_37 : decode b_M_yield 37 = .ok (.invokevirtual 77, 3) := by decide +kernel
theorem d_M_yield_40 : decode b_M_yield 40 = .ok (.iconst 1, 1) := by decide +kernel
theorem d_M_yield_41 : decode b_M_yield 41 = .ok (.ireturn, 1) := by decide +kernel
theorem d_M_active_0 : decode b_M_active 0 = .ok (.aload_n 0, 1) := by decide +kernel
theorem d_M_active_1 : decode b_M_active 1 = .ok (.getfield 33, 3) := by decide +kernel
theorem d_M_active_4 : decode b_M_active 4 = .ok (.ireturn, 1) := by decide +kernel
theorem d_M_present_0 : decode b_M_present 0 = .ok (.aload_n 0, 1) := by decide +kernel
theorem d_M_present_1 : decode b_M_present 1 = .ok (.invokevirtual 52, 3) := by decide +kernel
theorem d_M_present_4 : decode b_M_present 4 = .ok (.ireturn, 1) := by decide +kernel
theorem d_M_wanted_0 : decode b_M_wanted 0 = .ok (.aload_n 0, 1) := by decide +kernel
theorem d_M_wanted_1 : decode b_M_wanted 1 = .ok (.getfield 48, 3) := by decide +kernel
theorem d_M_wanted_4 : decode b_M_wanted 4 = .ok (.ireturn, 1) := by decide +kernel
theorem d_M_here_0 : decode b_M_here 0 = .ok (.aload_n 0, 1) := by decide +kernel
theorem d_M_here_1 : decode b_M_here 1 = .ok (.getfield 89, 3) := by decide +kernel
theorem d_M_here_4 : decode b_M_here 4 = .ok (.ireturn, 1) := by decide +kernel
theorem d_M_place_0 : decode b_M_place 0 = .ok (.aload_n 0, 1) := by decide +kernel
theorem d_M_place_1 : decode b_M_place 1 = .ok (.iload_n 1, 1) := by decide +kernel
theorem d_M_place_2 : decode b_M_place 2 = .ok (.invokevirtual 74, 3) := by decide +kernel
theorem d_M_place_5 : decode b_M_place 5 = .ok (.ifCond .eq 12, 3) := by decide +kernel
theorem d_M_place_8 : decode b_M_place 8 = .ok (.aload_n 0, 1) := by decide +kernel
theorem d_M_place_9 : decode b_M_place 9 = .ok (.getfield 17, 3) := by decide +kernel
theorem d_M_place_12 : decode b_M_place 12 = .ok (.iload_n 1, 1) := by decide +kernel
theorem d_M_place_13 : decode b_M_place 13 = .ok (.iaload, 1) := by decide +kernel
theorem d_M_place_14 : decode b_M_place 14 = .ok (.goto 4, 3) := by decide +kernel
theorem d_M_place_17 : decode b_M_place 17 = .ok (.iconst 0, 1) := by decide +kernel
theorem d_M_place_18 : decode b_M_place 18 = .ok (.ireturn, 1) := by decide +kernel
theorem d_M_priority_0 : decode b_M_priority 0 = .ok (.aload_n 0, 1) := by decide +kernel
theorem d_M_priority_1 : decode b_M_priority 1 = .ok (.iload_n 1, 1) := by decide +kernel
theorem d_M_priority_2 : decode b_M_priority 2 = .ok (.invokevirtual 74, 3) := by decide +kernel
theorem d_M_priority_5 : decode b_M_priority 5 = .ok (.ifCond .eq 12, 3) := by decide +kernel
theorem d_M_priority_8 : decode b_M_priority 8 = .ok (.aload_n 0, 1) := by decide +kernel
theorem d_M_priority_9 : decode b_M_priority 9 = .ok (.getfield 13, 3) := by decide +kernel
theorem d_M_priority_12 : decode b_M_priority 12 = .ok (.iload_n 1, 1) := by decide +kernel
theorem d_M_priority_13 : decode b_M_priority 13 = .ok (.iaload, 1) := by decide +kernel
theorem d_M_priority_14 : decode b_M_priority 14 = .ok (.goto 4, 3) := by decide +kernel
theorem d_M_priority_17 : decode b_M_priority 17 = .ok (.iconst (-1), 1) := by decide +kernel
theorem d_M_priority_18 : decode b_M_priority 18 = .ok (.ireturn, 1) := by decide +kernel
theorem d_M_row_0 : decode b_M_row 0 = .ok (.aload_n 0, 1) := by decide +kernel
theorem d_M_row_1 : decode b_M_row 1 = .ok (.iload_n 1, 1) := by decide +kernel
theorem d_M_row_2 : decode b_M_row 2 = .ok (.invokevirtual 74, 3) := by decide +kernel
theorem d_M_row_5 : decode b_M_row 5 = .ok (.ifCond .eq 12, 3) := by decide +kernel
theorem d_M_row_8 : decode b_M_row 8 = .ok (.aload_n 0, 1) := by decide +kernel
theorem d_M_row_9 : decode b_M_row 9 = .ok (.getfield 20, 3) := by decide +kernel
theorem d_M_row_12 : decode b_M_row 12 = .ok (.iload_n 1, 1) := by decide +kernel
theorem d_M_row_13 : decode b_M_row 13 = .ok (.iaload, 1) := by decide +kernel
theorem d_M_row_14 : decode b_M_row 14 = .ok (.goto 4, 3) := by decide +kernel
theorem d_M_row_17 : decode b_M_row 17 = .ok (.iconst (-1), 1) := by decide +kernel
theorem d_M_row_18 : decode b_M_row 18 = .ok (.ireturn, 1) := by decide +kernel
theorem d_M_at_0 : decode b_M_at 0 = .ok (.iload_n 1, 1) := by decide +kernel
theorem d_M_at_1 : decode b_M_at 1 = .ok (.invokestatic 71, 3) := by decide +kernel
theorem d_M_at_4 : decode b_M_at 4 = .ok (.ifCond .ne 15, 3) := by decide +kernel
theorem d_M_at_7 : decode b_M_at 7 = .ok (.iload_n 1, 1) := by decide +kernel
theorem d_M_at_8 : decode b_M_at 8 = .ok (.bipush 16, 2) := by decide +kernel
theorem d_M_at_10 : decode b_M_at 10 = .ok (.if_icmp .lt 13, 3) := by decide +kernel
theorem d_M_at_13 : decode b_M_at 13 = .ok (.iload_n 1, 1) := by decide +kernel
theorem d_M_at_14 : decode b_M_at 14 = .ok (.bipush 32, 2) := by decide +kernel
theorem d_M_at_16 : decode b_M_at 16 = .ok (.if_icmp .ge 7, 3) := by decide +kernel
theorem d_M_at_19 : decode b_M_at 19 = .ok (.iconst 1, 1) := by decide +kernel
theorem d_M_at_20 : decode b_M_at 20 = .ok (.goto 4, 3) := by decide +kernel
theorem d_M_at_23 : decode b_M_at 23 = .ok (.iconst 0, 1) := by decide +kernel
theorem d_M_at_24 : decode b_M_at 24 = .ok (.istore_n 3, 1) := by decide +kernel
theorem d_M_at_25 : decode b_M_at 25 = .ok (.iload_n 3, 1) := by decide +kernel
theorem d_M_at_26 : decode b_M_at 26 = .ok (.ifCond .eq 22, 3) := by decide +kernel
theorem d_M_at_29 : decode b_M_at 29 = .ok (.iload_n 2, 1) := by decide +kernel
theorem d_M_at_30 : decode b_M_at 30 = .ok (.ifCond .lt 18, 3) := by decide +kernel
theorem d_M_at_33 : decode b_M_at 33 = .ok (.iload_n 2, 1) := by decide +kernel
theorem d_M_at_34 : decode b_M_at 34 = .ok (.bipush 32, 2) := by decide +kernel
theorem d_M_at_36 : decode b_M_at 36 = .ok (.if_icmp .ge 12, 3) := by decide +kernel
theorem d_M_at_39 : decode b_M_at 39 = .ok (.aload_n 0, 1) := by decide +kernel
theorem d_M_at_40 : decode b_M_at 40 = .ok (.iload_n 1, 1) := by decide +kernel
theorem d_M_at_41 : decode b_M_at 41 = .ok (.iload_n 2, 1) := by decide +kernel
theorem d_M_at_42 : decode b_M_at 42 = .ok (.invokevirtual 64, 3) := by decide +kernel
theorem d_M_at_45 : decode b_M_at 45 = .ok (.goto 4, 3) := by decide +kernel
theorem d_M_at_48 : decode b_M_at 48 = .ok (.iconst (-1), 1) := by decide +kernel
theorem d_M_at_49 : decode b_M_at 49 = .ok (.ireturn, 1) := by decide +kernel
theorem d_M_extra_0 : decode b_M_extra 0 = .ok (.iload_n 1, 1) := by decide +kernel
theorem d_M_extra_1 : decode b_M_extra 1 = .ok (.invokestatic 80, 3) := by decide +kernel
theorem d_M_extra_4 : decode b_M_extra 4 = .ok (.ifCond .eq 12, 3) := by decide +kernel
theorem d_M_extra_7 : decode b_M_extra 7 = .ok (.aload_n 0, 1) := by decide +kernel
theorem d_M_extra_8 : decode b_M_extra 8 = .ok (.getfield 27, 3) := by decide +kernel
theorem d_M_extra_11 : decode b_M_extra 11 = .ok (.iload_n 1, 1) := by decide +kernel
theorem d_M_extra_12 : decode b_M_extra 12 = .ok (.iaload, 1) := by decide +kernel
theorem d_M_extra_13 : decode b_M_extra 13 = .ok (.goto 4, 3) := by decide +kernel
theorem d_M_extra_16 : decode b_M_extra 16 = .ok (.iconst (-1), 1) := by decide +kernel
theorem d_M_extra_17 : decode b_M_extra 17 = .ok (.ireturn, 1) := by decide +kernel
theorem d_M_posted_0 : decode b_M_posted 0 = .ok (.iload_n 1, 1) := by decide +kernel
theorem d_M_posted_1 : decode b_M_posted 1 = .ok (.ifCond .lt 20, 3) := by decide +kernel
theorem d_M_posted_4 : decode b_M_posted 4 = .ok (.iload_n 1, 1) := by decide +kernel
theorem d_M_posted_5 : decode b_M_posted 5 = .ok (.aload_n 0, 1) := by decide +kernel
theorem d_M_posted_6 : decode b_M_posted 6 = .ok (.getfield 86, 3) := by decide +kernel
theorem d_M_posted_9 : decode b_M_posted 9 = .ok (.if_icmp .ge 12, 3) := by decide +kernel
theorem d_M_posted_12 : decode b_M_posted 12 = .ok (.aload_n 0, 1) := by decide +kernel
theorem d_M_posted_13 : decode b_M_posted 13 = .ok (.getfield 30, 3) := by decide +kernel
theorem d_M_posted_16 : decode b_M_posted 16 = .ok (.iload_n 1, 1) := by decide +kernel
theorem d_M_posted_17 : decode b_M_posted 17 = .ok (.iaload, 1) := by decide +kernel
theorem d_M_posted_18 : decode b_M_posted 18 = .ok (.goto 4, 3) := by decide +kernel
theorem d_M_posted_21 : decode b_M_posted 21 = .ok (.iconst (-1), 1) := by decide +kernel
theorem d_M_posted_22 : decode b_M_posted 22 = .ok (.ireturn, 1) := by decide +kernel
end
section
/-! the component's pure state: cells, rows, posts, made; scheduler, wanted, wantedProcess, postCount, here -/
abbrev XS : Type := (Nat → Int32) × (Nat → Int32) × (Nat → Int32) × (Nat → Int32) × Int32 × Int32 × Int32 × Int32 × Int32
abbrev xC (u : XS) : Nat → Int32 := u.1
abbrev xR (u : XS) : Nat → Int32 := u.2.1
abbrev xP (u : XS) : Nat → Int32 := u.2.2.1
abbrev xM (u : XS) : Nat → Int32 := u.2.2.2.1
abbrev xS (u : XS) : Int32 := u.2.2.2.2.1
abbrev xW (u : XS) : Int32 := u.2.2.2.2.2.1
abbrev xQ (u : XS) : Int32 := u.2.2.2.2.2.2.1
abbrev xN (u : XS) : Int32 := u.2.2.2.2.2.2.2.1
abbrev xH (u : XS) : Int32 := u.2.2.2.2.2.2.2.2
abbrev xC' (u : XS) (v : Nat → Int32) : XS := (v, xR u, xP u, xM u, xS u, xW u, xQ u, xN u, xH u)
abbrev xR' (u : XS) (v : Nat → Int32) : XS := (xC u, v, xP u, xM u, xS u, xW u, xQ u, xN u, xH u)
abbrev xP' (u : XS) (v : Nat → Int32) : XS := (xC u, xR u, v, xM u, xS u, xW u, xQ u, xN u, xH u)
abbrev xM' (u : XS) (v : Nat → Int32) : XS := (xC u, xR u, xP u, v, xS u, xW u, xQ u, xN u, xH u)
abbrev xS' (u : XS) (v : Int32) : XS := (xC u, xR u, xP u, xM u, v, xW u, xQ u, xN u, xH u)
abbrev xW' (u : XS) (v : Int32) : XS := (xC u, xR u, xP u, xM u, xS u, v, xQ u, xN u, xH u)
abbrev xQ' (u : XS) (v : Int32) : XS := (xC u, xR u, xP u, xM u, xS u, xW u, v, xN u, xH u)
abbrev xN' (u : XS) (v : Int32) : XS := (xC u, xR u, xP u, xM u, xS u, xW u, xQ u, v, xH u)
abbrev xH' (u : XS) (v : Int32) : XS := (xC u, xR u, xP u, xM u, xS u, xW u, xQ u, xN u, v)
def XW (h : Nat → Nat) (cI cZ : ClassId) (u : XS) : va_W := [(h 0, .inr (0, [.ref (h 1), .ref (h 2), .ref (h 3)])), (h 1, .inr (1, [.ref (h 4), .ref (h 5)])), (h 2, .inr (2, [.ref (h 1), .int (xS u), .int (xW u), .int (xQ u), .ref (h 6), .int (xN u), .int (xH u)])), (h 3, .inl (cZ, 32, .inl (xM u))), (h 4, .inl (cI, 256, .inl (xC u))), (h 5, .inl (cI, 8, .inl (xR u))), (h 6, .inl (cI, 40, .inl (xP u)))]
/-! the model's pure state: made, priorities, places, rows, when, extras, posted; now, posts, active, here, wanted, change -/
abbrev MS : Type := (Nat → Int32) × (Nat → Int32) × (Nat → Int32) × (Nat → Int32) × (Nat → Int64) × (Nat → Int32) × (Nat → Int32) × Int64 × Int32 × Int32 × Int32 × Int32 × Int32
abbrev mM (u : MS) : Nat → Int32 := u.1
abbrev mP (u : MS) : Nat → Int32 := u.2.1
abbrev mL (u : MS) : Nat → Int32 := u.2.2.1
abbrev mR (u : MS) : Nat → Int32 := u.2.2.2.1
abbrev mT (u : MS) : Nat → Int64 := u.2.2.2.2.1
abbrev mE (u : MS) : Nat → Int32 := u.2.2.2.2.2.1
abbrev mO (u : MS) : Nat → Int32 := u.2.2.2.2.2.2.1
abbrev mN (u : MS) : Int64 := u.2.2.2.2.2.2.2.1
abbrev mK (u : MS) : Int32 := u.2.2.2.2.2.2.2.2.1
abbrev mA (u : MS) : Int32 := u.2.2.2.2.2.2.2.2.2.1
abbrev mH (u : MS) : Int32 := u.2.2.2.2.2.2.2.2.2.2.1
abbrev mW (u : MS) : Int32 := u.2.2.2.2.2.2.2.2.2.2.2.1
abbrev mC (u : MS) : Int32 := u.2.2.2.2.2.2.2.2.2.2.2.2
abbrev mM' (u : MS) (v : Nat → Int32) : MS := (v, mP u, mL u, mR u, mT u, mE u, mO u, mN u, mK u, mA u, mH u, mW u, mC u)
abbrev mP' (u : MS) (v : Nat → Int32) : MS := (mM u, v, mL u, mR u, mT u, mE u, mO u, mN u, mK u, mA u, mH u, mW u, mC u)
abbrev mL' (u : MS) (v : Nat → Int32) : MS := (mM u, mP u, v, mR u, mT u, mE u, mO u, mN u, mK u, mA u, mH u, mW u, mC u)
abbrev mR' (u : MS) (v : Nat → Int32) : MS := (mM u, mP u, mL u, v, mT u, mE u, mO u, mN u, mK u, mA u, mH u, mW u, mC u)
abbrev mT' (u : MS) (v : Nat → Int64) : MS := (mM u, mP u, mL u, mR u, v, mE u, mO u, mN u, mK u, mA u, mH u, mW u, mC u)
abbrev mE' (u : MS) (v : Nat → Int32) : MS := (mM u, mP u, mL u, mR u, mT u, v, mO u, mN u, mK u, mA u, mH u, mW u, mC u)
abbrev mO' (u : MS) (v : Nat → Int32) : MS := (mM u, mP u, mL u, mR u, mT u, mE u, v, mN u, mK u, mA u, mH u, mW u, mC u)
abbrev mN' (u : MS) (v : Int64) : MS := (mM u, mP u, mL u, mR u, mT u, mE u, mO u, v, mK u, mA u, mH u, mW u, mC u)
abbrev mK' (u : MS) (v : Int32) : MS := (mM u, mP u, mL u, mR u, mT u, mE u, mO u, mN u, v, mA u, mH u, mW u, mC u)
abbrev mA' (u : MS) (v : Int32) : MS := (mM u, mP u, mL u, mR u, mT u, mE u, mO u, mN u, mK u, v, mH u, mW u, mC u)
abbrev mH' (u : MS) (v : Int32) : MS := (mM u, mP u, mL u, mR u, mT u, mE u, mO u, mN u, mK u, mA u, v, mW u, mC u)
abbrev mW' (u : MS) (v : Int32) : MS := (mM u, mP u, mL u, mR u, mT u, mE u, mO u, mN u, mK u, mA u, mH u, v, mC u)
abbrev mC' (u : MS) (v : Int32) : MS := (mM u, mP u, mL u, mR u, mT u, mE u, mO u, mN u, mK u, mA u, mH u, mW u, v)
def MW (h : Nat → Nat) (cI cZ cJ : ClassId) (u : MS) : va_W := [(h 0, .inr (3, [.ref (h 1), .ref (h 2), .ref (h 3), .ref (h 4), .ref (h 5), .long (mN u), .ref (h 6), .int (mK u), .ref (h 7), .int (mA u), .int (mH u), .int (mW u), .int (mC u)])), (h 1, .inl (cZ, 32, .inl (mM u))), (h 2, .inl (cI, 32, .inl (mP u))), (h 3, .inl (cI, 32, .inl (mL u))), (h 4, .inl (cI, 32, .inl (mR u))), (h 5, .inl (cJ, 32, .inr (.inl (mT u)))), (h 6, .inl (cI, 16, .inl (mE u))), (h 7, .inl (cI, 40, .inl (mO u)))]
section
variable {p : Program} {l : Launch} {e : Env} {R : Room} {s : State} {m : MethodId} {args : Array Value} {below : List Frame} {meth : Method} {c : Code} {H : Heap} {locs : List Loc} {cells slots : Nat} {Q : State → Prop}
variable {cc : ByteArray} {nL : Nat} {own : String} {ret : Option FieldType} {D : va_G} {cI cZ cJ : ClassId} {A : Nat → Prop} {pc : Nat} {ls : Array Slot} {rest st0 : List Value} {h : Nat → Nat} {u : XS} {w : MS} {idx : Nat}
theorem zt_n {v : Int32} (hv : v = 0 ∨ v = 1) : narrow .boolean (.int v) = .int v := by rcases hv with rfl | rfl <;> rfl
theorem zt_f {v : Int32} (hv : v = 0 ∨ v = 1) : fits .boolean (.int v) = true := by rcases hv with rfl | rfl <;> rfl
theorem zt_v {v : Int32} (hv : v = 0 ∨ v = 1) : vp_nar .boolean v = v := by rcases hv with rfl | rfl <;> rfl
theorem xg_plain (C : gC p s m args meth c cc nL own ret D (ty3 cI cZ cJ) A) (V : gV D A s (XW h cI cZ u) H locs) (hl : Cond.fieldLink own idx "ProcessRoom" "plain" "LProcessRoom$Plain;" ∈ w_all) (hdg : decode cc pc = .ok (.getfield idx, 3)) (kk : W p l e R s m args below meth c H locs cells slots Q (F0 m (pc + 3) ls (.ref (h 1) :: rest))) : W p l e R s m args below meth c H locs cells slots Q (F0 m pc ls (.ref (h 0) :: rest)) := g_get C V i_X 0 rfl rfl 0 (by decide) rfl hl rfl hdg kk
theorem xg_sched (C : gC p s m args meth c cc nL own ret D (ty3 cI cZ cJ) A) (V : gV D A s (XW h cI cZ u) H locs) (hl : Cond.fieldLink own idx "ProcessRoom" "scheduler" "LProcessRoom$Scheduler;" ∈ w_all) (hdg : decode cc pc = .ok (.getfield idx, 3)) (kk : W p l e R s m args below meth c H locs cells slots Q (F0 m (pc + 3) ls (.ref (h 2) :: rest))) : W p l e R s m args below meth c H locs cells slots Q (F0 m pc ls (.ref (h 0) :: rest)) := g_get C V i_X 0 rfl rfl 1 (by decide) rfl hl rfl hdg kk
theorem xg_made (C : gC p s m args meth c cc nL own ret D (ty3 cI cZ cJ) A) (V : gV D A s (XW h cI cZ u) H locs) (hl : Cond.fieldLink own idx "ProcessRoom" "made" "[Z" ∈ w_all) (hdg : decode cc pc = .ok (.getfield idx, 3)) (kk : W p l e R s m args below meth c H locs cells slots Q (F0 m (pc + 3) ls (.ref (h 3) :: rest))) : W p l e R s m args below meth c H locs cells slots Q (F0 m pc ls (.ref (h 0) :: rest)) := g_get C V i_X 0 rfl rfl 2 (by decide) rfl hl rfl hdg kk
theorem xg_cells (C : gC p s m args meth c cc nL own ret D (ty3 cI cZ cJ) A) (V : gV D A s (XW h cI cZ u) H locs) (hl : Cond.fieldLink own idx "ProcessRoom$Plain" "cells" "[I" ∈ w_all) (hdg : decode cc pc = .ok (.getfield idx, 3)) (kk : W p l e R s m args below meth c H locs cells slots Q (F0 m (pc + 3) ls (.ref (h 4) :: rest))) : W p l e R s m args below meth c H locs cells slots Q (F0 m pc ls (.ref (h 1) :: rest)) := g_get C V i_P 1 rfl rfl 0 (by decide) rfl hl rfl hdg kk
theorem xg_rows (C : gC p s m args meth c cc nL own ret D (ty3 cI cZ cJ) A) (V : gV D A s (XW h cI cZ u) H locs) (hl : Cond.fieldLink own idx "ProcessRoom$Plain" "rows" "[I" ∈ w_all) (hdg : decode cc pc = .ok (.getfield idx, 3)) (kk : W p l e R s m args below meth c H locs cells slots Q (F0 m (pc + 3) ls (.ref (h 5) :: rest))) : W p l e R s m args below meth c H locs cells slots Q (F0 m pc ls (.ref (h 1) :: rest)) := g_get C V i_P 1 rfl rfl 1 (by decide) rfl hl rfl hdg kk
theorem xg_fields (C : gC p s m args meth c cc nL own ret D (ty3 cI cZ cJ) A) (V : gV D A s (XW h cI cZ u) H locs) (hl : Cond.fieldLink own idx "ProcessRoom$Scheduler" "fields" "LProcessRoom$Links;" ∈ w_all) (hdg : decode cc pc = .ok (.getfield idx, 3)) (kk : W p l e R s m args below meth c H locs cells slots Q (F0 m (pc + 3) ls (.ref (h 1) :: rest))) : W p l e R s m args below meth c H locs cells slots Q (F0 m pc ls (.ref (h 2) :: rest)) := g_get C V i_S 2 rfl rfl 0 (by decide) rfl hl rfl hdg kk
theorem xg_scheduler (C : gC p s m args meth c cc nL own ret D (ty3 cI cZ cJ) A) (V : gV D A s (XW h cI cZ u) H locs) (hl : Cond.fieldLink own idx "ProcessRoom$Scheduler" "scheduler" "I" ∈ w_all) (hdg : decode cc pc = .ok (.getfield idx, 3)) (kk : W p l e R s m args below meth c H locs cells slots Q (F0 m (pc + 3) ls (.int (xS u) :: rest))) : W p l e R s m args below meth c H locs cells slots Q (F0 m pc ls (.ref (h 2) :: rest)) := g_get C V i_S 2 rfl rfl 1 (by decide) rfl hl rfl hdg kk
theorem xg_wanted (C : gC p s m args meth c cc nL own ret D (ty3 cI cZ cJ) A) (V : gV D A s (XW h cI cZ u) H locs) (hl : Cond.fieldLink own idx "ProcessRoom$Scheduler" "wanted" "Z" ∈ w_all) (hdg : decode cc pc = .ok (.getfield idx, 3)) (kk : W p l e R s m args below meth c H locs cells slots Q (F0 m (pc + 3) ls (.int (xW u) :: rest))) : W p l e R s m args below meth c H locs cells slots Q (F0 m pc ls (.ref (h 2) :: rest)) := g_get C V i_S 2 rfl rfl 2 (by decide) rfl hl rfl hdg kk
theorem xg_wp (C : gC p s m args meth c cc nL own ret D (ty3 cI cZ cJ) A) (V : gV D A s (XW h cI cZ u) H locs) (hl : Cond.fieldLink own idx "ProcessRoom$Scheduler" "wantedProcess" "I" ∈ w_all) (hdg : decode cc pc = .ok (.getfield idx, 3)) (kk : W p l e R s m args below meth c H locs cells slots Q (F0 m (pc + 3) ls (.int (xQ u) :: rest))) : W p l e R s m args below meth c H locs cells slots Q (F0 m pc ls (.ref (h 2) :: rest)) := g_get C V i_S 2 rfl rfl 3 (by decide) rfl hl rfl hdg kk
theorem xg_posts (C : gC p s m args meth c cc nL own ret D (ty3 cI cZ cJ) A) (V : gV D A s (XW h cI cZ u) H locs) (hl : Cond.fieldLink own idx "ProcessRoom$Scheduler" "posts" "[I" ∈ w_all) (hdg : decode cc pc = .ok (.getfield idx, 3)) (kk : W p l e R s m args below meth c H locs cells slots Q (F0 m (pc + 3) ls (.ref (h 6) :: rest))) : W p l e R s m args below meth c H locs cells slots Q (F0 m pc ls (.ref (h 2) :: rest)) := g_get C V i_S 2 rfl rfl 4 (by decide) rfl hl rfl hdg kk
theorem xg_count (C : gC p s m args meth c cc nL own ret D (ty3 cI cZ cJ) A) (V : gV D A s (XW h cI cZ u) H locs) (hl : Cond.fieldLink own idx "ProcessRoom$Scheduler" "postCount" "I" ∈ w_all) (hdg : decode cc pc = .ok (.getfield idx, 3)) (kk : W p l e R s m args below meth c H locs cells slots Q (F0 m (pc + 3) ls (.int (xN u) :: rest))) : W p l e R s m args below meth c H locs cells slots Q (F0 m pc ls (.ref (h 2) :: rest)) := g_get C V i_S 2 rfl rfl 5 (by decide) rfl hl rfl hdg kk
theorem xg_here (C : gC p s m args meth c cc nL own ret D (ty3 cI cZ cJ) A) (V : gV D A s (XW h cI cZ u) H locs) (hl : Cond.fieldLink own idx "ProcessRoom$Scheduler" "here" "I" ∈ w_all) (hdg : decode cc pc = .ok (.getfield idx, 3)) (kk : W p l e R s m args below meth c H locs cells slots Q (F0 m (pc + 3) ls (.int (xH u) :: rest))) : W p l e R s m args below meth c H locs cells slots Q (F0 m pc ls (.ref (h 2) :: rest)) := g_get C V i_S 2 rfl rfl 6 (by decide) rfl hl rfl hdg kk
theorem xp_scheduler {v : Int32} (C : gC p s m args meth c cc nL own ret D (ty3 cI cZ cJ) A) (V : gV D A s (XW h cI cZ u) H locs) (hl : Cond.fieldLink own idx "ProcessRoom$Scheduler" "scheduler" "I" ∈ w_all) (hdg : decode cc pc = .ok (.putfield idx, 3)) (kk : ∀ (H : Heap) (locs : List Loc), gV D A s (XW h cI cZ (xS' u v)) H locs → W p l e R s m args below meth c H locs cells slots Q (F0 m (pc + 3) ls rest)) : W p l e R s m args below meth c H locs cells slots Q (F0 m pc ls (.int v :: .ref (h 2) :: rest)) := g_put C V i_S t_S t_S_ok n_S 2 rfl rfl 1 (by decide) rfl hl rfl rfl rfl (Nat.le_of_ble_eq_true rfl) rfl hdg kk
theorem xp_wanted {v : Int32} (C : gC p s m args meth c cc nL own ret D (ty3 cI cZ cJ) A) (V : gV D A s (XW h cI cZ u) H locs) (hl : Cond.fieldLink own idx "ProcessRoom$Scheduler" "wanted" "Z" ∈ w_all) (hv : v = 0 ∨ v = 1) (hdg : decode cc pc = .ok (.putfield idx, 3)) (kk : ∀ (H : Heap) (locs : List Loc), gV D A s (XW h cI cZ (xW' u v)) H locs → W p l e R s m args below meth c H locs cells slots Q (F0 m (pc + 3) ls rest)) : W p l e R s m args below meth c H locs cells slots Q (F0 m pc ls (.int v :: .ref (h 2) :: rest)) := g_put C V i_S t_S t_S_ok n_S 2 rfl rfl 2 (by decide) rfl hl rfl (zt_n hv) (zt_f hv) (Nat.le_of_ble_eq_true rfl) rfl hdg kk
theorem xp_wp {v : Int32} (C : gC p s m args meth c cc nL own ret D (ty3 cI cZ cJ) A) (V : gV D A s (XW h cI cZ u) H locs) (hl : Cond.fieldLink own idx "ProcessRoom$Scheduler" "wantedProcess" "I" ∈ w_all) (hdg : decode cc pc = .ok (.putfield idx, 3)) (kk : ∀ (H : Heap) (locs : List Loc), gV D A s (XW h cI cZ (xQ' u v)) H locs → W p l e R s m args below meth c H locs cells slots Q (F0 m (pc + 3) ls rest)) : W p l e R s m args below meth c H locs cells slots Q (F0 m pc ls (.int v :: .ref (h 2) :: rest)) := g_put C V i_S t_S t_S_ok n_S 2 rfl rfl 3 (by decide) rfl hl rfl rfl rfl (Nat.le_of_ble_eq_true rfl) rfl hdg kk
theorem xp_count {v : Int32} (C : gC p s m args meth c cc nL own ret D (ty3 cI cZ cJ) A) (V : gV D A s (XW h cI cZ u) H locs) (hl : Cond.fieldLink own idx "ProcessRoom$Scheduler" "postCount" "I" ∈ w_all) (hdg : decode cc pc = .ok (.putfield idx, 3)) (kk : ∀ (H : Heap) (locs : List Loc), gV D A s (XW h cI cZ (xN' u v)) H locs → W p l e R s m args below meth c H locs cells slots Q (F0 m (pc + 3) ls rest)) : W p l e R s m args below meth c H locs cells slots Q (F0 m pc ls (.int v :: .ref (h 2) :: rest)) := g_put C V i_S t_S t_S_ok n_S 2 rfl rfl 5 (by decide) rfl hl rfl rfl rfl (Nat.le_of_ble_eq_true rfl) rfl hdg kk
theorem xp_here {v : Int32} (C : gC p s m args meth c cc nL own ret D (ty3 cI cZ cJ) A) (V : gV D A s (XW h cI cZ u) H locs) (hl : Cond.fieldLink own idx "ProcessRoom$Scheduler" "here" "I" ∈ w_all) (hdg : decode cc pc = .ok (.putfield idx, 3)) (kk : ∀ (H : Heap) (locs : List Loc), gV D A s (XW h cI cZ (xH' u v)) H locs → W p l e R s m args below meth c H locs cells slots Q (F0 m (pc + 3) ls rest)) : W p l e R s m args below meth c H locs cells slots Q (F0 m pc ls (.int v :: .ref (h 2) :: rest)) := g_put C V i_S t_S t_S_ok n_S 2 rfl rfl 6 (by decide) rfl hl rfl rfl rfl (Nat.le_of_ble_eq_true rfl) rfl hdg kk
theorem mg_made (C : gC p s m args meth c cc nL own ret D (ty3 cI cZ cJ) A) (V : gV D A s (MW h cI cZ cJ w) H locs) (hl : Cond.fieldLink own idx "ProcessRoomModel" "made" "[Z" ∈ w_all) (hdg : decode cc pc = .ok (.getfield idx, 3)) (kk : W p l e R s m args below meth c H locs cells slots Q (F0 m (pc + 3) ls (.ref (h 1) :: rest))) : W p l e R s m args below meth c H locs cells slots Q (F0 m pc ls (.ref (h 0) :: rest)) := g_get C V i_M 0 rfl rfl 0 (by decide) rfl hl rfl hdg kk
theorem mg_prio (C : gC p s m args meth c cc nL own ret D (ty3 cI cZ cJ) A) (V : gV D A s (MW h cI cZ cJ w) H locs) (hl : Cond.fieldLink own idx "ProcessRoomModel" "priorities" "[I" ∈ w_all) (hdg : decode cc pc = .ok (.getfield idx, 3)) (kk : W p l e R s m args below meth c H locs cells slots Q (F0 m (pc + 3) ls (.ref (h 2) :: rest))) : W p l e R s m args below meth c H locs cells slots Q (F0 m pc ls (.ref (h 0) :: rest)) := g_get C V i_M 0 rfl rfl 1 (by decide) rfl hl rfl hdg kk
theorem mg_place (C : gC p s m args meth c cc nL own ret D (ty3 cI cZ cJ) A) (V : gV D A s (MW h cI cZ cJ w) H locs) (hl : Cond.fieldLink own idx "ProcessRoomModel" "places" "[I" ∈ w_all) (hdg : decode cc pc = .ok (.getfield idx, 3)) (kk : W p l e R s m args below meth c H locs cells slots Q (F0 m (pc + 3) ls (.ref (h 3) :: rest))) : W p l e R s m args below meth c H locs cells slots Q (F0 m pc ls (.ref (h 0) :: rest)) := g_get C V i_M 0 rfl rfl 2 (by decide) rfl hl rfl hdg kk
theorem mg_rows (C : gC p s m args meth c cc nL own ret D (ty3 cI cZ cJ) A) (V : gV D A s (MW h cI cZ cJ w) H locs) (hl : Cond.fieldLink own idx "ProcessRoomModel" "rows" "[I" ∈ w_all) (hdg : decode cc pc = .ok (.getfield idx, 3)) (kk : W p l e R s m args below meth c H locs cells slots Q (F0 m (pc + 3) ls (.ref (h 4) :: rest))) : W p l e R s m args below meth c H locs cells slots Q (F0 m pc ls (.ref (h 0) :: rest)) := g_get C V i_M 0 rfl rfl 3 (by decide) rfl hl rfl hdg kk
theorem mg_when (C : gC p s m args meth c cc nL own ret D (ty3 cI cZ cJ) A) (V : gV D A s (MW h cI cZ cJ w) H locs) (hl : Cond.fieldLink own idx "ProcessRoomModel" "when" "[J" ∈ w_all) (hdg : decode cc pc = .ok (.getfield idx, 3)) (kk : W p l e R s m args below meth c H locs cells slots Q (F0 m (pc + 3) ls (.ref (h 5) :: rest))) : W p l e R s m args below meth c H locs cells slots Q (F0 m pc ls (.ref (h 0) :: rest)) := g_get C V i_M 0 rfl rfl 4 (by decide) rfl hl rfl hdg kk
theorem mg_now (C : gC p s m args meth c cc nL own ret D (ty3 cI cZ cJ) A) (V : gV D A s (MW h cI cZ cJ w) H locs) (hl : Cond.fieldLink own idx "ProcessRoomModel" "now" "J" ∈ w_all) (hdg : decode cc pc = .ok (.getfield idx, 3)) (kk : W p l e R s m args below meth c H locs cells slots Q (F0 m (pc + 3) ls (.long (mN w) :: rest))) : W p l e R s m args below meth c H locs cells slots Q (F0 m pc ls (.ref (h 0) :: rest)) := g_get C V i_M 0 rfl rfl 5 (by decide) rfl hl rfl hdg kk
theorem mg_extras (C : gC p s m args meth c cc nL own ret D (ty3 cI cZ cJ) A) (V : gV D A s (MW h cI cZ cJ w) H locs) (hl : Cond.fieldLink own idx "ProcessRoomModel" "extras" "[I" ∈ w_all) (hdg : decode cc pc = .ok (.getfield idx, 3)) (kk : W p l e R s m args below meth c H locs cells slots Q (F0 m (pc + 3) ls (.ref (h 6) :: rest))) : W p l e R s m args below meth c H locs cells slots Q (F0 m pc ls (.ref (h 0) :: rest)) := g_get C V i_M 0 rfl rfl 6 (by decide) rfl hl rfl hdg kk
theorem mg_posts (C : gC p s m args meth c cc nL own ret D (ty3 cI cZ cJ) A) (V : gV D A s (MW h cI cZ cJ w) H locs) (hl : Cond.fieldLink own idx "ProcessRoomModel" "posts" "I" ∈ w_all) (hdg : decode cc pc = .ok (.getfield idx, 3)) (kk : W p l e R s m args below meth c H locs cells slots Q (F0 m (pc + 3) ls (.int (mK w) :: rest))) : W p l e R s m args below meth c H locs cells slots Q (F0 m pc ls (.ref (h 0) :: rest)) := g_get C V i_M 0 rfl rfl 7 (by decide) rfl hl rfl hdg kk
theorem mg_posted (C : gC p s m args meth c cc nL own ret D (ty3 cI cZ cJ) A) (V : gV D A s (MW h cI cZ cJ w) H locs) (hl : Cond.fieldLink own idx "ProcessRoomModel" "posted" "[I" ∈ w_all) (hdg : decode cc pc = .ok (.getfield idx, 3)) (kk : W p l e R s m args below meth c H locs cells slots Q (F0 m (pc + 3) ls (.ref (h 7) :: rest))) : W p l e R s m args below meth c H locs cells slots Q (F0 m pc ls (.ref (h 0) :: rest)) := g_get C V i_M 0 rfl rfl 8 (by decide) rfl hl rfl hdg kk
theorem mg_active (C : gC p s m args meth c cc nL own ret D (ty3 cI cZ cJ) A) (V : gV D A s (MW h cI cZ cJ w) H locs) (hl : Cond.fieldLink own idx "ProcessRoomModel" "active" "I" ∈ w_all) (hdg : decode cc pc = .ok (.getfield idx, 3)) (kk : W p l e R s m args below meth c H locs cells slots Q (F0 m (pc + 3) ls (.int (mA w) :: rest))) : W p l e R s m args below meth c H locs cells slots Q (F0 m pc ls (.ref (h 0) :: rest)) := g_get C V i_M 0 rfl rfl 9 (by decide) rfl hl rfl hdg kk
theorem mg_here (C : gC p s m args meth c cc nL own ret D (ty3 cI cZ cJ) A) (V : gV D A s (MW h cI cZ cJ w) H locs) (hl : Cond.fieldLink own idx "ProcessRoomModel" "here" "I" ∈ w_all) (hdg : decode cc pc = .ok (.getfield idx, 3)) (kk : W p l e R s m args below meth c H locs cells slots Q (F0 m (pc + 3) ls (.int (mH w) :: rest))) : W p l e R s m args below meth c H locs cells slots Q (F0 m pc ls (.ref (h 0) :: rest)) := g_get C V i_M 0 rfl rfl 10 (by decide) rfl hl rfl hdg kk
theorem mg_wanted (C : gC p s m args meth c cc nL own ret D (ty3 cI cZ cJ) A) (V : gV D A s (MW h cI cZ cJ w) H locs) (hl : Cond.fieldLink own idx "ProcessRoomModel" "wanted" "Z" ∈ w_all) (hdg : decode cc pc = .ok (.getfield idx, 3)) (kk : W p l e R s m args below meth c H locs cells slots Q (F0 m (pc + 3) ls (.int (mW w) :: rest))) : W p l e R s m args below meth c H locs cells slots Q (F0 m pc ls (.ref (h 0) :: rest)) := g_get C V i_M 0 rfl rfl 11 (by decide) rfl hl rfl hdg kk
theorem mg_change (C : gC p s m args meth c cc nL own ret D (ty3 cI cZ cJ) A) (V : gV D A s (MW h cI cZ cJ w) H locs) (hl : Cond.fieldLink own idx "ProcessRoomModel" "change" "I" ∈ w_all) (hdg : decode cc pc = .ok (.getfield idx, 3)) (kk : W p l e R s m args below meth c H locs cells slots Q (F0 m (pc + 3) ls (.int (mC w) :: rest))) : W p l e R s m args below meth c H locs cells slots Q (F0 m pc ls (.ref (h 0) :: rest)) := g_get C V i_M 0 rfl rfl 12 (by decide) rfl hl rfl hdg kk
theorem mp_now {v : Int64} (C : gC p s m args meth c cc nL own ret D (ty3 cI cZ cJ) A) (V : gV D A s (MW h cI cZ cJ w) H locs) (hl : Cond.fieldLink own idx "ProcessRoomModel" "now" "J" ∈ w_all) (hdg : decode cc pc = .ok (.putfield idx, 3)) (kk : ∀ (H : Heap) (locs : List Loc), gV D A s (MW h cI cZ cJ (mN' w v)) H locs → W p l e R s m args below meth c H locs cells slots Q (F0 m (pc + 3) ls rest)) : W p l e R s m args below meth c H locs cells slots Q (F0 m pc ls (.long v :: .ref (h 0) :: rest)) := g_put C V i_M t_M t_M_ok n_M 0 rfl rfl 5 (by decide) rfl hl rfl rfl rfl (Nat.le_of_ble_eq_true rfl) rfl hdg kk
theorem mp_posts {v : Int32} (C : gC p s m args meth c cc nL own ret D (ty3 cI cZ cJ) A) (V : gV D A s (MW h cI cZ cJ w) H locs) (hl : Cond.fieldLink own idx "ProcessRoomModel" "posts" "I" ∈ w_all) (hdg : decode cc pc = .ok (.putfield idx, 3)) (kk : ∀ (H : Heap) (locs : List Loc), gV D A s (MW h cI cZ cJ (mK' w v)) H locs → W p l e R s m args below meth c H locs cells slots Q (F0 m (pc + 3) ls rest)) : W p l e R s m args below meth c H locs cells slots Q (F0 m pc ls (.int v :: .ref (h 0) :: rest)) := g_put C V i_M t_M t_M_ok n_M 0 rfl rfl 7 (by decide) rfl hl rfl rfl rfl (Nat.le_of_ble_eq_true rfl) rfl hdg kk
theorem mp_active {v : Int32} (C : gC p s m args meth c cc nL own ret D (ty3 cI cZ cJ) A) (V : gV D A s (MW h cI cZ cJ w) H locs) (hl : Cond.fieldLink own idx "ProcessRoomModel" "active" "I" ∈ w_all) (hdg : decode cc pc = .ok (.putfield idx, 3)) (kk : ∀ (H : Heap) (locs : List Loc), gV D A s (MW h cI cZ cJ (mA' w v)) H locs → W p l e R s m args below meth c H locs cells slots Q (F0 m (pc + 3) ls rest)) : W p l e R s m args below meth c H locs cells slots Q (F0 m pc ls (.int v :: .ref (h 0) :: rest)) := g_put C V i_M t_M t_M_ok n_M 0 rfl rfl 9 (by decide) rfl hl rfl rfl rfl (Nat.le_of_ble_eq_true rfl) rfl hdg kk
theorem mp_here {v : Int32} (C : gC p s m args meth c cc nL own ret D (ty3 cI cZ cJ) A) (V : gV D A s (MW h cI cZ cJ w) H locs) (hl : Cond.fieldLink own idx "ProcessRoomModel" "here" "I" ∈ w_all) (hdg : decode cc pc = .ok (.putfield idx, 3)) (kk : ∀ (H : Heap) (locs : List Loc), gV D A s (MW h cI cZ cJ (mH' w v)) H locs → W p l e R s m args below meth c H locs cells slots Q (F0 m (pc + 3) ls rest)) : W p l e R s m args below meth c H locs cells slots Q (F0 m pc ls (.int v :: .ref (h 0) :: rest)) := g_put C V i_M t_M t_M_ok n_M 0 rfl rfl 10 (by decide) rfl hl rfl rfl rfl (Nat.le_of_ble_eq_true rfl) rfl hdg kk
theorem mp_wanted {v : Int32} (C : gC p s m args meth c cc nL own ret D (ty3 cI cZ cJ) A) (V : gV D A s (MW h cI cZ cJ w) H locs) (hl : Cond.fieldLink own idx "ProcessRoomModel" "wanted" "Z" ∈ w_all) (hv : v = 0 ∨ v = 1) (hdg : decode cc pc = .ok (.putfield idx, 3)) (kk : ∀ (H : Heap) (locs : List Loc), gV D A s (MW h cI cZ cJ (mW' w v)) H locs → W p l e R s m args below meth c H locs cells slots Q (F0 m (pc + 3) ls rest)) : W p l e R s m args below meth c H locs cells slots Q (F0 m pc ls (.int v :: .ref (h 0) :: rest)) := g_put C V i_M t_M t_M_ok n_M 0 rfl rfl 11 (by decide) rfl hl rfl (zt_n hv) (zt_f hv) (Nat.le_of_ble_eq_true rfl) rfl hdg kk
theorem mp_change {v : Int32} (C : gC p s m args meth c cc nL own ret D (ty3 cI cZ cJ) A) (V : gV D A s (MW h cI cZ cJ w) H locs) (hl : Cond.fieldLink own idx "ProcessRoomModel" "change" "I" ∈ w_all) (hdg : decode cc pc = .ok (.putfield idx, 3)) (kk : ∀ (H : Heap) (locs : List Loc), gV D A s (MW h cI cZ cJ (mC' w v)) H locs → W p l e R s m args below meth c H locs cells slots Q (F0 m (pc + 3) ls rest)) : W p l e R s m args below meth c H locs cells slots Q (F0 m pc ls (.int v :: .ref (h 0) :: rest)) := g_put C V i_M t_M t_M_ok n_M 0 rfl rfl 12 (by decide) rfl hl rfl rfl rfl (Nat.le_of_ble_eq_true rfl) rfl hdg kk
theorem xa_made {i : Int32} (j : Nat) (C : gC p s m args meth c cc nL own ret D (ty3 cI cZ cJ) A) (V : gV D A s (XW h cI cZ u) H locs) (hi : i = nI j) (hj : j < 32) (hdg : decode cc pc = .ok (.baload, 1)) (kk : W p l e R s m args below meth c H locs cells slots Q (F0 m (pc + 1) ls (.int (xM u j) :: rest))) : W p l e R s m args below meth c H locs cells slots Q (F0 m pc ls (.int i :: .ref (h 3) :: rest)) := by
  subst hi
  exact va_zald C.x C.b C.K V.1 3 1 rfl rfl (vp_in_nI hj (by decide)) hdg (by rw [nI_clamp (by omega)]; exact kk)
theorem xa_cells {i : Int32} (j : Nat) (C : gC p s m args meth c cc nL own ret D (ty3 cI cZ cJ) A) (V : gV D A s (XW h cI cZ u) H locs) (hi : i = nI j) (hj : j < 256) (hdg : decode cc pc = .ok (.iaload, 1)) (kk : W p l e R s m args below meth c H locs cells slots Q (F0 m (pc + 1) ls (.int (xC u j) :: rest))) : W p l e R s m args below meth c H locs cells slots Q (F0 m pc ls (.int i :: .ref (h 4) :: rest)) := by
  subst hi
  exact va_iald C.x C.b C.K V.1 4 0 rfl rfl (vp_in_nI hj (by decide)) hdg (by rw [nI_clamp (by omega)]; exact kk)
theorem xa_rows {i : Int32} (j : Nat) (C : gC p s m args meth c cc nL own ret D (ty3 cI cZ cJ) A) (V : gV D A s (XW h cI cZ u) H locs) (hi : i = nI j) (hj : j < 8) (hdg : decode cc pc = .ok (.iaload, 1)) (kk : W p l e R s m args below meth c H locs cells slots Q (F0 m (pc + 1) ls (.int (xR u j) :: rest))) : W p l e R s m args below meth c H locs cells slots Q (F0 m pc ls (.int i :: .ref (h 5) :: rest)) := by
  subst hi
  exact va_iald C.x C.b C.K V.1 5 0 rfl rfl (vp_in_nI hj (by decide)) hdg (by rw [nI_clamp (by omega)]; exact kk)
theorem xa_posts {i : Int32} (j : Nat) (C : gC p s m args meth c cc nL own ret D (ty3 cI cZ cJ) A) (V : gV D A s (XW h cI cZ u) H locs) (hi : i = nI j) (hj : j < 40) (hdg : decode cc pc = .ok (.iaload, 1)) (kk : W p l e R s m args below meth c H locs cells slots Q (F0 m (pc + 1) ls (.int (xP u j) :: rest))) : W p l e R s m args below meth c H locs cells slots Q (F0 m pc ls (.int i :: .ref (h 6) :: rest)) := by
  subst hi
  exact va_iald C.x C.b C.K V.1 6 0 rfl rfl (vp_in_nI hj (by decide)) hdg (by rw [nI_clamp (by omega)]; exact kk)
theorem xs_made {i : Int32} {v : Int32} (j : Nat) (C : gC p s m args meth c cc nL own ret D (ty3 cI cZ cJ) A) (V : gV D A s (XW h cI cZ u) H locs) (hi : i = nI j) (hj : j < 32) (hv : v = 0 ∨ v = 1) (hdg : decode cc pc = .ok (.bastore, 1)) (kk : ∀ (H : Heap) (locs : List Loc), gV D A s (XW h cI cZ (xM' u (upd (xM u) j v))) H locs → W p l e R s m args below meth c H locs cells slots Q (F0 m (pc + 1) ls rest)) : W p l e R s m args below meth c H locs cells slots Q (F0 m pc ls (.int v :: .int i :: .ref (h 3) :: rest)) := by
  subst hi
  refine va_zast C.x C.b C.K V.1 V.2.1 V.2.2 3 1 rfl rfl (vp_in_nI hj (by decide)) hdg (fun H1 l1 a b c => kk H1 l1 ?_)
  rw [nI_clamp (by omega : j < 2 ^ 31), zt_v hv] at a b
  exact ⟨a, b, c⟩
theorem xs_cells {i : Int32} {v : Int32} (j : Nat) (C : gC p s m args meth c cc nL own ret D (ty3 cI cZ cJ) A) (V : gV D A s (XW h cI cZ u) H locs) (hi : i = nI j) (hj : j < 256) (hdg : decode cc pc = .ok (.iastore, 1)) (kk : ∀ (H : Heap) (locs : List Loc), gV D A s (XW h cI cZ (xC' u (upd (xC u) j v))) H locs → W p l e R s m args below meth c H locs cells slots Q (F0 m (pc + 1) ls rest)) : W p l e R s m args below meth c H locs cells slots Q (F0 m pc ls (.int v :: .int i :: .ref (h 4) :: rest)) := by
  subst hi
  refine va_iast C.x C.b C.K V.1 V.2.1 V.2.2 4 0 rfl rfl (vp_in_nI hj (by decide)) hdg (fun H1 l1 a b c => kk H1 l1 ?_)
  rw [nI_clamp (by omega : j < 2 ^ 31)] at a b
  exact ⟨a, b, c⟩
theorem xs_rows {i : Int32} {v : Int32} (j : Nat) (C : gC p s m args meth c cc nL own ret D (ty3 cI cZ cJ) A) (V : gV D A s (XW h cI cZ u) H locs) (hi : i = nI j) (hj : j < 8) (hdg : decode cc pc = .ok (.iastore, 1)) (kk : ∀ (H : Heap) (locs : List Loc), gV D A s (XW h cI cZ (xR' u (upd (xR u) j v))) H locs → W p l e R s m args below meth c H locs cells slots Q (F0 m (pc + 1) ls rest)) : W p l e R s m args below meth c H locs cells slots Q (F0 m pc ls (.int v :: .int i :: .ref (h 5) :: rest)) := by
  subst hi
  refine va_iast C.x C.b C.K V.1 V.2.1 V.2.2 5 0 rfl rfl (vp_in_nI hj (by decide)) hdg (fun H1 l1 a b c => kk H1 l1 ?_)
  rw [nI_clamp (by omega : j < 2 ^ 31)] at a b
  exact ⟨a, b, c⟩
theorem xs_posts {i : Int32} {v : Int32} (j : Nat) (C : gC p s m args meth c cc nL own ret D (ty3 cI cZ cJ) A) (V : gV D A s (XW h cI cZ u) H locs) (hi : i = nI j) (hj : j < 40) (hdg : decode cc pc = .ok (.iastore, 1)) (kk : ∀ (H : Heap) (locs : List Loc), gV D A s (XW h cI cZ (xP' u (upd (xP u) j v))) H locs → W p l e R s m args below meth c H locs cells slots Q (F0 m (pc + 1) ls rest)) : W p l e R s m args below meth c H locs cells slots Q (F0 m pc ls (.int v :: .int i :: .ref (h 6) :: rest)) := by
  subst hi
  refine va_iast C.x C.b C.K V.1 V.2.1 V.2.2 6 0 rfl rfl (vp_in_nI hj (by decide)) hdg (fun H1 l1 a b c => kk H1 l1 ?_)
  rw [nI_clamp (by omega : j < 2 ^ 31)] at a b
  exact ⟨a, b, c⟩
theorem ma_made {i : Int32} (j : Nat) (C : gC p s m args meth c cc nL own ret D (ty3 cI cZ cJ) A) (V : gV D A s (MW h cI cZ cJ w) H locs) (hi : i = nI j) (hj : j < 32) (hdg : decode cc pc = .ok (.baload, 1)) (kk : W p l e R s m args below meth c H locs cells slots Q (F0 m (pc + 1) ls (.int (mM w j) :: rest))) : W p l e R s m args below meth c H locs cells slots Q (F0 m pc ls (.int i :: .ref (h 1) :: rest)) := by
  subst hi
  exact va_zald C.x C.b C.K V.1 1 1 rfl rfl (vp_in_nI hj (by decide)) hdg (by rw [nI_clamp (by omega)]; exact kk)
theorem ms_made {i : Int32} {v : Int32} (j : Nat) (C : gC p s m args meth c cc nL own ret D (ty3 cI cZ cJ) A) (V : gV D A s (MW h cI cZ cJ w) H locs) (hi : i = nI j) (hj : j < 32) (hv : v = 0 ∨ v = 1) (hdg : decode cc pc = .ok (.bastore, 1)) (kk : ∀ (H : Heap) (locs : List Loc), gV D A s (MW h cI cZ cJ (mM' w (upd (mM w) j v))) H locs → W p l e R s m args below meth c H locs cells slots Q (F0 m (pc + 1) ls rest)) : W p l e R s m args below meth c H locs cells slots Q (F0 m pc ls (.int v :: .int i :: .ref (h 1) :: rest)) := by
  subst hi
  refine va_zast C.x C.b C.K V.1 V.2.1 V.2.2 1 1 rfl rfl (vp_in_nI hj (by decide)) hdg (fun H1 l1 a b c => kk H1 l1 ?_)
  rw [nI_clamp (by omega : j < 2 ^ 31), zt_v hv] at a b
  exact ⟨a, b, c⟩
theorem ma_prio {i : Int32} (j : Nat) (C : gC p s m args meth c cc nL own ret D (ty3 cI cZ cJ) A) (V : gV D A s (MW h cI cZ cJ w) H locs) (hi : i = nI j) (hj : j < 32) (hdg : decode cc pc = .ok (.iaload, 1)) (kk : W p l e R s m args below meth c H locs cells slots Q (F0 m (pc + 1) ls (.int (mP w j) :: rest))) : W p l e R s m args below meth c H locs cells slots Q (F0 m pc ls (.int i :: .ref (h 2) :: rest)) := by
  subst hi
  exact va_iald C.x C.b C.K V.1 2 0 rfl rfl (vp_in_nI hj (by decide)) hdg (by rw [nI_clamp (by omega)]; exact kk)
theorem ms_prio {i : Int32} {v : Int32} (j : Nat) (C : gC p s m args meth c cc nL own ret D (ty3 cI cZ cJ) A) (V : gV D A s (MW h cI cZ cJ w) H locs) (hi : i = nI j) (hj : j < 32) (hdg : decode cc pc = .ok (.iastore, 1)) (kk : ∀ (H : Heap) (locs : List Loc), gV D A s (MW h cI cZ cJ (mP' w (upd (mP w) j v))) H locs → W p l e R s m args below meth c H locs cells slots Q (F0 m (pc + 1) ls rest)) : W p l e R s m args below meth c H locs cells slots Q (F0 m pc ls (.int v :: .int i :: .ref (h 2) :: rest)) := by
  subst hi
  refine va_iast C.x C.b C.K V.1 V.2.1 V.2.2 2 0 rfl rfl (vp_in_nI hj (by decide)) hdg (fun H1 l1 a b c => kk H1 l1 ?_)
  rw [nI_clamp (by omega : j < 2 ^ 31)] at a b
  exact ⟨a, b, c⟩
theorem ma_place {i : Int32} (j : Nat) (C : gC p s m args meth c cc nL own ret D (ty3 cI cZ cJ) A) (V : gV D A s (MW h cI cZ cJ w) H locs) (hi : i = nI j) (hj : j < 32) (hdg : decode cc pc = .ok (.iaload, 1)) (kk : W p l e R s m args below meth c H locs cells slots Q (F0 m (pc + 1) ls (.int (mL w j) :: rest))) : W p l e R s m args below meth c H locs cells slots Q (F0 m pc ls (.int i :: .ref (h 3) :: rest)) := by
  subst hi
  exact va_iald C.x C.b C.K V.1 3 0 rfl rfl (vp_in_nI hj (by decide)) hdg (by rw [nI_clamp (by omega)]; exact kk)
theorem ms_place {i : Int32} {v : Int32} (j : Nat) (C : gC p s m args meth c cc nL own ret D (ty3 cI cZ cJ) A) (V : gV D A s (MW h cI cZ cJ w) H locs) (hi : i = nI j) (hj : j < 32) (hdg : decode cc pc = .ok (.iastore, 1)) (kk : ∀ (H : Heap) (locs : List Loc), gV D A s (MW h cI cZ cJ (mL' w (upd (mL w) j v))) H locs → W p l e R s m args below meth c H locs cells slots Q (F0 m (pc + 1) ls rest)) : W p l e R s m args below meth c H locs cells slots Q (F0 m pc ls (.int v :: .int i :: .ref (h 3) :: rest)) := by
  subst hi
  refine va_iast C.x C.b C.K V.1 V.2.1 V.2.2 3 0 rfl rfl (vp_in_nI hj (by decide)) hdg (fun H1 l1 a b c => kk H1 l1 ?_)
  rw [nI_clamp (by omega : j < 2 ^ 31)] at a b
  exact ⟨a, b, c⟩
theorem ma_rows {i : Int32} (j : Nat) (C : gC p s m args meth c cc nL own ret D (ty3 cI cZ cJ) A) (V : gV D A s (MW h cI cZ cJ w) H locs) (hi : i = nI j) (hj : j < 32) (hdg : decode cc pc = .ok (.iaload, 1)) (kk : W p l e R s m args below meth c H locs cells slots Q (F0 m (pc + 1) ls (.int (mR w j) :: rest))) : W p l e R s m args below meth c H locs cells slots Q (F0 m pc ls (.int i :: .ref (h 4) :: rest)) := by
  subst hi
  exact va_iald C.x C.b C.K V.1 4 0 rfl rfl (vp_in_nI hj (by decide)) hdg (by rw [nI_clamp (by omega)]; exact kk)
theorem ms_rows {i : Int32} {v : Int32} (j : Nat) (C : gC p s m args meth c cc nL own ret D (ty3 cI cZ cJ) A) (V : gV D A s (MW h cI cZ cJ w) H locs) (hi : i = nI j) (hj : j < 32) (hdg : decode cc pc = .ok (.iastore, 1)) (kk : ∀ (H : Heap) (locs : List Loc), gV D A s (MW h cI cZ cJ (mR' w (upd (mR w) j v))) H locs → W p l e R s m args below meth c H locs cells slots Q (F0 m (pc + 1) ls rest)) : W p l e R s m args below meth c H locs cells slots Q (F0 m pc ls (.int v :: .int i :: .ref (h 4) :: rest)) := by
  subst hi
  refine va_iast C.x C.b C.K V.1 V.2.1 V.2.2 4 0 rfl rfl (vp_in_nI hj (by decide)) hdg (fun H1 l1 a b c => kk H1 l1 ?_)
  rw [nI_clamp (by omega : j < 2 ^ 31)] at a b
  exact ⟨a, b, c⟩
theorem ma_when {i : Int32} (j : Nat) (C : gC p s m args meth c cc nL own ret D (ty3 cI cZ cJ) A) (V : gV D A s (MW h cI cZ cJ w) H locs) (hi : i = nI j) (hj : j < 32) (hdg : decode cc pc = .ok (.laload, 1)) (kk : W p l e R s m args below meth c H locs cells slots Q (F0 m (pc + 1) ls (.long (mT w j) :: rest))) : W p l e R s m args below meth c H locs cells slots Q (F0 m pc ls (.int i :: .ref (h 5) :: rest)) := by
  subst hi
  exact va_lald C.x C.b C.K V.1 5 2 rfl rfl (vp_in_nI hj (by decide)) hdg (by rw [nI_clamp (by omega)]; exact kk)
theorem ms_when {i : Int32} {v : Int64} (j : Nat) (C : gC p s m args meth c cc nL own ret D (ty3 cI cZ cJ) A) (V : gV D A s (MW h cI cZ cJ w) H locs) (hi : i = nI j) (hj : j < 32) (hdg : decode cc pc = .ok (.lastore, 1)) (kk : ∀ (H : Heap) (locs : List Loc), gV D A s (MW h cI cZ cJ (mT' w (vp_updL (mT w) j v))) H locs → W p l e R s m args below meth c H locs cells slots Q (F0 m (pc + 1) ls rest)) : W p l e R s m args below meth c H locs cells slots Q (F0 m pc ls (.long v :: .int i :: .ref (h 5) :: rest)) := by
  subst hi
  refine va_last C.x C.b C.K V.1 V.2.1 V.2.2 5 2 rfl rfl (vp_in_nI hj (by decide)) hdg (fun H1 l1 a b c => kk H1 l1 ?_)
  rw [nI_clamp (by omega : j < 2 ^ 31)] at a b
  exact ⟨a, b, c⟩
theorem ma_extras {i : Int32} (j : Nat) (C : gC p s m args meth c cc nL own ret D (ty3 cI cZ cJ) A) (V : gV D A s (MW h cI cZ cJ w) H locs) (hi : i = nI j) (hj : j < 16) (hdg : decode cc pc = .ok (.iaload, 1)) (kk : W p l e R s m args below meth c H locs cells slots Q (F0 m (pc + 1) ls (.int (mE w j) :: rest))) : W p l e R s m args below meth c H locs cells slots Q (F0 m pc ls (.int i :: .ref (h 6) :: rest)) := by
  subst hi
  exact va_iald C.x C.b C.K V.1 6 0 rfl rfl (vp_in_nI hj (by decide)) hdg (by rw [nI_clamp (by omega)]; exact kk)
theorem ms_extras {i : Int32} {v : Int32} (j : Nat) (C : gC p s m args meth c cc nL own ret D (ty3 cI cZ cJ) A) (V : gV D A s (MW h cI cZ cJ w) H locs) (hi : i = nI j) (hj : j < 16) (hdg : decode cc pc = .ok (.iastore, 1)) (kk : ∀ (H : Heap) (locs : List Loc), gV D A s (MW h cI cZ cJ (mE' w (upd (mE w) j v))) H locs → W p l e R s m args below meth c H locs cells slots Q (F0 m (pc + 1) ls rest)) : W p l e R s m args below meth c H locs cells slots Q (F0 m pc ls (.int v :: .int i :: .ref (h 6) :: rest)) := by
  subst hi
  refine va_iast C.x C.b C.K V.1 V.2.1 V.2.2 6 0 rfl rfl (vp_in_nI hj (by decide)) hdg (fun H1 l1 a b c => kk H1 l1 ?_)
  rw [nI_clamp (by omega : j < 2 ^ 31)] at a b
  exact ⟨a, b, c⟩
theorem ma_posted {i : Int32} (j : Nat) (C : gC p s m args meth c cc nL own ret D (ty3 cI cZ cJ) A) (V : gV D A s (MW h cI cZ cJ w) H locs) (hi : i = nI j) (hj : j < 40) (hdg : decode cc pc = .ok (.iaload, 1)) (kk : W p l e R s m args below meth c H locs cells slots Q (F0 m (pc + 1) ls (.int (mO w j) :: rest))) : W p l e R s m args below meth c H locs cells slots Q (F0 m pc ls (.int i :: .ref (h 7) :: rest)) := by
  subst hi
  exact va_iald C.x C.b C.K V.1 7 0 rfl rfl (vp_in_nI hj (by decide)) hdg (by rw [nI_clamp (by omega)]; exact kk)
theorem ms_posted {i : Int32} {v : Int32} (j : Nat) (C : gC p s m args meth c cc nL own ret D (ty3 cI cZ cJ) A) (V : gV D A s (MW h cI cZ cJ w) H locs) (hi : i = nI j) (hj : j < 40) (hdg : decode cc pc = .ok (.iastore, 1)) (kk : ∀ (H : Heap) (locs : List Loc), gV D A s (MW h cI cZ cJ (mO' w (upd (mO w) j v))) H locs → W p l e R s m args below meth c H locs cells slots Q (F0 m (pc + 1) ls rest)) : W p l e R s m args below meth c H locs cells slots Q (F0 m pc ls (.int v :: .int i :: .ref (h 7) :: rest)) := by
  subst hi
  refine va_iast C.x C.b C.K V.1 V.2.1 V.2.2 7 0 rfl rfl (vp_in_nI hj (by decide)) hdg (fun H1 l1 a b c => kk H1 l1 ?_)
  rw [nI_clamp (by omega : j < 2 ^ 31)] at a b
  exact ⟨a, b, c⟩
theorem xl_posts (C : gC p s m args meth c cc nL own ret D (ty3 cI cZ cJ) A) (V : gV D A s (XW h cI cZ u) H locs) (hdg : decode cc pc = .ok (.arraylength, 1)) (kk : W p l e R s m args below meth c H locs cells slots Q (F0 m (pc + 1) ls (.int 40 :: rest))) : W p l e R s m args below meth c H locs cells slots Q (F0 m pc ls (.ref (h 6) :: rest)) := va_alen C.x C.b C.K V.1 6 0 rfl rfl rfl hdg kk
end
theorem cs_X_29 : csV R_X 29 R_P y_P_put b_P_put 4 none 3 := csV.of ml_X_29 im_P_put se_P_put ini_P cd_P_put (by decide +kernel)
theorem cs_X_33 : csV R_X 33 R_S y_S_begin b_S_begin 2 none 1 := csV.of ml_X_33 im_S_begin se_S_begin ini_S cd_S_begin (by decide +kernel)
theorem cs_X_37 : csV R_X 37 R_X y_X_isMade b_X_isMade 2 (some .boolean) 1 := csV.of ml_X_37 im_X_isMade se_X_isMade ini_X cd_X_isMade (by decide +kernel)
theorem cs_X_41 : csS R_X 41 y_X_process b_X_process 1 (some .int) 1 := csS.of ml_X_41 st_X_process ini_X cd_X_process (by decide +kernel)
theorem cs_X_45 : csV R_X 45 R_P y_P_get b_P_get 3 (some .int) 2 := csV.of ml_X_45 im_P_get se_P_get ini_P cd_P_get (by decide +kernel)
theorem cs_X_49 : csS R_X 49 y_X_isPriority b_X_isPriority 1 (some .boolean) 1 := csS.of ml_X_49 st_X_isPriority ini_X cd_X_isPriority (by decide +kernel)
theorem cs_X_52 : csV R_X 52 R_X y_X_isInRow b_X_isInRow 2 (some .boolean) 1 := csV.of ml_X_52 im_X_isInRow se_X_isInRow ini_X cd_X_isInRow (by decide +kernel)
theorem cs_X_55 : csV R_X 55 R_S y_S_present b_S_present 1 (some .int) 0 := csV.of ml_X_55 im_S_present se_S_present ini_S cd_S_present (by decide +kernel)
theorem cs_X_59 : csV R_X 59 R_S y_S_active b_S_active 1 (some .int) 0 := csV.of ml_X_59 im_S_active se_S_active ini_S cd_S_active (by decide +kernel)
theorem cs_X_62 : csV R_X 62 R_S y_S_wake b_S_wake 3 none 1 := csV.of ml_X_62 im_S_wake se_S_wake ini_S cd_S_wake (by decide +kernel)
theorem cs_X_65 : csV R_X 65 R_S y_S_putAside b_S_putAside 2 none 0 := csV.of ml_X_65 im_S_putAside se_S_putAside ini_S cd_S_putAside (by decide +kernel)
theorem cs_X_68 : csS R_X 68 y_X_numberOf b_X_numberOf 1 (some .int) 1 := csS.of ml_X_68 st_X_numberOf ini_X cd_X_numberOf (by decide +kernel)
theorem cs_X_71 : csV R_X 71 R_S y_S_forget b_S_forget 2 none 1 := csV.of ml_X_71 im_S_forget se_S_forget ini_S cd_S_forget (by decide +kernel)
theorem cs_X_74 : csS R_X 74 y_X_isSemaphore b_X_isSemaphore 1 (some .boolean) 1 := csS.of ml_X_74 st_X_isSemaphore ini_X cd_X_isSemaphore (by decide +kernel)
theorem cs_X_77 : csS R_X 77 y_X_semaphore b_X_semaphore 1 (some .int) 1 := csS.of ml_X_77 st_X_semaphore ini_X cd_X_semaphore (by decide +kernel)
theorem cs_X_80 : csV R_X 80 R_S y_S_await b_S_await 3 (some .boolean) 1 := csV.of ml_X_80 im_S_await se_S_await ini_S cd_S_await (by decide +kernel)
theorem cs_X_83 : csV R_X 83 R_S y_S_signal b_S_signal 2 none 1 := csV.of ml_X_83 im_S_signal se_S_signal ini_S cd_S_signal (by decide +kernel)
theorem cs_X_86 : csV R_X 86 R_S y_S_post b_S_post 2 (some .int) 1 := csV.of ml_X_86 im_S_post se_S_post ini_S cd_S_post (by decide +kernel)
theorem cs_X_89 : csV R_X 89 R_S y_S_step b_S_step 2 (some .boolean) 0 := csV.of ml_X_89 im_S_step se_S_step ini_S cd_S_step (by decide +kernel)
theorem cs_X_93 : csV R_X 93 R_X y_X_active b_X_active 1 (some .int) 0 := csV.of ml_X_93 im_X_active se_X_active ini_X cd_X_active (by decide +kernel)
theorem cs_X_94 : csV R_X 94 R_S y_S_isWanted b_S_isWanted 1 (some .boolean) 0 := csV.of ml_X_94 im_S_isWanted se_S_isWanted ini_S cd_S_isWanted (by decide +kernel)
theorem cs_X_101 : csV R_X 101 R_S y_S_remove b_S_remove 5 none 1 := csV.of ml_X_101 im_S_remove se_S_remove ini_S cd_S_remove (by decide +kernel)
theorem cs_X_104 : csV R_X 104 R_S y_S_priority b_S_priority 2 (some .int) 1 := csV.of ml_X_104 im_S_priority se_S_priority ini_S cd_S_priority (by decide +kernel)
theorem cs_X_107 : csV R_X 107 R_S y_S_giveWay b_S_giveWay 2 (some .boolean) 0 := csV.of ml_X_107 im_S_giveWay se_S_giveWay ini_S cd_S_giveWay (by decide +kernel)
theorem cs_X_110 : csV R_X 110 R_S y_S_readyRow b_S_readyRow 2 (some .int) 1 := csV.of ml_X_110 im_S_readyRow se_S_readyRow ini_S cd_S_readyRow (by decide +kernel)
theorem cs_X_113 : csV R_X 113 R_S y_S_posted b_S_posted 2 (some .int) 1 := csV.of ml_X_113 im_S_posted se_S_posted ini_S cd_S_posted (by decide +kernel)
theorem cs_M_40 : csS R_M 40 y_M_isProcess b_M_isProcess 1 (some .boolean) 1 := csS.of ml_M_40 st_M_isProcess ini_M cd_M_isProcess (by decide +kernel)
theorem cs_M_52 : csV R_M 52 R_M y_M_presentOne b_M_presentOne 1 (some .int) 0 := csV.of ml_M_52 im_M_presentOne se_M_presentOne ini_M cd_M_presentOne (by decide +kernel)
theorem cs_M_56 : csV R_M 56 R_M y_M_enter b_M_enter 3 none 2 := csV.of ml_M_56 im_M_enter se_M_enter ini_M cd_M_enter (by decide +kernel)
theorem cs_M_60 : csV R_M 60 R_M y_M_want b_M_want 2 none 1 := csV.of ml_M_60 im_M_want se_M_want ini_M cd_M_want (by decide +kernel)
theorem cs_M_64 : csV R_M 64 R_M y_M_find b_M_find 8 (some .int) 2 := csV.of ml_M_64 im_M_find se_M_find ini_M cd_M_find (by decide +kernel)
theorem cs_M_68 : csV R_M 68 R_M y_M_wake b_M_wake 3 none 1 := csV.of ml_M_68 im_M_wake se_M_wake ini_M cd_M_wake (by decide +kernel)
theorem cs_M_71 : csS R_M 71 y_M_isPriority b_M_isPriority 1 (some .boolean) 1 := csS.of ml_M_71 st_M_isPriority ini_M cd_M_isPriority (by decide +kernel)
theorem cs_M_74 : csV R_M 74 R_M y_M_isMade b_M_isMade 2 (some .boolean) 1 := csV.of ml_M_74 im_M_isMade se_M_isMade ini_M cd_M_isMade (by decide +kernel)
theorem cs_M_77 : csV R_M 77 R_M y_M_putAside b_M_putAside 4 none 0 := csV.of ml_M_77 im_M_putAside se_M_putAside ini_M cd_M_putAside (by decide +kernel)
theorem cs_M_80 : csS R_M 80 y_M_isSemaphore b_M_isSemaphore 1 (some .boolean) 1 := csS.of ml_M_80 st_M_isSemaphore ini_M cd_M_isSemaphore (by decide +kernel)
theorem cs_M_83 : csV R_M 83 R_M y_M_give b_M_give 3 none 1 := csV.of ml_M_83 im_M_give se_M_give ini_M cd_M_give (by decide +kernel)
theorem cs_P_18 : csV R_P 18 R_P y_P_get b_P_get 3 (some .int) 2 := csV.of ml_P_18 im_P_get se_P_get ini_P cd_P_get (by decide +kernel)
theorem cs_S_36 : csU R_S 36 R_P R_L ⟨R_L, "get", "(II)I"⟩ y_P_get b_P_get 3 (some .int) 2 := csU.of ml_S_36 sm_get sa_P_get im_P_get ini_P cd_P_get (by decide +kernel)
theorem cs_S_42 : csU R_S 42 R_P R_L ⟨R_L, "process", "(I)I"⟩ y_P_process b_P_process 2 (some .int) 1 := csU.of ml_S_42 sm_process sa_P_process im_P_process ini_P cd_P_process (by decide +kernel)
theorem cs_S_46 : csV R_S 46 R_S y_S_isEmpty b_S_isEmpty 2 (some .boolean) 1 := csV.of ml_S_46 im_S_isEmpty se_S_isEmpty ini_S cd_S_isEmpty (by decide +kernel)
theorem cs_S_50 : csU R_S 50 R_P R_L ⟨R_L, "put", "(III)V"⟩ y_P_put b_P_put 4 none 3 := csU.of ml_S_50 sm_put sa_P_put im_P_put ini_P cd_P_put (by decide +kernel)
theorem cs_S_54 : csV R_S 54 R_S y_S_removeFirst b_S_removeFirst 4 (some .int) 1 := csV.of ml_S_54 im_S_removeFirst se_S_removeFirst ini_S cd_S_removeFirst (by decide +kernel)
theorem cs_S_57 : csV R_S 57 R_S y_S_active b_S_active 1 (some .int) 0 := csV.of ml_S_57 im_S_active se_S_active ini_S cd_S_active (by decide +kernel)
theorem cs_S_61 : csU R_S 61 R_P R_L ⟨R_L, "number", "(IIII)I"⟩ y_P_number b_P_number 5 (some .int) 4 := csU.of ml_S_61 sm_number sa_P_number im_P_number ini_P cd_P_number (by decide +kernel)
theorem cs_S_65 : csU R_S 65 R_P R_L ⟨R_L, "row", "(I)I"⟩ y_P_row b_P_row 2 (some .int) 1 := csU.of ml_S_65 sm_row sa_P_row im_P_row ini_P cd_P_row (by decide +kernel)
theorem cs_S_68 : csV R_S 68 R_S y_S_priority b_S_priority 2 (some .int) 1 := csV.of ml_S_68 im_S_priority se_S_priority ini_S cd_S_priority (by decide +kernel)
theorem cs_S_71 : csV R_S 71 R_S y_S_readyRow b_S_readyRow 2 (some .int) 1 := csV.of ml_S_71 im_S_readyRow se_S_readyRow ini_S cd_S_readyRow (by decide +kernel)
theorem cs_S_74 : csV R_S 74 R_S y_S_addLast b_S_addLast 3 none 2 := csV.of ml_S_74 im_S_addLast se_S_addLast ini_S cd_S_addLast (by decide +kernel)
theorem cs_S_78 : csV R_S 78 R_S y_S_present b_S_present 1 (some .int) 0 := csV.of ml_S_78 im_S_present se_S_present ini_S cd_S_present (by decide +kernel)
theorem cs_S_81 : csV R_S 81 R_S y_S_sleep b_S_sleep 2 none 1 := csV.of ml_S_81 im_S_sleep se_S_sleep ini_S cd_S_sleep (by decide +kernel)
theorem cs_S_85 : csV R_S 85 R_S y_S_change b_S_change 2 none 1 := csV.of ml_S_85 im_S_change se_S_change ini_S cd_S_change (by decide +kernel)
theorem cs_S_88 : csV R_S 88 R_S y_S_putAside b_S_putAside 2 none 0 := csV.of ml_S_88 im_S_putAside se_S_putAside ini_S cd_S_putAside (by decide +kernel)
theorem cs_S_93 : csS R_S 93 y_S_small b_S_small 1 (some .int) 1 := csS.of ml_S_93 st_S_small ini_S cd_S_small (by decide +kernel)
theorem cs_S_96 : csV R_S 96 R_S y_S_wake b_S_wake 3 none 1 := csV.of ml_S_96 im_S_wake se_S_wake ini_S cd_S_wake (by decide +kernel)
theorem cs_S_100 : csV R_S 100 R_S y_S_signal b_S_signal 2 none 1 := csV.of ml_S_100 im_S_signal se_S_signal ini_S cd_S_signal (by decide +kernel)
theorem cs_W_13 : csV R_W 13 R_X y_X_make b_X_make 4 (some .boolean) 3 := csV.of ml_W_13 im_X_make se_X_make ini_X cd_X_make (by decide +kernel)
theorem cs_W_17 : csV R_W 17 R_M y_M_make b_M_make 4 (some .boolean) 3 := csV.of ml_W_17 im_M_make se_M_make ini_M cd_M_make (by decide +kernel)
theorem cs_W_18 : csV R_W 18 R_X y_X_resume b_X_resume 2 (some .boolean) 1 := csV.of ml_W_18 im_X_resume se_X_resume ini_X cd_X_resume (by decide +kernel)
theorem cs_W_22 : csV R_W 22 R_M y_M_resume b_M_resume 2 (some .boolean) 1 := csV.of ml_W_22 im_M_resume se_M_resume ini_M cd_M_resume (by decide +kernel)
theorem cs_W_23 : csV R_W 23 R_X y_X_suspend b_X_suspend 2 (some .int) 0 := csV.of ml_W_23 im_X_suspend se_X_suspend ini_X cd_X_suspend (by decide +kernel)
theorem cs_W_27 : csV R_W 27 R_M y_M_suspend b_M_suspend 2 (some .int) 0 := csV.of ml_W_27 im_M_suspend se_M_suspend ini_M cd_M_suspend (by decide +kernel)
theorem cs_W_28 : csV R_W 28 R_X y_X_end b_X_end 2 (some .int) 0 := csV.of ml_W_28 im_X_end se_X_end ini_X cd_X_end (by decide +kernel)
theorem cs_W_31 : csV R_W 31 R_M y_M_end b_M_end 2 (some .int) 0 := csV.of ml_W_31 im_M_end se_M_end ini_M cd_M_end (by decide +kernel)
theorem cs_W_32 : csV R_W 32 R_X y_X_await b_X_await 2 (some .int) 1 := csV.of ml_W_32 im_X_await se_X_await ini_X cd_X_await (by decide +kernel)
theorem cs_W_36 : csV R_W 36 R_M y_M_await b_M_await 3 (some .int) 1 := csV.of ml_W_36 im_M_await se_M_await ini_M cd_M_await (by decide +kernel)
theorem cs_W_37 : csV R_W 37 R_X y_X_signal b_X_signal 2 (some .boolean) 1 := csV.of ml_W_37 im_X_signal se_X_signal ini_X cd_X_signal (by decide +kernel)
theorem cs_W_40 : csV R_W 40 R_M y_M_signal b_M_signal 2 (some .boolean) 1 := csV.of ml_W_40 im_M_signal se_M_signal ini_M cd_M_signal (by decide +kernel)
theorem cs_W_41 : csV R_W 41 R_X y_X_post b_X_post 2 (some .int) 1 := csV.of ml_W_41 im_X_post se_X_post ini_X cd_X_post (by decide +kernel)
theorem cs_W_44 : csV R_W 44 R_M y_M_post b_M_post 2 (some .int) 1 := csV.of ml_W_44 im_M_post se_M_post ini_M cd_M_post (by decide +kernel)
theorem cs_W_45 : csV R_W 45 R_X y_X_step b_X_step 1 (some .int) 0 := csV.of ml_W_45 im_X_step se_X_step ini_X cd_X_step (by decide +kernel)
theorem cs_W_48 : csV R_W 48 R_M y_M_step b_M_step 2 (some .int) 0 := csV.of ml_W_48 im_M_step se_M_step ini_M cd_M_step (by decide +kernel)
theorem cs_W_49 : csV R_W 49 R_X y_X_work b_X_work 2 (some .boolean) 1 := csV.of ml_W_49 im_X_work se_X_work ini_X cd_X_work (by decide +kernel)
theorem cs_W_52 : csV R_W 52 R_M y_M_work b_M_work 2 (some .boolean) 1 := csV.of ml_W_52 im_M_work se_M_work ini_M cd_M_work (by decide +kernel)
theorem cs_W_53 : csV R_W 53 R_X y_X_take b_X_take 2 (some .boolean) 1 := csV.of ml_W_53 im_X_take se_X_take ini_X cd_X_take (by decide +kernel)
theorem cs_W_56 : csV R_W 56 R_M y_M_take b_M_take 2 (some .boolean) 1 := csV.of ml_W_56 im_M_take se_M_take ini_M cd_M_take (by decide +kernel)
theorem cs_W_57 : csV R_W 57 R_X y_X_rate b_X_rate 4 (some .int) 2 := csV.of ml_W_57 im_X_rate se_X_rate ini_X cd_X_rate (by decide +kernel)
theorem cs_W_61 : csV R_W 61 R_M y_M_rate b_M_rate 4 (some .int) 2 := csV.of ml_W_61 im_M_rate se_M_rate ini_M cd_M_rate (by decide +kernel)
theorem cs_W_62 : csV R_W 62 R_X y_X_yield b_X_yield 1 (some .boolean) 0 := csV.of ml_W_62 im_X_yield se_X_yield ini_X cd_X_yield (by decide +kernel)
theorem cs_W_66 : csV R_W 66 R_M y_M_yield b_M_yield 2 (some .boolean) 0 := csV.of ml_W_66 im_M_yield se_M_yield ini_M cd_M_yield (by decide +kernel)
theorem cs_W_67 : csV R_W 67 R_X y_X_active b_X_active 1 (some .int) 0 := csV.of ml_W_67 im_X_active se_X_active ini_X cd_X_active (by decide +kernel)
theorem cs_W_70 : csV R_W 70 R_M y_M_active b_M_active 1 (some .int) 0 := csV.of ml_W_70 im_M_active se_M_active ini_M cd_M_active (by decide +kernel)
theorem cs_W_71 : csV R_W 71 R_X y_X_present b_X_present 1 (some .int) 0 := csV.of ml_W_71 im_X_present se_X_present ini_X cd_X_present (by decide +kernel)
theorem cs_W_74 : csV R_W 74 R_M y_M_present b_M_present 1 (some .int) 0 := csV.of ml_W_74 im_M_present se_M_present ini_M cd_M_present (by decide +kernel)
theorem cs_W_75 : csV R_W 75 R_X y_X_wanted b_X_wanted 1 (some .boolean) 0 := csV.of ml_W_75 im_X_wanted se_X_wanted ini_X cd_X_wanted (by decide +kernel)
theorem cs_W_78 : csV R_W 78 R_M y_M_wanted b_M_wanted 1 (some .boolean) 0 := csV.of ml_W_78 im_M_wanted se_M_wanted ini_M cd_M_wanted (by decide +kernel)
theorem cs_W_79 : csV R_W 79 R_X y_X_here b_X_here 1 (some .int) 0 := csV.of ml_W_79 im_X_here se_X_here ini_X cd_X_here (by decide +kernel)
theorem cs_W_82 : csV R_W 82 R_M y_M_here b_M_here 1 (some .int) 0 := csV.of ml_W_82 im_M_here se_M_here ini_M cd_M_here (by decide +kernel)
theorem cs_W_83 : csV R_W 83 R_X y_X_place b_X_place 2 (some .int) 1 := csV.of ml_W_83 im_X_place se_X_place ini_X cd_X_place (by decide +kernel)
theorem cs_W_86 : csV R_W 86 R_M y_M_place b_M_place 2 (some .int) 1 := csV.of ml_W_86 im_M_place se_M_place ini_M cd_M_place (by decide +kernel)
theorem cs_W_87 : csV R_W 87 R_X y_X_priority b_X_priority 2 (some .int) 1 := csV.of ml_W_87 im_X_priority se_X_priority ini_X cd_X_priority (by decide +kernel)
theorem cs_W_90 : csV R_W 90 R_M y_M_priority b_M_priority 2 (some .int) 1 := csV.of ml_W_90 im_M_priority se_M_priority ini_M cd_M_priority (by decide +kernel)
theorem cs_W_91 : csV R_W 91 R_X y_X_row b_X_row 3 (some .int) 1 := csV.of ml_W_91 im_X_row se_X_row ini_X cd_X_row (by decide +kernel)
theorem cs_W_94 : csV R_W 94 R_M y_M_row b_M_row 2 (some .int) 1 := csV.of ml_W_94 im_M_row se_M_row ini_M cd_M_row (by decide +kernel)
theorem cs_W_95 : csV R_W 95 R_X y_X_at b_X_at 6 (some .int) 2 := csV.of ml_W_95 im_X_at se_X_at ini_X cd_X_at (by decide +kernel)
theorem cs_W_98 : csV R_W 98 R_M y_M_at b_M_at 4 (some .int) 2 := csV.of ml_W_98 im_M_at se_M_at ini_M cd_M_at (by decide +kernel)
theorem cs_W_99 : csV R_W 99 R_X y_X_extra b_X_extra 2 (some .int) 1 := csV.of ml_W_99 im_X_extra se_X_extra ini_X cd_X_extra (by decide +kernel)
theorem cs_W_102 : csV R_W 102 R_M y_M_extra b_M_extra 2 (some .int) 1 := csV.of ml_W_102 im_M_extra se_M_extra ini_M cd_M_extra (by decide +kernel)
theorem cs_W_103 : csV R_W 103 R_X y_X_posted b_X_posted 3 (some .int) 1 := csV.of ml_W_103 im_X_posted se_X_posted ini_X cd_X_posted (by decide +kernel)
theorem cs_W_106 : csV R_W 106 R_M y_M_posted b_M_posted 2 (some .int) 1 := csV.of ml_W_106 im_M_posted se_M_posted ini_M cd_M_posted (by decide +kernel)
end
section
/-! numbers -/
theorem nk_sh {k : Nat} (hk : k < 2 ^ 20) : nI (2 * k) >>> ((1 : Int32) &&& 31) = nI k := by
  rw [pk_shrN (k := 1) (by omega) _ (by decide)]
  congr 1
  omega
theorem nk_ne {a b : Nat} (ha : a < 2 ^ 31) (hb : b < 2 ^ 31) (h : a ≠ b) : ¬ nI a = nI b := fun q => h ((nI_eq ha hb).mp q)
theorem nk_lit (n : Nat) : (OfNat.ofNat n : Int32) = nI n := rfl
theorem nk_ix {k i : Nat} (hk : k < 2 ^ 20) : (4 : Int32) * (nI (2 * k) >>> ((1 : Int32) &&& 31)) + nI i = nI (4 * k + i) := by
  rw [nk_sh hk, show (4 : Int32) = nI 4 from rfl, pk_mul, nI_add]
theorem nk_small {n : Nat} (hn : n < 2 ^ 29) : (nI n <<< ((1 : Int32) &&& 31)) ||| 1 = nI (2 * n + 1) := by
  rw [pk_shlN (k := 1) _ (by decide) (by omega)]
  apply Int32.toBitVec_inj.mp
  rw [Int32.toBitVec_or]
  apply BitVec.eq_of_toNat_eq
  rw [BitVec.toNat_or, pk_tn (by omega), pk_tn (by omega), show (1 : Int32).toBitVec.toNat = 2 ^ 0 from rfl, show n * 2 ^ 1 = 2 ^ 1 * n by omega, ← Nat.two_pow_add_eq_or_of_lt (by decide)]
theorem nk_half {n : Nat} (hn : n < 2 ^ 29) : nI (2 * n + 1) >>> ((1 : Int32) &&& 31) = nI n := by
  rw [pk_shrN (k := 1) (by omega) _ (by decide)]
  congr 1
  omega
section
variable {lx : Launch} {D : va_G} {h : Nat → Nat} {cI cZ cJ : ClassId}
variable {u : XS}
set_option maxHeartbeats 200000 in
set_option maxRecDepth 20000 in
/-- Plain.get at an object that is no table -/
theorem c_P_get (k i : Nat) (hk : k < 60) (hi : i < 4) : gMi lx D (ty3 cI cZ cJ) (XW h cI cZ) y_P_get b_P_get 3 (some .int) ({ frames := 0, cells := 0, slots := 0, locals := 0 } : Room) 0 0 [.ref (h 1), .int (nI (2 * k)), .int (nI i)] ((XW h cI cZ) u) (fun r u' => u = u' ∧ r = xC u (4 * k + i)) := by
  refine gMi.of (by decide) (Nat.le_of_ble_eq_true rfl) (fun pg ev st md bl mt cd A ls C hmn hl V => ?_)
  have hl : lv_has ls 3 [(0, .ref (h 1)), (1, .int (nI (2 * k))), (2, .int (nI i))] := hl
  refine lv_iload_n C.x C.b d_P_get_0 rfl (lv_at hl 1 rfl) ?_
  refine lv_bipush (v := 120) C.x C.b d_P_get_1 (by decide) ?_
  refine lv_icmp_ne (tgt := 15) C.x C.b d_P_get_3 (by decide) (fun c3 => ?_) (fun c3 => ?_)
  · refine lv_aload_n C.x C.b d_P_get_15 rfl (lv_at hl 0 rfl) ?_
    refine xg_cells C V fl_P_9 d_P_get_16 ?_
    refine lv_iconst (v := 4) C.x C.b d_P_get_19 (by decide) ?_
    refine lv_iload_n C.x C.b d_P_get_20 rfl (lv_at hl 1 rfl) ?_
    refine lv_iconst (v := 1) C.x C.b d_P_get_21 (by decide) ?_
    refine lv_ishr C.x C.b d_P_get_22 ?_
    refine lv_topi (fun v22 e22 => ?_)
    refine lv_imul C.x C.b d_P_get_23 ?_
    refine lv_topi (fun v23 e23 => ?_)
    refine lv_iload_n C.x C.b d_P_get_24 rfl (lv_at hl 2 rfl) ?_
    refine lv_iadd C.x C.b d_P_get_25 ?_
    refine lv_topi (fun v25 e25 => ?_)
    refine xa_cells (4 * k + i) C V (by rw [e25, e23, e22]; exact nk_ix (by omega)) (by omega) d_P_get_26 ?_
    refine lv_topi (fun v26 e26 => ?_)
    exact g_iret C _ V ⟨rfl, e26⟩ d_P_get_27
  · exact absurd c3 (nk_ne (b := 120) (by omega) (by decide) (by omega))
set_option maxHeartbeats 200000 in
set_option maxRecDepth 20000 in
/-- Plain.get at the table -/
theorem c_P_getT (i : Nat) (hi : i < 8) : gMi lx D (ty3 cI cZ cJ) (XW h cI cZ) y_P_get b_P_get 3 (some .int) ({ frames := 0, cells := 0, slots := 0, locals := 0 } : Room) 0 0 [.ref (h 1), .int 120, .int (nI i)] ((XW h cI cZ) u) (fun r u' => u = u' ∧ r = xR u i) := by
  refine gMi.of (by decide) (Nat.le_of_ble_eq_true rfl) (fun pg ev st md bl mt cd A ls C hmn hl V => ?_)
  have hl : lv_has ls 3 [(0, .ref (h 1)), (1, .int 120), (2, .int (nI i))] := hl
  refine lv_iload_n C.x C.b d_P_get_0 rfl (lv_at hl 1 rfl) ?_
  refine lv_bipush (v := 120) C.x C.b d_P_get_1 (by decide) ?_
  refine lv_icmp_ne (tgt := 15) C.x C.b d_P_get_3 (by decide) (fun c3 => ?_) (fun c3 => ?_)
  · exact absurd rfl c3
  · refine lv_aload_n C.x C.b d_P_get_6 rfl (lv_at hl 0 rfl) ?_
    refine xg_rows C V fl_P_15 d_P_get_7 ?_
    refine lv_iload_n C.x C.b d_P_get_10 rfl (lv_at hl 2 rfl) ?_
    refine xa_rows (i) C V rfl hi d_P_get_11 ?_
    refine lv_topi (fun v11 e11 => ?_)
    refine lv_goto (tgt := 27) C.x C.b d_P_get_12 (by decide) ?_
    exact g_iret C _ V ⟨rfl, e11⟩ d_P_get_27
set_option maxHeartbeats 200000 in
set_option maxRecDepth 20000 in
/-- Plain.put at an object that is no table -/
theorem c_P_put (k i : Nat) (v : Int32) (hk : k < 60) (hi : i < 4) : gMv lx D (ty3 cI cZ cJ) (XW h cI cZ) y_P_put b_P_put 4 ({ frames := 0, cells := 0, slots := 0, locals := 0 } : Room) 0 0 [.ref (h 1), .int (nI (2 * k)), .int (nI i), .int v] ((XW h cI cZ) u) (fun u' => u' = xC' u (upd (xC u) (4 * k + i) v)) := by
  refine gMv.of (by decide) (Nat.le_of_ble_eq_true rfl) (fun pg ev st md bl mt cd A ls C hmn hl V => ?_)
  have hl : lv_has ls 4 [(0, .ref (h 1)), (1, .int (nI (2 * k))), (2, .int (nI i)), (3, .int v)] := hl
  refine lv_iload_n C.x C.b d_P_put_0 rfl (lv_at hl 1 rfl) ?_
  refine lv_bipush (v := 120) C.x C.b d_P_put_1 (by decide) ?_
  refine lv_icmp_ne (tgt := 16) C.x C.b d_P_put_3 (by decide) (fun c3 => ?_) (fun c3 => ?_)
  · refine lv_aload_n C.x C.b d_P_put_16 rfl (lv_at hl 0 rfl) ?_
    refine xg_cells C V fl_P_9 d_P_put_17 ?_
    refine lv_iconst (v := 4) C.x C.b d_P_put_20 (by decide) ?_
    refine lv_iload_n C.x C.b d_P_put_21 rfl (lv_at hl 1 rfl) ?_
    refine lv_iconst (v := 1) C.x C.b d_P_put_22 (by decide) ?_
    refine lv_ishr C.x C.b d_P_put_23 ?_
    refine lv_topi (fun v23 e23 => ?_)
    refine lv_imul C.x C.b d_P_put_24 ?_
    refine lv_topi (fun v24 e24 => ?_)
    refine lv_iload_n C.x C.b d_P_put_25 rfl (lv_at hl 2 rfl) ?_
    refine lv_iadd C.x C.b d_P_put_26 ?_
    refine lv_topi (fun v26 e26 => ?_)
    refine lv_iload_n C.x C.b d_P_put_27 rfl (lv_at hl 3 rfl) ?_
    refine xs_cells (4 * k + i) C V (by rw [e26, e24, e23]; exact nk_ix (by omega)) (by omega) d_P_put_28 (fun H locs V => ?_)
    exact g_vret C _ V rfl d_P_put_29
  · exact absurd c3 (nk_ne (b := 120) (by omega) (by decide) (by omega))
set_option maxHeartbeats 200000 in
set_option maxRecDepth 20000 in
/-- Plain.put at the table -/
theorem c_P_putT (i : Nat) (v : Int32) (hi : i < 8) : gMv lx D (ty3 cI cZ cJ) (XW h cI cZ) y_P_put b_P_put 4 ({ frames := 0, cells := 0, slots := 0, locals := 0 } : Room) 0 0 [.ref (h 1), .int 120, .int (nI i), .int v] ((XW h cI cZ) u) (fun u' => u' = xR' u (upd (xR u) i v)) := by
  refine gMv.of (by decide) (Nat.le_of_ble_eq_true rfl) (fun pg ev st md bl mt cd A ls C hmn hl V => ?_)
  have hl : lv_has ls 4 [(0, .ref (h 1)), (1, .int 120), (2, .int (nI i)), (3, .int v)] := hl
  refine lv_iload_n C.x C.b d_P_put_0 rfl (lv_at hl 1 rfl) ?_
  refine lv_bipush (v := 120) C.x C.b d_P_put_1 (by decide) ?_
  refine lv_icmp_ne (tgt := 16) C.x C.b d_P_put_3 (by decide) (fun c3 => ?_) (fun c3 => ?_)
  · exact absurd rfl c3
  · refine lv_aload_n C.x C.b d_P_put_6 rfl (lv_at hl 0 rfl) ?_
    refine xg_rows C V fl_P_15 d_P_put_7 ?_
    refine lv_iload_n C.x C.b d_P_put_10 rfl (lv_at hl 2 rfl) ?_
    refine lv_iload_n C.x C.b d_P_put_11 rfl (lv_at hl 3 rfl) ?_
    refine xs_rows (i) C V rfl hi d_P_put_12 (fun H locs V => ?_)
    refine lv_goto (tgt := 29) C.x C.b d_P_put_13 (by decide) ?_
    exact g_vret C _ V rfl d_P_put_29
set_option maxHeartbeats 200000 in
set_option maxRecDepth 20000 in
/-- Plain.number -/
theorem c_P_number (k i : Nat) (x y : Int32) (hk : k < 60) (hi : i < 4) : gMi lx D (ty3 cI cZ cJ) (XW h cI cZ) y_P_number b_P_number 5 (some .int) ({ frames := 1, cells := 0, slots := 0, locals := 22 } : Room) 0 0 [.ref (h 1), .int (nI (2 * k)), .int (nI i), .int x, .int y] ((XW h cI cZ) u) (fun r u' => u = u' ∧ r = xC u (4 * k + i) >>> ((1 : Int32) &&& 31)) := by
  refine gMi.of (by decide) (Nat.le_of_ble_eq_true rfl) (fun pg ev st md bl mt cd A ls C hmn hl V => ?_)
  have hl : lv_has ls 5 [(0, .ref (h 1)), (1, .int (nI (2 * k))), (2, .int (nI i)), (3, .int x), (4, .int y)] := hl
  refine lv_aload_n C.x C.b d_P_number_0 rfl (lv_at hl 0 rfl) ?_
  refine lv_iload_n C.x C.b d_P_number_1 rfl (lv_at hl 1 rfl) ?_
  refine lv_iload_n C.x C.b d_P_number_2 rfl (lv_at hl 2 rfl) ?_
  refine g_iV (q0 := 1) (As := [.int (nI (2 * k)), .int (nI i)]) (rest := []) C V cs_P_18 (c_P_get k i hk hi) rfl rfl (by decide) rfl hl.1 rfl (Nat.le_of_ble_eq_true rfl) d_P_number_3 (fun r3 u3 H locs w3 V => ?_)
  obtain ⟨rfl, q3⟩ := w3
  refine lv_iconst (v := 1) C.x C.b d_P_number_6 (by decide) ?_
  refine lv_ishr C.x C.b d_P_number_7 ?_
  refine lv_topi (fun v7 e7 => ?_)
  exact g_iret C _ V ⟨rfl, by rw [e7, q3]⟩ d_P_number_8
set_option maxHeartbeats 200000 in
set_option maxRecDepth 20000 in
theorem c_P_row (x : Int32) : gMi lx D (ty3 cI cZ cJ) (XW h cI cZ) y_P_row b_P_row 2 (some .int) ({ frames := 0, cells := 0, slots := 0, locals := 0 } : Room) 0 0 [.ref (h 1), .int x] ((XW h cI cZ) u) (fun r u' => u = u' ∧ r = x) := by
  refine gMi.of (by decide) (Nat.le_of_ble_eq_true rfl) (fun pg ev st md bl mt cd A ls C hmn hl V => ?_)
  have hl : lv_has ls 2 [(0, .ref (h 1)), (1, .int x)] := hl
  refine lv_iload_n C.x C.b d_P_row_0 rfl (lv_at hl 1 rfl) ?_
  exact g_iret C _ V ⟨rfl, rfl⟩ d_P_row_1
set_option maxHeartbeats 200000 in
set_option maxRecDepth 20000 in
theorem c_P_process (x : Int32) : gMi lx D (ty3 cI cZ cJ) (XW h cI cZ) y_P_process b_P_process 2 (some .int) ({ frames := 0, cells := 0, slots := 0, locals := 0 } : Room) 0 0 [.ref (h 1), .int x] ((XW h cI cZ) u) (fun r u' => u = u' ∧ r = x) := by
  refine gMi.of (by decide) (Nat.le_of_ble_eq_true rfl) (fun pg ev st md bl mt cd A ls C hmn hl V => ?_)
  have hl : lv_has ls 2 [(0, .ref (h 1)), (1, .int x)] := hl
  refine lv_iload_n C.x C.b d_P_process_0 rfl (lv_at hl 1 rfl) ?_
  exact g_iret C _ V ⟨rfl, rfl⟩ d_P_process_1
end
section
variable {lx : Launch} {D : va_G} {cI cZ cJ : ClassId} {S : Type} {Wd : S → va_W} {u : S}
set_option maxHeartbeats 200000 in
set_option maxRecDepth 20000 in
theorem c_X_process (x : Int32)  : gMi lx D (ty3 cI cZ cJ) (Wd) y_X_process b_X_process 1 (some .int) ({ frames := 0, cells := 0, slots := 0, locals := 0 } : Room) 0 0 [.int x] ((Wd) u) (fun r u' => u = u' ∧ r = 2 + 2 * x) := by
  refine gMi.of (by decide) (Nat.le_of_ble_eq_true rfl) (fun pg ev st md bl mt cd A ls C hmn hl V => ?_)
  have hl : lv_has ls 1 [(0, .int x)] := hl
  refine lv_iconst (v := 2) C.x C.b d_X_process_0 (by decide) ?_
  refine lv_iconst (v := 2) C.x C.b d_X_process_1 (by decide) ?_
  refine lv_iload_n C.x C.b d_X_process_2 rfl (lv_at hl 0 rfl) ?_
  refine lv_imul C.x C.b d_X_process_3 ?_
  refine lv_topi (fun v3 e3 => ?_)
  refine lv_iadd C.x C.b d_X_process_4 ?_
  refine lv_topi (fun v4 e4 => ?_)
  exact g_iret C _ V ⟨rfl, by rw [e4, e3]⟩ d_X_process_5
set_option maxHeartbeats 200000 in
set_option maxRecDepth 20000 in
theorem c_X_semaphore (x : Int32)  : gMi lx D (ty3 cI cZ cJ) (Wd) y_X_semaphore b_X_semaphore 1 (some .int) ({ frames := 0, cells := 0, slots := 0, locals := 0 } : Room) 0 0 [.int x] ((Wd) u) (fun r u' => u = u' ∧ r = 66 + 2 * x) := by
  refine gMi.of (by decide) (Nat.le_of_ble_eq_true rfl) (fun pg ev st md bl mt cd A ls C hmn hl V => ?_)
  have hl : lv_has ls 1 [(0, .int x)] := hl
  refine lv_bipush (v := 66) C.x C.b d_X_semaphore_0 (by decide) ?_
  refine lv_iconst (v := 2) C.x C.b d_X_semaphore_2 (by decide) ?_
  refine lv_iload_n C.x C.b d_X_semaphore_3 rfl (lv_at hl 0 rfl) ?_
  refine lv_imul C.x C.b d_X_semaphore_4 ?_
  refine lv_topi (fun v4 e4 => ?_)
  refine lv_iadd C.x C.b d_X_semaphore_5 ?_
  refine lv_topi (fun v5 e5 => ?_)
  exact g_iret C _ V ⟨rfl, by rw [e5, e4]⟩ d_X_semaphore_6
set_option maxHeartbeats 200000 in
set_option maxRecDepth 20000 in
theorem c_X_numberOf (x : Int32)  : gMi lx D (ty3 cI cZ cJ) (Wd) y_X_numberOf b_X_numberOf 1 (some .int) ({ frames := 0, cells := 0, slots := 0, locals := 0 } : Room) 0 0 [.int x] ((Wd) u) (fun r u' => u = u' ∧ r = if x = 0 then -1 else x / 2 - 1) := by
  refine gMi.of (by decide) (Nat.le_of_ble_eq_true rfl) (fun pg ev st md bl mt cd A ls C hmn hl V => ?_)
  have hl : lv_has ls 1 [(0, .int x)] := hl
  refine lv_iload_n C.x C.b d_X_numberOf_0 rfl (lv_at hl 0 rfl) ?_
  refine lv_if_ne (tgt := 8) C.x C.b d_X_numberOf_1 (by decide) (fun c1 => ?_) (fun c1 => ?_)
  · refine lv_iload_n C.x C.b d_X_numberOf_8 rfl (lv_at hl 0 rfl) ?_
    refine lv_iconst (v := 2) C.x C.b d_X_numberOf_9 (by decide) ?_
    refine lv_idiv C.x C.b d_X_numberOf_10 (by decide) ?_
    refine lv_topi (fun v10 e10 => ?_)
    refine lv_iconst (v := 1) C.x C.b d_X_numberOf_11 (by decide) ?_
    refine lv_isub C.x C.b d_X_numberOf_12 ?_
    refine lv_topi (fun v12 e12 => ?_)
    exact g_iret C _ V ⟨rfl, by rw [if_neg c1, e12, e10]⟩ d_X_numberOf_13
  · refine lv_iconst (v := -1) C.x C.b d_X_numberOf_4 (by decide) ?_
    refine lv_goto (tgt := 13) C.x C.b d_X_numberOf_5 (by decide) ?_
    exact g_iret C _ V ⟨rfl, by rw [if_pos c1]⟩ d_X_numberOf_13
set_option maxHeartbeats 200000 in
set_option maxRecDepth 20000 in
theorem c_S_small (x : Int32)  : gMi lx D (ty3 cI cZ cJ) (Wd) y_S_small b_S_small 1 (some .int) ({ frames := 0, cells := 0, slots := 0, locals := 0 } : Room) 0 0 [.int x] ((Wd) u) (fun r u' => u = u' ∧ r = (x <<< ((1 : Int32) &&& 31)) ||| 1) := by
  refine gMi.of (by decide) (Nat.le_of_ble_eq_true rfl) (fun pg ev st md bl mt cd A ls C hmn hl V => ?_)
  have hl : lv_has ls 1 [(0, .int x)] := hl
  refine lv_iload_n C.x C.b d_S_small_0 rfl (lv_at hl 0 rfl) ?_
  refine lv_iconst (v := 1) C.x C.b d_S_small_1 (by decide) ?_
  refine lv_ishl C.x C.b d_S_small_2 ?_
  refine lv_topi (fun v2 e2 => ?_)
  refine lv_iconst (v := 1) C.x C.b d_S_small_3 (by decide) ?_
  refine lv_ior C.x C.b d_S_small_4 ?_
  refine lv_topi (fun v4 e4 => ?_)
  exact g_iret C _ V ⟨rfl, by rw [e4, e2]⟩ d_S_small_5
set_option maxHeartbeats 200000 in
set_option maxRecDepth 20000 in
theorem c_X_isSemaphore (x : Int32)  : gMi lx D (ty3 cI cZ cJ) (Wd) y_X_isSemaphore b_X_isSemaphore 1 (some .boolean) ({ frames := 0, cells := 0, slots := 0, locals := 0 } : Room) 0 0 [.int x] ((Wd) u) (fun r u' => u = u' ∧ r = if ¬ x < 0 ∧ x < 16 then 1 else 0) := by
  refine gMi.of (by decide) (Nat.le_of_ble_eq_true rfl) (fun pg ev st md bl mt cd A ls C hmn hl V => ?_)
  have hl : lv_has ls 1 [(0, .int x)] := hl
  refine lv_iload_n C.x C.b d_X_isSemaphore_0 rfl (lv_at hl 0 rfl) ?_
  refine lv_if_lt (tgt := 14) C.x C.b d_X_isSemaphore_1 (by decide) (fun c1 => ?_) (fun c1 => ?_)
  · refine lv_iconst (v := 0) C.x C.b d_X_isSemaphore_14 (by decide) ?_
    exact g_zret C _ V ⟨rfl, by simp_all [Int32.not_le]⟩ (by simp) d_X_isSemaphore_15
  · refine lv_iload_n C.x C.b d_X_isSemaphore_4 rfl (lv_at hl 0 rfl) ?_
    refine lv_bipush (v := 16) C.x C.b d_X_isSemaphore_5 (by decide) ?_
    refine lv_icmp_ge (tgt := 14) C.x C.b d_X_isSemaphore_7 (by decide) (fun c7 => ?_) (fun c7 => ?_)
    · refine lv_iconst (v := 0) C.x C.b d_X_isSemaphore_14 (by decide) ?_
      exact g_zret C _ V ⟨rfl, by simp_all [Int32.not_le]⟩ (by simp) d_X_isSemaphore_15
    · refine lv_iconst (v := 1) C.x C.b d_X_isSemaphore_10 (by decide) ?_
      refine lv_goto (tgt := 15) C.x C.b d_X_isSemaphore_11 (by decide) ?_
      exact g_zret C _ V ⟨rfl, by simp_all [Int32.not_le]⟩ (by simp) d_X_isSemaphore_15
set_option maxHeartbeats 200000 in
set_option maxRecDepth 20000 in
theorem c_M_isSemaphore (x : Int32)  : gMi lx D (ty3 cI cZ cJ) (Wd) y_M_isSemaphore b_M_isSemaphore 1 (some .boolean) ({ frames := 0, cells := 0, slots := 0, locals := 0 } : Room) 0 0 [.int x] ((Wd) u) (fun r u' => u = u' ∧ r = if ¬ x < 0 ∧ x < 16 then 1 else 0) := by
  refine gMi.of (by decide) (Nat.le_of_ble_eq_true rfl) (fun pg ev st md bl mt cd A ls C hmn hl V => ?_)
  have hl : lv_has ls 1 [(0, .int x)] := hl
  refine lv_iload_n C.x C.b d_M_isSemaphore_0 rfl (lv_at hl 0 rfl) ?_
  refine lv_if_lt (tgt := 14) C.x C.b d_M_isSemaphore_1 (by decide) (fun c1 => ?_) (fun c1 => ?_)
  · refine lv_iconst (v := 0) C.x C.b d_M_isSemaphore_14 (by decide) ?_
    exact g_zret C _ V ⟨rfl, by simp_all [Int32.not_le]⟩ (by simp) d_M_isSemaphore_15
  · refine lv_iload_n C.x C.b d_M_isSemaphore_4 rfl (lv_at hl 0 rfl) ?_
    refine lv_bipush (v := 16) C.x C.b d_M_isSemaphore_5 (by decide) ?_
    refine lv_icmp_ge (tgt := 14) C.x C.b d_M_isSemaphore_7 (by decide) (fun c7 => ?_) (fun c7 => ?_)
    · refine lv_iconst (v := 0) C.x C.b d_M_isSemaphore_14 (by decide) ?_
      exact g_zret C _ V ⟨rfl, by simp_all [Int32.not_le]⟩ (by simp) d_M_isSemaphore_15
    · refine lv_iconst (v := 1) C.x C.b d_M_isSemaphore_10 (by decide) ?_
      refine lv_goto (tgt := 15) C.x C.b d_M_isSemaphore_11 (by decide) ?_
      exact g_zret C _ V ⟨rfl, by simp_all [Int32.not_le]⟩ (by simp) d_M_isSemaphore_15
set_option maxHeartbeats 200000 in
set_option maxRecDepth 20000 in
theorem c_M_isProcess (x : Int32)  : gMi lx D (ty3 cI cZ cJ) (Wd) y_M_isProcess b_M_isProcess 1 (some .boolean) ({ frames := 0, cells := 0, slots := 0, locals := 0 } : Room) 0 0 [.int x] ((Wd) u) (fun r u' => u = u' ∧ r = if ¬ x < 0 ∧ x < 32 then 1 else 0) := by
  refine gMi.of (by decide) (Nat.le_of_ble_eq_true rfl) (fun pg ev st md bl mt cd A ls C hmn hl V => ?_)
  have hl : lv_has ls 1 [(0, .int x)] := hl
  refine lv_iload_n C.x C.b d_M_isProcess_0 rfl (lv_at hl 0 rfl) ?_
  refine lv_if_lt (tgt := 14) C.x C.b d_M_isProcess_1 (by decide) (fun c1 => ?_) (fun c1 => ?_)
  · refine lv_iconst (v := 0) C.x C.b d_M_isProcess_14 (by decide) ?_
    exact g_zret C _ V ⟨rfl, by simp_all [Int32.not_le]⟩ (by simp) d_M_isProcess_15
  · refine lv_iload_n C.x C.b d_M_isProcess_4 rfl (lv_at hl 0 rfl) ?_
    refine lv_bipush (v := 32) C.x C.b d_M_isProcess_5 (by decide) ?_
    refine lv_icmp_ge (tgt := 14) C.x C.b d_M_isProcess_7 (by decide) (fun c7 => ?_) (fun c7 => ?_)
    · refine lv_iconst (v := 0) C.x C.b d_M_isProcess_14 (by decide) ?_
      exact g_zret C _ V ⟨rfl, by simp_all [Int32.not_le]⟩ (by simp) d_M_isProcess_15
    · refine lv_iconst (v := 1) C.x C.b d_M_isProcess_10 (by decide) ?_
      refine lv_goto (tgt := 15) C.x C.b d_M_isProcess_11 (by decide) ?_
      exact g_zret C _ V ⟨rfl, by simp_all [Int32.not_le]⟩ (by simp) d_M_isProcess_15
set_option maxHeartbeats 200000 in
set_option maxRecDepth 20000 in
theorem c_X_isPriority (x : Int32)  : gMi lx D (ty3 cI cZ cJ) (Wd) y_X_isPriority b_X_isPriority 1 (some .boolean) ({ frames := 0, cells := 0, slots := 0, locals := 0 } : Room) 0 0 [.int x] ((Wd) u) (fun r u' => u = u' ∧ r = if ¬ x < 1 ∧ ¬ 8 < x then 1 else 0) := by
  refine gMi.of (by decide) (Nat.le_of_ble_eq_true rfl) (fun pg ev st md bl mt cd A ls C hmn hl V => ?_)
  have hl : lv_has ls 1 [(0, .int x)] := hl
  refine lv_iload_n C.x C.b d_X_isPriority_0 rfl (lv_at hl 0 rfl) ?_
  refine lv_iconst (v := 1) C.x C.b d_X_isPriority_1 (by decide) ?_
  refine lv_icmp_lt (tgt := 15) C.x C.b d_X_isPriority_2 (by decide) (fun c2 => ?_) (fun c2 => ?_)
  · refine lv_iconst (v := 0) C.x C.b d_X_isPriority_15 (by decide) ?_
    exact g_zret C _ V ⟨rfl, by simp_all⟩ (by simp) d_X_isPriority_16
  · refine lv_iload_n C.x C.b d_X_isPriority_5 rfl (lv_at hl 0 rfl) ?_
    refine lv_bipush (v := 8) C.x C.b d_X_isPriority_6 (by decide) ?_
    refine lv_icmp_gt (tgt := 15) C.x C.b d_X_isPriority_8 (by decide) (fun c8 => ?_) (fun c8 => ?_)
    · refine lv_iconst (v := 0) C.x C.b d_X_isPriority_15 (by decide) ?_
      exact g_zret C _ V ⟨rfl, by simp_all⟩ (by simp) d_X_isPriority_16
    · refine lv_iconst (v := 1) C.x C.b d_X_isPriority_11 (by decide) ?_
      refine lv_goto (tgt := 16) C.x C.b d_X_isPriority_12 (by decide) ?_
      exact g_zret C _ V ⟨rfl, by simp_all⟩ (by simp) d_X_isPriority_16
set_option maxHeartbeats 200000 in
set_option maxRecDepth 20000 in
theorem c_M_isPriority (x : Int32)  : gMi lx D (ty3 cI cZ cJ) (Wd) y_M_isPriority b_M_isPriority 1 (some .boolean) ({ frames := 0, cells := 0, slots := 0, locals := 0 } : Room) 0 0 [.int x] ((Wd) u) (fun r u' => u = u' ∧ r = if ¬ x < 1 ∧ ¬ 8 < x then 1 else 0) := by
  refine gMi.of (by decide) (Nat.le_of_ble_eq_true rfl) (fun pg ev st md bl mt cd A ls C hmn hl V => ?_)
  have hl : lv_has ls 1 [(0, .int x)] := hl
  refine lv_iload_n C.x C.b d_M_isPriority_0 rfl (lv_at hl 0 rfl) ?_
  refine lv_iconst (v := 1) C.x C.b d_M_isPriority_1 (by decide) ?_
  refine lv_icmp_lt (tgt := 15) C.x C.b d_M_isPriority_2 (by decide) (fun c2 => ?_) (fun c2 => ?_)
  · refine lv_iconst (v := 0) C.x C.b d_M_isPriority_15 (by decide) ?_
    exact g_zret C _ V ⟨rfl, by simp_all⟩ (by simp) d_M_isPriority_16
  · refine lv_iload_n C.x C.b d_M_isPriority_5 rfl (lv_at hl 0 rfl) ?_
    refine lv_bipush (v := 8) C.x C.b d_M_isPriority_6 (by decide) ?_
    refine lv_icmp_gt (tgt := 15) C.x C.b d_M_isPriority_8 (by decide) (fun c8 => ?_) (fun c8 => ?_)
    · refine lv_iconst (v := 0) C.x C.b d_M_isPriority_15 (by decide) ?_
      exact g_zret C _ V ⟨rfl, by simp_all⟩ (by simp) d_M_isPriority_16
    · refine lv_iconst (v := 1) C.x C.b d_M_isPriority_11 (by decide) ?_
      refine lv_goto (tgt := 16) C.x C.b d_M_isPriority_12 (by decide) ?_
      exact g_zret C _ V ⟨rfl, by simp_all⟩ (by simp) d_M_isPriority_16
end
end
section
/-! THE MATHEMATICAL VALUE that both sides are tied to: queues by row; row, time of each process; the clock; made, priority, place; extra signals; posts; active, here, wanted, change -/
abbrev AS : Type := (Nat → List Nat) × (Nat → Nat) × (Nat → Nat) × Nat × (Nat → Bool) × (Nat → Nat) × (Nat → Int32) × (Nat → Nat) × List Nat × Option Nat × Int32 × Bool × Option Nat
abbrev aQ (a : AS) : Nat → List Nat := a.1
abbrev aR (a : AS) : Nat → Nat := a.2.1
abbrev aT (a : AS) : Nat → Nat := a.2.2.1
abbrev aN (a : AS) : Nat := a.2.2.2.1
abbrev aM (a : AS) : Nat → Bool := a.2.2.2.2.1
abbrev aP (a : AS) : Nat → Nat := a.2.2.2.2.2.1
abbrev aL (a : AS) : Nat → Int32 := a.2.2.2.2.2.2.1
abbrev aE (a : AS) : Nat → Nat := a.2.2.2.2.2.2.2.1
abbrev aO (a : AS) : List Nat := a.2.2.2.2.2.2.2.2.1
abbrev aA (a : AS) : Option Nat := a.2.2.2.2.2.2.2.2.2.1
abbrev aH (a : AS) : Int32 := a.2.2.2.2.2.2.2.2.2.2.1
abbrev aW (a : AS) : Bool := a.2.2.2.2.2.2.2.2.2.2.2.1
abbrev aC (a : AS) : Option Nat := a.2.2.2.2.2.2.2.2.2.2.2.2
/-- the present process -/
def a_pres (a : AS) : Option Nat := if aW a = true then aC a else aA a
/-- p comes last into the row r -/
def a_enq (a : AS) (p r : Nat) : AS := (va_up (aQ a) r (aQ a r ++ [p]), va_up (aR a) p r, va_up (aT a) p (aN a), aN a + 1, aM a, aP a, aL a, aE a, aO a, aA a, aH a, aW a, aC a)
/-- p leaves its row -/
def a_rem (a : AS) (p : Nat) : AS := (va_up (aQ a) (aR a p) ((aQ a (aR a p)).erase p), va_up (aR a) p 0, aT a, aN a, aM a, aP a, aL a, aE a, aO a, aA a, aH a, aW a, aC a)
def a_want (a : AS) (c : Option Nat) : AS := (aQ a, aR a, aT a, aN a, aM a, aP a, aL a, aE a, aO a, aA a, aH a, true, c)
def a_ext (a : AS) (s n : Nat) : AS := (aQ a, aR a, aT a, aN a, aM a, aP a, aL a, va_up (aE a) s n, aO a, aA a, aH a, aW a, aC a)
/-- the first of the highest ready row, from r down -/
def a_top (Q : Nat → List Nat) : Nat → Option Nat
  | 0 => none
  | r + 1 => match Q (r + 1) with
    | [] => a_top Q r
    | p :: _ => some p
def a_aside (a : AS) : AS := match a_top (aQ a) 8 with
  | none => a_want a none
  | some p => a_want (a_rem a p) (some p)
def a_wake (a : AS) (p : Nat) : AS := match a_pres a with
  | none => a_want a (some p)
  | some o => if aP a p ≤ aP a o then a_enq a p (aP a p) else a_want (a_enq a o (aP a o)) (some p)
def a_sig (a : AS) (s : Nat) : AS := match aQ a (16 + s) with
  | [] => a_ext a s (aE a s + 1)
  | p :: _ => a_wake (a_rem a p) p
def a_sigs (a : AS) : List Nat → AS
  | [] => a
  | s :: l => a_sigs (a_sig a s) l
/-- nothing is posted -/
def a_done (a : AS) : AS := (aQ a, aR a, aT a, aN a, aM a, aP a, aL a, aE a, [], aA a, aH a, aW a, aC a)
/-- the place at which the active one is put down -/
def a_lay (a : AS) : Nat → Int32 := match aA a with
  | none => aL a
  | some o => va_up (aL a) o (aH a)
def a_swap (a : AS) : AS := if aW a = true then (aQ a, aR a, aT a, aN a, aM a, aP a, a_lay a, aE a, aO a, aC a, (match aC a with | none => 0 | some c => a_lay a c), false, aC a) else a
/-- rows: 1 .. 8 ready, 16 .. 31 semaphores -/
def vR (r : Nat) : Prop := (1 ≤ r ∧ r ≤ 8) ∨ (16 ≤ r ∧ r < 32)
def Inv (a : AS) : Prop :=
  (∀ p, p < 32 → aR a p = 0 ∨ vR (aR a p)) ∧
  (∀ r p, vR r → (p ∈ aQ a r ↔ p < 32 ∧ aR a p = r)) ∧
  (∀ r, vR r → (aQ a r).Pairwise (fun x y => aT a x < aT a y)) ∧
  (∀ p, p < 32 → aR a p ≠ 0 → aT a p < aN a ∧ aM a p = true) ∧
  (∀ p, p < 32 → aM a p = true → 1 ≤ aP a p ∧ aP a p ≤ 8) ∧
  (∀ p, aA a = some p → p < 32 ∧ aM a p = true) ∧
  (aO a).length ≤ 40 ∧ ∀ s ∈ aO a, s < 16
/-- the present one is in no row -/
def Prs (a : AS) : Prop := ∀ p, a_pres a = some p → p < 32 ∧ aM a p = true ∧ aR a p = 0
def Bd (a : AS) (B : Nat) : Prop := aN a ≤ B ∧ ∀ s, aE a s ≤ B
section
variable {a : AS} {p r : Nat}
theorem Inv.row (I : Inv a) (h : p < 32) : aR a p = 0 ∨ vR (aR a p) := I.1 p h
theorem Inv.mem (I : Inv a) (h : vR r) : p ∈ aQ a r ↔ p < 32 ∧ aR a p = r := I.2.1 r p h
theorem Inv.srt (I : Inv a) (h : vR r) : (aQ a r).Pairwise (fun x y => aT a x < aT a y) := I.2.2.1 r h
theorem Inv.tim (I : Inv a) (h : p < 32) (hr : aR a p ≠ 0) : aT a p < aN a := (I.2.2.2.1 p h hr).1
theorem Inv.mad (I : Inv a) (h : p < 32) (hr : aR a p ≠ 0) : aM a p = true := (I.2.2.2.1 p h hr).2
theorem Inv.pri (I : Inv a) (h : p < 32) (hm : aM a p = true) : 1 ≤ aP a p ∧ aP a p ≤ 8 := I.2.2.2.2.1 p h hm
theorem Inv.act (I : Inv a) (h : aA a = some p) : p < 32 ∧ aM a p = true := I.2.2.2.2.2.1 p h
theorem Inv.len (I : Inv a) : (aO a).length ≤ 40 := I.2.2.2.2.2.2.1
theorem Inv.pst (I : Inv a) : ∀ s ∈ aO a, s < 16 := I.2.2.2.2.2.2.2
theorem Inv.nod (I : Inv a) (h : vR r) : (aQ a r).Nodup := (I.srt h).imp (fun q e => by subst e; exact Nat.lt_irrefl _ q)
theorem vR.pos (h : vR r) : r ≠ 0 := by unfold vR at h; omega
theorem Inv.vr (I : Inv a) (h : p < 32) (hr : aR a p ≠ 0) : vR (aR a p) := (I.row h).resolve_left hr
theorem Inv.hd (I : Inv a) (h : vR r) {l : List Nat} (e : aQ a r = p :: l) : p < 32 ∧ aR a p = r ∧ aM a p = true := by
  have h1 := (I.mem h (p := p)).mp (by rw [e]; exact List.mem_cons_self)
  exact ⟨h1.1, h1.2, I.mad h1.1 (by rw [h1.2]; exact h.pos)⟩
theorem up_s {α : Type} (f : Nat → α) (k : Nat) (v : α) : va_up f k v k = v := if_pos rfl
theorem up_n {α : Type} (f : Nat → α) {k j : Nat} (v : α) (h : j ≠ k) : va_up f k v j = f j := if_neg h
theorem inv_enq (I : Inv a) (hp : p < 32) (hm : aM a p = true) (hr : aR a p = 0) (hv : vR r) : Inv (a_enq a p r) := by
  refine ⟨fun q hq => ?_, fun r' q hr' => ?_, fun r' hr' => ?_, fun q hq hqr => ?_, I.2.2.2.2.1, I.2.2.2.2.2.1, I.len, I.pst⟩
  · show va_up (aR a) p r q = 0 ∨ vR (va_up (aR a) p r q)
    by_cases e : q = p
    · subst e; rw [up_s]; exact Or.inr hv
    · rw [up_n _ _ e]; exact I.row hq
  · show q ∈ va_up (aQ a) r (aQ a r ++ [p]) r' ↔ q < 32 ∧ va_up (aR a) p r q = r'
    by_cases e : r' = r
    · subst e
      rw [up_s, List.mem_append, I.mem hv, List.mem_singleton]
      by_cases eq : q = p
      · subst eq; rw [up_s]; simp [hp]
      · rw [up_n _ _ eq]; simp [eq]
    · rw [up_n _ _ e, I.mem hr']
      by_cases eq : q = p
      · subst eq; rw [up_s, hr]
        have := hr'.pos
        constructor
        · intro h; exact absurd h.2.symm this
        · intro h; exact absurd h.2.symm e
      · rw [up_n _ _ eq]
  · show (va_up (aQ a) r (aQ a r ++ [p]) r').Pairwise (fun x y => va_up (aT a) p (aN a) x < va_up (aT a) p (aN a) y)
    have keep : ∀ (r2 : Nat), vR r2 → (aQ a r2).Pairwise (fun x y => va_up (aT a) p (aN a) x < va_up (aT a) p (aN a) y) := by
      intro r2 h2
      refine List.Pairwise.imp_of_mem ?_ (I.srt h2)
      intro x y hx hy hxy
      have hx' := (I.mem h2).mp hx
      have hy' := (I.mem h2).mp hy
      have hz := h2.pos
      rw [up_n _ _ (fun e => hz (by rw [← hx'.2, e, hr])), up_n _ _ (fun e => hz (by rw [← hy'.2, e, hr]))]
      exact hxy
    by_cases e : r' = r
    · subst e
      rw [up_s]
      refine List.pairwise_append.mpr ⟨keep _ hv, List.pairwise_singleton _ _, ?_⟩
      intro x hx y hy
      rw [List.mem_singleton.mp hy, up_s]
      have hx' := (I.mem hv).mp hx
      have hz := hv.pos
      rw [up_n _ _ (fun e => hz (by rw [← hx'.2, e, hr]))]
      exact I.tim hx'.1 (by rw [hx'.2]; exact hz)
    · rw [up_n _ _ e]; exact keep _ hr'
  · have hqr : va_up (aR a) p r q ≠ 0 := hqr
    show va_up (aT a) p (aN a) q < aN a + 1 ∧ aM a q = true
    by_cases e : q = p
    · subst e; rw [up_s]; exact ⟨Nat.lt_succ_self _, hm⟩
    · rw [up_n _ _ e] at hqr ⊢
      exact ⟨Nat.lt_succ_of_lt (I.tim hq hqr), I.mad hq hqr⟩
theorem inv_rem (I : Inv a) (hp : p < 32) (hr : aR a p ≠ 0) : Inv (a_rem a p) := by
  have hv := I.vr hp hr
  refine ⟨fun q hq => ?_, fun r' q hr' => ?_, fun r' hr' => ?_, fun q hq hqr => ?_, I.2.2.2.2.1, I.2.2.2.2.2.1, I.len, I.pst⟩
  · show va_up (aR a) p 0 q = 0 ∨ vR (va_up (aR a) p 0 q)
    by_cases e : q = p
    · subst e; rw [up_s]; exact Or.inl rfl
    · rw [up_n _ _ e]; exact I.row hq
  · show q ∈ va_up (aQ a) (aR a p) ((aQ a (aR a p)).erase p) r' ↔ q < 32 ∧ va_up (aR a) p 0 q = r'
    by_cases e : r' = aR a p
    · subst e
      rw [up_s]
      by_cases eq : q = p
      · subst eq; rw [up_s]
        constructor
        · intro h; exact absurd h ((I.nod hv).not_mem_erase)
        · intro h; exact absurd h.2.symm hr
      · rw [up_n _ _ eq, List.mem_erase_of_ne eq, I.mem hv]
    · rw [up_n _ _ e, I.mem hr']
      by_cases eq : q = p
      · subst eq; rw [up_s]
        have := hr'.pos
        constructor
        · intro h; exact absurd h.2.symm e
        · intro h; exact absurd h.2.symm this
      · rw [up_n _ _ eq]
  · show (va_up (aQ a) (aR a p) ((aQ a (aR a p)).erase p) r').Pairwise _
    by_cases e : r' = aR a p
    · subst e; rw [up_s]; exact (I.srt hv).sublist List.erase_sublist
    · rw [up_n _ _ e]; exact I.srt hr'
  · have hqr : va_up (aR a) p 0 q ≠ 0 := hqr
    by_cases e : q = p
    · subst e; rw [up_s] at hqr; exact absurd rfl hqr
    · rw [up_n _ _ e] at hqr; exact ⟨I.tim hq hqr, I.mad hq hqr⟩
theorem inv_want (I : Inv a) (c : Option Nat) : Inv (a_want a c) := I
theorem inv_ext (I : Inv a) (s n : Nat) : Inv (a_ext a s n) := I
theorem pres_want (c : Option Nat) : a_pres (a_want a c) = c := rfl
theorem top_spec (Q : Nat → List Nat) : ∀ n, (∃ p r l, a_top Q n = some p ∧ 1 ≤ r ∧ r ≤ n ∧ Q r = p :: l ∧ ∀ r', r < r' → r' ≤ n → Q r' = []) ∨ (a_top Q n = none ∧ ∀ r, 1 ≤ r → r ≤ n → Q r = [])
  | 0 => Or.inr ⟨rfl, fun r h1 h2 => by omega⟩
  | n + 1 => by
    cases e : Q (n + 1) with
    | cons p l => exact Or.inl ⟨p, n + 1, l, by simp [a_top, e], by omega, Nat.le_refl _, e, fun r' h1 h2 => by omega⟩
    | nil =>
      have ht : a_top Q (n + 1) = a_top Q n := by simp [a_top, e]
      rcases top_spec Q n with ⟨p, r, l, h1, h2, h3, h4, h5⟩ | ⟨h1, h2⟩
      · refine Or.inl ⟨p, r, l, by rw [ht, h1], h2, by omega, h4, fun r' g1 g2 => ?_⟩
        by_cases e2 : r' = n + 1
        · subst e2; exact e
        · exact h5 r' g1 (by omega)
      · refine Or.inr ⟨by rw [ht, h1], fun r g1 g2 => ?_⟩
        by_cases e2 : r = n + 1
        · subst e2; exact e
        · exact h2 r g1 (by omega)
theorem inv_aside (I : Inv a) : Inv (a_aside a) ∧ Prs (a_aside a) := by
  unfold a_aside
  rcases top_spec (aQ a) 8 with ⟨q, r, l, h1, h2, h3, h4, -⟩ | ⟨h1, -⟩
  · rw [h1]
    have hv : vR r := Or.inl ⟨h2, h3⟩
    have hd := I.hd hv h4
    refine ⟨inv_want (inv_rem I hd.1 (by rw [hd.2.1]; exact hv.pos)) _, fun x hx => ?_⟩
    have hx : some q = some x := hx
    cases hx
    exact ⟨hd.1, hd.2.2, up_s _ _ _⟩
  · rw [h1]
    exact ⟨inv_want I _, fun x hx => by cases (show (none : Option Nat) = some x from hx)⟩
theorem inv_wake (I : Inv a) (P : Prs a) (hp : p < 32) (hm : aM a p = true) (hr : aR a p = 0) (hn : a_pres a ≠ some p) : Inv (a_wake a p) ∧ Prs (a_wake a p) := by
  unfold a_wake
  cases e : a_pres a with
  | none => exact ⟨inv_want I _, fun x hx => by cases (show some p = some x from hx); exact ⟨hp, hm, hr⟩⟩
  | some o =>
    have ho := P o e
    have pp := I.pri hp hm
    have po := I.pri ho.1 ho.2.1
    have hop : o ≠ p := fun q => hn (by rw [e, q])
    dsimp only
    by_cases hc : aP a p ≤ aP a o
    · rw [if_pos hc]
      refine ⟨inv_enq I hp hm hr (Or.inl pp), fun x hx => ?_⟩
      have hx : a_pres a = some x := hx
      rw [e] at hx; cases hx
      exact ⟨ho.1, ho.2.1, by show va_up (aR a) p (aP a p) o = 0; rw [up_n _ _ hop]; exact ho.2.2⟩
    · rw [if_neg hc]
      refine ⟨inv_want (inv_enq I ho.1 ho.2.1 ho.2.2 (Or.inl po)) _, fun x hx => ?_⟩
      cases (show some p = some x from hx)
      exact ⟨hp, hm, by show va_up (aR a) o (aP a o) p = 0; rw [up_n _ _ (Ne.symm hop)]; exact hr⟩
theorem prs_rem (P : Prs a) : Prs (a_rem a p) := fun x hx => by
  have h := P x hx
  refine ⟨h.1, h.2.1, ?_⟩
  show va_up (aR a) p 0 x = 0
  by_cases e : x = p
  · subst e; exact up_s _ _ _
  · rw [up_n _ _ e]; exact h.2.2
theorem inv_sig (I : Inv a) (P : Prs a) {s : Nat} (hs : s < 16) : Inv (a_sig a s) ∧ Prs (a_sig a s) := by
  unfold a_sig
  have hv : vR (16 + s) := Or.inr ⟨by omega, by omega⟩
  cases e : aQ a (16 + s) with
  | nil => exact ⟨inv_ext I _ _, P⟩
  | cons q l =>
    have hd := I.hd hv e
    have hr : aR a q ≠ 0 := by rw [hd.2.1]; exact hv.pos
    exact inv_wake (inv_rem I hd.1 hr) (prs_rem P) hd.1 hd.2.2 (up_s _ _ _) (fun hx => hr (P q hx).2.2)
theorem bd_enq {B : Nat} (h : Bd a B) : Bd (a_enq a p r) (B + 1) := ⟨Nat.succ_le_succ h.1, fun s => Nat.le_succ_of_le (h.2 s)⟩
theorem bd_up {B B' : Nat} (h : Bd a B) (hb : B ≤ B') : Bd a B' := ⟨Nat.le_trans h.1 hb, fun s => Nat.le_trans (h.2 s) hb⟩
theorem bd_wake {B : Nat} (h : Bd a B) : Bd (a_wake a p) (B + 1) := by
  unfold a_wake
  cases a_pres a with
  | none => exact bd_up (a := a_want a (some p)) h (Nat.le_succ _)
  | some o =>
    dsimp only
    by_cases hc : aP a p ≤ aP a o
    · rw [if_pos hc]; exact bd_enq h
    · rw [if_neg hc]; exact bd_enq (p := o) (r := aP a o) h
theorem bd_aside {B : Nat} (h : Bd a B) : Bd (a_aside a) B := by
  unfold a_aside
  cases a_top (aQ a) 8 with
  | none => exact h
  | some q => exact h
theorem bd_sig {B s : Nat} (h : Bd a B) : Bd (a_sig a s) (B + 1) := by
  unfold a_sig
  cases aQ a (16 + s) with
  | nil =>
    refine ⟨Nat.le_succ_of_le h.1, fun t => ?_⟩
    show va_up (aE a) s (aE a s + 1) t ≤ B + 1
    by_cases e : t = s
    · subst e; rw [up_s]; exact Nat.succ_le_succ (h.2 t)
    · rw [up_n _ _ e]; exact Nat.le_succ_of_le (h.2 t)
  | cons q l => exact bd_wake (a := a_rem a q) h
end
end
section
/-! the component's cells hold the value: links -/
def eO : Option Nat → Int32
  | none => 0
  | some p => nI (2 * (p + 1))
/-- the object of a row, halved -/
def kR (r : Nat) : Nat := if r < 16 then 48 + r else 17 + r
def eR (r : Nat) : Int32 := if r = 0 then 0 else nI (2 * kR r)
def ch (f : Nat → Int32) : List Nat → Prop
  | [] => True
  | p :: l => f (4 * (p + 1)) = eO l.head? ∧ ch f l
def RC (f : Nat → Int32) (a : AS) : Prop :=
  (∀ p, p < 32 → f (4 * (p + 1) + 1) = aL a p) ∧
  (∀ p, p < 32 → aM a p = true → f (4 * (p + 1) + 2) = nI (2 * aP a p + 1)) ∧
  (∀ p, p < 32 → f (4 * (p + 1) + 3) = eR (aR a p)) ∧
  (∀ r, vR r → f (4 * kR r) = eO (aQ a r).head? ∧ f (4 * kR r + 1) = eO (aQ a r).getLast? ∧ ch f (aQ a r)) ∧
  (∀ s, s < 16 → f (4 * (33 + s) + 2) = nI (2 * aE a s + 1)) ∧
  f 228 = 120 ∧ f 229 = eO (aA a)
def RO (u : XS) (a : AS) : Prop :=
  (∀ j, j < 8 → xR u j = nI (98 + 2 * j)) ∧ xS u = 114 ∧ (∀ p, p < 32 → xM u p = if aM a p = true then 1 else 0) ∧ xN u = nI (aO a).length ∧ (∀ i s, (aO a)[i]? = some s → xP u i = nI (66 + 2 * s)) ∧ xW u = (if aW a = true then 1 else 0) ∧ xQ u = eO (aC a) ∧ xH u = aH a
def RX (u : XS) (a : AS) : Prop := RC (xC u) a ∧ RO u a
theorem kR_b {r : Nat} (h : vR r) : 33 ≤ kR r ∧ kR r ≤ 56 := by unfold vR at h; unfold kR; split <;> omega
theorem kR_i {r r' : Nat} (h : vR r) (h' : vR r') (e : kR r = kR r') : r = r' := by
  unfold vR at h h'; unfold kR at e; split at e <;> split at e <;> omega
theorem kR_s {s : Nat} (h : s < 16) : kR (16 + s) = 33 + s := by unfold kR; rw [if_neg (by omega)]; omega
theorem kR_r {n : Nat} (h : n ≤ 8) : kR n = 48 + n := by unfold kR; rw [if_pos (by omega)]
theorem eR_v {r : Nat} (h : vR r) : eR r = nI (2 * kR r) := if_neg h.pos
theorem eO_0 {o : Option Nat} (hb : ∀ p, o = some p → p < 32) : eO o = 0 ↔ o = none := by
  cases o with
  | none => exact ⟨fun _ => rfl, fun _ => rfl⟩
  | some p =>
    have := hb p rfl
    refine ⟨fun h => ?_, fun h => by cases h⟩
    exact absurd h (nI_ne0 (by omega) (by omega))
theorem eO_i {o o' : Option Nat} (hb : ∀ p, o = some p → p < 32) (hb' : ∀ p, o' = some p → p < 32) : eO o = eO o' ↔ o = o' := by
  refine ⟨fun h => ?_, fun h => by rw [h]⟩
  cases o with
  | none => exact ((eO_0 hb').mp h.symm).symm
  | some p =>
    cases o' with
    | none => exact (eO_0 hb).mp h
    | some q =>
      have h1 := hb p rfl
      have h2 := hb' q rfl
      have := (nI_eq (by omega) (by omega)).mp (show nI (2 * (p + 1)) = nI (2 * (q + 1)) from h)
      congr 1
      omega
theorem ch_eq {f g : Nat → Int32} : ∀ {l : List Nat}, (∀ p ∈ l, g (4 * (p + 1)) = f (4 * (p + 1))) → ch f l → ch g l
  | [], _, _ => trivial
  | p :: l, h, hc => ⟨by rw [h p List.mem_cons_self]; exact hc.1, ch_eq (fun q hq => h q (List.mem_cons_of_mem _ hq)) hc.2⟩
theorem ch_snoc {f g : Nat → Int32} {q p : Nat} (hq : g (4 * (q + 1)) = eO (some p)) (hp : g (4 * (p + 1)) = 0) : ∀ {l : List Nat}, (∀ x ∈ l, g (4 * (x + 1)) = f (4 * (x + 1))) → ch f (l ++ [q]) → ch g ((l ++ [q]) ++ [p])
  | [], _, _ => ⟨hq, hp, trivial⟩
  | x :: l, h, hc => by
    have hc : f (4 * (x + 1)) = eO (l ++ [q]).head? ∧ ch f (l ++ [q]) := hc
    refine ⟨?_, ch_snoc hq hp (fun y hy => h y (List.mem_cons_of_mem _ hy)) hc.2⟩
    show g (4 * (x + 1)) = eO ((l ++ [q]) ++ [p]).head?
    rw [h x List.mem_cons_self, hc.1]
    cases l <;> rfl
theorem ch_mid {f g : Nat → Int32} {b p : Nat} {C : List Nat} (hb : g (4 * (b + 1)) = eO C.head?) (hC : ∀ x ∈ C, g (4 * (x + 1)) = f (4 * (x + 1))) : ∀ {l : List Nat}, (∀ x ∈ l, g (4 * (x + 1)) = f (4 * (x + 1))) → ch f (l ++ b :: p :: C) → ch g (l ++ b :: C)
  | [], _, hc => ⟨hb, ch_eq hC hc.2.2⟩
  | x :: l, h, hc => by
    have hc : f (4 * (x + 1)) = eO (l ++ b :: p :: C).head? ∧ ch f (l ++ b :: p :: C) := hc
    refine ⟨?_, ch_mid hb hC (fun y hy => h y (List.mem_cons_of_mem _ hy)) hc.2⟩
    show g (4 * (x + 1)) = eO (l ++ b :: C).head?
    rw [h x List.mem_cons_self, hc.1]
    cases l <;> rfl
theorem ch_at {f : Nat → Int32} : ∀ {l : List Nat} {i q : Nat}, ch f l → l[i]? = some q → f (4 * (q + 1)) = eO l[i + 1]?
  | [], _, _, _, h => by simp at h
  | x :: l, 0, q, hc, h => by
    cases h
    rw [hc.1]
    cases l <;> rfl
  | x :: l, i + 1, q, hc, h => by
    have h : l[i]? = some q := h
    exact ch_at (l := l) hc.2 h
/-- what cells may change without changing the value: by a list of changed places -/
theorem RC.keep {f g : Nat → Int32} {a b : AS} (h : RC f a) (I : Inv a) (r p : Nat) (hv : vR r) (hp : p < 32)
    (e0 : aL b = aL a ∧ aM b = aM a ∧ aP b = aP a ∧ aE b = aE a ∧ aA b = aA a)
    (eR : ∀ q, q < 32 → q ≠ p → aR b q = aR a q) (eQ : ∀ r', r' ≠ r → aQ b r' = aQ a r')
    (h1 : ∀ q, q < 32 → g (4 * (q + 1) + 1) = f (4 * (q + 1) + 1)) (h2 : ∀ q, q < 32 → g (4 * (q + 1) + 2) = f (4 * (q + 1) + 2)) (h3 : ∀ q, q < 32 → q ≠ p → g (4 * (q + 1) + 3) = f (4 * (q + 1) + 3)) (h3p : g (4 * (p + 1) + 3) = _root_.Jvm.Pilot.@@N@@.eR (aR b p))
    (hk : ∀ k, 33 ≤ k → k ≤ 57 → k ≠ kR r → g (4 * k) = f (4 * k) ∧ g (4 * k + 1) = f (4 * k + 1)) (hx : ∀ k, 33 ≤ k → k < 49 → g (4 * k + 2) = f (4 * k + 2))
    (hn : ∀ r' q, vR r' → r' ≠ r → q ∈ aQ a r' → g (4 * (q + 1)) = f (4 * (q + 1)))
    (hq : g (4 * kR r) = eO (aQ b r).head? ∧ g (4 * kR r + 1) = eO (aQ b r).getLast? ∧ ch g (aQ b r)) : RC g b := by
  obtain ⟨q1, q2, q3, q4, q5, q6, q7⟩ := h
  obtain ⟨e1, e2, e3, e4, e5⟩ := e0
  have kb := kR_b hv
  refine ⟨fun q h => ?_, fun q h hm => ?_, fun q h => ?_, fun r' hr' => ?_, fun s hs => ?_, ?_, ?_⟩
  · rw [h1 q h, q1 q h, e1]
  · rw [e2] at hm; rw [h2 q h, q2 q h hm, e3]
  · by_cases e : q = p
    · subst e; exact h3p
    · rw [h3 q h e, q3 q h, eR q h e]
  · by_cases e : r' = r
    · subst e; exact hq
    · obtain ⟨c1, c2, c3⟩ := q4 r' hr'
      have kb' := kR_b hr'
      have hne : kR r' ≠ kR r := fun z => e (kR_i hr' hv z)
      have hk' := hk (kR r') kb'.1 (by omega) hne
      rw [eQ r' e, hk'.1, hk'.2]
      exact ⟨c1, c2, ch_eq (fun q hq => hn r' q hr' e hq) c3⟩
  · rw [hx (33 + s) (by omega) (by omega), q5 s hs, e4]
  · have := (hk 57 (by omega) (by omega) (by omega)).1; rw [show 228 = 4 * 57 from rfl, this]; exact q6
  · have := (hk 57 (by omega) (by omega) (by omega)).2; rw [show 229 = 4 * 57 + 1 from rfl, this]; rw [e5]; exact q7
theorem ud_n {f : Nat → Int32} {k j : Nat} {x : Int32} (h : j ≠ k) : upd f k x j = f j := if_neg h
theorem ud_s {f : Nat → Int32} {k : Nat} {x : Int32} : upd f k x k = x := if_pos rfl
section
variable {f : Nat → Int32} {a : AS} {p r : Nat}
/-- into an empty row -/
theorem rc_add0 (h : RC f a) (I : Inv a) (hv : vR r) (hp : p < 32) (hr : aR a p = 0) (he : aQ a r = []) : RC (upd (upd (upd (upd f (4 * kR r) (eO (some p))) (4 * kR r + 1) (eO (some p))) (4 * (p + 1)) 0) (4 * (p + 1) + 3) (nI (2 * kR r))) (a_enq a p r) := by
  have kb := kR_b hv
  refine h.keep I r p hv hp ⟨rfl, rfl, rfl, rfl, rfl⟩ (fun q _ hq => up_n _ _ hq) (fun r' hr' => up_n _ _ hr') (fun q hq => ?_) (fun q hq => ?_) (fun q hq hqp => ?_) ?_ (fun k h1 h2 h3 => ?_) (fun k h1 h2 => ?_) (fun r' q hr' hrr hq => ?_) ?_
  · rw [ud_n (by omega), ud_n (by omega), ud_n (by omega), ud_n (by omega)]
  · rw [ud_n (by omega), ud_n (by omega), ud_n (by omega), ud_n (by omega)]
  · rw [ud_n (by omega), ud_n (by omega), ud_n (by omega), ud_n (by omega)]
  · rw [ud_s, show aR (a_enq a p r) p = r from up_s _ _ _, eR_v hv]
  · constructor <;> rw [ud_n (by omega), ud_n (by omega), ud_n (by omega), ud_n (by omega)]
  · rw [ud_n (by omega), ud_n (by omega), ud_n (by omega), ud_n (by omega)]
  · have hm := (I.mem hr').mp hq
    have hqp : q ≠ p := fun z => hr'.pos (by rw [← hm.2, z, hr])
    rw [ud_n (by omega), ud_n (by omega), ud_n (by omega), ud_n (by omega)]
  · rw [show aQ (a_enq a p r) r = [p] by show va_up _ _ _ _ = _; rw [up_s, he]; rfl]
    refine ⟨?_, ?_, ?_, trivial⟩
    · rw [ud_n (by omega), ud_n (by omega), ud_n (by omega), ud_s]; rfl
    · rw [ud_n (by omega), ud_n (by omega), ud_s]; rfl
    · rw [ud_n (by omega), ud_s]; rfl
/-- behind the last one -/
theorem rc_add1 (h : RC f a) (I : Inv a) (hv : vR r) (hp : p < 32) (hr : aR a p = 0) {l : List Nat} {q : Nat} (he : aQ a r = l ++ [q]) : RC (upd (upd (upd (upd f (4 * (q + 1)) (eO (some p))) (4 * kR r + 1) (eO (some p))) (4 * (p + 1)) 0) (4 * (p + 1) + 3) (nI (2 * kR r))) (a_enq a p r) := by
  have kb := kR_b hv
  have hqm := (I.mem hv (p := q)).mp (by rw [he]; simp)
  have hqp : q ≠ p := fun z => hv.pos (by rw [← hqm.2, z, hr])
  have hq32 := hqm.1
  have hnd := I.nod hv
  rw [he] at hnd
  refine h.keep I r p hv hp ⟨rfl, rfl, rfl, rfl, rfl⟩ (fun q _ hq => up_n _ _ hq) (fun r' hr' => up_n _ _ hr') (fun q hq => ?_) (fun q hq => ?_) (fun q hq hqp => ?_) ?_ (fun k h1 h2 h3 => ?_) (fun k h1 h2 => ?_) (fun r' x hr' hrr hx => ?_) ?_
  · rw [ud_n (by omega), ud_n (by omega), ud_n (by omega), ud_n (by omega)]
  · rw [ud_n (by omega), ud_n (by omega), ud_n (by omega), ud_n (by omega)]
  · rw [ud_n (by omega), ud_n (by omega), ud_n (by omega), ud_n (by omega)]
  · rw [ud_s, show aR (a_enq a p r) p = r from up_s _ _ _, eR_v hv]
  · constructor <;> rw [ud_n (by omega), ud_n (by omega), ud_n (by omega), ud_n (by omega)]
  · rw [ud_n (by omega), ud_n (by omega), ud_n (by omega), ud_n (by omega)]
  · have hm := (I.mem hr').mp hx
    have hxp : x ≠ p := fun z => hr'.pos (by rw [← hm.2, z, hr])
    have hxq : x ≠ q := fun z => hrr (by rw [← hm.2, z, hqm.2])
    have hx32 := hm.1
    rw [ud_n (by omega), ud_n (by omega), ud_n (by omega), ud_n (by omega)]
  · rw [show aQ (a_enq a p r) r = (l ++ [q]) ++ [p] by show va_up _ _ _ _ = _; rw [up_s, he]]
    have hold := h.2.2.2.1 r hv
    rw [he] at hold
    refine ⟨?_, ?_, ?_⟩
    · rw [ud_n (by omega), ud_n (by omega), ud_n (by omega), ud_n (by omega), hold.1]; cases l <;> rfl
    · rw [ud_n (by omega), ud_n (by omega), ud_s]; simp
    · refine ch_snoc ?_ ?_ (fun x hx => ?_) hold.2.2
      · rw [ud_n (by omega), ud_n (by omega), ud_n (by omega), ud_s]
      · rw [ud_n (by omega), ud_s]
      · have hm := (I.mem hv (p := x)).mp (by rw [he]; simp [hx])
        have hxp : x ≠ p := fun z => hv.pos (by rw [← hm.2, z, hr])
        have hxq : x ≠ q := fun z => by
          subst z
          have := List.nodup_append.mp hnd
          exact this.2.2 x hx x (by simp) rfl
        have hx32 := hm.1
        rw [ud_n (by omega), ud_n (by omega), ud_n (by omega), ud_n (by omega)]
/-- the first one goes; others stay -/
theorem rc_first1 (h : RC f a) (I : Inv a) (hv : vR r) {q : Nat} {l : List Nat} (he : aQ a r = p :: q :: l) : RC (upd (upd (upd f (4 * kR r) (eO (some q))) (4 * (p + 1)) 0) (4 * (p + 1) + 3) 0) (a_rem a p) := by
  have kb := kR_b hv
  have hd := I.hd hv he
  have hp := hd.1
  have hr : aR a p ≠ 0 := by rw [hd.2.1]; exact hv.pos
  have hnd := I.nod hv
  rw [he] at hnd
  have hpn : p ∉ q :: l := (List.nodup_cons.mp hnd).1
  have eqr : aQ (a_rem a p) r = q :: l := by
    show va_up _ (aR a p) _ _ = _
    rw [hd.2.1, up_s, he]; simp
  refine h.keep I r p hv hp ⟨rfl, rfl, rfl, rfl, rfl⟩ (fun q _ hq => up_n _ _ hq) (fun r' hr' => up_n _ _ (by rw [hd.2.1]; exact hr')) (fun q hq => ?_) (fun q hq => ?_) (fun q hq hqp => ?_) ?_ (fun k h1 h2 h3 => ?_) (fun k h1 h2 => ?_) (fun r' x hr' hrr hx => ?_) ?_
  · rw [ud_n (by omega), ud_n (by omega), ud_n (by omega)]
  · rw [ud_n (by omega), ud_n (by omega), ud_n (by omega)]
  · rw [ud_n (by omega), ud_n (by omega), ud_n (by omega)]
  · rw [ud_s, show aR (a_rem a p) p = 0 from up_s _ _ _]; rfl
  · constructor <;> rw [ud_n (by omega), ud_n (by omega), ud_n (by omega)]
  · rw [ud_n (by omega), ud_n (by omega), ud_n (by omega)]
  · have hm := (I.mem hr').mp hx
    have hxp : x ≠ p := fun z => hrr (by rw [← hm.2, z, hd.2.1])
    have hx32 := hm.1
    rw [ud_n (by omega), ud_n (by omega), ud_n (by omega)]
  · rw [eqr]
    have hold := h.2.2.2.1 r hv
    rw [he] at hold
    refine ⟨?_, ?_, ch_eq (fun x hx => ?_) hold.2.2.2⟩
    · rw [ud_n (by omega), ud_n (by omega), ud_s]; rfl
    · rw [ud_n (by omega), ud_n (by omega), ud_n (by omega), hold.2.1]; rfl
    · have hm := (I.mem hv (p := x)).mp (by rw [he]; exact List.mem_cons_of_mem _ hx)
      have hxp : x ≠ p := fun z => hpn (z ▸ hx)
      have hx32 := hm.1
      rw [ud_n (by omega), ud_n (by omega), ud_n (by omega)]
/-- the only one goes -/
theorem rc_first0 (h : RC f a) (I : Inv a) (hv : vR r) (he : aQ a r = [p]) : RC (upd (upd (upd (upd f (4 * kR r) 0) (4 * kR r + 1) 0) (4 * (p + 1)) 0) (4 * (p + 1) + 3) 0) (a_rem a p) := by
  have kb := kR_b hv
  have hd := I.hd hv he
  have hp := hd.1
  have hr : aR a p ≠ 0 := by rw [hd.2.1]; exact hv.pos
  have eqr : aQ (a_rem a p) r = [] := by
    show va_up _ (aR a p) _ _ = _
    rw [hd.2.1, up_s, he]; simp
  refine h.keep I r p hv hp ⟨rfl, rfl, rfl, rfl, rfl⟩ (fun q _ hq => up_n _ _ hq) (fun r' hr' => up_n _ _ (by rw [hd.2.1]; exact hr')) (fun q hq => ?_) (fun q hq => ?_) (fun q hq hqp => ?_) ?_ (fun k h1 h2 h3 => ?_) (fun k h1 h2 => ?_) (fun r' x hr' hrr hx => ?_) ?_
  · rw [ud_n (by omega), ud_n (by omega), ud_n (by omega), ud_n (by omega)]
  · rw [ud_n (by omega), ud_n (by omega), ud_n (by omega), ud_n (by omega)]
  · rw [ud_n (by omega), ud_n (by omega), ud_n (by omega), ud_n (by omega)]
  · rw [ud_s, show aR (a_rem a p) p = 0 from up_s _ _ _]; rfl
  · constructor <;> rw [ud_n (by omega), ud_n (by omega), ud_n (by omega), ud_n (by omega)]
  · rw [ud_n (by omega), ud_n (by omega), ud_n (by omega), ud_n (by omega)]
  · have hm := (I.mem hr').mp hx
    have hxp : x ≠ p := fun z => hrr (by rw [← hm.2, z, hd.2.1])
    have hx32 := hm.1
    rw [ud_n (by omega), ud_n (by omega), ud_n (by omega), ud_n (by omega)]
  · rw [eqr]
    refine ⟨?_, ?_, trivial⟩
    · rw [ud_n (by omega), ud_n (by omega), ud_n (by omega), ud_s]; rfl
    · rw [ud_n (by omega), ud_n (by omega), ud_s]; rfl
theorem er_mid {b : Nat} {A C : List Nat} (hn : (A ++ b :: p :: C).Nodup) : (A ++ b :: p :: C).erase p = A ++ b :: C := by
  have h1 := List.nodup_append.mp hn
  have hA : p ∉ A := fun h => h1.2.2 p h p (by simp) rfl
  have hb : b ≠ p := fun h => by
    have := (List.nodup_cons.mp h1.2.1).1
    exact this (by simp [h])
  rw [List.erase_append_right _ hA, List.erase_cons_tail (by simpa using hb), List.erase_cons_head]
/-- one in the midst goes, or the last one -/
theorem rc_mid1 (h : RC f a) (I : Inv a) (hv : vR r) {b q : Nat} {A C : List Nat} (he : aQ a r = A ++ b :: p :: q :: C) : RC (upd (upd (upd f (4 * (b + 1)) (eO (some q))) (4 * (p + 1)) 0) (4 * (p + 1) + 3) 0) (a_rem a p) := by
  have kb := kR_b hv
  have hpm := (I.mem hv (p := p)).mp (by rw [he]; simp)
  have hbm := (I.mem hv (p := b)).mp (by rw [he]; simp)
  have hp := hpm.1
  have hb32 := hbm.1
  have hnd := I.nod hv
  rw [he] at hnd
  have h1 := List.nodup_append.mp hnd
  have hbp : b ≠ p := fun z => (List.nodup_cons.mp h1.2.1).1 (by simp [z])
  have eqr : aQ (a_rem a p) r = A ++ b :: q :: C := by
    show va_up _ (aR a p) _ _ = _
    rw [hpm.2, up_s, he]; exact er_mid hnd
  refine h.keep I r p hv hp ⟨rfl, rfl, rfl, rfl, rfl⟩ (fun q _ hq => up_n _ _ hq) (fun r' hr' => up_n _ _ (by rw [hpm.2]; exact hr')) (fun q hq => ?_) (fun q hq => ?_) (fun q hq hqp => ?_) ?_ (fun k h1 h2 h3 => ?_) (fun k h1 h2 => ?_) (fun r' x hr' hrr hx => ?_) ?_
  · rw [ud_n (by omega), ud_n (by omega), ud_n (by omega)]
  · rw [ud_n (by omega), ud_n (by omega), ud_n (by omega)]
  · rw [ud_n (by omega), ud_n (by omega), ud_n (by omega)]
  · rw [ud_s, show aR (a_rem a p) p = 0 from up_s _ _ _]; rfl
  · constructor <;> rw [ud_n (by omega), ud_n (by omega), ud_n (by omega)]
  · rw [ud_n (by omega), ud_n (by omega), ud_n (by omega)]
  · have hm := (I.mem hr').mp hx
    have hxp : x ≠ p := fun z => hrr (by rw [← hm.2, z, hpm.2])
    have hxb : x ≠ b := fun z => hrr (by rw [← hm.2, z, hbm.2])
    have hx32 := hm.1
    rw [ud_n (by omega), ud_n (by omega), ud_n (by omega)]
  · rw [eqr]
    have hold := h.2.2.2.1 r hv
    rw [he] at hold
    have oth : ∀ x, x ∈ A ∨ x ∈ q :: C → (upd (upd (upd f (4 * (b + 1)) (eO (some q))) (4 * (p + 1)) 0) (4 * (p + 1) + 3) 0) (4 * (x + 1)) = f (4 * (x + 1)) := by
      intro x hx
      have hm := (I.mem hv (p := x)).mp (by rw [he]; rcases hx with hx | hx <;> simp [hx] <;> simp at hx <;> simp [hx])
      have hxp : x ≠ p := fun z => by
        subst z
        rcases hx with hx | hx
        · exact h1.2.2 x hx x (by simp) rfl
        · exact (List.nodup_cons.mp (List.nodup_cons.mp h1.2.1).2).1 hx
      have hxb : x ≠ b := fun z => by
        subst z
        rcases hx with hx | hx
        · exact h1.2.2 x hx x (by simp) rfl
        · exact (List.nodup_cons.mp h1.2.1).1 (List.mem_cons_of_mem _ hx)
      have hx32 := hm.1
      rw [ud_n (by omega), ud_n (by omega), ud_n (by omega)]
    refine ⟨?_, ?_, ch_mid ?_ (fun x hx => oth x (Or.inr hx)) (fun x hx => oth x (Or.inl hx)) hold.2.2⟩
    · rw [ud_n (by omega), ud_n (by omega), ud_n (by omega), hold.1]; cases A <;> rfl
    · rw [ud_n (by omega), ud_n (by omega), ud_n (by omega), hold.2.1]; simp
    · rw [ud_n (by omega), ud_n (by omega), ud_s]; rfl
theorem rc_mid0 (h : RC f a) (I : Inv a) (hv : vR r) {b : Nat} {A : List Nat} (he : aQ a r = A ++ [b, p]) : RC (upd (upd (upd (upd f (4 * (b + 1)) 0) (4 * kR r + 1) (eO (some b))) (4 * (p + 1)) 0) (4 * (p + 1) + 3) 0) (a_rem a p) := by
  have kb := kR_b hv
  have hpm := (I.mem hv (p := p)).mp (by rw [he]; simp)
  have hbm := (I.mem hv (p := b)).mp (by rw [he]; simp)
  have hp := hpm.1
  have hb32 := hbm.1
  have hnd := I.nod hv
  rw [he] at hnd
  have h1 := List.nodup_append.mp hnd
  have hbp : b ≠ p := fun z => (List.nodup_cons.mp h1.2.1).1 (by simp [z])
  have eqr : aQ (a_rem a p) r = A ++ [b] := by
    show va_up _ (aR a p) _ _ = _
    rw [hpm.2, up_s, he]; exact er_mid (C := []) hnd
  refine h.keep I r p hv hp ⟨rfl, rfl, rfl, rfl, rfl⟩ (fun q _ hq => up_n _ _ hq) (fun r' hr' => up_n _ _ (by rw [hpm.2]; exact hr')) (fun q hq => ?_) (fun q hq => ?_) (fun q hq hqp => ?_) ?_ (fun k h1 h2 h3 => ?_) (fun k h1 h2 => ?_) (fun r' x hr' hrr hx => ?_) ?_
  · rw [ud_n (by omega), ud_n (by omega), ud_n (by omega), ud_n (by omega)]
  · rw [ud_n (by omega), ud_n (by omega), ud_n (by omega), ud_n (by omega)]
  · rw [ud_n (by omega), ud_n (by omega), ud_n (by omega), ud_n (by omega)]
  · rw [ud_s, show aR (a_rem a p) p = 0 from up_s _ _ _]; rfl
  · constructor <;> rw [ud_n (by omega), ud_n (by omega), ud_n (by omega), ud_n (by omega)]
  · rw [ud_n (by omega), ud_n (by omega), ud_n (by omega), ud_n (by omega)]
  · have hm := (I.mem hr').mp hx
    have hxp : x ≠ p := fun z => hrr (by rw [← hm.2, z, hpm.2])
    have hxb : x ≠ b := fun z => hrr (by rw [← hm.2, z, hbm.2])
    have hx32 := hm.1
    rw [ud_n (by omega), ud_n (by omega), ud_n (by omega), ud_n (by omega)]
  · rw [eqr]
    have hold := h.2.2.2.1 r hv
    rw [he] at hold
    refine ⟨?_, ?_, ch_mid (p := p) (C := []) ?_ (fun x hx => by cases hx) (fun x hx => ?_) hold.2.2⟩
    · rw [ud_n (by omega), ud_n (by omega), ud_n (by omega), ud_n (by omega), hold.1]; cases A <;> rfl
    · rw [ud_n (by omega), ud_n (by omega), ud_s]; simp
    · rw [ud_n (by omega), ud_n (by omega), ud_n (by omega), ud_s]; rfl
    · have hm := (I.mem hv (p := x)).mp (by rw [he]; simp [hx])
      have hxp : x ≠ p := fun z => by subst z; exact h1.2.2 x hx x (by simp) rfl
      have hxb : x ≠ b := fun z => by subst z; exact h1.2.2 x hx x (by simp) rfl
      have hx32 := hm.1
      rw [ud_n (by omega), ud_n (by omega), ud_n (by omega), ud_n (by omega)]
end
end
section
/-! reading the component's state -/
section
variable {u : XS} {a : AS} {p r : Nat}
theorem Inv.b32 (I : Inv a) (hv : vR r) : ∀ q, q ∈ aQ a r → q < 32 := fun q h => ((I.mem hv).mp h).1
theorem rx_first (X : RX u a) (hv : vR r) : xC u (4 * kR r) = eO (aQ a r).head? := (X.1.2.2.2.1 r hv).1
theorem rx_last (X : RX u a) (hv : vR r) : xC u (4 * kR r + 1) = eO (aQ a r).getLast? := (X.1.2.2.2.1 r hv).2.1
theorem rx_ch (X : RX u a) (hv : vR r) : ch (xC u) (aQ a r) := (X.1.2.2.2.1 r hv).2.2
theorem rx_empty (X : RX u a) (I : Inv a) (hv : vR r) : xC u (4 * kR r) = 0 ↔ aQ a r = [] := by
  rw [rx_first X hv, eO_0 (fun q hq => I.b32 hv q (List.mem_of_mem_head? hq)), List.head?_eq_none_iff]
theorem rx_kr (X : RX u a) (hv : vR r) : kR r < 60 := by have := kR_b hv; omega
theorem eO_some (p : Nat) : eO (some p) = nI (2 * (p + 1)) := rfl
theorem ob_ne {p q : Nat} (hp : p < 32) (hq : q < 32) (h : p ≠ q) : ¬ nI (2 * (p + 1)) = nI (2 * (q + 1)) := nk_ne (by omega) (by omega) (by omega)
theorem ob_n0 {p : Nat} (hp : p < 32) : ¬ nI (2 * (p + 1)) = 0 := nI_ne0 (by omega) (by omega)
end
section
variable {lx : Launch} {D : va_G} {h : Nat → Nat} {cI cZ cJ : ClassId}
variable {u : XS} {a : AS}
set_option maxHeartbeats 200000 in
set_option maxRecDepth 20000 in
theorem c_S_isEmpty (X : RX u a) (I : Inv a) (r : Nat) (hv : vR r) : gMi lx D (ty3 cI cZ cJ) (XW h cI cZ) y_S_isEmpty b_S_isEmpty 2 (some .boolean) ({ frames := 1, cells := 0, slots := 0, locals := 22 } : Room) 0 0 [.ref (h 2), .int (nI (2 * kR r))] ((XW h cI cZ) u) (fun x u' => u = u' ∧ x = if aQ a r = [] then 1 else 0) := by
  refine gMi.of (by decide) (Nat.le_of_ble_eq_true rfl) (fun pg ev st md bl mt cd A ls C hmn hl V => ?_)
  have hl : lv_has ls 2 [(0, .ref (h 2)), (1, .int (nI (2 * kR r)))] := hl
  have kb := kR_b hv
  refine lv_aload_n C.x C.b d_S_isEmpty_0 rfl (lv_at hl 0 rfl) ?_
  refine xg_fields C V fl_S_9 d_S_isEmpty_1 ?_
  refine lv_iload_n C.x C.b d_S_isEmpty_4 rfl (lv_at hl 1 rfl) ?_
  refine lv_iconst (v := 0) C.x C.b d_S_isEmpty_5 (by decide) ?_
  refine g_iU (q0 := 1) (x := ⟨R_L, "get", "(II)I"⟩) (owner := R_L) (As := [.int (nI (2 * kR r)), .int 0]) (rest := []) C V (fun z => z.1) cs_S_36 (c_P_get (kR r) 0 (by omega) (by omega)) rfl rfl (by decide) rfl hl.1 rfl (Nat.le_of_ble_eq_true rfl) d_S_isEmpty_6 (fun r6 u6 H locs w6 V => ?_)
  obtain ⟨rfl, q6⟩ := w6
  refine lv_if_ne (tgt := 16) C.x C.b d_S_isEmpty_9 (by decide) (fun c9 => ?_) (fun c9 => ?_)
  · refine lv_iconst (v := 0) C.x C.b d_S_isEmpty_16 (by decide) ?_
    exact g_zret C _ V ⟨rfl, by rw [if_neg (fun z => c9 (q6.trans ((rx_empty X I hv).mpr z)))]⟩ (by simp) d_S_isEmpty_17
  · refine lv_iconst (v := 1) C.x C.b d_S_isEmpty_12 (by decide) ?_
    refine lv_goto (tgt := 17) C.x C.b d_S_isEmpty_13 (by decide) ?_
    exact g_zret C _ V ⟨rfl, by rw [if_pos ((rx_empty X I hv).mp (q6.symm.trans c9))]⟩ (by simp) d_S_isEmpty_17
set_option maxHeartbeats 200000 in
set_option maxRecDepth 20000 in
theorem c_S_addLast0 (X : RX u a) (I : Inv a) (r p : Nat) (hv : vR r) (hp : p < 32) (hr : aR a p = 0) (he : aQ a r = []) : gMv lx D (ty3 cI cZ cJ) (XW h cI cZ) y_S_addLast b_S_addLast 3 ({ frames := 2, cells := 0, slots := 0, locals := 43 } : Room) 0 0 [.ref (h 2), .int (nI (2 * kR r)), .int (nI (2 * (p + 1)))] ((XW h cI cZ) u) (fun u' => RX u' (a_enq a p r)) := by
  refine gMv.of (by decide) (Nat.le_of_ble_eq_true rfl) (fun pg ev st md bl mt cd A ls C hmn hl V => ?_)
  have hl : lv_has ls 3 [(0, .ref (h 2)), (1, .int (nI (2 * kR r))), (2, .int (nI (2 * (p + 1))))] := hl
  have kb := kR_b hv
  refine lv_aload_n C.x C.b d_S_addLast_0 rfl (lv_at hl 0 rfl) ?_
  refine xg_fields C V fl_S_9 d_S_addLast_1 ?_
  refine lv_iload_n C.x C.b d_S_addLast_4 rfl (lv_at hl 2 rfl) ?_
  refine g_iU (q0 := 1) (x := ⟨R_L, "process", "(I)I"⟩) (owner := R_L) (As := [.int (nI (2 * (p + 1)))]) (rest := []) C V (fun z => z.2.2.2.2.1) cs_S_42 (c_P_process (nI (2 * (p + 1)))) rfl rfl (by decide) rfl hl.1 rfl (Nat.le_of_ble_eq_true rfl) d_S_addLast_5 (fun r5 u5 H locs w5 V => ?_)
  obtain ⟨rfl, q5⟩ := w5
  refine lv_pop C.x C.b d_S_addLast_8 rfl ?_
  refine lv_aload_n C.x C.b d_S_addLast_9 rfl (lv_at hl 0 rfl) ?_
  refine lv_iload_n C.x C.b d_S_addLast_10 rfl (lv_at hl 1 rfl) ?_
  refine g_iV (q0 := 2) (As := [.int (nI (2 * kR r))]) (rest := []) C V cs_S_46 (c_S_isEmpty X I r hv) rfl rfl (by decide) rfl hl.1 rfl (Nat.le_of_ble_eq_true rfl) d_S_addLast_11 (fun r11 u11 H locs w11 V => ?_)
  obtain ⟨rfl, q11⟩ := w11
  refine lv_if_eq (tgt := 30) C.x C.b d_S_addLast_14 (by decide) (fun c14 => ?_) (fun c14 => ?_)
  · exact absurd (q11.symm.trans c14) (by rw [if_pos he]; decide)
  · refine lv_aload_n C.x C.b d_S_addLast_17 rfl (lv_at hl 0 rfl) ?_
    refine xg_fields C V fl_S_9 d_S_addLast_18 ?_
    refine lv_iload_n C.x C.b d_S_addLast_21 rfl (lv_at hl 1 rfl) ?_
    refine lv_iconst (v := 0) C.x C.b d_S_addLast_22 (by decide) ?_
    refine lv_iload_n C.x C.b d_S_addLast_23 rfl (lv_at hl 2 rfl) ?_
    refine g_vU (q0 := 1) (x := ⟨R_L, "put", "(III)V"⟩) (owner := R_L) (As := [.int (nI (2 * kR r)), .int 0, .int (nI (2 * (p + 1)))]) (rest := []) C V (fun z => z.2.1) cs_S_50 (c_P_put (kR r) 0 (nI (2 * (p + 1))) (by omega) (by omega)) rfl rfl (by decide) rfl hl.1 rfl (Nat.le_of_ble_eq_true rfl) d_S_addLast_24 (fun u24 H locs w24 V => ?_)
    subst w24
    refine lv_goto (tgt := 55) C.x C.b d_S_addLast_27 (by decide) ?_
    refine lv_aload_n C.x C.b d_S_addLast_55 rfl (lv_at hl 0 rfl) ?_
    refine xg_fields C V fl_S_9 d_S_addLast_56 ?_
    refine lv_iload_n C.x C.b d_S_addLast_59 rfl (lv_at hl 1 rfl) ?_
    refine lv_iconst (v := 1) C.x C.b d_S_addLast_60 (by decide) ?_
    refine lv_iload_n C.x C.b d_S_addLast_61 rfl (lv_at hl 2 rfl) ?_
    refine g_vU (q0 := 1) (x := ⟨R_L, "put", "(III)V"⟩) (owner := R_L) (As := [.int (nI (2 * kR r)), .int 1, .int (nI (2 * (p + 1)))]) (rest := []) C V (fun z => z.2.1) cs_S_50 (c_P_put (kR r) 1 (nI (2 * (p + 1))) (by omega) (by omega)) rfl rfl (by decide) rfl hl.1 rfl (Nat.le_of_ble_eq_true rfl) d_S_addLast_62 (fun u62 H locs w62 V => ?_)
    subst w62
    refine lv_aload_n C.x C.b d_S_addLast_65 rfl (lv_at hl 0 rfl) ?_
    refine xg_fields C V fl_S_9 d_S_addLast_66 ?_
    refine lv_iload_n C.x C.b d_S_addLast_69 rfl (lv_at hl 2 rfl) ?_
    refine lv_iconst (v := 0) C.x C.b d_S_addLast_70 (by decide) ?_
    refine lv_iconst (v := 0) C.x C.b d_S_addLast_71 (by decide) ?_
    refine g_vU (q0 := 1) (x := ⟨R_L, "put", "(III)V"⟩) (owner := R_L) (As := [.int (nI (2 * (p + 1))), .int 0, .int 0]) (rest := []) C V (fun z => z.2.1) cs_S_50 (c_P_put (p + 1) 0 (0) (by omega) (by omega)) rfl rfl (by decide) rfl hl.1 rfl (Nat.le_of_ble_eq_true rfl) d_S_addLast_72 (fun u72 H locs w72 V => ?_)
    subst w72
    refine lv_aload_n C.x C.b d_S_addLast_75 rfl (lv_at hl 0 rfl) ?_
    refine xg_fields C V fl_S_9 d_S_addLast_76 ?_
    refine lv_iload_n C.x C.b d_S_addLast_79 rfl (lv_at hl 2 rfl) ?_
    refine lv_iconst (v := 3) C.x C.b d_S_addLast_80 (by decide) ?_
    refine lv_iload_n C.x C.b d_S_addLast_81 rfl (lv_at hl 1 rfl) ?_
    refine g_vU (q0 := 1) (x := ⟨R_L, "put", "(III)V"⟩) (owner := R_L) (As := [.int (nI (2 * (p + 1))), .int 3, .int (nI (2 * kR r))]) (rest := []) C V (fun z => z.2.1) cs_S_50 (c_P_put (p + 1) 3 (nI (2 * kR r)) (by omega) (by omega)) rfl rfl (by decide) rfl hl.1 rfl (Nat.le_of_ble_eq_true rfl) d_S_addLast_82 (fun u82 H locs w82 V => ?_)
    subst w82
    exact g_vret C _ V ⟨rc_add0 X.1 I hv hp hr he, X.2⟩ d_S_addLast_85
set_option maxHeartbeats 200000 in
set_option maxRecDepth 20000 in
theorem c_S_addLast1 (X : RX u a) (I : Inv a) (r p : Nat) (hv : vR r) (hp : p < 32) (hr : aR a p = 0) (l : List Nat) (q : Nat) (he : aQ a r = l ++ [q]) : gMv lx D (ty3 cI cZ cJ) (XW h cI cZ) y_S_addLast b_S_addLast 3 ({ frames := 2, cells := 0, slots := 0, locals := 43 } : Room) 0 0 [.ref (h 2), .int (nI (2 * kR r)), .int (nI (2 * (p + 1)))] ((XW h cI cZ) u) (fun u' => RX u' (a_enq a p r)) := by
  refine gMv.of (by decide) (Nat.le_of_ble_eq_true rfl) (fun pg ev st md bl mt cd A ls C hmn hl V => ?_)
  have hl : lv_has ls 3 [(0, .ref (h 2)), (1, .int (nI (2 * kR r))), (2, .int (nI (2 * (p + 1))))] := hl
  have kb := kR_b hv
  have hq := I.b32 hv q (by rw [he]; simp)
  refine lv_aload_n C.x C.b d_S_addLast_0 rfl (lv_at hl 0 rfl) ?_
  refine xg_fields C V fl_S_9 d_S_addLast_1 ?_
  refine lv_iload_n C.x C.b d_S_addLast_4 rfl (lv_at hl 2 rfl) ?_
  refine g_iU (q0 := 1) (x := ⟨R_L, "process", "(I)I"⟩) (owner := R_L) (As := [.int (nI (2 * (p + 1)))]) (rest := []) C V (fun z => z.2.2.2.2.1) cs_S_42 (c_P_process (nI (2 * (p + 1)))) rfl rfl (by decide) rfl hl.1 rfl (Nat.le_of_ble_eq_true rfl) d_S_addLast_5 (fun r5 u5 H locs w5 V => ?_)
  obtain ⟨rfl, q5⟩ := w5
  refine lv_pop C.x C.b d_S_addLast_8 rfl ?_
  refine lv_aload_n C.x C.b d_S_addLast_9 rfl (lv_at hl 0 rfl) ?_
  refine lv_iload_n C.x C.b d_S_addLast_10 rfl (lv_at hl 1 rfl) ?_
  refine g_iV (q0 := 2) (As := [.int (nI (2 * kR r))]) (rest := []) C V cs_S_46 (c_S_isEmpty X I r hv) rfl rfl (by decide) rfl hl.1 rfl (Nat.le_of_ble_eq_true rfl) d_S_addLast_11 (fun r11 u11 H locs w11 V => ?_)
  obtain ⟨rfl, q11⟩ := w11
  refine lv_if_eq (tgt := 30) C.x C.b d_S_addLast_14 (by decide) (fun c14 => ?_) (fun c14 => ?_)
  · refine lv_aload_n C.x C.b d_S_addLast_30 rfl (lv_at hl 0 rfl) ?_
    refine xg_fields C V fl_S_9 d_S_addLast_31 ?_
    refine lv_aload_n C.x C.b d_S_addLast_34 rfl (lv_at hl 0 rfl) ?_
    refine xg_fields C V fl_S_9 d_S_addLast_35 ?_
    refine lv_aload_n C.x C.b d_S_addLast_38 rfl (lv_at hl 0 rfl) ?_
    refine xg_fields C V fl_S_9 d_S_addLast_39 ?_
    refine lv_iload_n C.x C.b d_S_addLast_42 rfl (lv_at hl 1 rfl) ?_
    refine lv_iconst (v := 1) C.x C.b d_S_addLast_43 (by decide) ?_
    refine g_iU (q0 := 1) (x := ⟨R_L, "get", "(II)I"⟩) (owner := R_L) (As := [.int (nI (2 * kR r)), .int 1]) (rest := [.ref (h 1), .ref (h 1)]) C V (fun z => z.1) cs_S_36 (c_P_get (kR r) 1 (by omega) (by omega)) rfl rfl (by decide) rfl hl.1 rfl (Nat.le_of_ble_eq_true rfl) d_S_addLast_44 (fun r44 u44 H locs w44 V => ?_)
    obtain ⟨rfl, q44⟩ := w44
    obtain rfl : r44 = nI (2 * (q + 1)) := by rw [q44, rx_last X hv, he]; simp; rfl
    refine g_iU (q0 := 1) (x := ⟨R_L, "process", "(I)I"⟩) (owner := R_L) (As := [.int (nI (2 * (q + 1)))]) (rest := [.ref (h 1)]) C V (fun z => z.2.2.2.2.1) cs_S_42 (c_P_process (nI (2 * (q + 1)))) rfl rfl (by decide) rfl hl.1 rfl (Nat.le_of_ble_eq_true rfl) d_S_addLast_47 (fun r47 u47 H locs w47 V => ?_)
    obtain ⟨rfl, q47⟩ := w47
    obtain rfl : r47 = nI (2 * (q + 1)) := q47
    refine lv_iconst (v := 0) C.x C.b d_S_addLast_50 (by decide) ?_
    refine lv_iload_n C.x C.b d_S_addLast_51 rfl (lv_at hl 2 rfl) ?_
    refine g_vU (q0 := 1) (x := ⟨R_L, "put", "(III)V"⟩) (owner := R_L) (As := [.int (nI (2 * (q + 1))), .int 0, .int (nI (2 * (p + 1)))]) (rest := []) C V (fun z => z.2.1) cs_S_50 (c_P_put (q + 1) 0 (nI (2 * (p + 1))) (by omega) (by omega)) rfl rfl (by decide) rfl hl.1 rfl (Nat.le_of_ble_eq_true rfl) d_S_addLast_52 (fun u52 H locs w52 V => ?_)
    subst w52
    refine lv_aload_n C.x C.b d_S_addLast_55 rfl (lv_at hl 0 rfl) ?_
    refine xg_fields C V fl_S_9 d_S_addLast_56 ?_
    refine lv_iload_n C.x C.b d_S_addLast_59 rfl (lv_at hl 1 rfl) ?_
    refine lv_iconst (v := 1) C.x C.b d_S_addLast_60 (by decide) ?_
    refine lv_iload_n C.x C.b d_S_addLast_61 rfl (lv_at hl 2 rfl) ?_
    refine g_vU (q0 := 1) (x := ⟨R_L, "put", "(III)V"⟩) (owner := R_L) (As := [.int (nI (2 * kR r)), .int 1, .int (nI (2 * (p + 1)))]) (rest := []) C V (fun z => z.2.1) cs_S_50 (c_P_put (kR r) 1 (nI (2 * (p + 1))) (by omega) (by omega)) rfl rfl (by decide) rfl hl.1 rfl (Nat.le_of_ble_eq_true rfl) d_S_addLast_62 (fun u62 H locs w62 V => ?_)
    subst w62
    refine lv_aload_n C.x C.b d_S_addLast_65 rfl (lv_at hl 0 rfl) ?_
    refine xg_fields C V fl_S_9 d_S_addLast_66 ?_
    refine lv_iload_n C.x C.b d_S_addLast_69 rfl (lv_at hl 2 rfl) ?_
    refine lv_iconst (v := 0) C.x C.b d_S_addLast_70 (by decide) ?_
    refine lv_iconst (v := 0) C.x C.b d_S_addLast_71 (by decide) ?_
    refine g_vU (q0 := 1) (x := ⟨R_L, "put", "(III)V"⟩) (owner := R_L) (As := [.int (nI (2 * (p + 1))), .int 0, .int 0]) (rest := []) C V (fun z => z.2.1) cs_S_50 (c_P_put (p + 1) 0 (0) (by omega) (by omega)) rfl rfl (by decide) rfl hl.1 rfl (Nat.le_of_ble_eq_true rfl) d_S_addLast_72 (fun u72 H locs w72 V => ?_)
    subst w72
    refine lv_aload_n C.x C.b d_S_addLast_75 rfl (lv_at hl 0 rfl) ?_
    refine xg_fields C V fl_S_9 d_S_addLast_76 ?_
    refine lv_iload_n C.x C.b d_S_addLast_79 rfl (lv_at hl 2 rfl) ?_
    refine lv_iconst (v := 3) C.x C.b d_S_addLast_80 (by decide) ?_
    refine lv_iload_n C.x C.b d_S_addLast_81 rfl (lv_at hl 1 rfl) ?_
    refine g_vU (q0 := 1) (x := ⟨R_L, "put", "(III)V"⟩) (owner := R_L) (As := [.int (nI (2 * (p + 1))), .int 3, .int (nI (2 * kR r))]) (rest := []) C V (fun z => z.2.1) cs_S_50 (c_P_put (p + 1) 3 (nI (2 * kR r)) (by omega) (by omega)) rfl rfl (by decide) rfl hl.1 rfl (Nat.le_of_ble_eq_true rfl) d_S_addLast_82 (fun u82 H locs w82 V => ?_)
    subst w82
    exact g_vret C _ V ⟨rc_add1 X.1 I hv hp hr he, X.2⟩ d_S_addLast_85
  · exact absurd (q11.trans (if_neg (by rw [he]; simp))) c14
theorem c_S_addLast (X : RX u a) (I : Inv a) (r p : Nat) (hv : vR r) (hp : p < 32) (hr : aR a p = 0) : gMv lx D (ty3 cI cZ cJ) (XW h cI cZ) y_S_addLast b_S_addLast 3 ({ frames := 2, cells := 0, slots := 0, locals := 43 } : Room) 0 0 [.ref (h 2), .int (nI (2 * kR r)), .int (nI (2 * (p + 1)))] (XW h cI cZ u) (fun u' => RX u' (a_enq a p r)) := by
  rcases List.eq_nil_or_concat (aQ a r) with e | ⟨l, q, e⟩
  · exact c_S_addLast0 X I r p hv hp hr e
  · exact c_S_addLast1 X I r p hv hp hr l q (by simpa using e)
set_option maxHeartbeats 200000 in
set_option maxRecDepth 20000 in
theorem c_S_removeFirst0 (X : RX u a) (I : Inv a) (r p : Nat) (hv : vR r) (he : aQ a r = [p]) : gMi lx D (ty3 cI cZ cJ) (XW h cI cZ) y_S_removeFirst b_S_removeFirst 4 (some .int) ({ frames := 1, cells := 0, slots := 0, locals := 23 } : Room) 0 0 [.ref (h 2), .int (nI (2 * kR r))] ((XW h cI cZ) u) (fun x u' => x = nI (2 * (p + 1)) ∧ RX u' (a_rem a p)) := by
  refine gMi.of (by decide) (Nat.le_of_ble_eq_true rfl) (fun pg ev st md bl mt cd A ls C hmn hl V => ?_)
  have hl : lv_has ls 4 [(0, .ref (h 2)), (1, .int (nI (2 * kR r)))] := hl
  have kb := kR_b hv
  have hp := (I.hd hv he).1
  refine lv_aload_n C.x C.b d_S_removeFirst_0 rfl (lv_at hl 0 rfl) ?_
  refine xg_fields C V fl_S_9 d_S_removeFirst_1 ?_
  refine lv_aload_n C.x C.b d_S_removeFirst_4 rfl (lv_at hl 0 rfl) ?_
  refine xg_fields C V fl_S_9 d_S_removeFirst_5 ?_
  refine lv_iload_n C.x C.b d_S_removeFirst_8 rfl (lv_at hl 1 rfl) ?_
  refine lv_iconst (v := 0) C.x C.b d_S_removeFirst_9 (by decide) ?_
  refine g_iU (q0 := 1) (x := ⟨R_L, "get", "(II)I"⟩) (owner := R_L) (As := [.int (nI (2 * kR r)), .int 0]) (rest := [.ref (h 1)]) C V (fun z => z.1) cs_S_36 (c_P_get (kR r) 0 (by omega) (by omega)) rfl rfl (by decide) rfl hl.1 rfl (Nat.le_of_ble_eq_true rfl) d_S_removeFirst_10 (fun r10 u10 H locs w10 V => ?_)
  obtain ⟨rfl, q10⟩ := w10
  obtain rfl : r10 = nI (2 * (p + 1)) := by rw [q10]; refine (rx_first X hv).trans ?_; rw [he]; rfl
  refine g_iU (q0 := 1) (x := ⟨R_L, "process", "(I)I"⟩) (owner := R_L) (As := [.int (nI (2 * (p + 1)))]) (rest := []) C V (fun z => z.2.2.2.2.1) cs_S_42 (c_P_process (nI (2 * (p + 1)))) rfl rfl (by decide) rfl hl.1 rfl (Nat.le_of_ble_eq_true rfl) d_S_removeFirst_13 (fun r13 u13 H locs w13 V => ?_)
  obtain ⟨rfl, q13⟩ := w13
  obtain rfl : r13 = nI (2 * (p + 1)) := q13
  refine lv_istore_n (lv' := [(2, .int (nI (2 * (p + 1)))), (0, .ref (h 2)), (1, .int (nI (2 * kR r)))]) C.x C.b d_S_removeFirst_16 rfl hl (by decide) rfl (fun ls hl => ?_)
  refine lv_aload_n C.x C.b d_S_removeFirst_17 rfl (lv_at hl 1 rfl) ?_
  refine xg_fields C V fl_S_9 d_S_removeFirst_18 ?_
  refine lv_iload_n C.x C.b d_S_removeFirst_21 rfl (lv_at hl 0 rfl) ?_
  refine lv_iconst (v := 0) C.x C.b d_S_removeFirst_22 (by decide) ?_
  refine g_iU (q0 := 1) (x := ⟨R_L, "get", "(II)I"⟩) (owner := R_L) (As := [.int (nI (2 * (p + 1))), .int 0]) (rest := []) C V (fun z => z.1) cs_S_36 (c_P_get (p + 1) 0 (by omega) (by omega)) rfl rfl (by decide) rfl hl.1 rfl (Nat.le_of_ble_eq_true rfl) d_S_removeFirst_23 (fun r23 u23 H locs w23 V => ?_)
  obtain ⟨rfl, q23⟩ := w23
  obtain rfl : r23 = 0 := by rw [q23]; have := rx_ch X hv; rw [he] at this; exact this.1
  refine lv_istore_n (lv' := [(3, .int 0), (2, .int (nI (2 * (p + 1)))), (0, .ref (h 2)), (1, .int (nI (2 * kR r)))]) C.x C.b d_S_removeFirst_26 rfl hl (by decide) rfl (fun ls hl => ?_)
  refine lv_aload_n C.x C.b d_S_removeFirst_27 rfl (lv_at hl 2 rfl) ?_
  refine xg_fields C V fl_S_9 d_S_removeFirst_28 ?_
  refine lv_iload_n C.x C.b d_S_removeFirst_31 rfl (lv_at hl 3 rfl) ?_
  refine lv_iconst (v := 0) C.x C.b d_S_removeFirst_32 (by decide) ?_
  refine lv_iload_n C.x C.b d_S_removeFirst_33 rfl (lv_at hl 0 rfl) ?_
  refine g_vU (q0 := 1) (x := ⟨R_L, "put", "(III)V"⟩) (owner := R_L) (As := [.int (nI (2 * kR r)), .int 0, .int 0]) (rest := []) C V (fun z => z.2.1) cs_S_50 (c_P_put (kR r) 0 (0) (by omega) (by omega)) rfl rfl (by decide) rfl hl.1 rfl (Nat.le_of_ble_eq_true rfl) d_S_removeFirst_34 (fun u34 H locs w34 V => ?_)
  subst w34
  refine lv_iload_n C.x C.b d_S_removeFirst_37 rfl (lv_at hl 0 rfl) ?_
  refine lv_if_ne (tgt := 51) C.x C.b d_S_removeFirst_38 (by decide) (fun c38 => ?_) (fun c38 => ?_)
  · exact absurd rfl c38
  · refine lv_aload_n C.x C.b d_S_removeFirst_41 rfl (lv_at hl 2 rfl) ?_
    refine xg_fields C V fl_S_9 d_S_removeFirst_42 ?_
    refine lv_iload_n C.x C.b d_S_removeFirst_45 rfl (lv_at hl 3 rfl) ?_
    refine lv_iconst (v := 1) C.x C.b d_S_removeFirst_46 (by decide) ?_
    refine lv_iconst (v := 0) C.x C.b d_S_removeFirst_47 (by decide) ?_
    refine g_vU (q0 := 1) (x := ⟨R_L, "put", "(III)V"⟩) (owner := R_L) (As := [.int (nI (2 * kR r)), .int 1, .int 0]) (rest := []) C V (fun z => z.2.1) cs_S_50 (c_P_put (kR r) 1 (0) (by omega) (by omega)) rfl rfl (by decide) rfl hl.1 rfl (Nat.le_of_ble_eq_true rfl) d_S_removeFirst_48 (fun u48 H locs w48 V => ?_)
    subst w48
    refine lv_aload_n C.x C.b d_S_removeFirst_51 rfl (lv_at hl 2 rfl) ?_
    refine xg_fields C V fl_S_9 d_S_removeFirst_52 ?_
    refine lv_iload_n C.x C.b d_S_removeFirst_55 rfl (lv_at hl 1 rfl) ?_
    refine lv_iconst (v := 0) C.x C.b d_S_removeFirst_56 (by decide) ?_
    refine lv_iconst (v := 0) C.x C.b d_S_removeFirst_57 (by decide) ?_
    refine g_vU (q0 := 1) (x := ⟨R_L, "put", "(III)V"⟩) (owner := R_L) (As := [.int (nI (2 * (p + 1))), .int 0, .int 0]) (rest := []) C V (fun z => z.2.1) cs_S_50 (c_P_put (p + 1) 0 (0) (by omega) (by omega)) rfl rfl (by decide) rfl hl.1 rfl (Nat.le_of_ble_eq_true rfl) d_S_removeFirst_58 (fun u58 H locs w58 V => ?_)
    subst w58
    refine lv_aload_n C.x C.b d_S_removeFirst_61 rfl (lv_at hl 2 rfl) ?_
    refine xg_fields C V fl_S_9 d_S_removeFirst_62 ?_
    refine lv_iload_n C.x C.b d_S_removeFirst_65 rfl (lv_at hl 1 rfl) ?_
    refine lv_iconst (v := 3) C.x C.b d_S_removeFirst_66 (by decide) ?_
    refine lv_iconst (v := 0) C.x C.b d_S_removeFirst_67 (by decide) ?_
    refine g_vU (q0 := 1) (x := ⟨R_L, "put", "(III)V"⟩) (owner := R_L) (As := [.int (nI (2 * (p + 1))), .int 3, .int 0]) (rest := []) C V (fun z => z.2.1) cs_S_50 (c_P_put (p + 1) 3 (0) (by omega) (by omega)) rfl rfl (by decide) rfl hl.1 rfl (Nat.le_of_ble_eq_true rfl) d_S_removeFirst_68 (fun u68 H locs w68 V => ?_)
    subst w68
    refine lv_iload_n C.x C.b d_S_removeFirst_71 rfl (lv_at hl 1 rfl) ?_
    exact g_iret C _ V ⟨rfl, rc_first0 X.1 I hv he, X.2⟩ d_S_removeFirst_72
set_option maxHeartbeats 200000 in
set_option maxRecDepth 20000 in
theorem c_S_removeFirst1 (X : RX u a) (I : Inv a) (r p : Nat) (hv : vR r) (q : Nat) (l : List Nat) (he : aQ a r = p :: q :: l) : gMi lx D (ty3 cI cZ cJ) (XW h cI cZ) y_S_removeFirst b_S_removeFirst 4 (some .int) ({ frames := 1, cells := 0, slots := 0, locals := 23 } : Room) 0 0 [.ref (h 2), .int (nI (2 * kR r))] ((XW h cI cZ) u) (fun x u' => x = nI (2 * (p + 1)) ∧ RX u' (a_rem a p)) := by
  refine gMi.of (by decide) (Nat.le_of_ble_eq_true rfl) (fun pg ev st md bl mt cd A ls C hmn hl V => ?_)
  have hl : lv_has ls 4 [(0, .ref (h 2)), (1, .int (nI (2 * kR r)))] := hl
  have kb := kR_b hv
  have hp := (I.hd hv he).1
  refine lv_aload_n C.x C.b d_S_removeFirst_0 rfl (lv_at hl 0 rfl) ?_
  refine xg_fields C V fl_S_9 d_S_removeFirst_1 ?_
  refine lv_aload_n C.x C.b d_S_removeFirst_4 rfl (lv_at hl 0 rfl) ?_
  refine xg_fields C V fl_S_9 d_S_removeFirst_5 ?_
  refine lv_iload_n C.x C.b d_S_removeFirst_8 rfl (lv_at hl 1 rfl) ?_
  refine lv_iconst (v := 0) C.x C.b d_S_removeFirst_9 (by decide) ?_
  refine g_iU (q0 := 1) (x := ⟨R_L, "get", "(II)I"⟩) (owner := R_L) (As := [.int (nI (2 * kR r)), .int 0]) (rest := [.ref (h 1)]) C V (fun z => z.1) cs_S_36 (c_P_get (kR r) 0 (by omega) (by omega)) rfl rfl (by decide) rfl hl.1 rfl (Nat.le_of_ble_eq_true rfl) d_S_removeFirst_10 (fun r10 u10 H locs w10 V => ?_)
  obtain ⟨rfl, q10⟩ := w10
  obtain rfl : r10 = nI (2 * (p + 1)) := by rw [q10]; refine (rx_first X hv).trans ?_; rw [he]; rfl
  refine g_iU (q0 := 1) (x := ⟨R_L, "process", "(I)I"⟩) (owner := R_L) (As := [.int (nI (2 * (p + 1)))]) (rest := []) C V (fun z => z.2.2.2.2.1) cs_S_42 (c_P_process (nI (2 * (p + 1)))) rfl rfl (by decide) rfl hl.1 rfl (Nat.le_of_ble_eq_true rfl) d_S_removeFirst_13 (fun r13 u13 H locs w13 V => ?_)
  obtain ⟨rfl, q13⟩ := w13
  obtain rfl : r13 = nI (2 * (p + 1)) := q13
  refine lv_istore_n (lv' := [(2, .int (nI (2 * (p + 1)))), (0, .ref (h 2)), (1, .int (nI (2 * kR r)))]) C.x C.b d_S_removeFirst_16 rfl hl (by decide) rfl (fun ls hl => ?_)
  refine lv_aload_n C.x C.b d_S_removeFirst_17 rfl (lv_at hl 1 rfl) ?_
  refine xg_fields C V fl_S_9 d_S_removeFirst_18 ?_
  refine lv_iload_n C.x C.b d_S_removeFirst_21 rfl (lv_at hl 0 rfl) ?_
  refine lv_iconst (v := 0) C.x C.b d_S_removeFirst_22 (by decide) ?_
  refine g_iU (q0 := 1) (x := ⟨R_L, "get", "(II)I"⟩) (owner := R_L) (As := [.int (nI (2 * (p + 1))), .int 0]) (rest := []) C V (fun z => z.1) cs_S_36 (c_P_get (p + 1) 0 (by omega) (by omega)) rfl rfl (by decide) rfl hl.1 rfl (Nat.le_of_ble_eq_true rfl) d_S_removeFirst_23 (fun r23 u23 H locs w23 V => ?_)
  obtain ⟨rfl, q23⟩ := w23
  obtain rfl : r23 = nI (2 * (q + 1)) := by rw [q23]; have := rx_ch X hv; rw [he] at this; exact this.1
  refine lv_istore_n (lv' := [(3, .int (nI (2 * (q + 1)))), (2, .int (nI (2 * (p + 1)))), (0, .ref (h 2)), (1, .int (nI (2 * kR r)))]) C.x C.b d_S_removeFirst_26 rfl hl (by decide) rfl (fun ls hl => ?_)
  refine lv_aload_n C.x C.b d_S_removeFirst_27 rfl (lv_at hl 2 rfl) ?_
  refine xg_fields C V fl_S_9 d_S_removeFirst_28 ?_
  refine lv_iload_n C.x C.b d_S_removeFirst_31 rfl (lv_at hl 3 rfl) ?_
  refine lv_iconst (v := 0) C.x C.b d_S_removeFirst_32 (by decide) ?_
  refine lv_iload_n C.x C.b d_S_removeFirst_33 rfl (lv_at hl 0 rfl) ?_
  refine g_vU (q0 := 1) (x := ⟨R_L, "put", "(III)V"⟩) (owner := R_L) (As := [.int (nI (2 * kR r)), .int 0, .int (nI (2 * (q + 1)))]) (rest := []) C V (fun z => z.2.1) cs_S_50 (c_P_put (kR r) 0 (nI (2 * (q + 1))) (by omega) (by omega)) rfl rfl (by decide) rfl hl.1 rfl (Nat.le_of_ble_eq_true rfl) d_S_removeFirst_34 (fun u34 H locs w34 V => ?_)
  subst w34
  refine lv_iload_n C.x C.b d_S_removeFirst_37 rfl (lv_at hl 0 rfl) ?_
  refine lv_if_ne (tgt := 51) C.x C.b d_S_removeFirst_38 (by decide) (fun c38 => ?_) (fun c38 => ?_)
  · refine lv_aload_n C.x C.b d_S_removeFirst_51 rfl (lv_at hl 2 rfl) ?_
    refine xg_fields C V fl_S_9 d_S_removeFirst_52 ?_
    refine lv_iload_n C.x C.b d_S_removeFirst_55 rfl (lv_at hl 1 rfl) ?_
    refine lv_iconst (v := 0) C.x C.b d_S_removeFirst_56 (by decide) ?_
    refine lv_iconst (v := 0) C.x C.b d_S_removeFirst_57 (by decide) ?_
    refine g_vU (q0 := 1) (x := ⟨R_L, "put", "(III)V"⟩) (owner := R_L) (As := [.int (nI (2 * (p + 1))), .int 0, .int 0]) (rest := []) C V (fun z => z.2.1) cs_S_50 (c_P_put (p + 1) 0 (0) (by omega) (by omega)) rfl rfl (by decide) rfl hl.1 rfl (Nat.le_of_ble_eq_true rfl) d_S_removeFirst_58 (fun u58 H locs w58 V => ?_)
    subst w58
    refine lv_aload_n C.x C.b d_S_removeFirst_61 rfl (lv_at hl 2 rfl) ?_
    refine xg_fields C V fl_S_9 d_S_removeFirst_62 ?_
    refine lv_iload_n C.x C.b d_S_removeFirst_65 rfl (lv_at hl 1 rfl) ?_
    refine lv_iconst (v := 3) C.x C.b d_S_removeFirst_66 (by decide) ?_
    refine lv_iconst (v := 0) C.x C.b d_S_removeFirst_67 (by decide) ?_
    refine g_vU (q0 := 1) (x := ⟨R_L, "put", "(III)V"⟩) (owner := R_L) (As := [.int (nI (2 * (p + 1))), .int 3, .int 0]) (rest := []) C V (fun z => z.2.1) cs_S_50 (c_P_put (p + 1) 3 (0) (by omega) (by omega)) rfl rfl (by decide) rfl hl.1 rfl (Nat.le_of_ble_eq_true rfl) d_S_removeFirst_68 (fun u68 H locs w68 V => ?_)
    subst w68
    refine lv_iload_n C.x C.b d_S_removeFirst_71 rfl (lv_at hl 1 rfl) ?_
    exact g_iret C _ V ⟨rfl, rc_first1 X.1 I hv he, X.2⟩ d_S_removeFirst_72
  · exact absurd c38 (ob_n0 (I.b32 hv q (by rw [he]; simp)))
theorem c_S_removeFirst (X : RX u a) (I : Inv a) (r p : Nat) (hv : vR r) (l : List Nat) (he : aQ a r = p :: l) : gMi lx D (ty3 cI cZ cJ) (XW h cI cZ) y_S_removeFirst b_S_removeFirst 4 (some .int) ({ frames := 1, cells := 0, slots := 0, locals := 23 } : Room) 0 0 [.ref (h 2), .int (nI (2 * kR r))] (XW h cI cZ u) (fun x u' => x = nI (2 * (p + 1)) ∧ RX u' (a_rem a p)) := by
  cases l with
  | nil => exact c_S_removeFirst0 X I r p hv he
  | cons q l => exact c_S_removeFirst1 X I r p hv q l he
set_option maxHeartbeats 200000 in
set_option maxRecDepth 20000 in
theorem c_S_active (X : RX u a) (I : Inv a)  : gMi lx D (ty3 cI cZ cJ) (XW h cI cZ) y_S_active b_S_active 1 (some .int) ({ frames := 1, cells := 0, slots := 0, locals := 22 } : Room) 0 0 [.ref (h 2)] ((XW h cI cZ) u) (fun x u' => u = u' ∧ x = eO (aA a)) := by
  refine gMi.of (by decide) (Nat.le_of_ble_eq_true rfl) (fun pg ev st md bl mt cd A ls C hmn hl V => ?_)
  have hl : lv_has ls 1 [(0, .ref (h 2))] := hl
  refine lv_aload_n C.x C.b d_S_active_0 rfl (lv_at hl 0 rfl) ?_
  refine xg_fields C V fl_S_9 d_S_active_1 ?_
  refine lv_aload_n C.x C.b d_S_active_4 rfl (lv_at hl 0 rfl) ?_
  refine xg_scheduler C V fl_S_19 d_S_active_5 ?_
  refine lv_topi (fun v5 e5 => ?_)
  obtain rfl : v5 = 114 := by rw [e5]; exact X.2.2.1
  refine lv_iconst (v := 1) C.x C.b d_S_active_8 (by decide) ?_
  refine g_iU (q0 := 1) (x := ⟨R_L, "get", "(II)I"⟩) (owner := R_L) (As := [.int 114, .int 1]) (rest := []) C V (fun z => z.1) cs_S_36 (c_P_get (57) 1 (by omega) (by omega)) rfl rfl (by decide) rfl hl.1 rfl (Nat.le_of_ble_eq_true rfl) d_S_active_9 (fun r9 u9 H locs w9 V => ?_)
  obtain ⟨rfl, q9⟩ := w9
  exact g_iret C _ V ⟨rfl, by rw [q9]; exact X.1.2.2.2.2.2.2⟩ d_S_active_12
set_option maxHeartbeats 200000 in
set_option maxRecDepth 20000 in
theorem c_S_present (X : RX u a) (I : Inv a)  : gMi lx D (ty3 cI cZ cJ) (XW h cI cZ) y_S_present b_S_present 1 (some .int) ({ frames := 2, cells := 0, slots := 0, locals := 42 } : Room) 0 0 [.ref (h 2)] ((XW h cI cZ) u) (fun x u' => u = u' ∧ x = eO (a_pres a)) := by
  refine gMi.of (by decide) (Nat.le_of_ble_eq_true rfl) (fun pg ev st md bl mt cd A ls C hmn hl V => ?_)
  have hl : lv_has ls 1 [(0, .ref (h 2))] := hl
  refine lv_aload_n C.x C.b d_S_present_0 rfl (lv_at hl 0 rfl) ?_
  refine xg_wanted C V fl_S_23 d_S_present_1 ?_
  refine lv_topi (fun v1 e1 => ?_)
  refine lv_if_eq (tgt := 14) C.x C.b d_S_present_4 (by decide) (fun c4 => ?_) (fun c4 => ?_)
  · refine lv_aload_n C.x C.b d_S_present_14 rfl (lv_at hl 0 rfl) ?_
    refine g_iV (q0 := 2) (As := []) (rest := []) C V cs_S_57 (c_S_active X I) rfl rfl (by decide) rfl hl.1 rfl (Nat.le_of_ble_eq_true rfl) d_S_present_15 (fun r15 u15 H locs w15 V => ?_)
    obtain ⟨rfl, q15⟩ := w15
    exact g_iret C _ V ⟨rfl, by rw [q15]; unfold a_pres; rw [e1, X.2.2.2.2.2.2.1] at c4; rw [if_neg (by simpa using c4)]⟩ d_S_present_18
  · refine lv_aload_n C.x C.b d_S_present_7 rfl (lv_at hl 0 rfl) ?_
    refine xg_wp C V fl_S_27 d_S_present_8 ?_
    refine lv_topi (fun v8 e8 => ?_)
    refine lv_goto (tgt := 18) C.x C.b d_S_present_11 (by decide) ?_
    exact g_iret C _ V ⟨rfl, by rw [e8, X.2.2.2.2.2.2.2.1]; unfold a_pres; rw [e1, X.2.2.2.2.2.2.1] at c4; rw [if_pos (by simpa using c4)]⟩ d_S_present_18
set_option maxHeartbeats 200000 in
set_option maxRecDepth 20000 in
theorem c_S_isWanted (X : RX u a) (I : Inv a)  : gMi lx D (ty3 cI cZ cJ) (XW h cI cZ) y_S_isWanted b_S_isWanted 1 (some .boolean) ({ frames := 0, cells := 0, slots := 0, locals := 0 } : Room) 0 0 [.ref (h 2)] ((XW h cI cZ) u) (fun x u' => u = u' ∧ x = if aW a = true then 1 else 0) := by
  refine gMi.of (by decide) (Nat.le_of_ble_eq_true rfl) (fun pg ev st md bl mt cd A ls C hmn hl V => ?_)
  have hl : lv_has ls 1 [(0, .ref (h 2))] := hl
  refine lv_aload_n C.x C.b d_S_isWanted_0 rfl (lv_at hl 0 rfl) ?_
  refine xg_wanted C V fl_S_23 d_S_isWanted_1 ?_
  refine lv_topi (fun v1 e1 => ?_)
  exact g_zret C _ V ⟨rfl, by rw [e1]; exact X.2.2.2.2.2.2.1⟩ (by rw [e1, X.2.2.2.2.2.2.1]; split <;> simp) d_S_isWanted_4
set_option maxHeartbeats 200000 in
set_option maxRecDepth 20000 in
theorem c_S_priority (X : RX u a) (I : Inv a) (p : Nat) (hp : p < 32) (hm : aM a p = true) : gMi lx D (ty3 cI cZ cJ) (XW h cI cZ) y_S_priority b_S_priority 2 (some .int) ({ frames := 2, cells := 0, slots := 0, locals := 46 } : Room) 0 0 [.ref (h 2), .int (nI (2 * (p + 1)))] ((XW h cI cZ) u) (fun x u' => u = u' ∧ x = nI (aP a p)) := by
  refine gMi.of (by decide) (Nat.le_of_ble_eq_true rfl) (fun pg ev st md bl mt cd A ls C hmn hl V => ?_)
  have hl : lv_has ls 2 [(0, .ref (h 2)), (1, .int (nI (2 * (p + 1))))] := hl
  refine lv_aload_n C.x C.b d_S_priority_0 rfl (lv_at hl 0 rfl) ?_
  refine xg_fields C V fl_S_9 d_S_priority_1 ?_
  refine lv_aload_n C.x C.b d_S_priority_4 rfl (lv_at hl 0 rfl) ?_
  refine xg_fields C V fl_S_9 d_S_priority_5 ?_
  refine lv_iload_n C.x C.b d_S_priority_8 rfl (lv_at hl 1 rfl) ?_
  refine g_iU (q0 := 1) (x := ⟨R_L, "process", "(I)I"⟩) (owner := R_L) (As := [.int (nI (2 * (p + 1)))]) (rest := [.ref (h 1)]) C V (fun z => z.2.2.2.2.1) cs_S_42 (c_P_process (nI (2 * (p + 1)))) rfl rfl (by decide) rfl hl.1 rfl (Nat.le_of_ble_eq_true rfl) d_S_priority_9 (fun r9 u9 H locs w9 V => ?_)
  obtain ⟨rfl, q9⟩ := w9
  obtain rfl : r9 = nI (2 * (p + 1)) := q9
  refine lv_iconst (v := 2) C.x C.b d_S_priority_12 (by decide) ?_
  refine lv_iconst (v := 1) C.x C.b d_S_priority_13 (by decide) ?_
  refine lv_bipush (v := 8) C.x C.b d_S_priority_14 (by decide) ?_
  refine g_iU (q0 := 1) (x := ⟨R_L, "number", "(IIII)I"⟩) (owner := R_L) (As := [.int (nI (2 * (p + 1))), .int 2, .int 1, .int 8]) (rest := []) C V (fun z => z.2.2.1) cs_S_61 (c_P_number (p + 1) 2 1 8 (by omega) (by omega)) rfl rfl (by decide) rfl hl.1 rfl (Nat.le_of_ble_eq_true rfl) d_S_priority_16 (fun r16 u16 H locs w16 V => ?_)
  obtain ⟨rfl, q16⟩ := w16
  exact g_iret C _ V ⟨rfl, by rw [q16, X.1.2.1 p hp hm]; exact nk_half (by have := I.pri hp hm; omega)⟩ d_S_priority_19
set_option maxHeartbeats 200000 in
set_option maxRecDepth 20000 in
theorem c_S_readyRow (X : RX u a) (I : Inv a) (n : Nat) (h1 : 1 ≤ n) (h8 : n ≤ 8) : gMi lx D (ty3 cI cZ cJ) (XW h cI cZ) y_S_readyRow b_S_readyRow 2 (some .int) ({ frames := 1, cells := 0, slots := 0, locals := 22 } : Room) 0 0 [.ref (h 2), .int (nI n)] ((XW h cI cZ) u) (fun x u' => u = u' ∧ x = nI (2 * kR n)) := by
  refine gMi.of (by decide) (Nat.le_of_ble_eq_true rfl) (fun pg ev st md bl mt cd A ls C hmn hl V => ?_)
  have hl : lv_has ls 2 [(0, .ref (h 2)), (1, .int (nI n))] := hl
  refine lv_aload_n C.x C.b d_S_readyRow_0 rfl (lv_at hl 0 rfl) ?_
  refine xg_fields C V fl_S_9 d_S_readyRow_1 ?_
  refine lv_aload_n C.x C.b d_S_readyRow_4 rfl (lv_at hl 0 rfl) ?_
  refine xg_fields C V fl_S_9 d_S_readyRow_5 ?_
  refine lv_aload_n C.x C.b d_S_readyRow_8 rfl (lv_at hl 0 rfl) ?_
  refine xg_fields C V fl_S_9 d_S_readyRow_9 ?_
  refine lv_aload_n C.x C.b d_S_readyRow_12 rfl (lv_at hl 0 rfl) ?_
  refine xg_scheduler C V fl_S_19 d_S_readyRow_13 ?_
  refine lv_topi (fun v13 e13 => ?_)
  obtain rfl : v13 = 114 := by rw [e13]; exact X.2.2.1
  refine lv_iconst (v := 0) C.x C.b d_S_readyRow_16 (by decide) ?_
  refine g_iU (q0 := 1) (x := ⟨R_L, "get", "(II)I"⟩) (owner := R_L) (As := [.int 114, .int 0]) (rest := [.ref (h 1), .ref (h 1)]) C V (fun z => z.1) cs_S_36 (c_P_get (57) 0 (by omega) (by omega)) rfl rfl (by decide) rfl hl.1 rfl (Nat.le_of_ble_eq_true rfl) d_S_readyRow_17 (fun r17 u17 H locs w17 V => ?_)
  obtain ⟨rfl, q17⟩ := w17
  obtain rfl : r17 = 120 := by rw [q17]; exact X.1.2.2.2.2.2.1
  refine lv_iload_n C.x C.b d_S_readyRow_20 rfl (lv_at hl 1 rfl) ?_
  refine lv_iconst (v := 1) C.x C.b d_S_readyRow_21 (by decide) ?_
  refine lv_isub C.x C.b d_S_readyRow_22 ?_
  refine lv_topi (fun v22 e22 => ?_)
  obtain rfl : v22 = nI (n - 1) := by rw [e22]; exact pk_sub (b := 1) h1
  refine g_iU (q0 := 1) (x := ⟨R_L, "get", "(II)I"⟩) (owner := R_L) (As := [.int 120, .int (nI (n - 1))]) (rest := [.ref (h 1)]) C V (fun z => z.1) cs_S_36 (c_P_getT (n - 1) (by omega)) rfl rfl (by decide) rfl hl.1 rfl (Nat.le_of_ble_eq_true rfl) d_S_readyRow_23 (fun r23 u23 H locs w23 V => ?_)
  obtain ⟨rfl, q23⟩ := w23
  obtain rfl : r23 = nI (2 * kR n) := by rw [q23, X.2.1 (n - 1) (by omega), kR_r h8]; congr 1; omega
  refine g_iU (q0 := 1) (x := ⟨R_L, "row", "(I)I"⟩) (owner := R_L) (As := [.int (nI (2 * kR n))]) (rest := []) C V (fun z => z.2.2.2.1) cs_S_65 (c_P_row (nI (2 * kR n))) rfl rfl (by decide) rfl hl.1 rfl (Nat.le_of_ble_eq_true rfl) d_S_readyRow_26 (fun r26 u26 H locs w26 V => ?_)
  obtain ⟨rfl, q26⟩ := w26
  exact g_iret C _ V ⟨rfl, q26⟩ d_S_readyRow_29
set_option maxHeartbeats 200000 in
set_option maxRecDepth 20000 in
theorem c_S_sleep (X : RX u a) (I : Inv a) (p : Nat) (hp : p < 32) (hm : aM a p = true) (hr : aR a p = 0) : gMv lx D (ty3 cI cZ cJ) (XW h cI cZ) y_S_sleep b_S_sleep 2 ({ frames := 3, cells := 0, slots := 0, locals := 67 } : Room) 0 0 [.ref (h 2), .int (nI (2 * (p + 1)))] ((XW h cI cZ) u) (fun u' => RX u' (a_enq a p (aP a p))) := by
  refine gMv.of (by decide) (Nat.le_of_ble_eq_true rfl) (fun pg ev st md bl mt cd A ls C hmn hl V => ?_)
  have hl : lv_has ls 2 [(0, .ref (h 2)), (1, .int (nI (2 * (p + 1))))] := hl
  have pp := I.pri hp hm
  refine lv_aload_n C.x C.b d_S_sleep_0 rfl (lv_at hl 0 rfl) ?_
  refine lv_aload_n C.x C.b d_S_sleep_1 rfl (lv_at hl 0 rfl) ?_
  refine lv_aload_n C.x C.b d_S_sleep_2 rfl (lv_at hl 0 rfl) ?_
  refine lv_iload_n C.x C.b d_S_sleep_3 rfl (lv_at hl 1 rfl) ?_
  refine g_iV (q0 := 2) (As := [.int (nI (2 * (p + 1)))]) (rest := [.ref (h 2), .ref (h 2)]) C V cs_S_68 (c_S_priority X I p hp hm) rfl rfl (by decide) rfl hl.1 rfl (Nat.le_of_ble_eq_true rfl) d_S_sleep_4 (fun r4 u4 H locs w4 V => ?_)
  obtain ⟨rfl, q4⟩ := w4
  obtain rfl : r4 = nI (aP a p) := q4
  refine g_iV (q0 := 2) (As := [.int (nI (aP a p))]) (rest := [.ref (h 2)]) C V cs_S_71 (c_S_readyRow X I (aP a p) pp.1 pp.2) rfl rfl (by decide) rfl hl.1 rfl (Nat.le_of_ble_eq_true rfl) d_S_sleep_7 (fun r7 u7 H locs w7 V => ?_)
  obtain ⟨rfl, q7⟩ := w7
  obtain rfl : r7 = nI (2 * kR (aP a p)) := q7
  refine lv_iload_n C.x C.b d_S_sleep_10 rfl (lv_at hl 1 rfl) ?_
  refine g_vV (q0 := 2) (As := [.int (nI (2 * kR (aP a p))), .int (nI (2 * (p + 1)))]) (rest := []) C V cs_S_74 (c_S_addLast X I (aP a p) p (Or.inl pp) hp hr) rfl rfl (by decide) rfl hl.1 rfl (Nat.le_of_ble_eq_true rfl) d_S_sleep_11 (fun u11 H locs w11 V => ?_)
  exact g_vret C _ V w11 d_S_sleep_14
set_option maxHeartbeats 200000 in
set_option maxRecDepth 20000 in
theorem c_S_change (X : RX u a) (o : Option Nat) (x : Int32) (hx : x = eO o) : gMv lx D (ty3 cI cZ cJ) (XW h cI cZ) y_S_change b_S_change 2 ({ frames := 0, cells := 0, slots := 0, locals := 0 } : Room) 0 0 [.ref (h 2), .int x] ((XW h cI cZ) u) (fun u' => RX u' (a_want a o)) := by
  refine gMv.of (by decide) (Nat.le_of_ble_eq_true rfl) (fun pg ev st md bl mt cd A ls C hmn hl V => ?_)
  have hl : lv_has ls 2 [(0, .ref (h 2)), (1, .int x)] := hl
  refine lv_aload_n C.x C.b d_S_change_0 rfl (lv_at hl 0 rfl) ?_
  refine lv_iconst (v := 1) C.x C.b d_S_change_1 (by decide) ?_
  refine xp_wanted C V fl_S_23 (by decide) d_S_change_2 (fun H locs V => ?_)
  refine lv_aload_n C.x C.b d_S_change_5 rfl (lv_at hl 0 rfl) ?_
  refine lv_iload_n C.x C.b d_S_change_6 rfl (lv_at hl 1 rfl) ?_
  refine xp_wp C V fl_S_27 d_S_change_7 (fun H locs V => ?_)
  exact g_vret C _ V ⟨X.1, X.2.1, X.2.2.1, X.2.2.2.1, X.2.2.2.2.1, X.2.2.2.2.2.1, rfl, hx, X.2.2.2.2.2.2.2.2⟩ d_S_change_10
end
end
section
def eN : Option Nat → Int32
  | none => -1
  | some p => nI p
def a_yield (a : AS) : Int32 × AS := match a_pres a with
  | none => (0, a)
  | some o => if aQ a (aP a o) = [] then (0, a) else (1, a_aside (a_enq a o (aP a o)))
def a_await (a : AS) (s : Nat) : Int32 × AS := match a_pres a with
  | none => (-1, a)
  | some p => if 0 < aE a s then (1, a_ext a s (aE a s - 1)) else (0, a_aside (a_enq a p (16 + s)))
def a_push (a : AS) (s : Nat) : AS := (aQ a, aR a, aT a, aN a, aM a, aP a, aL a, aE a, aO a ++ [s], aA a, aH a, aW a, aC a)
def a_post (a : AS) (s : Nat) : Int32 × AS := if (aO a).length = 40 then (-1, a) else (nI ((aO a).length + 1), a_push a s)
def a_act (a : AS) (c : Option Nat) : AS := (aQ a, aR a, aT a, aN a, aM a, aP a, aL a, aE a, aO a, c, aH a, aW a, aC a)
def a_forget (a : AS) (p : Nat) : AS := if aA a = some p then a_act a none else a
def a_place (a : AS) (o : Nat) (v : Int32) : AS := (aQ a, aR a, aT a, aN a, aM a, aP a, va_up (aL a) o v, aE a, aO a, aA a, aH a, aW a, aC a)
section
variable {f : Nat → Int32} {a : AS}
theorem rc_ext (h : RC f a) {s : Nat} (hs : s < 16) (n : Nat) : RC (upd f (4 * kR (16 + s) + 2) (nI (2 * n + 1))) (a_ext a s n) := by
  rw [kR_s hs]
  obtain ⟨q1, q2, q3, q4, q5, q6, q7⟩ := h
  refine ⟨fun q h => ?_, fun q h hm => ?_, fun q h => ?_, fun r hr => ?_, fun t ht => ?_, ?_, ?_⟩
  · rw [ud_n (by omega)]; exact q1 q h
  · rw [ud_n (by omega)]; exact q2 q h hm
  · rw [ud_n (by omega)]; exact q3 q h
  · have kb := kR_b hr
    have := q4 r hr
    rw [ud_n (by omega), ud_n (by omega)]
    exact ⟨this.1, this.2.1, ch_eq (fun x hx => ud_n (by omega)) this.2.2⟩
  · show _ = nI (2 * va_up (aE a) s n t + 1)
    by_cases e : t = s
    · subst e; rw [ud_s, up_s]
    · rw [ud_n (by omega), up_n _ _ e]; exact q5 t ht
  · rw [ud_n (by omega)]; exact q6
  · rw [ud_n (by omega)]; exact q7
theorem rc_place (h : RC f a) (I : Inv a) {o : Nat} (ho : o < 32) (v : Int32) : RC (upd f (4 * (o + 1) + 1) v) (a_place a o v) := by
  obtain ⟨q1, q2, q3, q4, q5, q6, q7⟩ := h
  refine ⟨fun q h => ?_, fun q h hm => ?_, fun q h => ?_, fun r hr => ?_, fun t ht => ?_, ?_, ?_⟩
  · show _ = va_up (aL a) o v q
    by_cases e : q = o
    · subst e; rw [ud_s, up_s]
    · rw [ud_n (by omega), up_n _ _ e]; exact q1 q h
  · rw [ud_n (by omega)]; exact q2 q h hm
  · rw [ud_n (by omega)]; exact q3 q h
  · have kb := kR_b hr
    have := q4 r hr
    rw [ud_n (by omega), ud_n (by omega)]
    exact ⟨this.1, this.2.1, ch_eq (fun x hx => ud_n (by omega)) this.2.2⟩
  · rw [ud_n (by omega)]; exact q5 t ht
  · rw [ud_n (by omega)]; exact q6
  · rw [ud_n (by omega)]; exact q7
theorem rc_act (h : RC f a) (I : Inv a) (c : Option Nat) : RC (upd f 229 (eO c)) (a_act a c) := by
  obtain ⟨q1, q2, q3, q4, q5, q6, q7⟩ := h
  refine ⟨fun q h => ?_, fun q h hm => ?_, fun q h => ?_, fun r hr => ?_, fun t ht => ?_, ?_, ud_s⟩
  · rw [ud_n (by omega)]; exact q1 q h
  · rw [ud_n (by omega)]; exact q2 q h hm
  · rw [ud_n (by omega)]; exact q3 q h
  · have kb := kR_b hr
    have := q4 r hr
    rw [ud_n (by omega), ud_n (by omega)]
    exact ⟨this.1, this.2.1, ch_eq (fun x hx => ud_n (by have := I.b32 hr x hx; omega)) this.2.2⟩
  · rw [ud_n (by omega)]; exact q5 t ht
  · rw [ud_n (by omega)]; exact q6
theorem top_skip {Q : Nat → List Nat} {n : Nat} : ∀ m, n ≤ m → (∀ r, n < r → r ≤ m → Q r = []) → a_top Q m = a_top Q n
  | 0, h, _ => by rw [show n = 0 by omega]
  | m + 1, h, hr => by
    by_cases e : n = m + 1
    · rw [e]
    · have h1 : Q (m + 1) = [] := hr (m + 1) (by omega) (Nat.le_refl _)
      show (match Q (m + 1) with | [] => a_top Q m | p :: _ => some p) = _
      rw [h1]
      exact top_skip m (by omega) (fun r h1 h2 => hr r h1 (by omega))
theorem as_none (h : a_top (aQ a) 8 = none) : a_aside a = a_want a none := by unfold a_aside; rw [h]
theorem as_some {p : Nat} (h : a_top (aQ a) 8 = some p) : a_aside a = a_want (a_rem a p) (some p) := by unfold a_aside; rw [h]
theorem wk_none {p : Nat} (h : a_pres a = none) : a_wake a p = a_want a (some p) := by unfold a_wake; rw [h]
theorem wk_lo {p o : Nat} (h : a_pres a = some o) (hc : aP a p ≤ aP a o) : a_wake a p = a_enq a p (aP a p) := by unfold a_wake; rw [h]; exact if_pos hc
theorem wk_hi {p o : Nat} (h : a_pres a = some o) (hc : ¬ aP a p ≤ aP a o) : a_wake a p = a_want (a_enq a o (aP a o)) (some p) := by unfold a_wake; rw [h]; exact if_neg hc
theorem split_at {L : List Nat} {i b p : Nat} (h1 : L[i]? = some b) (h2 : L[i + 1]? = some p) : L = L.take i ++ b :: p :: L.drop (i + 2) := by
  obtain ⟨l1, e1⟩ := List.getElem?_eq_some_iff.mp h1
  obtain ⟨l2, e2⟩ := List.getElem?_eq_some_iff.mp h2
  have : L.drop i = b :: p :: L.drop (i + 2) := by
    rw [List.drop_eq_getElem_cons l1, e1, List.drop_eq_getElem_cons l2, e2]
  rw [← this, List.take_append_drop]
end
section
variable {lx : Launch} {D : va_G} {h : Nat → Nat} {cI cZ cJ : ClassId}
variable {u : XS} {a : AS}
set_option maxHeartbeats 200000 in
set_option maxRecDepth 20000 in
theorem c_S_remove0 (X : RX u a) (I : Inv a) (r p : Nat) (hv : vR r) (l : List Nat) (he : aQ a r = p :: l) : gMv lx D (ty3 cI cZ cJ) (XW h cI cZ) y_S_remove b_S_remove 5 ({ frames := 2, cells := 0, slots := 0, locals := 46 } : Room) 0 0 [.ref (h 2), .int (nI (2 * (p + 1)))] ((XW h cI cZ) u) (fun u' => RX u' (a_rem a p)) := by
  refine gMv.of (by decide) (Nat.le_of_ble_eq_true rfl) (fun pg ev st md bl mt cd A ls C hmn hl V => ?_)
  have hl : lv_has ls 5 [(0, .ref (h 2)), (1, .int (nI (2 * (p + 1))))] := hl
  have kb := kR_b hv
  have hd := I.hd hv he
  have hp := hd.1
  refine lv_aload_n C.x C.b d_S_remove_0 rfl (lv_at hl 0 rfl) ?_
  refine xg_fields C V fl_S_9 d_S_remove_1 ?_
  refine lv_iload_n C.x C.b d_S_remove_4 rfl (lv_at hl 1 rfl) ?_
  refine lv_iconst (v := 3) C.x C.b d_S_remove_5 (by decide) ?_
  refine g_iU (q0 := 1) (x := ⟨R_L, "get", "(II)I"⟩) (owner := R_L) (As := [.int (nI (2 * (p + 1))), .int 3]) (rest := []) C V (fun z => z.1) cs_S_36 (c_P_get (p + 1) 3 (by omega) (by omega)) rfl rfl (by decide) rfl hl.1 rfl (Nat.le_of_ble_eq_true rfl) d_S_remove_6 (fun r6 u6 H locs w6 V => ?_)
  obtain ⟨rfl, q6⟩ := w6
  obtain rfl : r6 = nI (2 * kR r) := by rw [q6, X.1.2.2.1 p hd.1, hd.2.1, eR_v hv]
  refine lv_istore_n (lv' := [(2, .int (nI (2 * kR r))), (0, .ref (h 2)), (1, .int (nI (2 * (p + 1))))]) C.x C.b d_S_remove_9 rfl hl (by decide) rfl (fun ls hl => ?_)
  refine lv_aload_n C.x C.b d_S_remove_10 rfl (lv_at hl 1 rfl) ?_
  refine xg_fields C V fl_S_9 d_S_remove_11 ?_
  refine lv_iload_n C.x C.b d_S_remove_14 rfl (lv_at hl 0 rfl) ?_
  refine lv_iconst (v := 0) C.x C.b d_S_remove_15 (by decide) ?_
  refine g_iU (q0 := 1) (x := ⟨R_L, "get", "(II)I"⟩) (owner := R_L) (As := [.int (nI (2 * kR r)), .int 0]) (rest := []) C V (fun z => z.1) cs_S_36 (c_P_get (kR r) 0 (by omega) (by omega)) rfl rfl (by decide) rfl hl.1 rfl (Nat.le_of_ble_eq_true rfl) d_S_remove_16 (fun r16 u16 H locs w16 V => ?_)
  obtain ⟨rfl, q16⟩ := w16
  obtain rfl : r16 = nI (2 * (p + 1)) := by rw [q16]; refine (rx_first X hv).trans ?_; rw [he]; rfl
  refine lv_iload_n C.x C.b d_S_remove_19 rfl (lv_at hl 2 rfl) ?_
  refine lv_icmp_ne (tgt := 30) C.x C.b d_S_remove_20 (by decide) (fun c20 => ?_) (fun c20 => ?_)
  · exact absurd rfl c20
  · refine lv_aload_n C.x C.b d_S_remove_23 rfl (lv_at hl 1 rfl) ?_
    refine lv_iload_n C.x C.b d_S_remove_24 rfl (lv_at hl 0 rfl) ?_
    refine g_iV (q0 := 2) (As := [.int (nI (2 * kR r))]) (rest := []) C V cs_S_54 (c_S_removeFirst X I r p hv l he) rfl rfl (by decide) rfl hl.1 rfl (Nat.le_of_ble_eq_true rfl) d_S_remove_25 (fun r25 u25 H locs w25 V => ?_)
    refine lv_pop C.x C.b d_S_remove_28 rfl ?_
    exact g_vret C _ V w25.2 d_S_remove_29
set_option maxHeartbeats 200000 in
set_option maxRecDepth 20000 in
theorem tl_S_remove0 {pg : Program} {ev : Env} {st : State} {md : MethodId} {args : Array Value} {bl : List Frame} {mt : Method} {cd : Code} {A : Nat → Prop} (X : RX u a) (I : Inv a) (r p b : Nat) (hv : vR r) (A0 : List Nat) (he : aQ a r = A0 ++ [b, p]) (C : gC pg st md args mt cd b_S_remove 5 y_S_remove.cls none D (ty3 cI cZ cJ) A) : ∀ (H : Heap) (locs : List Loc) (ls : Array Slot), gV D A st ((XW h cI cZ) u) H locs → lv_has ls 5 [(0, .ref (h 2)), (1, .int (nI (2 * (p + 1)))), (2, .int (nI (2 * kR r))), (3, .int (nI (2 * (b + 1))))] → W pg lx ev ({ frames := 2, cells := 0, slots := 0, locals := 46 } : Room) st md args bl mt cd H locs 0 0 (MQ bl (va_Qv (fun u' => RX u' (a_rem a p)) (fun u t => gB D (ty3 cI cZ cJ) A ((XW h cI cZ) u) t) A) args st 0 0 A) (F0 md 66 ls []) := by
  intro H locs ls V hl
  have kb := kR_b hv
  have hp := I.b32 hv p (by rw [he]; simp)
  have hb := I.b32 hv b (by rw [he]; simp)
  refine lv_aload_n C.x C.b d_S_remove_66 rfl (lv_at hl 0 rfl) ?_
  refine xg_fields C V fl_S_9 d_S_remove_67 ?_
  refine lv_iload_n C.x C.b d_S_remove_70 rfl (lv_at hl 1 rfl) ?_
  refine lv_iconst (v := 0) C.x C.b d_S_remove_71 (by decide) ?_
  refine g_iU (q0 := 1) (x := ⟨R_L, "get", "(II)I"⟩) (owner := R_L) (As := [.int (nI (2 * (p + 1))), .int 0]) (rest := []) C V (fun z => z.1) cs_S_36 (c_P_get (p + 1) 0 (by omega) (by omega)) rfl rfl (by decide) rfl hl.1 rfl (Nat.le_of_ble_eq_true rfl) d_S_remove_72 (fun r72 u72 H locs w72 V => ?_)
  obtain ⟨rfl, q72⟩ := w72
  obtain rfl : r72 = 0 := by rw [q72]; refine (ch_at (rx_ch X hv) (i := A0.length + 1) (q := p) (by rw [he]; simp)).trans ?_; rw [he]; simp; rfl
  refine lv_istore (lv' := [(4, .int 0), (0, .ref (h 2)), (1, .int (nI (2 * (p + 1)))), (2, .int (nI (2 * kR r))), (3, .int (nI (2 * (b + 1))))]) C.x C.b d_S_remove_75 hl (by decide) rfl (fun ls hl => ?_)
  refine lv_aload_n C.x C.b d_S_remove_77 rfl (lv_at hl 1 rfl) ?_
  refine xg_fields C V fl_S_9 d_S_remove_78 ?_
  refine lv_iload_n C.x C.b d_S_remove_81 rfl (lv_at hl 4 rfl) ?_
  refine lv_iconst (v := 0) C.x C.b d_S_remove_82 (by decide) ?_
  refine lv_iload C.x C.b d_S_remove_83 (lv_at hl 0 rfl) ?_
  refine g_vU (q0 := 1) (x := ⟨R_L, "put", "(III)V"⟩) (owner := R_L) (As := [.int (nI (2 * (b + 1))), .int 0, .int 0]) (rest := []) C V (fun z => z.2.1) cs_S_50 (c_P_put (b + 1) 0 (0) (by omega) (by omega)) rfl rfl (by decide) rfl hl.1 rfl (Nat.le_of_ble_eq_true rfl) d_S_remove_85 (fun u85 H locs w85 V => ?_)
  subst w85
  refine lv_iload C.x C.b d_S_remove_88 (lv_at hl 0 rfl) ?_
  refine lv_if_ne (tgt := 103) C.x C.b d_S_remove_90 (by decide) (fun c90 => ?_) (fun c90 => ?_)
  · exact absurd rfl c90
  · refine lv_aload_n C.x C.b d_S_remove_93 rfl (lv_at hl 1 rfl) ?_
    refine xg_fields C V fl_S_9 d_S_remove_94 ?_
    refine lv_iload_n C.x C.b d_S_remove_97 rfl (lv_at hl 3 rfl) ?_
    refine lv_iconst (v := 1) C.x C.b d_S_remove_98 (by decide) ?_
    refine lv_iload_n C.x C.b d_S_remove_99 rfl (lv_at hl 4 rfl) ?_
    refine g_vU (q0 := 1) (x := ⟨R_L, "put", "(III)V"⟩) (owner := R_L) (As := [.int (nI (2 * kR r)), .int 1, .int (nI (2 * (b + 1)))]) (rest := []) C V (fun z => z.2.1) cs_S_50 (c_P_put (kR r) 1 (nI (2 * (b + 1))) (by omega) (by omega)) rfl rfl (by decide) rfl hl.1 rfl (Nat.le_of_ble_eq_true rfl) d_S_remove_100 (fun u100 H locs w100 V => ?_)
    subst w100
    refine lv_aload_n C.x C.b d_S_remove_103 rfl (lv_at hl 1 rfl) ?_
    refine xg_fields C V fl_S_9 d_S_remove_104 ?_
    refine lv_iload_n C.x C.b d_S_remove_107 rfl (lv_at hl 2 rfl) ?_
    refine lv_iconst (v := 0) C.x C.b d_S_remove_108 (by decide) ?_
    refine lv_iconst (v := 0) C.x C.b d_S_remove_109 (by decide) ?_
    refine g_vU (q0 := 1) (x := ⟨R_L, "put", "(III)V"⟩) (owner := R_L) (As := [.int (nI (2 * (p + 1))), .int 0, .int 0]) (rest := []) C V (fun z => z.2.1) cs_S_50 (c_P_put (p + 1) 0 (0) (by omega) (by omega)) rfl rfl (by decide) rfl hl.1 rfl (Nat.le_of_ble_eq_true rfl) d_S_remove_110 (fun u110 H locs w110 V => ?_)
    subst w110
    refine lv_aload_n C.x C.b d_S_remove_113 rfl (lv_at hl 1 rfl) ?_
    refine xg_fields C V fl_S_9 d_S_remove_114 ?_
    refine lv_iload_n C.x C.b d_S_remove_117 rfl (lv_at hl 2 rfl) ?_
    refine lv_iconst (v := 3) C.x C.b d_S_remove_118 (by decide) ?_
    refine lv_iconst (v := 0) C.x C.b d_S_remove_119 (by decide) ?_
    refine g_vU (q0 := 1) (x := ⟨R_L, "put", "(III)V"⟩) (owner := R_L) (As := [.int (nI (2 * (p + 1))), .int 3, .int 0]) (rest := []) C V (fun z => z.2.1) cs_S_50 (c_P_put (p + 1) 3 (0) (by omega) (by omega)) rfl rfl (by decide) rfl hl.1 rfl (Nat.le_of_ble_eq_true rfl) d_S_remove_120 (fun u120 H locs w120 V => ?_)
    subst w120
    exact g_vret C _ V ⟨rc_mid0 X.1 I hv he, X.2⟩ d_S_remove_123
set_option maxHeartbeats 200000 in
set_option maxRecDepth 20000 in
theorem tl_S_remove1 {pg : Program} {ev : Env} {st : State} {md : MethodId} {args : Array Value} {bl : List Frame} {mt : Method} {cd : Code} {A : Nat → Prop} (X : RX u a) (I : Inv a) (r p b : Nat) (hv : vR r) (q : Nat) (A0 C0 : List Nat) (he : aQ a r = A0 ++ b :: p :: q :: C0) (C : gC pg st md args mt cd b_S_remove 5 y_S_remove.cls none D (ty3 cI cZ cJ) A) : ∀ (H : Heap) (locs : List Loc) (ls : Array Slot), gV D A st ((XW h cI cZ) u) H locs → lv_has ls 5 [(0, .ref (h 2)), (1, .int (nI (2 * (p + 1)))), (2, .int (nI (2 * kR r))), (3, .int (nI (2 * (b + 1))))] → W pg lx ev ({ frames := 2, cells := 0, slots := 0, locals := 46 } : Room) st md args bl mt cd H locs 0 0 (MQ bl (va_Qv (fun u' => RX u' (a_rem a p)) (fun u t => gB D (ty3 cI cZ cJ) A ((XW h cI cZ) u) t) A) args st 0 0 A) (F0 md 66 ls []) := by
  intro H locs ls V hl
  have kb := kR_b hv
  have hp := I.b32 hv p (by rw [he]; simp)
  have hb := I.b32 hv b (by rw [he]; simp)
  refine lv_aload_n C.x C.b d_S_remove_66 rfl (lv_at hl 0 rfl) ?_
  refine xg_fields C V fl_S_9 d_S_remove_67 ?_
  refine lv_iload_n C.x C.b d_S_remove_70 rfl (lv_at hl 1 rfl) ?_
  refine lv_iconst (v := 0) C.x C.b d_S_remove_71 (by decide) ?_
  refine g_iU (q0 := 1) (x := ⟨R_L, "get", "(II)I"⟩) (owner := R_L) (As := [.int (nI (2 * (p + 1))), .int 0]) (rest := []) C V (fun z => z.1) cs_S_36 (c_P_get (p + 1) 0 (by omega) (by omega)) rfl rfl (by decide) rfl hl.1 rfl (Nat.le_of_ble_eq_true rfl) d_S_remove_72 (fun r72 u72 H locs w72 V => ?_)
  obtain ⟨rfl, q72⟩ := w72
  obtain rfl : r72 = nI (2 * (q + 1)) := by rw [q72]; refine (ch_at (rx_ch X hv) (i := A0.length + 1) (q := p) (by rw [he]; simp)).trans ?_; rw [he, List.getElem?_append_right (by omega), show A0.length + 1 + 1 - A0.length = 2 by omega]; rfl
  refine lv_istore (lv' := [(4, .int (nI (2 * (q + 1)))), (0, .ref (h 2)), (1, .int (nI (2 * (p + 1)))), (2, .int (nI (2 * kR r))), (3, .int (nI (2 * (b + 1))))]) C.x C.b d_S_remove_75 hl (by decide) rfl (fun ls hl => ?_)
  refine lv_aload_n C.x C.b d_S_remove_77 rfl (lv_at hl 1 rfl) ?_
  refine xg_fields C V fl_S_9 d_S_remove_78 ?_
  refine lv_iload_n C.x C.b d_S_remove_81 rfl (lv_at hl 4 rfl) ?_
  refine lv_iconst (v := 0) C.x C.b d_S_remove_82 (by decide) ?_
  refine lv_iload C.x C.b d_S_remove_83 (lv_at hl 0 rfl) ?_
  refine g_vU (q0 := 1) (x := ⟨R_L, "put", "(III)V"⟩) (owner := R_L) (As := [.int (nI (2 * (b + 1))), .int 0, .int (nI (2 * (q + 1)))]) (rest := []) C V (fun z => z.2.1) cs_S_50 (c_P_put (b + 1) 0 (nI (2 * (q + 1))) (by omega) (by omega)) rfl rfl (by decide) rfl hl.1 rfl (Nat.le_of_ble_eq_true rfl) d_S_remove_85 (fun u85 H locs w85 V => ?_)
  subst w85
  refine lv_iload C.x C.b d_S_remove_88 (lv_at hl 0 rfl) ?_
  refine lv_if_ne (tgt := 103) C.x C.b d_S_remove_90 (by decide) (fun c90 => ?_) (fun c90 => ?_)
  · refine lv_aload_n C.x C.b d_S_remove_103 rfl (lv_at hl 1 rfl) ?_
    refine xg_fields C V fl_S_9 d_S_remove_104 ?_
    refine lv_iload_n C.x C.b d_S_remove_107 rfl (lv_at hl 2 rfl) ?_
    refine lv_iconst (v := 0) C.x C.b d_S_remove_108 (by decide) ?_
    refine lv_iconst (v := 0) C.x C.b d_S_remove_109 (by decide) ?_
    refine g_vU (q0 := 1) (x := ⟨R_L, "put", "(III)V"⟩) (owner := R_L) (As := [.int (nI (2 * (p + 1))), .int 0, .int 0]) (rest := []) C V (fun z => z.2.1) cs_S_50 (c_P_put (p + 1) 0 (0) (by omega) (by omega)) rfl rfl (by decide) rfl hl.1 rfl (Nat.le_of_ble_eq_true rfl) d_S_remove_110 (fun u110 H locs w110 V => ?_)
    subst w110
    refine lv_aload_n C.x C.b d_S_remove_113 rfl (lv_at hl 1 rfl) ?_
    refine xg_fields C V fl_S_9 d_S_remove_114 ?_
    refine lv_iload_n C.x C.b d_S_remove_117 rfl (lv_at hl 2 rfl) ?_
    refine lv_iconst (v := 3) C.x C.b d_S_remove_118 (by decide) ?_
    refine lv_iconst (v := 0) C.x C.b d_S_remove_119 (by decide) ?_
    refine g_vU (q0 := 1) (x := ⟨R_L, "put", "(III)V"⟩) (owner := R_L) (As := [.int (nI (2 * (p + 1))), .int 3, .int 0]) (rest := []) C V (fun z => z.2.1) cs_S_50 (c_P_put (p + 1) 3 (0) (by omega) (by omega)) rfl rfl (by decide) rfl hl.1 rfl (Nat.le_of_ble_eq_true rfl) d_S_remove_120 (fun u120 H locs w120 V => ?_)
    subst w120
    exact g_vret C _ V ⟨rc_mid1 X.1 I hv he, X.2⟩ d_S_remove_123
  · exact absurd c90 (ob_n0 (I.b32 hv q (by rw [he]; simp)))
set_option maxHeartbeats 200000 in
set_option maxRecDepth 20000 in
theorem lp_S_remove {pg : Program} {ev : Env} {st : State} {md : MethodId} {args : Array Value} {bl : List Frame} {mt : Method} {cd : Code} {A : Nat → Prop} (X : RX u a) (I : Inv a) (r p j : Nat) (hv : vR r) (hj : (aQ a r)[j]? = some p) (C : gC pg st md args mt cd b_S_remove 5 y_S_remove.cls none D (ty3 cI cZ cJ) A) : ∀ (n i b : Nat), i < j → j ≤ i + n → (aQ a r)[i]? = some b → ∀ (H : Heap) (locs : List Loc) (ls : Array Slot), gV D A st ((XW h cI cZ) u) H locs → lv_has ls 5 [(0, .ref (h 2)), (1, .int (nI (2 * (p + 1)))), (2, .int (nI (2 * kR r))), (3, .int (nI (2 * (b + 1))))] → W pg lx ev ({ frames := 2, cells := 0, slots := 0, locals := 46 } : Room) st md args bl mt cd H locs 0 0 (MQ bl (va_Qv (fun u' => RX u' (a_rem a p)) (fun u t => gB D (ty3 cI cZ cJ) A ((XW h cI cZ) u) t) A) args st 0 0 A) (F0 md 40 ls []) := by
  intro n
  induction n with
  | zero => intro i b h1 h2; omega
  | succ n ih =>
    intro i b h1 h2 hb H locs ls V hl
    have kb := kR_b hv
    have hb32 := I.b32 hv b (List.mem_of_getElem? hb)
    obtain ⟨x, hx⟩ : ∃ x, (aQ a r)[i + 1]? = some x := by
      have := (List.getElem?_eq_some_iff.mp hj).1
      exact ⟨_, List.getElem?_eq_getElem (by omega)⟩
    refine lv_aload_n C.x C.b d_S_remove_40 rfl (lv_at hl 0 rfl) ?_
    refine xg_fields C V fl_S_9 d_S_remove_41 ?_
    refine lv_iload_n C.x C.b d_S_remove_44 rfl (lv_at hl 3 rfl) ?_
    refine lv_iconst (v := 0) C.x C.b d_S_remove_45 (by decide) ?_
    refine g_iU (q0 := 1) (x := ⟨R_L, "get", "(II)I"⟩) (owner := R_L) (As := [.int (nI (2 * (b + 1))), .int 0]) (rest := []) C V (fun z => z.1) cs_S_36 (c_P_get (b + 1) 0 (by omega) (by omega)) rfl rfl (by decide) rfl hl.1 rfl (Nat.le_of_ble_eq_true rfl) d_S_remove_46 (fun r46 u46 H locs w46 V => ?_)
    obtain ⟨rfl, q46⟩ := w46
    obtain rfl : r46 = nI (2 * (x + 1)) := by rw [q46]; refine (ch_at (rx_ch X hv) hb).trans ?_; rw [hx]; rfl
    refine lv_iload_n C.x C.b d_S_remove_49 rfl (lv_at hl 1 rfl) ?_
    refine lv_icmp_eq (tgt := 66) C.x C.b d_S_remove_50 (by decide) (fun c50 => ?_) (fun c50 => ?_)
    · have exp : x = p := Classical.byContradiction (fun z => ob_ne (I.b32 hv x (List.mem_of_getElem? hx)) (I.b32 hv p (List.mem_of_getElem? hj)) z c50)
      subst exp
      have hs := split_at hb hx
      cases hC : (aQ a r).drop (i + 2) with
      | nil => exact tl_S_remove0 X I r x b hv _ (by rw [hC] at hs; exact hs) C H locs ls V hl
      | cons q C0 => exact tl_S_remove1 X I r x b hv q _ C0 (by rw [hC] at hs; exact hs) C H locs ls V hl
    · have hij : i + 1 ≠ j := fun z => by subst z; rw [hj] at hx; cases hx; exact c50 rfl
      refine lv_aload_n C.x C.b d_S_remove_53 rfl (lv_at hl 0 rfl) ?_
      refine xg_fields C V fl_S_9 d_S_remove_54 ?_
      refine lv_iload_n C.x C.b d_S_remove_57 rfl (lv_at hl 3 rfl) ?_
      refine lv_iconst (v := 0) C.x C.b d_S_remove_58 (by decide) ?_
      refine g_iU (q0 := 1) (x := ⟨R_L, "get", "(II)I"⟩) (owner := R_L) (As := [.int (nI (2 * (b + 1))), .int 0]) (rest := []) C V (fun z => z.1) cs_S_36 (c_P_get (b + 1) 0 (by omega) (by omega)) rfl rfl (by decide) rfl hl.1 rfl (Nat.le_of_ble_eq_true rfl) d_S_remove_59 (fun r59 u59 H locs w59 V => ?_)
      obtain ⟨rfl, q59⟩ := w59
      obtain rfl : r59 = nI (2 * (x + 1)) := by rw [q59]; refine (ch_at (rx_ch X hv) hb).trans ?_; rw [hx]; rfl
      refine lv_istore_n (lv' := [(3, .int (nI (2 * (x + 1)))), (0, .ref (h 2)), (1, .int (nI (2 * (p + 1)))), (2, .int (nI (2 * kR r)))]) C.x C.b d_S_remove_62 rfl hl (by decide) rfl (fun ls hl => ?_)
      refine lv_goto (tgt := 40) C.x C.b d_S_remove_63 (by decide) ?_
      exact ih (i + 1) x (by omega) (by omega) hx H locs ls V (lv_sub hl [1, 2, 3, 0] rfl)
set_option maxHeartbeats 200000 in
set_option maxRecDepth 20000 in
theorem c_S_remove1 (X : RX u a) (I : Inv a) (r p x j : Nat) (hv : vR r) (l : List Nat) (he : aQ a r = x :: l) (hxp : x ≠ p) (hj : (aQ a r)[j]? = some p) : gMv lx D (ty3 cI cZ cJ) (XW h cI cZ) y_S_remove b_S_remove 5 ({ frames := 2, cells := 0, slots := 0, locals := 46 } : Room) 0 0 [.ref (h 2), .int (nI (2 * (p + 1)))] ((XW h cI cZ) u) (fun u' => RX u' (a_rem a p)) := by
  refine gMv.of (by decide) (Nat.le_of_ble_eq_true rfl) (fun pg ev st md bl mt cd A ls C hmn hl V => ?_)
  have hl : lv_has ls 5 [(0, .ref (h 2)), (1, .int (nI (2 * (p + 1))))] := hl
  have kb := kR_b hv
  have hpm := (I.mem hv (p := p)).mp (List.mem_of_getElem? hj)
  have hp := hpm.1
  have hx := (I.hd hv he).1
  refine lv_aload_n C.x C.b d_S_remove_0 rfl (lv_at hl 0 rfl) ?_
  refine xg_fields C V fl_S_9 d_S_remove_1 ?_
  refine lv_iload_n C.x C.b d_S_remove_4 rfl (lv_at hl 1 rfl) ?_
  refine lv_iconst (v := 3) C.x C.b d_S_remove_5 (by decide) ?_
  refine g_iU (q0 := 1) (x := ⟨R_L, "get", "(II)I"⟩) (owner := R_L) (As := [.int (nI (2 * (p + 1))), .int 3]) (rest := []) C V (fun z => z.1) cs_S_36 (c_P_get (p + 1) 3 (by omega) (by omega)) rfl rfl (by decide) rfl hl.1 rfl (Nat.le_of_ble_eq_true rfl) d_S_remove_6 (fun r6 u6 H locs w6 V => ?_)
  obtain ⟨rfl, q6⟩ := w6
  obtain rfl : r6 = nI (2 * kR r) := by rw [q6, X.1.2.2.1 p hp, hpm.2, eR_v hv]
  refine lv_istore_n (lv' := [(2, .int (nI (2 * kR r))), (0, .ref (h 2)), (1, .int (nI (2 * (p + 1))))]) C.x C.b d_S_remove_9 rfl hl (by decide) rfl (fun ls hl => ?_)
  refine lv_aload_n C.x C.b d_S_remove_10 rfl (lv_at hl 1 rfl) ?_
  refine xg_fields C V fl_S_9 d_S_remove_11 ?_
  refine lv_iload_n C.x C.b d_S_remove_14 rfl (lv_at hl 0 rfl) ?_
  refine lv_iconst (v := 0) C.x C.b d_S_remove_15 (by decide) ?_
  refine g_iU (q0 := 1) (x := ⟨R_L, "get", "(II)I"⟩) (owner := R_L) (As := [.int (nI (2 * kR r)), .int 0]) (rest := []) C V (fun z => z.1) cs_S_36 (c_P_get (kR r) 0 (by omega) (by omega)) rfl rfl (by decide) rfl hl.1 rfl (Nat.le_of_ble_eq_true rfl) d_S_remove_16 (fun r16 u16 H locs w16 V => ?_)
  obtain ⟨rfl, q16⟩ := w16
  obtain rfl : r16 = nI (2 * (x + 1)) := by rw [q16]; refine (rx_first X hv).trans ?_; rw [he]; rfl
  refine lv_iload_n C.x C.b d_S_remove_19 rfl (lv_at hl 2 rfl) ?_
  refine lv_icmp_ne (tgt := 30) C.x C.b d_S_remove_20 (by decide) (fun c20 => ?_) (fun c20 => ?_)
  · refine lv_aload_n C.x C.b d_S_remove_30 rfl (lv_at hl 1 rfl) ?_
    refine xg_fields C V fl_S_9 d_S_remove_31 ?_
    refine lv_iload_n C.x C.b d_S_remove_34 rfl (lv_at hl 0 rfl) ?_
    refine lv_iconst (v := 0) C.x C.b d_S_remove_35 (by decide) ?_
    refine g_iU (q0 := 1) (x := ⟨R_L, "get", "(II)I"⟩) (owner := R_L) (As := [.int (nI (2 * kR r)), .int 0]) (rest := []) C V (fun z => z.1) cs_S_36 (c_P_get (kR r) 0 (by omega) (by omega)) rfl rfl (by decide) rfl hl.1 rfl (Nat.le_of_ble_eq_true rfl) d_S_remove_36 (fun r36 u36 H locs w36 V => ?_)
    obtain ⟨rfl, q36⟩ := w36
    obtain rfl : r36 = nI (2 * (x + 1)) := by rw [q36]; refine (rx_first X hv).trans ?_; rw [he]; rfl
    refine lv_istore_n (lv' := [(3, .int (nI (2 * (x + 1)))), (2, .int (nI (2 * kR r))), (0, .ref (h 2)), (1, .int (nI (2 * (p + 1))))]) C.x C.b d_S_remove_39 rfl hl (by decide) rfl (fun ls hl => ?_)
    exact lp_S_remove X I r p j hv hj C j 0 x (Nat.pos_of_ne_zero (fun z => by subst z; rw [he] at hj; cases hj; exact hxp rfl)) (by omega) (by rw [he]; rfl) _ _ ls V (lv_sub hl [2, 3, 1, 0] rfl)
  · exact absurd c20 (ob_ne hx hp hxp)
theorem c_S_remove (X : RX u a) (I : Inv a) (p : Nat) (hp : p < 32) (hr : aR a p ≠ 0) : gMv lx D (ty3 cI cZ cJ) (XW h cI cZ) y_S_remove b_S_remove 5 ({ frames := 2, cells := 0, slots := 0, locals := 46 } : Room) 0 0 [.ref (h 2), .int (nI (2 * (p + 1)))] (XW h cI cZ u) (fun u' => RX u' (a_rem a p)) := by
  have hv := I.vr hp hr
  have hm := (I.mem hv).mpr ⟨hp, rfl⟩
  obtain ⟨j, hj⟩ := List.getElem?_of_mem hm
  cases e : aQ a (aR a p) with
  | nil => rw [e] at hm; cases hm
  | cons x l =>
    by_cases hx : x = p
    · subst hx; exact c_S_remove0 X I _ _ hv l e
    · exact c_S_remove1 X I _ p x j hv l e hx hj
set_option maxHeartbeats 200000 in
set_option maxRecDepth 20000 in
theorem c_S_wake0 (X : RX u a) (I : Inv a) (p : Nat) (hp : p < 32) (hm : aM a p = true) (hr : aR a p = 0) (ho : a_pres a = none) : gMv lx D (ty3 cI cZ cJ) (XW h cI cZ) y_S_wake b_S_wake 3 ({ frames := 4, cells := 0, slots := 0, locals := 88 } : Room) 0 0 [.ref (h 2), .int (nI (2 * (p + 1)))] ((XW h cI cZ) u) (fun u' => RX u' (a_wake a p)) := by
  refine gMv.of (by decide) (Nat.le_of_ble_eq_true rfl) (fun pg ev st md bl mt cd A ls C hmn hl V => ?_)
  have hl : lv_has ls 3 [(0, .ref (h 2)), (1, .int (nI (2 * (p + 1))))] := hl
  refine lv_aload_n C.x C.b d_S_wake_0 rfl (lv_at hl 0 rfl) ?_
  refine g_iV (q0 := 2) (As := []) (rest := []) C V cs_S_78 (c_S_present X I) rfl rfl (by decide) rfl hl.1 rfl (Nat.le_of_ble_eq_true rfl) d_S_wake_1 (fun r1 u1 H locs w1 V => ?_)
  obtain ⟨rfl, q1⟩ := w1
  obtain rfl : r1 = 0 := by rw [q1, ho]; rfl
  refine lv_istore_n (lv' := [(2, .int 0), (0, .ref (h 2)), (1, .int (nI (2 * (p + 1))))]) C.x C.b d_S_wake_4 rfl hl (by decide) rfl (fun ls hl => ?_)
  refine lv_iload_n C.x C.b d_S_wake_5 rfl (lv_at hl 0 rfl) ?_
  refine lv_if_eq (tgt := 28) C.x C.b d_S_wake_6 (by decide) (fun c6 => ?_) (fun c6 => ?_)
  · refine lv_iload_n C.x C.b d_S_wake_28 rfl (lv_at hl 0 rfl) ?_
    refine lv_if_eq (tgt := 37) C.x C.b d_S_wake_29 (by decide) (fun c29 => ?_) (fun c29 => ?_)
    · refine lv_aload_n C.x C.b d_S_wake_37 rfl (lv_at hl 1 rfl) ?_
      refine lv_iload_n C.x C.b d_S_wake_38 rfl (lv_at hl 2 rfl) ?_
      refine g_vV (q0 := 2) (As := [.int (nI (2 * (p + 1)))]) (rest := []) C V cs_S_85 (c_S_change X (some p) _ rfl) rfl rfl (by decide) rfl hl.1 rfl (Nat.le_of_ble_eq_true rfl) d_S_wake_39 (fun u39 H locs w39 V => ?_)
      exact g_vret C _ V (by rw [wk_none ho]; exact w39) d_S_wake_42
    · exact absurd rfl c29
  · exact absurd rfl c6
set_option maxHeartbeats 200000 in
set_option maxRecDepth 20000 in
theorem c_S_wake1 (X : RX u a) (I : Inv a) (P : Prs a) (p : Nat) (hp : p < 32) (hm : aM a p = true) (hr : aR a p = 0) (o : Nat) (ho : a_pres a = some o) : gMv lx D (ty3 cI cZ cJ) (XW h cI cZ) y_S_wake b_S_wake 3 ({ frames := 4, cells := 0, slots := 0, locals := 88 } : Room) 0 0 [.ref (h 2), .int (nI (2 * (p + 1)))] ((XW h cI cZ) u) (fun u' => RX u' (a_wake a p)) := by
  refine gMv.of (by decide) (Nat.le_of_ble_eq_true rfl) (fun pg ev st md bl mt cd A ls C hmn hl V => ?_)
  have hl : lv_has ls 3 [(0, .ref (h 2)), (1, .int (nI (2 * (p + 1))))] := hl
  have hq := P o ho
  have pp := I.pri hp hm
  have po := I.pri hq.1 hq.2.1
  refine lv_aload_n C.x C.b d_S_wake_0 rfl (lv_at hl 0 rfl) ?_
  refine g_iV (q0 := 2) (As := []) (rest := []) C V cs_S_78 (c_S_present X I) rfl rfl (by decide) rfl hl.1 rfl (Nat.le_of_ble_eq_true rfl) d_S_wake_1 (fun r1 u1 H locs w1 V => ?_)
  obtain ⟨rfl, q1⟩ := w1
  obtain rfl : r1 = nI (2 * (o + 1)) := by rw [q1, ho]; rfl
  refine lv_istore_n (lv' := [(2, .int (nI (2 * (o + 1)))), (0, .ref (h 2)), (1, .int (nI (2 * (p + 1))))]) C.x C.b d_S_wake_4 rfl hl (by decide) rfl (fun ls hl => ?_)
  refine lv_iload_n C.x C.b d_S_wake_5 rfl (lv_at hl 0 rfl) ?_
  refine lv_if_eq (tgt := 28) C.x C.b d_S_wake_6 (by decide) (fun c6 => ?_) (fun c6 => ?_)
  · exact absurd c6 (ob_n0 hq.1)
  · refine lv_aload_n C.x C.b d_S_wake_9 rfl (lv_at hl 1 rfl) ?_
    refine lv_iload_n C.x C.b d_S_wake_10 rfl (lv_at hl 0 rfl) ?_
    refine g_iV (q0 := 2) (As := [.int (nI (2 * (o + 1)))]) (rest := []) C V cs_S_68 (c_S_priority X I o hq.1 hq.2.1) rfl rfl (by decide) rfl hl.1 rfl (Nat.le_of_ble_eq_true rfl) d_S_wake_11 (fun r11 u11 H locs w11 V => ?_)
    obtain ⟨rfl, q11⟩ := w11
    obtain rfl : r11 = nI (aP a o) := q11
    refine lv_aload_n C.x C.b d_S_wake_14 rfl (lv_at hl 1 rfl) ?_
    refine lv_iload_n C.x C.b d_S_wake_15 rfl (lv_at hl 2 rfl) ?_
    refine g_iV (q0 := 2) (As := [.int (nI (2 * (p + 1)))]) (rest := [.int (nI (aP a o))]) C V cs_S_68 (c_S_priority X I p hp hm) rfl rfl (by decide) rfl hl.1 rfl (Nat.le_of_ble_eq_true rfl) d_S_wake_16 (fun r16 u16 H locs w16 V => ?_)
    obtain ⟨rfl, q16⟩ := w16
    obtain rfl : r16 = nI (aP a p) := q16
    refine lv_icmp_lt (tgt := 28) C.x C.b d_S_wake_19 (by decide) (fun c19 => ?_) (fun c19 => ?_)
    · refine lv_iload_n C.x C.b d_S_wake_28 rfl (lv_at hl 0 rfl) ?_
      refine lv_if_eq (tgt := 37) C.x C.b d_S_wake_29 (by decide) (fun c29 => ?_) (fun c29 => ?_)
      · exact absurd c29 (ob_n0 hq.1)
      · refine lv_aload_n C.x C.b d_S_wake_32 rfl (lv_at hl 1 rfl) ?_
        refine lv_iload_n C.x C.b d_S_wake_33 rfl (lv_at hl 0 rfl) ?_
        refine g_vV (q0 := 2) (As := [.int (nI (2 * (o + 1)))]) (rest := []) C V cs_S_81 (c_S_sleep X I o hq.1 hq.2.1 hq.2.2) rfl rfl (by decide) rfl hl.1 rfl (Nat.le_of_ble_eq_true rfl) d_S_wake_34 (fun u34 H locs w34 V => ?_)
        refine lv_aload_n C.x C.b d_S_wake_37 rfl (lv_at hl 1 rfl) ?_
        refine lv_iload_n C.x C.b d_S_wake_38 rfl (lv_at hl 2 rfl) ?_
        refine g_vV (q0 := 2) (As := [.int (nI (2 * (p + 1)))]) (rest := []) C V cs_S_85 (c_S_change w34 (some p) _ rfl) rfl rfl (by decide) rfl hl.1 rfl (Nat.le_of_ble_eq_true rfl) d_S_wake_39 (fun u39 H locs w39 V => ?_)
        exact g_vret C _ V (by rw [wk_hi ho (fun z => absurd c19 (nI_nlt z (by omega)))]; exact w39) d_S_wake_42
    · refine lv_aload_n C.x C.b d_S_wake_22 rfl (lv_at hl 1 rfl) ?_
      refine lv_iload_n C.x C.b d_S_wake_23 rfl (lv_at hl 2 rfl) ?_
      refine g_vV (q0 := 2) (As := [.int (nI (2 * (p + 1)))]) (rest := []) C V cs_S_81 (c_S_sleep X I p hp hm hr) rfl rfl (by decide) rfl hl.1 rfl (Nat.le_of_ble_eq_true rfl) d_S_wake_24 (fun u24 H locs w24 V => ?_)
      exact g_vret C _ V (by rw [wk_lo ho (Nat.le_of_not_lt (fun z => c19 (nI_lt z (by omega))))]; exact w24) d_S_wake_27
theorem c_S_wake (X : RX u a) (I : Inv a) (P : Prs a) (p : Nat) (hp : p < 32) (hm : aM a p = true) (hr : aR a p = 0) : gMv lx D (ty3 cI cZ cJ) (XW h cI cZ) y_S_wake b_S_wake 3 ({ frames := 4, cells := 0, slots := 0, locals := 88 } : Room) 0 0 [.ref (h 2), .int (nI (2 * (p + 1)))] (XW h cI cZ u) (fun u' => RX u' (a_wake a p)) := by
  cases ho : a_pres a with
  | none => exact c_S_wake0 X I p hp hm hr ho
  | some o => exact c_S_wake1 X I P p hp hm hr o ho
set_option maxHeartbeats 200000 in
set_option maxRecDepth 20000 in
theorem lp_S_putAside {pg : Program} {ev : Env} {st : State} {md : MethodId} {args : Array Value} {bl : List Frame} {mt : Method} {cd : Code} {A : Nat → Prop} (X : RX u a) (I : Inv a)  (C : gC pg st md args mt cd b_S_putAside 2 y_S_putAside.cls none D (ty3 cI cZ cJ) A) : ∀ (n : Nat), n ≤ 8 → (∀ r, n < r → r ≤ 8 → aQ a r = []) → ∀ (H : Heap) (locs : List Loc) (ls : Array Slot), gV D A st ((XW h cI cZ) u) H locs → lv_has ls 2 [(0, .ref (h 2)), (1, .int (nI n))] → W pg lx ev ({ frames := 2, cells := 0, slots := 0, locals := 46 } : Room) st md args bl mt cd H locs 0 0 (MQ bl (va_Qv (fun u' => RX u' (a_aside a)) (fun u t => gB D (ty3 cI cZ cJ) A ((XW h cI cZ) u) t) A) args st 0 0 A) (F0 md 3 ls []) := by
  intro n
  induction n with
  | zero =>
    intro hn he H locs ls V hl
    refine lv_iload_n C.x C.b d_S_putAside_3 rfl (lv_at hl 1 rfl) ?_
    refine lv_if_le (tgt := 25) C.x C.b d_S_putAside_4 (by decide) (fun c4 => ?_) (fun c4 => ?_)
    · refine lv_aload_n C.x C.b d_S_putAside_25 rfl (lv_at hl 0 rfl) ?_
      refine lv_iload_n C.x C.b d_S_putAside_26 rfl (lv_at hl 1 rfl) ?_
      refine lv_if_ne (tgt := 34) C.x C.b d_S_putAside_27 (by decide) (fun c27 => ?_) (fun c27 => ?_)
      · exact absurd rfl c27
      · refine lv_iconst (v := 0) C.x C.b d_S_putAside_30 (by decide) ?_
        refine lv_goto (tgt := 43) C.x C.b d_S_putAside_31 (by decide) ?_
        refine g_vV (q0 := 2) (As := [.int 0]) (rest := []) C V cs_S_85 (c_S_change X none _ rfl) rfl rfl (by decide) rfl hl.1 rfl (Nat.le_of_ble_eq_true rfl) d_S_putAside_43 (fun u43 H locs w43 V => ?_)
        exact g_vret C _ V (by rw [as_none ((top_skip 8 hn he).trans rfl)]; exact w43) d_S_putAside_46
    · exact absurd (Int32.le_refl 0) c4
  | succ n ih =>
    intro hn he H locs ls V hl
    have hv : vR (n + 1) := Or.inl ⟨by omega, hn⟩
    refine lv_iload_n C.x C.b d_S_putAside_3 rfl (lv_at hl 1 rfl) ?_
    refine lv_if_le (tgt := 25) C.x C.b d_S_putAside_4 (by decide) (fun c4 => ?_) (fun c4 => ?_)
    · exact absurd c4 (nI_nle (by omega) (by omega))
    · refine lv_aload_n C.x C.b d_S_putAside_7 rfl (lv_at hl 0 rfl) ?_
      refine lv_aload_n C.x C.b d_S_putAside_8 rfl (lv_at hl 0 rfl) ?_
      refine lv_iload_n C.x C.b d_S_putAside_9 rfl (lv_at hl 1 rfl) ?_
      refine g_iV (q0 := 2) (As := [.int (nI (n + 1))]) (rest := [.ref (h 2)]) C V cs_S_71 (c_S_readyRow X I (n + 1) (by omega) hn) rfl rfl (by decide) rfl hl.1 rfl (Nat.le_of_ble_eq_true rfl) d_S_putAside_10 (fun r10 u10 H locs w10 V => ?_)
      obtain ⟨rfl, q10⟩ := w10
      obtain rfl : r10 = nI (2 * kR (n + 1)) := q10
      refine g_iV (q0 := 2) (As := [.int (nI (2 * kR (n + 1)))]) (rest := []) C V cs_S_46 (c_S_isEmpty X I (n + 1) hv) rfl rfl (by decide) rfl hl.1 rfl (Nat.le_of_ble_eq_true rfl) d_S_putAside_13 (fun r13 u13 H locs w13 V => ?_)
      obtain ⟨rfl, q13⟩ := w13
      refine lv_if_eq (tgt := 25) C.x C.b d_S_putAside_16 (by decide) (fun c16 => ?_) (fun c16 => ?_)
      · obtain ⟨q, l, hq⟩ : ∃ q l, aQ a (n + 1) = q :: l := by
          cases z : aQ a (n + 1) with
          | nil => rw [z] at q13; rw [q13] at c16; exact absurd c16 (by decide)
          | cons q l => exact ⟨q, l, rfl⟩
        refine lv_aload_n C.x C.b d_S_putAside_25 rfl (lv_at hl 0 rfl) ?_
        refine lv_iload_n C.x C.b d_S_putAside_26 rfl (lv_at hl 1 rfl) ?_
        refine lv_if_ne (tgt := 34) C.x C.b d_S_putAside_27 (by decide) (fun c27 => ?_) (fun c27 => ?_)
        · refine lv_aload_n C.x C.b d_S_putAside_34 rfl (lv_at hl 0 rfl) ?_
          refine lv_aload_n C.x C.b d_S_putAside_35 rfl (lv_at hl 0 rfl) ?_
          refine lv_iload_n C.x C.b d_S_putAside_36 rfl (lv_at hl 1 rfl) ?_
          refine g_iV (q0 := 2) (As := [.int (nI (n + 1))]) (rest := [.ref (h 2), .ref (h 2)]) C V cs_S_71 (c_S_readyRow X I (n + 1) (by omega) hn) rfl rfl (by decide) rfl hl.1 rfl (Nat.le_of_ble_eq_true rfl) d_S_putAside_37 (fun r37 u37 H locs w37 V => ?_)
          obtain ⟨rfl, q37⟩ := w37
          obtain rfl : r37 = nI (2 * kR (n + 1)) := q37
          refine g_iV (q0 := 2) (As := [.int (nI (2 * kR (n + 1)))]) (rest := [.ref (h 2)]) C V cs_S_54 (c_S_removeFirst X I (n + 1) q hv l hq) rfl rfl (by decide) rfl hl.1 rfl (Nat.le_of_ble_eq_true rfl) d_S_putAside_40 (fun r40 u40 H locs w40 V => ?_)
          obtain ⟨rfl, X2⟩ := w40
          refine g_vV (q0 := 2) (As := [.int (nI (2 * (q + 1)))]) (rest := []) C V cs_S_85 (c_S_change X2 (some q) _ rfl) rfl rfl (by decide) rfl hl.1 rfl (Nat.le_of_ble_eq_true rfl) d_S_putAside_43 (fun u43 H locs w43 V => ?_)
          exact g_vret C _ V (by rw [as_some (p := q) ((top_skip 8 hn he).trans (by simp [a_top, hq]))]; exact w43) d_S_putAside_46
        · exact absurd c27 (nI_ne0 (by omega) (by omega))
      · obtain ⟨v19, e19⟩ : ∃ y : Int32, y = nI (n + 1) + (-1) := ⟨_, rfl⟩
        refine lv_iinc (v := v19) (lv' := [(1, .int v19), (0, .ref (h 2))]) C.x C.b d_S_putAside_19 hl (k := 1) rfl (by rw [e19]; rfl) (by decide) rfl (fun ls hl => ?_)
        refine lv_goto (tgt := 3) C.x C.b d_S_putAside_22 (by decide) ?_
        refine ih (by omega) (fun r h1 h2 => ?_) H locs ls V (lv_sub (by rw [e19, pk_m1] at hl; exact hl) [1, 0] rfl)
        by_cases z : r = n + 1
        · subst z; exact Classical.byContradiction (fun z => c16 (q13.trans (if_neg z)))
        · exact he r (by omega) h2
set_option maxHeartbeats 200000 in
set_option maxRecDepth 20000 in
theorem c_S_putAside (X : RX u a) (I : Inv a)  : gMv lx D (ty3 cI cZ cJ) (XW h cI cZ) y_S_putAside b_S_putAside 2 ({ frames := 2, cells := 0, slots := 0, locals := 46 } : Room) 0 0 [.ref (h 2)] ((XW h cI cZ) u) (fun u' => RX u' (a_aside a)) := by
  refine gMv.of (by decide) (Nat.le_of_ble_eq_true rfl) (fun pg ev st md bl mt cd A ls C hmn hl V => ?_)
  have hl : lv_has ls 2 [(0, .ref (h 2))] := hl
  refine lv_bipush (v := 8) C.x C.b d_S_putAside_0 (by decide) ?_
  refine lv_istore_n (lv' := [(1, .int 8), (0, .ref (h 2))]) C.x C.b d_S_putAside_2 rfl hl (by decide) rfl (fun ls hl => ?_)
  exact lp_S_putAside X I C 8 (Nat.le_refl 8) (fun r h1 h2 => by omega) _ _ ls V (lv_sub hl [1, 0] rfl)
set_option maxHeartbeats 200000 in
set_option maxRecDepth 20000 in
theorem c_S_giveWay0 (X : RX u a) (I : Inv a) (ho : a_pres a = none) : gMi lx D (ty3 cI cZ cJ) (XW h cI cZ) y_S_giveWay b_S_giveWay 2 (some .boolean) ({ frames := 4, cells := 0, slots := 0, locals := 88 } : Room) 0 0 [.ref (h 2)] ((XW h cI cZ) u) (fun x u' => x = (a_yield a).1 ∧ RX u' (a_yield a).2) := by
  refine gMi.of (by decide) (Nat.le_of_ble_eq_true rfl) (fun pg ev st md bl mt cd A ls C hmn hl V => ?_)
  have hl : lv_has ls 2 [(0, .ref (h 2))] := hl
  refine lv_aload_n C.x C.b d_S_giveWay_0 rfl (lv_at hl 0 rfl) ?_
  refine g_iV (q0 := 2) (As := []) (rest := []) C V cs_S_78 (c_S_present X I) rfl rfl (by decide) rfl hl.1 rfl (Nat.le_of_ble_eq_true rfl) d_S_giveWay_1 (fun r1 u1 H locs w1 V => ?_)
  obtain ⟨rfl, q1⟩ := w1
  obtain rfl : r1 = 0 := by rw [q1, ho]; rfl
  refine lv_istore_n (lv' := [(1, .int 0), (0, .ref (h 2))]) C.x C.b d_S_giveWay_4 rfl hl (by decide) rfl (fun ls hl => ?_)
  refine lv_iload_n C.x C.b d_S_giveWay_5 rfl (lv_at hl 0 rfl) ?_
  refine lv_if_eq (tgt := 25) C.x C.b d_S_giveWay_6 (by decide) (fun c6 => ?_) (fun c6 => ?_)
  · refine lv_iconst (v := 0) C.x C.b d_S_giveWay_25 (by decide) ?_
    exact g_zret C _ V (by unfold a_yield; rw [ho]; exact ⟨rfl, X⟩) (by simp) d_S_giveWay_26
  · exact absurd rfl c6
set_option maxHeartbeats 200000 in
set_option maxRecDepth 20000 in
theorem c_S_giveWay1 (X : RX u a) (I : Inv a) (P : Prs a) (o : Nat) (ho : a_pres a = some o) : gMi lx D (ty3 cI cZ cJ) (XW h cI cZ) y_S_giveWay b_S_giveWay 2 (some .boolean) ({ frames := 4, cells := 0, slots := 0, locals := 88 } : Room) 0 0 [.ref (h 2)] ((XW h cI cZ) u) (fun x u' => x = (a_yield a).1 ∧ RX u' (a_yield a).2) := by
  refine gMi.of (by decide) (Nat.le_of_ble_eq_true rfl) (fun pg ev st md bl mt cd A ls C hmn hl V => ?_)
  have hl : lv_has ls 2 [(0, .ref (h 2))] := hl
  have hq := P o ho
  have po := I.pri hq.1 hq.2.1
  have hv : vR (aP a o) := Or.inl po
  refine lv_aload_n C.x C.b d_S_giveWay_0 rfl (lv_at hl 0 rfl) ?_
  refine g_iV (q0 := 2) (As := []) (rest := []) C V cs_S_78 (c_S_present X I) rfl rfl (by decide) rfl hl.1 rfl (Nat.le_of_ble_eq_true rfl) d_S_giveWay_1 (fun r1 u1 H locs w1 V => ?_)
  obtain ⟨rfl, q1⟩ := w1
  obtain rfl : r1 = nI (2 * (o + 1)) := by rw [q1, ho]; rfl
  refine lv_istore_n (lv' := [(1, .int (nI (2 * (o + 1)))), (0, .ref (h 2))]) C.x C.b d_S_giveWay_4 rfl hl (by decide) rfl (fun ls hl => ?_)
  refine lv_iload_n C.x C.b d_S_giveWay_5 rfl (lv_at hl 0 rfl) ?_
  refine lv_if_eq (tgt := 25) C.x C.b d_S_giveWay_6 (by decide) (fun c6 => ?_) (fun c6 => ?_)
  · exact absurd c6 (ob_n0 hq.1)
  · refine lv_aload_n C.x C.b d_S_giveWay_9 rfl (lv_at hl 1 rfl) ?_
    refine lv_aload_n C.x C.b d_S_giveWay_10 rfl (lv_at hl 1 rfl) ?_
    refine lv_aload_n C.x C.b d_S_giveWay_11 rfl (lv_at hl 1 rfl) ?_
    refine lv_iload_n C.x C.b d_S_giveWay_12 rfl (lv_at hl 0 rfl) ?_
    refine g_iV (q0 := 2) (As := [.int (nI (2 * (o + 1)))]) (rest := [.ref (h 2), .ref (h 2)]) C V cs_S_68 (c_S_priority X I o hq.1 hq.2.1) rfl rfl (by decide) rfl hl.1 rfl (Nat.le_of_ble_eq_true rfl) d_S_giveWay_13 (fun r13 u13 H locs w13 V => ?_)
    obtain ⟨rfl, q13⟩ := w13
    obtain rfl : r13 = nI (aP a o) := q13
    refine g_iV (q0 := 2) (As := [.int (nI (aP a o))]) (rest := [.ref (h 2)]) C V cs_S_71 (c_S_readyRow X I (aP a o) po.1 po.2) rfl rfl (by decide) rfl hl.1 rfl (Nat.le_of_ble_eq_true rfl) d_S_giveWay_16 (fun r16 u16 H locs w16 V => ?_)
    obtain ⟨rfl, q16⟩ := w16
    obtain rfl : r16 = nI (2 * kR (aP a o)) := q16
    refine g_iV (q0 := 2) (As := [.int (nI (2 * kR (aP a o)))]) (rest := []) C V cs_S_46 (c_S_isEmpty X I (aP a o) hv) rfl rfl (by decide) rfl hl.1 rfl (Nat.le_of_ble_eq_true rfl) d_S_giveWay_19 (fun r19 u19 H locs w19 V => ?_)
    obtain ⟨rfl, q19⟩ := w19
    refine lv_if_eq (tgt := 27) C.x C.b d_S_giveWay_22 (by decide) (fun c22 => ?_) (fun c22 => ?_)
    · have hne : ¬ aQ a (aP a o) = [] := fun z => by rw [q19, if_pos z] at c22; exact absurd c22 (by decide)
      refine lv_aload_n C.x C.b d_S_giveWay_27 rfl (lv_at hl 1 rfl) ?_
      refine lv_iload_n C.x C.b d_S_giveWay_28 rfl (lv_at hl 0 rfl) ?_
      refine g_vV (q0 := 2) (As := [.int (nI (2 * (o + 1)))]) (rest := []) C V cs_S_81 (c_S_sleep X I o hq.1 hq.2.1 hq.2.2) rfl rfl (by decide) rfl hl.1 rfl (Nat.le_of_ble_eq_true rfl) d_S_giveWay_29 (fun u29 H locs w29 V => ?_)
      have I2 := inv_enq I hq.1 hq.2.1 hq.2.2 hv
      refine lv_aload_n C.x C.b d_S_giveWay_32 rfl (lv_at hl 1 rfl) ?_
      refine g_vV (q0 := 2) (As := []) (rest := []) C V cs_S_88 (c_S_putAside w29 I2) rfl rfl (by decide) rfl hl.1 rfl (Nat.le_of_ble_eq_true rfl) d_S_giveWay_33 (fun u33 H locs w33 V => ?_)
      refine lv_iconst (v := 1) C.x C.b d_S_giveWay_36 (by decide) ?_
      exact g_zret C _ V (by unfold a_yield; rw [ho]; dsimp only; rw [if_neg hne]; exact ⟨rfl, w33⟩) (by simp) d_S_giveWay_37
    · have hem : aQ a (aP a o) = [] := Classical.byContradiction (fun z => c22 (q19.trans (if_neg z)))
      refine lv_iconst (v := 0) C.x C.b d_S_giveWay_25 (by decide) ?_
      exact g_zret C _ V (by unfold a_yield; rw [ho]; dsimp only; rw [if_pos hem]; exact ⟨rfl, X⟩) (by simp) d_S_giveWay_26
theorem c_S_giveWay (X : RX u a) (I : Inv a) (P : Prs a) : gMi lx D (ty3 cI cZ cJ) (XW h cI cZ) y_S_giveWay b_S_giveWay 2 (some .boolean) ({ frames := 4, cells := 0, slots := 0, locals := 88 } : Room) 0 0 [.ref (h 2)] (XW h cI cZ u) (fun x u' => x = (a_yield a).1 ∧ RX u' (a_yield a).2) := by
  cases ho : a_pres a with
  | none => exact c_S_giveWay0 X I ho
  | some o => exact c_S_giveWay1 X I P o ho
set_option maxHeartbeats 200000 in
set_option maxRecDepth 20000 in
theorem c_S_signal0 (X : RX u a) (I : Inv a) (s : Nat) (hs : s < 16) (hB : aE a s < 2 ^ 20) (he : aQ a (16 + s) = []) : gMv lx D (ty3 cI cZ cJ) (XW h cI cZ) y_S_signal b_S_signal 2 ({ frames := 5, cells := 0, slots := 0, locals := 110 } : Room) 0 0 [.ref (h 2), .int (nI (2 * kR (16 + s)))] ((XW h cI cZ) u) (fun u' => RX u' (a_sig a s)) := by
  refine gMv.of (by decide) (Nat.le_of_ble_eq_true rfl) (fun pg ev st md bl mt cd A ls C hmn hl V => ?_)
  have hl : lv_has ls 2 [(0, .ref (h 2)), (1, .int (nI (2 * kR (16 + s))))] := hl
  have hv : vR (16 + s) := Or.inr ⟨by omega, by omega⟩
  have kb := kR_b hv
  refine lv_aload_n C.x C.b d_S_signal_0 rfl (lv_at hl 0 rfl) ?_
  refine lv_aload_n C.x C.b d_S_signal_1 rfl (lv_at hl 0 rfl) ?_
  refine xg_fields C V fl_S_9 d_S_signal_2 ?_
  refine lv_iload_n C.x C.b d_S_signal_5 rfl (lv_at hl 1 rfl) ?_
  refine g_iU (q0 := 1) (x := ⟨R_L, "row", "(I)I"⟩) (owner := R_L) (As := [.int (nI (2 * kR (16 + s)))]) (rest := [.ref (h 2)]) C V (fun z => z.2.2.2.1) cs_S_65 (c_P_row (nI (2 * kR (16 + s)))) rfl rfl (by decide) rfl hl.1 rfl (Nat.le_of_ble_eq_true rfl) d_S_signal_6 (fun r6 u6 H locs w6 V => ?_)
  obtain ⟨rfl, q6⟩ := w6
  obtain rfl : r6 = nI (2 * kR (16 + s)) := q6
  refine g_iV (q0 := 2) (As := [.int (nI (2 * kR (16 + s)))]) (rest := []) C V cs_S_46 (c_S_isEmpty X I (16 + s) hv) rfl rfl (by decide) rfl hl.1 rfl (Nat.le_of_ble_eq_true rfl) d_S_signal_9 (fun r9 u9 H locs w9 V => ?_)
  obtain ⟨rfl, q9⟩ := w9
  refine lv_if_eq (tgt := 45) C.x C.b d_S_signal_12 (by decide) (fun c12 => ?_) (fun c12 => ?_)
  · exact absurd (q9.symm.trans c12) (by rw [if_pos he]; decide)
  · refine lv_aload_n C.x C.b d_S_signal_15 rfl (lv_at hl 0 rfl) ?_
    refine xg_fields C V fl_S_9 d_S_signal_16 ?_
    refine lv_iload_n C.x C.b d_S_signal_19 rfl (lv_at hl 1 rfl) ?_
    refine lv_iconst (v := 2) C.x C.b d_S_signal_20 (by decide) ?_
    refine lv_aload_n C.x C.b d_S_signal_21 rfl (lv_at hl 0 rfl) ?_
    refine xg_fields C V fl_S_9 d_S_signal_22 ?_
    refine lv_iload_n C.x C.b d_S_signal_25 rfl (lv_at hl 1 rfl) ?_
    refine lv_iconst (v := 2) C.x C.b d_S_signal_26 (by decide) ?_
    refine lv_ldc C.x C.b C.ow (C.ts _ ct_S_91) d_S_signal_27 ?_
    refine lv_topi (fun v27 e27 => ?_)
    refine lv_ldc C.x C.b C.ow (C.ts _ ct_S_92) d_S_signal_29 ?_
    refine lv_topi (fun v29 e29 => ?_)
    refine g_iU (q0 := 1) (x := ⟨R_L, "number", "(IIII)I"⟩) (owner := R_L) (As := [.int (nI (2 * kR (16 + s))), .int 2, .int v27, .int v29]) (rest := [.int 2, .int (nI (2 * kR (16 + s))), .ref (h 1)]) C V (fun z => z.2.2.1) cs_S_61 (c_P_number (kR (16 + s)) 2 v27 v29 (by omega) (by omega)) rfl rfl (by decide) rfl hl.1 rfl (Nat.le_of_ble_eq_true rfl) d_S_signal_31 (fun r31 u31 H locs w31 V => ?_)
    obtain ⟨rfl, q31⟩ := w31
    obtain rfl : r31 = nI (aE a s) := by rw [q31, kR_s hs, X.1.2.2.2.2.1 s hs]; exact nk_half (by omega)
    refine lv_iconst (v := 1) C.x C.b d_S_signal_34 (by decide) ?_
    refine lv_iadd C.x C.b d_S_signal_35 ?_
    refine lv_topi (fun v35 e35 => ?_)
    obtain rfl : v35 = nI (aE a s + 1) := by rw [e35]; exact nI_1 _
    refine g_iS (As := [.int (nI (aE a s + 1))]) (rest := [.int 2, .int (nI (2 * kR (16 + s))), .ref (h 1)]) C V cs_S_93 (c_S_small (Wd := XW h cI cZ) (nI (aE a s + 1))) (by decide) rfl hl.1 rfl (Nat.le_of_ble_eq_true rfl) d_S_signal_36 (fun r36 u36 H locs w36 V => ?_)
    obtain ⟨rfl, q36⟩ := w36
    obtain rfl : r36 = nI (2 * (aE a s + 1) + 1) := by rw [q36]; exact nk_small (by omega)
    refine g_vU (q0 := 1) (x := ⟨R_L, "put", "(III)V"⟩) (owner := R_L) (As := [.int (nI (2 * kR (16 + s))), .int 2, .int (nI (2 * (aE a s + 1) + 1))]) (rest := []) C V (fun z => z.2.1) cs_S_50 (c_P_put (kR (16 + s)) 2 (nI (2 * (aE a s + 1) + 1)) (by omega) (by omega)) rfl rfl (by decide) rfl hl.1 rfl (Nat.le_of_ble_eq_true rfl) d_S_signal_39 (fun u39 H locs w39 V => ?_)
    subst w39
    refine lv_goto (tgt := 54) C.x C.b d_S_signal_42 (by decide) ?_
    exact g_vret C _ V (by unfold a_sig; rw [he]; exact ⟨rc_ext X.1 hs _, X.2⟩) d_S_signal_54
set_option maxHeartbeats 200000 in
set_option maxRecDepth 20000 in
theorem c_S_signal1 (X : RX u a) (I : Inv a) (P : Prs a) (s : Nat) (hs : s < 16) (q : Nat) (l : List Nat) (he : aQ a (16 + s) = q :: l) : gMv lx D (ty3 cI cZ cJ) (XW h cI cZ) y_S_signal b_S_signal 2 ({ frames := 5, cells := 0, slots := 0, locals := 110 } : Room) 0 0 [.ref (h 2), .int (nI (2 * kR (16 + s)))] ((XW h cI cZ) u) (fun u' => RX u' (a_sig a s)) := by
  refine gMv.of (by decide) (Nat.le_of_ble_eq_true rfl) (fun pg ev st md bl mt cd A ls C hmn hl V => ?_)
  have hl : lv_has ls 2 [(0, .ref (h 2)), (1, .int (nI (2 * kR (16 + s))))] := hl
  have hv : vR (16 + s) := Or.inr ⟨by omega, by omega⟩
  have kb := kR_b hv
  have hd := I.hd hv he
  have hr : aR a q ≠ 0 := by rw [hd.2.1]; exact hv.pos
  refine lv_aload_n C.x C.b d_S_signal_0 rfl (lv_at hl 0 rfl) ?_
  refine lv_aload_n C.x C.b d_S_signal_1 rfl (lv_at hl 0 rfl) ?_
  refine xg_fields C V fl_S_9 d_S_signal_2 ?_
  refine lv_iload_n C.x C.b d_S_signal_5 rfl (lv_at hl 1 rfl) ?_
  refine g_iU (q0 := 1) (x := ⟨R_L, "row", "(I)I"⟩) (owner := R_L) (As := [.int (nI (2 * kR (16 + s)))]) (rest := [.ref (h 2)]) C V (fun z => z.2.2.2.1) cs_S_65 (c_P_row (nI (2 * kR (16 + s)))) rfl rfl (by decide) rfl hl.1 rfl (Nat.le_of_ble_eq_true rfl) d_S_signal_6 (fun r6 u6 H locs w6 V => ?_)
  obtain ⟨rfl, q6⟩ := w6
  obtain rfl : r6 = nI (2 * kR (16 + s)) := q6
  refine g_iV (q0 := 2) (As := [.int (nI (2 * kR (16 + s)))]) (rest := []) C V cs_S_46 (c_S_isEmpty X I (16 + s) hv) rfl rfl (by decide) rfl hl.1 rfl (Nat.le_of_ble_eq_true rfl) d_S_signal_9 (fun r9 u9 H locs w9 V => ?_)
  obtain ⟨rfl, q9⟩ := w9
  refine lv_if_eq (tgt := 45) C.x C.b d_S_signal_12 (by decide) (fun c12 => ?_) (fun c12 => ?_)
  · refine lv_aload_n C.x C.b d_S_signal_45 rfl (lv_at hl 0 rfl) ?_
    refine lv_aload_n C.x C.b d_S_signal_46 rfl (lv_at hl 0 rfl) ?_
    refine lv_iload_n C.x C.b d_S_signal_47 rfl (lv_at hl 1 rfl) ?_
    refine g_iV (q0 := 2) (As := [.int (nI (2 * kR (16 + s)))]) (rest := [.ref (h 2)]) C V cs_S_54 (c_S_removeFirst X I (16 + s) q hv l he) rfl rfl (by decide) rfl hl.1 rfl (Nat.le_of_ble_eq_true rfl) d_S_signal_48 (fun r48 u48 H locs w48 V => ?_)
    obtain ⟨rfl, X2⟩ := w48
    refine g_vV (q0 := 2) (As := [.int (nI (2 * (q + 1)))]) (rest := []) C V cs_S_96 (c_S_wake X2 (inv_rem I hd.1 hr) (prs_rem P) q hd.1 hd.2.2 (up_s _ _ _)) rfl rfl (by decide) rfl hl.1 rfl (Nat.le_of_ble_eq_true rfl) d_S_signal_51 (fun u51 H locs w51 V => ?_)
    exact g_vret C _ V (by unfold a_sig; rw [he]; exact w51) d_S_signal_54
  · exact absurd (q9.trans (if_neg (by rw [he]; simp))) c12
theorem c_S_signal (X : RX u a) (I : Inv a) (P : Prs a) (s : Nat) (hs : s < 16) (hB : aE a s < 2 ^ 20) : gMv lx D (ty3 cI cZ cJ) (XW h cI cZ) y_S_signal b_S_signal 2 ({ frames := 5, cells := 0, slots := 0, locals := 110 } : Room) 0 0 [.ref (h 2), .int (nI (2 * kR (16 + s)))] (XW h cI cZ u) (fun u' => RX u' (a_sig a s)) := by
  cases he : aQ a (16 + s) with
  | nil => exact c_S_signal0 X I s hs hB he
  | cons q l => exact c_S_signal1 X I P s hs q l he
set_option maxHeartbeats 200000 in
set_option maxRecDepth 20000 in
theorem c_S_await (X : RX u a) (I : Inv a) (P : Prs a) (s : Nat) (hs : s < 16) (hB : aE a s < 2 ^ 20) (p : Nat) (ho : a_pres a = some p) : gMi lx D (ty3 cI cZ cJ) (XW h cI cZ) y_S_await b_S_await 3 (some .boolean) ({ frames := 3, cells := 0, slots := 0, locals := 67 } : Room) 0 0 [.ref (h 2), .int (nI (2 * kR (16 + s)))] ((XW h cI cZ) u) (fun x u' => x = (a_await a s).1 ∧ RX u' (a_await a s).2) := by
  refine gMi.of (by decide) (Nat.le_of_ble_eq_true rfl) (fun pg ev st md bl mt cd A ls C hmn hl V => ?_)
  have hl : lv_has ls 3 [(0, .ref (h 2)), (1, .int (nI (2 * kR (16 + s))))] := hl
  have hv : vR (16 + s) := Or.inr ⟨by omega, by omega⟩
  have kb := kR_b hv
  have hq := P p ho
  refine lv_aload_n C.x C.b d_S_await_0 rfl (lv_at hl 0 rfl) ?_
  refine xg_fields C V fl_S_9 d_S_await_1 ?_
  refine lv_iload_n C.x C.b d_S_await_4 rfl (lv_at hl 1 rfl) ?_
  refine lv_iconst (v := 2) C.x C.b d_S_await_5 (by decide) ?_
  refine lv_ldc C.x C.b C.ow (C.ts _ ct_S_91) d_S_await_6 ?_
  refine lv_topi (fun v6 e6 => ?_)
  refine lv_ldc C.x C.b C.ow (C.ts _ ct_S_99) d_S_await_8 ?_
  refine lv_topi (fun v8 e8 => ?_)
  refine g_iU (q0 := 1) (x := ⟨R_L, "number", "(IIII)I"⟩) (owner := R_L) (As := [.int (nI (2 * kR (16 + s))), .int 2, .int v6, .int v8]) (rest := []) C V (fun z => z.2.2.1) cs_S_61 (c_P_number (kR (16 + s)) 2 v6 v8 (by omega) (by omega)) rfl rfl (by decide) rfl hl.1 rfl (Nat.le_of_ble_eq_true rfl) d_S_await_10 (fun r10 u10 H locs w10 V => ?_)
  obtain ⟨rfl, q10⟩ := w10
  obtain rfl : r10 = nI (aE a s) := by rw [q10, kR_s hs, X.1.2.2.2.2.1 s hs]; exact nk_half (by omega)
  refine lv_istore_n (lv' := [(2, .int (nI (aE a s))), (0, .ref (h 2)), (1, .int (nI (2 * kR (16 + s))))]) C.x C.b d_S_await_13 rfl hl (by decide) rfl (fun ls hl => ?_)
  refine lv_iload_n C.x C.b d_S_await_14 rfl (lv_at hl 0 rfl) ?_
  refine lv_if_le (tgt := 35) C.x C.b d_S_await_15 (by decide) (fun c15 => ?_) (fun c15 => ?_)
  · have hz : ¬ 0 < aE a s := fun z => absurd c15 (nI_nle z (by omega))
    refine lv_aload_n C.x C.b d_S_await_35 rfl (lv_at hl 1 rfl) ?_
    refine lv_iload_n C.x C.b d_S_await_36 rfl (lv_at hl 2 rfl) ?_
    refine lv_aload_n C.x C.b d_S_await_37 rfl (lv_at hl 1 rfl) ?_
    refine g_iV (q0 := 2) (As := []) (rest := [.int (nI (2 * kR (16 + s))), .ref (h 2)]) C V cs_S_78 (c_S_present X I) rfl rfl (by decide) rfl hl.1 rfl (Nat.le_of_ble_eq_true rfl) d_S_await_38 (fun r38 u38 H locs w38 V => ?_)
    obtain ⟨rfl, q38⟩ := w38
    obtain rfl : r38 = nI (2 * (p + 1)) := by rw [q38, ho]; rfl
    refine g_vV (q0 := 2) (As := [.int (nI (2 * kR (16 + s))), .int (nI (2 * (p + 1)))]) (rest := []) C V cs_S_74 (c_S_addLast X I (16 + s) p hv hq.1 hq.2.2) rfl rfl (by decide) rfl hl.1 rfl (Nat.le_of_ble_eq_true rfl) d_S_await_41 (fun u41 H locs w41 V => ?_)
    have I2 := inv_enq I hq.1 hq.2.1 hq.2.2 hv
    refine lv_aload_n C.x C.b d_S_await_44 rfl (lv_at hl 1 rfl) ?_
    refine g_vV (q0 := 2) (As := []) (rest := []) C V cs_S_88 (c_S_putAside w41 I2) rfl rfl (by decide) rfl hl.1 rfl (Nat.le_of_ble_eq_true rfl) d_S_await_45 (fun u45 H locs w45 V => ?_)
    refine lv_iconst (v := 0) C.x C.b d_S_await_48 (by decide) ?_
    exact g_zret C _ V (by unfold a_await; rw [ho]; dsimp only; rw [if_neg hz]; exact ⟨rfl, w45⟩) (by simp) d_S_await_49
  · have hz : 0 < aE a s := Nat.pos_of_ne_zero (fun z => c15 (by rw [z]; exact Int32.le_refl 0))
    refine lv_aload_n C.x C.b d_S_await_18 rfl (lv_at hl 1 rfl) ?_
    refine xg_fields C V fl_S_9 d_S_await_19 ?_
    refine lv_iload_n C.x C.b d_S_await_22 rfl (lv_at hl 2 rfl) ?_
    refine lv_iconst (v := 2) C.x C.b d_S_await_23 (by decide) ?_
    refine lv_iload_n C.x C.b d_S_await_24 rfl (lv_at hl 0 rfl) ?_
    refine lv_iconst (v := 1) C.x C.b d_S_await_25 (by decide) ?_
    refine lv_isub C.x C.b d_S_await_26 ?_
    refine lv_topi (fun v26 e26 => ?_)
    obtain rfl : v26 = nI (aE a s - 1) := by rw [e26]; exact pk_sub (b := 1) hz
    refine g_iS (As := [.int (nI (aE a s - 1))]) (rest := [.int 2, .int (nI (2 * kR (16 + s))), .ref (h 1)]) C V cs_S_93 (c_S_small (Wd := XW h cI cZ) (nI (aE a s - 1))) (by decide) rfl hl.1 rfl (Nat.le_of_ble_eq_true rfl) d_S_await_27 (fun r27 u27 H locs w27 V => ?_)
    obtain ⟨rfl, q27⟩ := w27
    obtain rfl : r27 = nI (2 * (aE a s - 1) + 1) := by rw [q27]; exact nk_small (by omega)
    refine g_vU (q0 := 1) (x := ⟨R_L, "put", "(III)V"⟩) (owner := R_L) (As := [.int (nI (2 * kR (16 + s))), .int 2, .int (nI (2 * (aE a s - 1) + 1))]) (rest := []) C V (fun z => z.2.1) cs_S_50 (c_P_put (kR (16 + s)) 2 (nI (2 * (aE a s - 1) + 1)) (by omega) (by omega)) rfl rfl (by decide) rfl hl.1 rfl (Nat.le_of_ble_eq_true rfl) d_S_await_30 (fun u30 H locs w30 V => ?_)
    subst w30
    refine lv_iconst (v := 1) C.x C.b d_S_await_33 (by decide) ?_
    exact g_zret C _ V (by unfold a_await; rw [ho]; dsimp only; rw [if_pos hz]; exact ⟨rfl, rc_ext X.1 hs _, X.2⟩) (by simp) d_S_await_34
end
end
section
def eS : Option Nat → Int32
  | none => 0
  | some s => nI (66 + 2 * s)
def a_pst (a : AS) (x : Int32) : Option Nat := if ¬ x < 0 ∧ x < nI (aO a).length then (aO a)[x.toNatClampNeg]? else none
section
variable {u : XS} {a : AS}
theorem kR_66 {s : Nat} (hs : s < 16) : 2 * kR (16 + s) = 66 + 2 * s := by rw [kR_s hs]; omega
theorem rx_push (X : RX u a) {s : Nat} (hs : s < 16) : RX (xP' (xN' u (nI ((aO a).length + 1))) (upd (xP u) (aO a).length (nI (2 * kR (16 + s))))) (a_push a s) := by
  refine ⟨X.1, X.2.1, X.2.2.1, X.2.2.2.1, ?_, fun i t ht => ?_, X.2.2.2.2.2.2⟩
  · show nI _ = nI (aO a ++ [s]).length
    rw [List.length_append]; rfl
  · have ht : (aO a ++ [s])[i]? = some t := ht
    show upd (xP u) (aO a).length _ i = _
    by_cases e : i = (aO a).length
    · subst e
      rw [ud_s]
      simp at ht
      subst ht
      rw [kR_66 hs]
    · rw [ud_n e]
      have hl : i < (aO a).length := by
        have := (List.getElem?_eq_some_iff.mp ht).1
        rw [List.length_append] at this
        simp at this
        omega
      rw [List.getElem?_append_left hl] at ht
      exact X.2.2.2.2.2.1 i t ht
theorem rx_done (X : RX u a) : RX (xN' u 0) (a_done a) := ⟨X.1, X.2.1, X.2.2.1, X.2.2.2.1, rfl, (fun i s h => by have h : ([] : List Nat)[i]? = some s := h; simp at h), X.2.2.2.2.2.2⟩
theorem lay_n (h : aA a = none) : a_lay a = aL a := by unfold a_lay; rw [h]
theorem lay_s {o : Nat} (h : aA a = some o) : a_lay a = va_up (aL a) o (aH a) := by unfold a_lay; rw [h]
theorem sw_w (hw : aW a = true) : a_swap a = (aQ a, aR a, aT a, aN a, aM a, aP a, a_lay a, aE a, aO a, aC a, (match aC a with | none => 0 | some c => a_lay a c), false, aC a) := if_pos hw
theorem sw_n (hw : ¬ aW a = true) : a_swap a = a := if_neg hw
def sw_h (a : AS) : Int32 := match aC a with | none => 0 | some c => a_lay a c
theorem rx_swap0 (X : RX u a) (I : Inv a) (hw : aW a = true) (hA : aA a = none) {v : Int32} (hv : v = sw_h a) : RX (xW' (xH' (xC' u (upd (xC u) 229 (eO (aC a)))) v) 0) (a_swap a) := by
  have h := rc_act X.1 I (aC a)
  refine ⟨?_, ?_⟩
  · rw [sw_w hw, lay_n hA]; exact h
  · rw [sw_w hw]
    exact ⟨X.2.1, X.2.2.1, X.2.2.2.1, X.2.2.2.2.1, X.2.2.2.2.2.1, rfl, X.2.2.2.2.2.2.2.1, hv⟩
theorem rx_swap1 (X : RX u a) (I : Inv a) (hw : aW a = true) {o : Nat} (hA : aA a = some o) {v : Int32} (hv : v = sw_h a) : RX (xW' (xH' (xC' (xC' u (upd (xC u) (4 * (o + 1) + 1) (aH a))) (upd (upd (xC u) (4 * (o + 1) + 1) (aH a)) 229 (eO (aC a)))) v) 0) (a_swap a) := by
  have ho := (I.act hA).1
  have h := rc_act (rc_place X.1 I ho (aH a)) (show Inv (a_place a o (aH a)) from I) (aC a)
  refine ⟨?_, ?_⟩
  · rw [sw_w hw, lay_s hA]; exact h
  · rw [sw_w hw]
    exact ⟨X.2.1, X.2.2.1, X.2.2.2.1, X.2.2.2.2.1, X.2.2.2.2.2.1, rfl, X.2.2.2.2.2.2.2.1, hv⟩
theorem wake_O (p : Nat) : aO (a_wake a p) = aO a := by
  unfold a_wake
  cases a_pres a with
  | none => rfl
  | some o => dsimp only; split <;> rfl
theorem sig_O (s : Nat) : aO (a_sig a s) = aO a := by
  unfold a_sig
  cases aQ a (16 + s) with
  | nil => rfl
  | cons q l => exact wake_O (a := a_rem a q) q
end
section
variable {lx : Launch} {D : va_G} {h : Nat → Nat} {cI cZ cJ : ClassId}
variable {u : XS} {a : AS}
set_option maxHeartbeats 200000 in
set_option maxRecDepth 20000 in
theorem c_S_post (X : RX u a) (I : Inv a) (s : Nat) (hs : s < 16) : gMi lx D (ty3 cI cZ cJ) (XW h cI cZ) y_S_post b_S_post 2 (some .int) ({ frames := 0, cells := 0, slots := 0, locals := 0 } : Room) 0 0 [.ref (h 2), .int (nI (2 * kR (16 + s)))] ((XW h cI cZ) u) (fun x u' => x = (a_post a s).1 ∧ RX u' (a_post a s).2) := by
  refine gMi.of (by decide) (Nat.le_of_ble_eq_true rfl) (fun pg ev st md bl mt cd A ls C hmn hl V => ?_)
  have hl : lv_has ls 2 [(0, .ref (h 2)), (1, .int (nI (2 * kR (16 + s))))] := hl
  have hlen := I.len
  refine lv_aload_n C.x C.b d_S_post_0 rfl (lv_at hl 0 rfl) ?_
  refine xg_count C V fl_S_30 d_S_post_1 ?_
  refine lv_topi (fun v1 e1 => ?_)
  obtain rfl : v1 = nI (aO a).length := by rw [e1]; exact X.2.2.2.2.1
  refine lv_aload_n C.x C.b d_S_post_4 rfl (lv_at hl 0 rfl) ?_
  refine xg_posts C V fl_S_15 d_S_post_5 ?_
  refine xl_posts C V d_S_post_8 ?_
  refine lv_icmp_ne (tgt := 14) C.x C.b d_S_post_9 (by decide) (fun c9 => ?_) (fun c9 => ?_)
  · have hne : ¬ (aO a).length = 40 := fun z => c9 (by rw [z]; rfl)
    refine lv_aload_n C.x C.b d_S_post_14 rfl (lv_at hl 0 rfl) ?_
    refine xg_posts C V fl_S_15 d_S_post_15 ?_
    refine lv_aload_n C.x C.b d_S_post_18 rfl (lv_at hl 0 rfl) ?_
    refine lv_dup C.x C.b d_S_post_19 rfl ?_
    refine xg_count C V fl_S_30 d_S_post_20 ?_
    refine lv_topi (fun v20 e20 => ?_)
    obtain rfl : v20 = nI (aO a).length := by rw [e20]; exact X.2.2.2.2.1
    refine lv_dup_x1 C.x C.b d_S_post_23 rfl rfl ?_
    refine lv_iconst (v := 1) C.x C.b d_S_post_24 (by decide) ?_
    refine lv_iadd C.x C.b d_S_post_25 ?_
    refine lv_topi (fun v25 e25 => ?_)
    obtain rfl : v25 = nI ((aO a).length + 1) := by rw [e25]; exact nI_1 _
    refine xp_count C V fl_S_30 d_S_post_26 (fun H locs V => ?_)
    refine lv_iload_n C.x C.b d_S_post_29 rfl (lv_at hl 1 rfl) ?_
    refine xs_posts ((aO a).length) C V rfl (by omega) d_S_post_30 (fun H locs V => ?_)
    refine lv_aload_n C.x C.b d_S_post_31 rfl (lv_at hl 0 rfl) ?_
    refine xg_count C V fl_S_30 d_S_post_32 ?_
    refine lv_topi (fun v32 e32 => ?_)
    exact g_iret C _ V (by unfold a_post; rw [if_neg hne]; exact ⟨e32, rx_push X hs⟩) d_S_post_35
  · have heq : (aO a).length = 40 := (nI_eq (by omega) (by decide)).mp (show nI (aO a).length = nI 40 from c9)
    refine lv_iconst (v := -1) C.x C.b d_S_post_12 (by decide) ?_
    exact g_iret C _ V (by unfold a_post; rw [if_pos heq]; exact ⟨rfl, X⟩) d_S_post_13
set_option maxHeartbeats 200000 in
set_option maxRecDepth 20000 in
theorem c_S_posted (X : RX u a) (I : Inv a) (x : Int32) : gMi lx D (ty3 cI cZ cJ) (XW h cI cZ) y_S_posted b_S_posted 2 (some .int) ({ frames := 0, cells := 0, slots := 0, locals := 0 } : Room) 0 0 [.ref (h 2), .int x] ((XW h cI cZ) u) (fun r u' => u = u' ∧ r = eS (a_pst a x)) := by
  refine gMi.of (by decide) (Nat.le_of_ble_eq_true rfl) (fun pg ev st md bl mt cd A ls C hmn hl V => ?_)
  have hl : lv_has ls 2 [(0, .ref (h 2)), (1, .int x)] := hl
  have hlen := I.len
  refine lv_iload_n C.x C.b d_S_posted_0 rfl (lv_at hl 1 rfl) ?_
  refine lv_if_lt (tgt := 12) C.x C.b d_S_posted_1 (by decide) (fun c1 => ?_) (fun c1 => ?_)
  · refine lv_iconst (v := 0) C.x C.b d_S_posted_12 (by decide) ?_
    refine lv_goto (tgt := 22) C.x C.b d_S_posted_13 (by decide) ?_
    exact g_iret C _ V ⟨rfl, by unfold a_pst; rw [if_neg (by simp_all)]; rfl⟩ d_S_posted_22
  · refine lv_iload_n C.x C.b d_S_posted_4 rfl (lv_at hl 1 rfl) ?_
    refine lv_aload_n C.x C.b d_S_posted_5 rfl (lv_at hl 0 rfl) ?_
    refine xg_count C V fl_S_30 d_S_posted_6 ?_
    refine lv_topi (fun v6 e6 => ?_)
    obtain rfl : v6 = nI (aO a).length := by rw [e6]; exact X.2.2.2.2.1
    refine lv_icmp_lt (tgt := 16) C.x C.b d_S_posted_9 (by decide) (fun c9 => ?_) (fun c9 => ?_)
    · obtain ⟨j, hj, hx⟩ : ∃ j, j < (aO a).length ∧ x = nI j := by
        rcases pk_ix x (n := (aO a).length) (by omega) with z | z | z
        · exact absurd z c1
        · exact absurd c9 (Int32.not_lt.mpr z)
        · exact z
      obtain ⟨t, ht⟩ : ∃ t, (aO a)[j]? = some t := ⟨_, List.getElem?_eq_getElem hj⟩
      refine lv_aload_n C.x C.b d_S_posted_16 rfl (lv_at hl 0 rfl) ?_
      refine xg_posts C V fl_S_15 d_S_posted_17 ?_
      refine lv_iload_n C.x C.b d_S_posted_20 rfl (lv_at hl 1 rfl) ?_
      refine xa_posts (j) C V hx (by omega) d_S_posted_21 ?_
      refine lv_topi (fun v21 e21 => ?_)
      exact g_iret C _ V ⟨rfl, by unfold a_pst; rw [if_pos ⟨c1, c9⟩, e21, hx, nI_clamp (by omega), ht]; exact X.2.2.2.2.2.1 j t ht⟩ d_S_posted_22
    · refine lv_iconst (v := 0) C.x C.b d_S_posted_12 (by decide) ?_
      refine lv_goto (tgt := 22) C.x C.b d_S_posted_13 (by decide) ?_
      exact g_iret C _ V ⟨rfl, by unfold a_pst; rw [if_neg (by simp_all)]; rfl⟩ d_S_posted_22
set_option maxHeartbeats 200000 in
set_option maxRecDepth 20000 in
theorem c_S_forget (X : RX u a) (I : Inv a) (p : Nat) (hp : p < 32) : gMv lx D (ty3 cI cZ cJ) (XW h cI cZ) y_S_forget b_S_forget 2 ({ frames := 2, cells := 0, slots := 0, locals := 42 } : Room) 0 0 [.ref (h 2), .int (nI (2 * (p + 1)))] ((XW h cI cZ) u) (fun u' => RX u' (a_forget a p)) := by
  refine gMv.of (by decide) (Nat.le_of_ble_eq_true rfl) (fun pg ev st md bl mt cd A ls C hmn hl V => ?_)
  have hl : lv_has ls 2 [(0, .ref (h 2)), (1, .int (nI (2 * (p + 1))))] := hl
  refine lv_aload_n C.x C.b d_S_forget_0 rfl (lv_at hl 0 rfl) ?_
  refine g_iV (q0 := 2) (As := []) (rest := []) C V cs_S_57 (c_S_active X I) rfl rfl (by decide) rfl hl.1 rfl (Nat.le_of_ble_eq_true rfl) d_S_forget_1 (fun r1 u1 H locs w1 V => ?_)
  obtain ⟨rfl, q1⟩ := w1
  refine lv_iload_n C.x C.b d_S_forget_4 rfl (lv_at hl 1 rfl) ?_
  refine lv_icmp_ne (tgt := 21) C.x C.b d_S_forget_5 (by decide) (fun c5 => ?_) (fun c5 => ?_)
  · have hne : ¬ aA a = some p := fun z => c5 (by rw [q1, z]; rfl)
    exact g_vret C _ V (by unfold a_forget; first | (rw [if_neg hne]; exact X) | (rw [if_pos heq]; exact ⟨rc_act X.1 I none, X.2⟩)) d_S_forget_21
  · have heq : aA a = some p := (eO_i (fun q hq => (I.act hq).1) (fun q hq => by cases hq; exact hp)).mp (by rw [← q1]; exact c5)
    refine lv_aload_n C.x C.b d_S_forget_8 rfl (lv_at hl 0 rfl) ?_
    refine xg_fields C V fl_S_9 d_S_forget_9 ?_
    refine lv_aload_n C.x C.b d_S_forget_12 rfl (lv_at hl 0 rfl) ?_
    refine xg_scheduler C V fl_S_19 d_S_forget_13 ?_
    refine lv_topi (fun v13 e13 => ?_)
    obtain rfl : v13 = 114 := by rw [e13]; exact X.2.2.1
    refine lv_iconst (v := 1) C.x C.b d_S_forget_16 (by decide) ?_
    refine lv_iconst (v := 0) C.x C.b d_S_forget_17 (by decide) ?_
    refine g_vU (q0 := 1) (x := ⟨R_L, "put", "(III)V"⟩) (owner := R_L) (As := [.int 114, .int 1, .int 0]) (rest := []) C V (fun z => z.2.1) cs_S_50 (c_P_put (57) 1 (0) (by omega) (by omega)) rfl rfl (by decide) rfl hl.1 rfl (Nat.le_of_ble_eq_true rfl) d_S_forget_18 (fun u18 H locs w18 V => ?_)
    subst w18
    exact g_vret C _ V (by unfold a_forget; first | (rw [if_neg hne]; exact X) | (rw [if_pos heq]; exact ⟨rc_act X.1 I none, X.2⟩)) d_S_forget_21
set_option maxHeartbeats 200000 in
set_option maxRecDepth 20000 in
theorem tl_S_step00 {pg : Program} {ev : Env} {st : State} {md : MethodId} {args : Array Value} {bl : List Frame} {mt : Method} {cd : Code} {A : Nat → Prop} {F : AS} (X : RX u a) (I : Inv a) (P : Prs a) (hw : aW a = true) (hF : a_swap a = F) (hA : aA a = none) (hC : aC a = none) (x : Int32) (C : gC pg st md args mt cd b_S_step 2 y_S_step.cls (some .boolean) D (ty3 cI cZ cJ) A) : ∀ (H : Heap) (locs : List Loc) (ls : Array Slot), gV D A st ((XW h cI cZ) u) H locs → lv_has ls 2 [(0, .ref (h 2)), (1, .int x)] → W pg lx ev ({ frames := 6, cells := 0, slots := 0, locals := 131 } : Room) st md args bl mt cd H locs 0 0 (MQ bl (va_Qi (fun _ u' => RX u' F) (fun u t => gB D (ty3 cI cZ cJ) A ((XW h cI cZ) u) t) A) args st 0 0 A) (F0 md 40 ls []) := by
  intro H locs ls V hl
  refine lv_aload_n C.x C.b d_S_step_40 rfl (lv_at hl 0 rfl) ?_
  refine g_iV (q0 := 2) (As := []) (rest := []) C V cs_S_57 (c_S_active X I) rfl rfl (by decide) rfl hl.1 rfl (Nat.le_of_ble_eq_true rfl) d_S_step_41 (fun r41 u41 H locs w41 V => ?_)
  obtain ⟨rfl, q41⟩ := w41
  obtain rfl : r41 = 0 := by rw [q41, hA]; rfl
  refine lv_istore_n (lv' := [(1, .int 0), (0, .ref (h 2))]) C.x C.b d_S_step_44 rfl hl (by decide) rfl (fun ls hl => ?_)
  refine lv_iload_n C.x C.b d_S_step_45 rfl (lv_at hl 0 rfl) ?_
  refine lv_if_eq (tgt := 69) C.x C.b d_S_step_46 (by decide) (fun c46 => ?_) (fun c46 => ?_)
  · refine lv_aload_n C.x C.b d_S_step_69 rfl (lv_at hl 1 rfl) ?_
    refine xg_fields C V fl_S_9 d_S_step_70 ?_
    refine lv_aload_n C.x C.b d_S_step_73 rfl (lv_at hl 1 rfl) ?_
    refine xg_scheduler C V fl_S_19 d_S_step_74 ?_
    refine lv_topi (fun v74 e74 => ?_)
    obtain rfl : v74 = 114 := by rw [e74]; exact X.2.2.1
    refine lv_iconst (v := 1) C.x C.b d_S_step_77 (by decide) ?_
    refine lv_aload_n C.x C.b d_S_step_78 rfl (lv_at hl 1 rfl) ?_
    refine xg_wp C V fl_S_27 d_S_step_79 ?_
    refine lv_topi (fun v79 e79 => ?_)
    obtain rfl : v79 = 0 := by rw [e79]; exact X.2.2.2.2.2.2.2.1.trans (by rw [hC]; rfl)
    refine g_vU (q0 := 1) (x := ⟨R_L, "put", "(III)V"⟩) (owner := R_L) (As := [.int 114, .int 1, .int 0]) (rest := []) C V (fun z => z.2.1) cs_S_50 (c_P_put (57) 1 (0) (by omega) (by omega)) rfl rfl (by decide) rfl hl.1 rfl (Nat.le_of_ble_eq_true rfl) d_S_step_82 (fun u82 H locs w82 V => ?_)
    subst w82
    refine lv_aload_n C.x C.b d_S_step_85 rfl (lv_at hl 1 rfl) ?_
    refine lv_aload_n C.x C.b d_S_step_86 rfl (lv_at hl 1 rfl) ?_
    refine xg_wp C V fl_S_27 d_S_step_87 ?_
    refine lv_topi (fun v87 e87 => ?_)
    obtain rfl : v87 = 0 := by rw [e87]; exact X.2.2.2.2.2.2.2.1.trans (by rw [hC]; rfl)
    refine lv_if_ne (tgt := 97) C.x C.b d_S_step_90 (by decide) (fun c90 => ?_) (fun c90 => ?_)
    · exact absurd rfl c90
    · refine lv_iconst (v := 0) C.x C.b d_S_step_93 (by decide) ?_
      refine lv_goto (tgt := 116) C.x C.b d_S_step_94 (by decide) ?_
      refine xp_here C V fl_S_33 d_S_step_116 (fun H locs V => ?_)
      refine lv_aload_n C.x C.b d_S_step_119 rfl (lv_at hl 1 rfl) ?_
      refine lv_iconst (v := 0) C.x C.b d_S_step_120 (by decide) ?_
      refine xp_wanted C V fl_S_23 (by decide) d_S_step_121 (fun H locs V => ?_)
      refine lv_iconst (v := 1) C.x C.b d_S_step_124 (by decide) ?_
      exact g_zret C _ V (by rw [← hF]; have hz := rx_swap0 X I hw hA (by unfold sw_h; rw [hC]); rw [hC] at hz; exact hz) (by simp) d_S_step_125
  · exact absurd rfl c46
set_option maxHeartbeats 200000 in
set_option maxRecDepth 20000 in
theorem tl_S_step01 {pg : Program} {ev : Env} {st : State} {md : MethodId} {args : Array Value} {bl : List Frame} {mt : Method} {cd : Code} {A : Nat → Prop} {F : AS} (X : RX u a) (I : Inv a) (P : Prs a) (hw : aW a = true) (hF : a_swap a = F) (hA : aA a = none) (d : Nat) (hC : aC a = some d) (x : Int32) (C : gC pg st md args mt cd b_S_step 2 y_S_step.cls (some .boolean) D (ty3 cI cZ cJ) A) : ∀ (H : Heap) (locs : List Loc) (ls : Array Slot), gV D A st ((XW h cI cZ) u) H locs → lv_has ls 2 [(0, .ref (h 2)), (1, .int x)] → W pg lx ev ({ frames := 6, cells := 0, slots := 0, locals := 131 } : Room) st md args bl mt cd H locs 0 0 (MQ bl (va_Qi (fun _ u' => RX u' F) (fun u t => gB D (ty3 cI cZ cJ) A ((XW h cI cZ) u) t) A) args st 0 0 A) (F0 md 40 ls []) := by
  intro H locs ls V hl
  have hd := (P d (by unfold a_pres; rw [if_pos hw, hC])).1
  refine lv_aload_n C.x C.b d_S_step_40 rfl (lv_at hl 0 rfl) ?_
  refine g_iV (q0 := 2) (As := []) (rest := []) C V cs_S_57 (c_S_active X I) rfl rfl (by decide) rfl hl.1 rfl (Nat.le_of_ble_eq_true rfl) d_S_step_41 (fun r41 u41 H locs w41 V => ?_)
  obtain ⟨rfl, q41⟩ := w41
  obtain rfl : r41 = 0 := by rw [q41, hA]; rfl
  refine lv_istore_n (lv' := [(1, .int 0), (0, .ref (h 2))]) C.x C.b d_S_step_44 rfl hl (by decide) rfl (fun ls hl => ?_)
  refine lv_iload_n C.x C.b d_S_step_45 rfl (lv_at hl 0 rfl) ?_
  refine lv_if_eq (tgt := 69) C.x C.b d_S_step_46 (by decide) (fun c46 => ?_) (fun c46 => ?_)
  · refine lv_aload_n C.x C.b d_S_step_69 rfl (lv_at hl 1 rfl) ?_
    refine xg_fields C V fl_S_9 d_S_step_70 ?_
    refine lv_aload_n C.x C.b d_S_step_73 rfl (lv_at hl 1 rfl) ?_
    refine xg_scheduler C V fl_S_19 d_S_step_74 ?_
    refine lv_topi (fun v74 e74 => ?_)
    obtain rfl : v74 = 114 := by rw [e74]; exact X.2.2.1
    refine lv_iconst (v := 1) C.x C.b d_S_step_77 (by decide) ?_
    refine lv_aload_n C.x C.b d_S_step_78 rfl (lv_at hl 1 rfl) ?_
    refine xg_wp C V fl_S_27 d_S_step_79 ?_
    refine lv_topi (fun v79 e79 => ?_)
    obtain rfl : v79 = nI (2 * (d + 1)) := by rw [e79]; exact X.2.2.2.2.2.2.2.1.trans (by rw [hC]; rfl)
    refine g_vU (q0 := 1) (x := ⟨R_L, "put", "(III)V"⟩) (owner := R_L) (As := [.int 114, .int 1, .int (nI (2 * (d + 1)))]) (rest := []) C V (fun z => z.2.1) cs_S_50 (c_P_put (57) 1 (nI (2 * (d + 1))) (by omega) (by omega)) rfl rfl (by decide) rfl hl.1 rfl (Nat.le_of_ble_eq_true rfl) d_S_step_82 (fun u82 H locs w82 V => ?_)
    subst w82
    refine lv_aload_n C.x C.b d_S_step_85 rfl (lv_at hl 1 rfl) ?_
    refine lv_aload_n C.x C.b d_S_step_86 rfl (lv_at hl 1 rfl) ?_
    refine xg_wp C V fl_S_27 d_S_step_87 ?_
    refine lv_topi (fun v87 e87 => ?_)
    obtain rfl : v87 = nI (2 * (d + 1)) := by rw [e87]; exact X.2.2.2.2.2.2.2.1.trans (by rw [hC]; rfl)
    refine lv_if_ne (tgt := 97) C.x C.b d_S_step_90 (by decide) (fun c90 => ?_) (fun c90 => ?_)
    · refine lv_aload_n C.x C.b d_S_step_97 rfl (lv_at hl 1 rfl) ?_
      refine xg_fields C V fl_S_9 d_S_step_98 ?_
      refine lv_aload_n C.x C.b d_S_step_101 rfl (lv_at hl 1 rfl) ?_
      refine xg_fields C V fl_S_9 d_S_step_102 ?_
      refine lv_aload_n C.x C.b d_S_step_105 rfl (lv_at hl 1 rfl) ?_
      refine xg_wp C V fl_S_27 d_S_step_106 ?_
      refine lv_topi (fun v106 e106 => ?_)
      obtain rfl : v106 = nI (2 * (d + 1)) := by rw [e106]; exact X.2.2.2.2.2.2.2.1.trans (by rw [hC]; rfl)
      refine g_iU (q0 := 1) (x := ⟨R_L, "process", "(I)I"⟩) (owner := R_L) (As := [.int (nI (2 * (d + 1)))]) (rest := [.ref (h 1), .ref (h 2)]) C V (fun z => z.2.2.2.2.1) cs_S_42 (c_P_process (nI (2 * (d + 1)))) rfl rfl (by decide) rfl hl.1 rfl (Nat.le_of_ble_eq_true rfl) d_S_step_109 (fun r109 u109 H locs w109 V => ?_)
      obtain ⟨rfl, q109⟩ := w109
      obtain rfl : r109 = nI (2 * (d + 1)) := q109
      refine lv_iconst (v := 1) C.x C.b d_S_step_112 (by decide) ?_
      refine g_iU (q0 := 1) (x := ⟨R_L, "get", "(II)I"⟩) (owner := R_L) (As := [.int (nI (2 * (d + 1))), .int 1]) (rest := [.ref (h 2)]) C V (fun z => z.1) cs_S_36 (c_P_get (d + 1) 1 (by omega) (by omega)) rfl rfl (by decide) rfl hl.1 rfl (Nat.le_of_ble_eq_true rfl) d_S_step_113 (fun r113 u113 H locs w113 V => ?_)
      obtain ⟨rfl, q113⟩ := w113
      refine xp_here C V fl_S_33 d_S_step_116 (fun H locs V => ?_)
      refine lv_aload_n C.x C.b d_S_step_119 rfl (lv_at hl 1 rfl) ?_
      refine lv_iconst (v := 0) C.x C.b d_S_step_120 (by decide) ?_
      refine xp_wanted C V fl_S_23 (by decide) d_S_step_121 (fun H locs V => ?_)
      refine lv_iconst (v := 1) C.x C.b d_S_step_124 (by decide) ?_
      exact g_zret C _ V (by rw [← hF]; have hz := rx_swap0 (v := r113) X I hw hA (by unfold sw_h; rw [hC]; dsimp only; rw [lay_n hA, q113]; exact (ud_n (by omega)).trans (X.1.1 d hd)); rw [hC] at hz; exact hz) (by simp) d_S_step_125
    · exact absurd c90 (ob_n0 hd)
  · exact absurd rfl c46
set_option maxHeartbeats 200000 in
set_option maxRecDepth 20000 in
theorem tl_S_step10 {pg : Program} {ev : Env} {st : State} {md : MethodId} {args : Array Value} {bl : List Frame} {mt : Method} {cd : Code} {A : Nat → Prop} {F : AS} (X : RX u a) (I : Inv a) (P : Prs a) (hw : aW a = true) (hF : a_swap a = F) (o : Nat) (hA : aA a = some o) (hC : aC a = none) (x : Int32) (C : gC pg st md args mt cd b_S_step 2 y_S_step.cls (some .boolean) D (ty3 cI cZ cJ) A) : ∀ (H : Heap) (locs : List Loc) (ls : Array Slot), gV D A st ((XW h cI cZ) u) H locs → lv_has ls 2 [(0, .ref (h 2)), (1, .int x)] → W pg lx ev ({ frames := 6, cells := 0, slots := 0, locals := 131 } : Room) st md args bl mt cd H locs 0 0 (MQ bl (va_Qi (fun _ u' => RX u' F) (fun u t => gB D (ty3 cI cZ cJ) A ((XW h cI cZ) u) t) A) args st 0 0 A) (F0 md 40 ls []) := by
  intro H locs ls V hl
  have ho := (I.act hA).1
  refine lv_aload_n C.x C.b d_S_step_40 rfl (lv_at hl 0 rfl) ?_
  refine g_iV (q0 := 2) (As := []) (rest := []) C V cs_S_57 (c_S_active X I) rfl rfl (by decide) rfl hl.1 rfl (Nat.le_of_ble_eq_true rfl) d_S_step_41 (fun r41 u41 H locs w41 V => ?_)
  obtain ⟨rfl, q41⟩ := w41
  obtain rfl : r41 = nI (2 * (o + 1)) := by rw [q41, hA]; rfl
  refine lv_istore_n (lv' := [(1, .int (nI (2 * (o + 1)))), (0, .ref (h 2))]) C.x C.b d_S_step_44 rfl hl (by decide) rfl (fun ls hl => ?_)
  refine lv_iload_n C.x C.b d_S_step_45 rfl (lv_at hl 0 rfl) ?_
  refine lv_if_eq (tgt := 69) C.x C.b d_S_step_46 (by decide) (fun c46 => ?_) (fun c46 => ?_)
  · exact absurd c46 (ob_n0 ho)
  · refine lv_aload_n C.x C.b d_S_step_49 rfl (lv_at hl 1 rfl) ?_
    refine xg_fields C V fl_S_9 d_S_step_50 ?_
    refine lv_aload_n C.x C.b d_S_step_53 rfl (lv_at hl 1 rfl) ?_
    refine xg_fields C V fl_S_9 d_S_step_54 ?_
    refine lv_iload_n C.x C.b d_S_step_57 rfl (lv_at hl 0 rfl) ?_
    refine g_iU (q0 := 1) (x := ⟨R_L, "process", "(I)I"⟩) (owner := R_L) (As := [.int (nI (2 * (o + 1)))]) (rest := [.ref (h 1)]) C V (fun z => z.2.2.2.2.1) cs_S_42 (c_P_process (nI (2 * (o + 1)))) rfl rfl (by decide) rfl hl.1 rfl (Nat.le_of_ble_eq_true rfl) d_S_step_58 (fun r58 u58 H locs w58 V => ?_)
    obtain ⟨rfl, q58⟩ := w58
    obtain rfl : r58 = nI (2 * (o + 1)) := q58
    refine lv_iconst (v := 1) C.x C.b d_S_step_61 (by decide) ?_
    refine lv_aload_n C.x C.b d_S_step_62 rfl (lv_at hl 1 rfl) ?_
    refine xg_here C V fl_S_33 d_S_step_63 ?_
    refine lv_topi (fun v63 e63 => ?_)
    obtain rfl : v63 = aH a := by rw [e63]; exact X.2.2.2.2.2.2.2.2
    refine g_vU (q0 := 1) (x := ⟨R_L, "put", "(III)V"⟩) (owner := R_L) (As := [.int (nI (2 * (o + 1))), .int 1, .int (aH a)]) (rest := []) C V (fun z => z.2.1) cs_S_50 (c_P_put (o + 1) 1 (aH a) (by omega) (by omega)) rfl rfl (by decide) rfl hl.1 rfl (Nat.le_of_ble_eq_true rfl) d_S_step_66 (fun u66 H locs w66 V => ?_)
    subst w66
    refine lv_aload_n C.x C.b d_S_step_69 rfl (lv_at hl 1 rfl) ?_
    refine xg_fields C V fl_S_9 d_S_step_70 ?_
    refine lv_aload_n C.x C.b d_S_step_73 rfl (lv_at hl 1 rfl) ?_
    refine xg_scheduler C V fl_S_19 d_S_step_74 ?_
    refine lv_topi (fun v74 e74 => ?_)
    obtain rfl : v74 = 114 := by rw [e74]; exact X.2.2.1
    refine lv_iconst (v := 1) C.x C.b d_S_step_77 (by decide) ?_
    refine lv_aload_n C.x C.b d_S_step_78 rfl (lv_at hl 1 rfl) ?_
    refine xg_wp C V fl_S_27 d_S_step_79 ?_
    refine lv_topi (fun v79 e79 => ?_)
    obtain rfl : v79 = 0 := by rw [e79]; exact X.2.2.2.2.2.2.2.1.trans (by rw [hC]; rfl)
    refine g_vU (q0 := 1) (x := ⟨R_L, "put", "(III)V"⟩) (owner := R_L) (As := [.int 114, .int 1, .int 0]) (rest := []) C V (fun z => z.2.1) cs_S_50 (c_P_put (57) 1 (0) (by omega) (by omega)) rfl rfl (by decide) rfl hl.1 rfl (Nat.le_of_ble_eq_true rfl) d_S_step_82 (fun u82 H locs w82 V => ?_)
    subst w82
    refine lv_aload_n C.x C.b d_S_step_85 rfl (lv_at hl 1 rfl) ?_
    refine lv_aload_n C.x C.b d_S_step_86 rfl (lv_at hl 1 rfl) ?_
    refine xg_wp C V fl_S_27 d_S_step_87 ?_
    refine lv_topi (fun v87 e87 => ?_)
    obtain rfl : v87 = 0 := by rw [e87]; exact X.2.2.2.2.2.2.2.1.trans (by rw [hC]; rfl)
    refine lv_if_ne (tgt := 97) C.x C.b d_S_step_90 (by decide) (fun c90 => ?_) (fun c90 => ?_)
    · exact absurd rfl c90
    · refine lv_iconst (v := 0) C.x C.b d_S_step_93 (by decide) ?_
      refine lv_goto (tgt := 116) C.x C.b d_S_step_94 (by decide) ?_
      refine xp_here C V fl_S_33 d_S_step_116 (fun H locs V => ?_)
      refine lv_aload_n C.x C.b d_S_step_119 rfl (lv_at hl 1 rfl) ?_
      refine lv_iconst (v := 0) C.x C.b d_S_step_120 (by decide) ?_
      refine xp_wanted C V fl_S_23 (by decide) d_S_step_121 (fun H locs V => ?_)
      refine lv_iconst (v := 1) C.x C.b d_S_step_124 (by decide) ?_
      exact g_zret C _ V (by rw [← hF]; have hz := rx_swap1 X I hw hA (by unfold sw_h; rw [hC]); rw [hC] at hz; exact hz) (by simp) d_S_step_125
set_option maxHeartbeats 200000 in
set_option maxRecDepth 20000 in
theorem tl_S_step11 {pg : Program} {ev : Env} {st : State} {md : MethodId} {args : Array Value} {bl : List Frame} {mt : Method} {cd : Code} {A : Nat → Prop} {F : AS} (X : RX u a) (I : Inv a) (P : Prs a) (hw : aW a = true) (hF : a_swap a = F) (o : Nat) (hA : aA a = some o) (d : Nat) (hC : aC a = some d) (x : Int32) (C : gC pg st md args mt cd b_S_step 2 y_S_step.cls (some .boolean) D (ty3 cI cZ cJ) A) : ∀ (H : Heap) (locs : List Loc) (ls : Array Slot), gV D A st ((XW h cI cZ) u) H locs → lv_has ls 2 [(0, .ref (h 2)), (1, .int x)] → W pg lx ev ({ frames := 6, cells := 0, slots := 0, locals := 131 } : Room) st md args bl mt cd H locs 0 0 (MQ bl (va_Qi (fun _ u' => RX u' F) (fun u t => gB D (ty3 cI cZ cJ) A ((XW h cI cZ) u) t) A) args st 0 0 A) (F0 md 40 ls []) := by
  intro H locs ls V hl
  have ho := (I.act hA).1
  have hd := (P d (by unfold a_pres; rw [if_pos hw, hC])).1
  refine lv_aload_n C.x C.b d_S_step_40 rfl (lv_at hl 0 rfl) ?_
  refine g_iV (q0 := 2) (As := []) (rest := []) C V cs_S_57 (c_S_active X I) rfl rfl (by decide) rfl hl.1 rfl (Nat.le_of_ble_eq_true rfl) d_S_step_41 (fun r41 u41 H locs w41 V => ?_)
  obtain ⟨rfl, q41⟩ := w41
  obtain rfl : r41 = nI (2 * (o + 1)) := by rw [q41, hA]; rfl
  refine lv_istore_n (lv' := [(1, .int (nI (2 * (o + 1)))), (0, .ref (h 2))]) C.x C.b d_S_step_44 rfl hl (by decide) rfl (fun ls hl => ?_)
  refine lv_iload_n C.x C.b d_S_step_45 rfl (lv_at hl 0 rfl) ?_
  refine lv_if_eq (tgt := 69) C.x C.b d_S_step_46 (by decide) (fun c46 => ?_) (fun c46 => ?_)
  · exact absurd c46 (ob_n0 ho)
  · refine lv_aload_n C.x C.b d_S_step_49 rfl (lv_at hl 1 rfl) ?_
    refine xg_fields C V fl_S_9 d_S_step_50 ?_
    refine lv_aload_n C.x C.b d_S_step_53 rfl (lv_at hl 1 rfl) ?_
    refine xg_fields C V fl_S_9 d_S_step_54 ?_
    refine lv_iload_n C.x C.b d_S_step_57 rfl (lv_at hl 0 rfl) ?_
    refine g_iU (q0 := 1) (x := ⟨R_L, "process", "(I)I"⟩) (owner := R_L) (As := [.int (nI (2 * (o + 1)))]) (rest := [.ref (h 1)]) C V (fun z => z.2.2.2.2.1) cs_S_42 (c_P_process (nI (2 * (o + 1)))) rfl rfl (by decide) rfl hl.1 rfl (Nat.le_of_ble_eq_true rfl) d_S_step_58 (fun r58 u58 H locs w58 V => ?_)
    obtain ⟨rfl, q58⟩ := w58
    obtain rfl : r58 = nI (2 * (o + 1)) := q58
    refine lv_iconst (v := 1) C.x C.b d_S_step_61 (by decide) ?_
    refine lv_aload_n C.x C.b d_S_step_62 rfl (lv_at hl 1 rfl) ?_
    refine xg_here C V fl_S_33 d_S_step_63 ?_
    refine lv_topi (fun v63 e63 => ?_)
    obtain rfl : v63 = aH a := by rw [e63]; exact X.2.2.2.2.2.2.2.2
    refine g_vU (q0 := 1) (x := ⟨R_L, "put", "(III)V"⟩) (owner := R_L) (As := [.int (nI (2 * (o + 1))), .int 1, .int (aH a)]) (rest := []) C V (fun z => z.2.1) cs_S_50 (c_P_put (o + 1) 1 (aH a) (by omega) (by omega)) rfl rfl (by decide) rfl hl.1 rfl (Nat.le_of_ble_eq_true rfl) d_S_step_66 (fun u66 H locs w66 V => ?_)
    subst w66
    refine lv_aload_n C.x C.b d_S_step_69 rfl (lv_at hl 1 rfl) ?_
    refine xg_fields C V fl_S_9 d_S_step_70 ?_
    refine lv_aload_n C.x C.b d_S_step_73 rfl (lv_at hl 1 rfl) ?_
    refine xg_scheduler C V fl_S_19 d_S_step_74 ?_
    refine lv_topi (fun v74 e74 => ?_)
    obtain rfl : v74 = 114 := by rw [e74]; exact X.2.2.1
    refine lv_iconst (v := 1) C.x C.b d_S_step_77 (by decide) ?_
    refine lv_aload_n C.x C.b d_S_step_78 rfl (lv_at hl 1 rfl) ?_
    refine xg_wp C V fl_S_27 d_S_step_79 ?_
    refine lv_topi (fun v79 e79 => ?_)
    obtain rfl : v79 = nI (2 * (d + 1)) := by rw [e79]; exact X.2.2.2.2.2.2.2.1.trans (by rw [hC]; rfl)
    refine g_vU (q0 := 1) (x := ⟨R_L, "put", "(III)V"⟩) (owner := R_L) (As := [.int 114, .int 1, .int (nI (2 * (d + 1)))]) (rest := []) C V (fun z => z.2.1) cs_S_50 (c_P_put (57) 1 (nI (2 * (d + 1))) (by omega) (by omega)) rfl rfl (by decide) rfl hl.1 rfl (Nat.le_of_ble_eq_true rfl) d_S_step_82 (fun u82 H locs w82 V => ?_)
    subst w82
    refine lv_aload_n C.x C.b d_S_step_85 rfl (lv_at hl 1 rfl) ?_
    refine lv_aload_n C.x C.b d_S_step_86 rfl (lv_at hl 1 rfl) ?_
    refine xg_wp C V fl_S_27 d_S_step_87 ?_
    refine lv_topi (fun v87 e87 => ?_)
    obtain rfl : v87 = nI (2 * (d + 1)) := by rw [e87]; exact X.2.2.2.2.2.2.2.1.trans (by rw [hC]; rfl)
    refine lv_if_ne (tgt := 97) C.x C.b d_S_step_90 (by decide) (fun c90 => ?_) (fun c90 => ?_)
    · refine lv_aload_n C.x C.b d_S_step_97 rfl (lv_at hl 1 rfl) ?_
      refine xg_fields C V fl_S_9 d_S_step_98 ?_
      refine lv_aload_n C.x C.b d_S_step_101 rfl (lv_at hl 1 rfl) ?_
      refine xg_fields C V fl_S_9 d_S_step_102 ?_
      refine lv_aload_n C.x C.b d_S_step_105 rfl (lv_at hl 1 rfl) ?_
      refine xg_wp C V fl_S_27 d_S_step_106 ?_
      refine lv_topi (fun v106 e106 => ?_)
      obtain rfl : v106 = nI (2 * (d + 1)) := by rw [e106]; exact X.2.2.2.2.2.2.2.1.trans (by rw [hC]; rfl)
      refine g_iU (q0 := 1) (x := ⟨R_L, "process", "(I)I"⟩) (owner := R_L) (As := [.int (nI (2 * (d + 1)))]) (rest := [.ref (h 1), .ref (h 2)]) C V (fun z => z.2.2.2.2.1) cs_S_42 (c_P_process (nI (2 * (d + 1)))) rfl rfl (by decide) rfl hl.1 rfl (Nat.le_of_ble_eq_true rfl) d_S_step_109 (fun r109 u109 H locs w109 V => ?_)
      obtain ⟨rfl, q109⟩ := w109
      obtain rfl : r109 = nI (2 * (d + 1)) := q109
      refine lv_iconst (v := 1) C.x C.b d_S_step_112 (by decide) ?_
      refine g_iU (q0 := 1) (x := ⟨R_L, "get", "(II)I"⟩) (owner := R_L) (As := [.int (nI (2 * (d + 1))), .int 1]) (rest := [.ref (h 2)]) C V (fun z => z.1) cs_S_36 (c_P_get (d + 1) 1 (by omega) (by omega)) rfl rfl (by decide) rfl hl.1 rfl (Nat.le_of_ble_eq_true rfl) d_S_step_113 (fun r113 u113 H locs w113 V => ?_)
      obtain ⟨rfl, q113⟩ := w113
      refine xp_here C V fl_S_33 d_S_step_116 (fun H locs V => ?_)
      refine lv_aload_n C.x C.b d_S_step_119 rfl (lv_at hl 1 rfl) ?_
      refine lv_iconst (v := 0) C.x C.b d_S_step_120 (by decide) ?_
      refine xp_wanted C V fl_S_23 (by decide) d_S_step_121 (fun H locs V => ?_)
      refine lv_iconst (v := 1) C.x C.b d_S_step_124 (by decide) ?_
      exact g_zret C _ V (by rw [← hF]; have hz := rx_swap1 (v := r113) X I hw hA (by unfold sw_h; rw [hC]; dsimp only; rw [lay_s hA, q113]; exact (ud_n (by omega)).trans ((rc_place X.1 I ho (aH a)).1 d hd)); rw [hC] at hz; exact hz) (by simp) d_S_step_125
    · exact absurd c90 (ob_n0 hd)
set_option maxHeartbeats 200000 in
set_option maxRecDepth 20000 in
theorem lp_S_step {pg : Program} {ev : Env} {st : State} {md : MethodId} {args : Array Value} {bl : List Frame} {mt : Method} {cd : Code} {A : Nat → Prop} {F : AS} (Ps : List Nat) (B0 : Nat) (h40 : Ps.length ≤ 40) (hB0 : B0 + Ps.length < 2 ^ 20) (C : gC pg st md args mt cd b_S_step 2 y_S_step.cls (some .boolean) D (ty3 cI cZ cJ) A) : ∀ (l : List Nat) (k : Nat) (a : AS) (u : XS), RX u a → Inv a → Prs a → aO a = Ps → k ≤ Ps.length → Ps.drop k = l → Bd a (B0 + k) → a_swap (a_done (a_sigs a l)) = F → ∀ (H : Heap) (locs : List Loc) (ls : Array Slot), gV D A st ((XW h cI cZ) u) H locs → lv_has ls 2 [(0, .ref (h 2)), (1, .int (nI k))] → W pg lx ev ({ frames := 6, cells := 0, slots := 0, locals := 131 } : Room) st md args bl mt cd H locs 0 0 (MQ bl (va_Qi (fun _ u' => RX u' F) (fun u t => gB D (ty3 cI cZ cJ) A ((XW h cI cZ) u) t) A) args st 0 0 A) (F0 md 2 ls []) := by
  intro l
  induction l with
  | nil =>
    intro k a u X I P hO hk hd hB hF H locs ls V hl
    have hkl : k = Ps.length := by have := congrArg List.length hd; rw [List.length_drop] at this; simp at this; omega
    refine lv_iload_n C.x C.b d_S_step_2 rfl (lv_at hl 1 rfl) ?_
    refine lv_aload_n C.x C.b d_S_step_3 rfl (lv_at hl 0 rfl) ?_
    refine xg_count C V fl_S_30 d_S_step_4 ?_
    refine lv_topi (fun v4 e4 => ?_)
    obtain rfl : v4 = nI (aO a).length := by rw [e4]; exact X.2.2.2.2.1
    refine lv_icmp_ge (tgt := 26) C.x C.b d_S_step_7 (by decide) (fun c7 => ?_) (fun c7 => ?_)
    · refine lv_aload_n C.x C.b d_S_step_26 rfl (lv_at hl 0 rfl) ?_
      refine lv_iconst (v := 0) C.x C.b d_S_step_27 (by decide) ?_
      refine xp_count C V fl_S_30 d_S_step_28 (fun H locs V => ?_)
      have X := rx_done X
      have I : Inv (a_done a) := ⟨I.1, I.2.1, I.2.2.1, I.2.2.2.1, I.2.2.2.2.1, I.2.2.2.2.2.1, Nat.zero_le _, fun s h => by cases h⟩
      have P : Prs (a_done a) := P
      have hF : a_swap (a_done a) = F := hF
      refine lv_aload_n C.x C.b d_S_step_31 rfl (lv_at hl 0 rfl) ?_
      refine xg_wanted C V fl_S_23 d_S_step_32 ?_
      refine lv_topi (fun v32 e32 => ?_)
      refine lv_if_ne (tgt := 40) C.x C.b d_S_step_35 (by decide) (fun c35 => ?_) (fun c35 => ?_)
      · have hw : aW (a_done a) = true := Classical.byContradiction (fun z => c35 (by rw [e32]; exact X.2.2.2.2.2.2.1.trans (if_neg z)))
        cases hA : aA (a_done a) with
        | none =>
          cases hC : aC (a_done a) with
          | none => exact tl_S_step00 X I P hw hF hA hC _ C H locs ls V (lv_sub hl [0, 1] rfl)
          | some d => exact tl_S_step01 X I P hw hF hA d hC _ C H locs ls V (lv_sub hl [0, 1] rfl)
        | some o =>
          cases hC : aC (a_done a) with
          | none => exact tl_S_step10 X I P hw hF o hA hC _ C H locs ls V (lv_sub hl [0, 1] rfl)
          | some d => exact tl_S_step11 X I P hw hF o hA d hC _ C H locs ls V (lv_sub hl [0, 1] rfl)
      · have hw : ¬ aW (a_done a) = true := fun z => by rw [e32] at c35; have q := X.2.2.2.2.2.2.1; rw [if_pos z] at q; exact absurd (q.symm.trans c35) (by decide)
        refine lv_iconst (v := 0) C.x C.b d_S_step_38 (by decide) ?_
        exact g_zret C _ V (by rw [← hF, sw_n hw]; exact X) (by simp) d_S_step_39
    · exact absurd (by rw [hO, hkl]; exact Int32.le_refl _) c7
  | cons s l ih =>
    intro k a u X I P hO hk hd hB hF H locs ls V hl
    have hkl : k < Ps.length := by have := congrArg List.length hd; rw [List.length_drop] at this; simp at this; omega
    have hks : Ps[k]? = some s := by have := congrArg (fun z => z[0]?) hd; simpa using this
    have hs : s < 16 := I.pst s (by rw [hO]; exact List.mem_of_getElem? hks)
    refine lv_iload_n C.x C.b d_S_step_2 rfl (lv_at hl 1 rfl) ?_
    refine lv_aload_n C.x C.b d_S_step_3 rfl (lv_at hl 0 rfl) ?_
    refine xg_count C V fl_S_30 d_S_step_4 ?_
    refine lv_topi (fun v4 e4 => ?_)
    obtain rfl : v4 = nI (aO a).length := by rw [e4]; exact X.2.2.2.2.1
    refine lv_icmp_ge (tgt := 26) C.x C.b d_S_step_7 (by decide) (fun c7 => ?_) (fun c7 => ?_)
    · exact absurd c7 (by rw [hO]; exact nI_ge hkl (by omega))
    · refine lv_aload_n C.x C.b d_S_step_10 rfl (lv_at hl 0 rfl) ?_
      refine lv_aload_n C.x C.b d_S_step_11 rfl (lv_at hl 0 rfl) ?_
      refine xg_posts C V fl_S_15 d_S_step_12 ?_
      refine lv_iload_n C.x C.b d_S_step_15 rfl (lv_at hl 1 rfl) ?_
      refine xa_posts (k) C V rfl (by omega) d_S_step_16 ?_
      refine lv_topi (fun v16 e16 => ?_)
      obtain rfl : v16 = nI (2 * kR (16 + s)) := by rw [e16, X.2.2.2.2.2.1 k s (by rw [hO]; exact hks), kR_66 hs]
      refine g_vV (q0 := 2) (As := [.int (nI (2 * kR (16 + s)))]) (rest := []) C V cs_S_100 (c_S_signal X I P s hs (by have := hB.2 s; omega)) rfl rfl (by decide) rfl hl.1 rfl (Nat.le_of_ble_eq_true rfl) d_S_step_17 (fun u17 H locs w17 V => ?_)
      have hI := inv_sig I P hs
      obtain ⟨v20, e20⟩ : ∃ y : Int32, y = nI k + 1 := ⟨_, rfl⟩
      refine lv_iinc (v := v20) (lv' := [(1, .int v20), (0, .ref (h 2))]) C.x C.b d_S_step_20 hl (k := 1) rfl (by rw [e20]; rfl) (by decide) rfl (fun ls hl => ?_)
      refine lv_goto (tgt := 2) C.x C.b d_S_step_23 (by decide) ?_
      exact ih (k + 1) (a_sig a s) u17 w17 hI.1 hI.2 (by rw [sig_O, hO]) hkl (by have := congrArg (fun z => z.drop 1) hd; simpa using this) (bd_sig hB) hF H locs ls V (lv_sub (by rw [e20, nI_1] at hl; exact hl) [1, 0] rfl)
set_option maxHeartbeats 200000 in
set_option maxRecDepth 20000 in
theorem c_S_step (X : RX u a) (I : Inv a) (P : Prs a) (B0 : Nat) (hB : Bd a B0) (hB0 : B0 < 2 ^ 19) : gMi lx D (ty3 cI cZ cJ) (XW h cI cZ) y_S_step b_S_step 2 (some .boolean) ({ frames := 6, cells := 0, slots := 0, locals := 131 } : Room) 0 0 [.ref (h 2)] ((XW h cI cZ) u) (fun _ u' => RX u' (a_swap (a_done (a_sigs a (aO a))))) := by
  refine gMi.of (by decide) (Nat.le_of_ble_eq_true rfl) (fun pg ev st md bl mt cd A ls C hmn hl V => ?_)
  have hl : lv_has ls 2 [(0, .ref (h 2))] := hl
  refine lv_iconst (v := 0) C.x C.b d_S_step_0 (by decide) ?_
  refine lv_istore_n (lv' := [(1, .int 0), (0, .ref (h 2))]) C.x C.b d_S_step_1 rfl hl (by decide) rfl (fun ls hl => ?_)
  exact lp_S_step (aO a) B0 I.len (by have := I.len; omega) C (aO a) 0 a u X I P rfl (Nat.zero_le _) rfl hB rfl _ _ ls V (lv_sub hl [1, 0] rfl)
end
end
section
def pOf (x : Int32) : Option Nat := if ¬ x < 0 ∧ x < 32 then some x.toNatClampNeg else none
def sOf (x : Int32) : Option Nat := if ¬ x < 0 ∧ x < 16 then some x.toNatClampNeg else none
def qOf (x : Int32) : Option Nat := if ¬ x < 1 ∧ ¬ 8 < x then some x.toNatClampNeg else none
/-- a made process by its number -/
def mOf (a : AS) (x : Int32) : Option Nat := match pOf x with
  | none => none
  | some p => if aM a p = true then some p else none
def a_mk (a : AS) (p n : Nat) (z : Int32) : AS := (aQ a, aR a, aT a, aN a, va_up (aM a) p true, va_up (aP a) p n, va_up (aL a) p z, aE a, aO a, aA a, aH a, aW a, aC a)
def a_unmk (a : AS) (p : Nat) : AS := (aQ a, aR a, aT a, aN a, va_up (aM a) p false, aP a, aL a, aE a, aO a, aA a, aH a, aW a, aC a)
def a_prio (a : AS) (p n : Nat) : AS := (aQ a, aR a, aT a, aN a, aM a, va_up (aP a) p n, aL a, aE a, aO a, aA a, aH a, aW a, aC a)
def a_here (a : AS) (v : Int32) : AS := (aQ a, aR a, aT a, aN a, aM a, aP a, aL a, aE a, aO a, aA a, v, aW a, aC a)
def o_make (a : AS) (x y z : Int32) : Int32 × AS := match pOf x, qOf y with
  | some p, some n => if aM a p = true then (0, a) else (1, a_mk a p n z)
  | _, _ => (0, a)
def o_resume (a : AS) (x : Int32) : Int32 × AS := match mOf a x with
  | none => (0, a)
  | some p => if aR a p = 0 ∧ a_pres a ≠ some p ∧ aA a ≠ some p then (1, a_wake a p) else (0, a)
def o_suspend (a : AS) : Int32 × AS := match a_pres a with
  | none => (-1, a)
  | some p => (nI p, a_aside a)
def o_end (a : AS) : Int32 × AS := match a_pres a with
  | none => (-1, a)
  | some p => (nI p, a_unmk (a_forget (a_aside a) p) p)
def o_await (a : AS) (x : Int32) : Int32 × AS := match sOf x with
  | none => (-1, a)
  | some s => a_await a s
def o_signal (a : AS) (x : Int32) : Int32 × AS := match sOf x with
  | none => (0, a)
  | some s => (1, a_sig a s)
def o_post (a : AS) (x : Int32) : Int32 × AS := match sOf x with
  | none => (-1, a)
  | some s => a_post a s
def o_step (a : AS) : Int32 × AS := (eN (aA (a_swap (a_done (a_sigs a (aO a))))), a_swap (a_done (a_sigs a (aO a))))
def o_work (a : AS) (x : Int32) : Int32 × AS := if (¬ x < 1 ∧ ¬ 1000 < x) ∧ aA a ≠ none ∧ ¬ aW a = true then (1, a_here a (aH a + x)) else (0, a)
def o_take (a : AS) (x : Int32) : Int32 × AS := match mOf a x with
  | none => (0, a)
  | some p => if aR a p = 0 then (0, a) else (1, a_rem a p)
def o_rate (a : AS) (x y : Int32) : Int32 × AS := match mOf a x, qOf y with
  | some p, some n => (nI (aP a p), a_prio a p n)
  | _, _ => (-1, a)
def o_place (a : AS) (x : Int32) : Int32 := match mOf a x with
  | none => 0
  | some p => aL a p
def o_priority (a : AS) (x : Int32) : Int32 := match mOf a x with
  | none => -1
  | some p => nI (aP a p)
def o_row (a : AS) (x : Int32) : Int32 := match mOf a x with
  | none => -1
  | some p => nI (aR a p)
def o_extra (a : AS) (x : Int32) : Int32 := match sOf x with
  | none => -1
  | some s => nI (aE a s)
def o_posted (a : AS) (x : Int32) : Int32 := eN (a_pst a x)
/-- a row's number -/
def rOf (x : Int32) : Option Nat := match qOf x with
  | some n => some n
  | none => if ¬ x < 16 ∧ x < 32 then some x.toNatClampNeg else none
def o_at (a : AS) (x i : Int32) : Int32 := match rOf x with
  | none => -1
  | some r => if i < 0 then -1 else eN ((aQ a r)[i.toNatClampNeg]?)
section
variable {u : XS} {a : AS} {x : Int32}
theorem pOf_c (x : Int32) : (∃ p, p < 32 ∧ x = nI p ∧ pOf x = some p) ∨ (¬ (¬ x < 0 ∧ x < 32) ∧ pOf x = none) := by
  by_cases h : ¬ x < 0 ∧ x < 32
  · refine Or.inl ?_
    rcases pk_ix x (n := 32) (by decide) with z | z | ⟨j, hj, rfl⟩
    · exact absurd z h.1
    · exact absurd h.2 (Int32.not_lt.mpr z)
    · exact ⟨j, hj, rfl, by unfold pOf; rw [if_pos h, nI_clamp (by omega)]⟩
  · exact Or.inr ⟨h, if_neg h⟩
theorem sOf_c (x : Int32) : (∃ p, p < 16 ∧ x = nI p ∧ sOf x = some p ∧ ¬ x < 0 ∧ x < 16) ∨ (¬ (¬ x < 0 ∧ x < 16) ∧ sOf x = none) := by
  by_cases h : ¬ x < 0 ∧ x < 16
  · refine Or.inl ?_
    rcases pk_ix x (n := 16) (by decide) with z | z | ⟨j, hj, rfl⟩
    · exact absurd z h.1
    · exact absurd h.2 (Int32.not_lt.mpr z)
    · exact ⟨j, hj, rfl, by unfold sOf; rw [if_pos h, nI_clamp (by omega)], h⟩
  · exact Or.inr ⟨h, if_neg h⟩
theorem qOf_c (x : Int32) : (∃ n, 1 ≤ n ∧ n ≤ 8 ∧ x = nI n ∧ qOf x = some n ∧ ¬ x < 1 ∧ ¬ 8 < x) ∨ (¬ (¬ x < 1 ∧ ¬ 8 < x) ∧ qOf x = none) := by
  by_cases h : ¬ x < 1 ∧ ¬ 8 < x
  · refine Or.inl ?_
    rcases pk_ix x (n := 9) (by decide) with z | z | ⟨j, hj, rfl⟩
    · exact absurd (Int32.lt_trans z (by decide)) h.1
    · exact absurd (Int32.lt_of_lt_of_le (show (8 : Int32) < nI 9 by decide) z) h.2
    · refine ⟨j, ?_, by omega, rfl, by unfold qOf; rw [if_pos h, nI_clamp (by omega)], h⟩
      rcases Nat.eq_zero_or_pos j with e | e
      · subst e; exact absurd (by decide) h.1
      · exact e
  · exact Or.inr ⟨h, if_neg h⟩
theorem mOf_c (a : AS) (x : Int32) : (∃ p, p < 32 ∧ x = nI p ∧ aM a p = true ∧ mOf a x = some p) ∨ mOf a x = none := by
  rcases pOf_c x with ⟨p, hp, rfl, ep⟩ | ⟨-, ep⟩
  · by_cases hm : aM a p = true
    · exact Or.inl ⟨p, hp, rfl, hm, by unfold mOf; rw [ep]; exact if_pos hm⟩
    · exact Or.inr (by unfold mOf; rw [ep]; exact if_neg hm)
  · exact Or.inr (by unfold mOf; rw [ep])
theorem pOf_n {p : Nat} (hp : p < 32) : pOf (nI p) = some p := by
  unfold pOf; rw [if_pos ⟨nI_pos (by omega), nI_lt (b := 32) hp (by decide)⟩, nI_clamp (by omega)]
theorem mOf_n {p : Nat} (hp : p < 32) : mOf a (nI p) = if aM a p = true then some p else none := by unfold mOf; rw [pOf_n hp]
theorem mOf_t {p : Nat} (hp : p < 32) (hm : aM a p = true) : mOf a (nI p) = some p := by rw [mOf_n hp, if_pos hm]
theorem mOf_l (h : x < 0) : mOf a x = none := by unfold mOf pOf; rw [if_neg (fun z => z.1 h)]
theorem mOf_g (h : 32 ≤ x) : mOf a x = none := by unfold mOf pOf; rw [if_neg (fun z => absurd z.2 (Int32.not_lt.mpr h))]
theorem pOf_l (h : x < 0) : pOf x = none := by unfold pOf; rw [if_neg (fun z => z.1 h)]
theorem pOf_g (h : 32 ≤ x) : pOf x = none := by unfold pOf; rw [if_neg (fun z => absurd z.2 (Int32.not_lt.mpr h))]
theorem in32 (h : ¬ x < 0) (h2 : ¬ 32 ≤ x) : ∃ j, j < 32 ∧ x = nI j := by
  rcases pk_ix x (n := 32) (by decide) with z | z | z
  · exact absurd z h
  · exact absurd z h2
  · exact z
theorem nk_proc (p : Nat) : (2 : Int32) + 2 * nI p = nI (2 * (p + 1)) := by
  rw [show (2 : Int32) = nI 2 from rfl, pk_mul, nI_add]; congr 1; omega
theorem nk_sem {s : Nat} (hs : s < 16) : (66 : Int32) + 2 * nI s = nI (2 * kR (16 + s)) := by
  rw [show (66 : Int32) = nI 66 from rfl, show (2 : Int32) = nI 2 from rfl, pk_mul, nI_add, kR_66 hs]
theorem nk_num {p : Nat} (hp : p < 32) : nI (2 * (p + 1)) / 2 - 1 = nI p := by
  rw [show (2 : Int32) = nI 2 from rfl, pk_div (by omega) (by decide) (by decide), show (1 : Int32) = nI 1 from rfl, pk_sub (by omega)]
  congr 1; omega
theorem nk_no {o : Option Nat} (ho : ∀ p, o = some p → p < 32) : (if eO o = 0 then -1 else eO o / 2 - 1) = eN o := by
  cases o with
  | none => rfl
  | some p => rw [eO_some, if_neg (ob_n0 (ho p rfl))]; exact nk_num (ho p rfl)
theorem Inv.pres32 (I : Inv a) (P : Prs a) : ∀ p, a_pres a = some p → p < 32 := fun p h => (P p h).1
theorem Inv.act32 (I : Inv a) : ∀ p, aA a = some p → p < 32 := fun p h => (I.act h).1
theorem Inv.unm (I : Inv a) {p : Nat} (hp : p < 32) (hm : ¬ aM a p = true) : aR a p = 0 := Classical.byContradiction (fun z => hm (I.mad hp z))
theorem eR_0 (I : Inv a) {p : Nat} (hp : p < 32) : eR (aR a p) = 0 ↔ aR a p = 0 := by
  refine ⟨fun h => ?_, fun h => by rw [h]; rfl⟩
  rcases I.row hp with e | e
  · exact e
  · rw [eR_v e] at h
    have := kR_b e
    exact absurd h (nI_ne0 (by omega) (by omega))
theorem rc_mk {f : Nat → Int32} (h : RC f a) (I : Inv a) {p n : Nat} (hp : p < 32) (hr : aR a p = 0) (z : Int32) : RC (upd (upd (upd (upd f (4 * (p + 1)) 0) (4 * (p + 1) + 1) z) (4 * (p + 1) + 2) (nI (2 * n + 1))) (4 * (p + 1) + 3) 0) (a_mk a p n z) := by
  obtain ⟨q1, q2, q3, q4, q5, q6, q7⟩ := h
  refine ⟨fun q h => ?_, fun q h hm => ?_, fun q h => ?_, fun r hv => ?_, fun t ht => ?_, ?_, ?_⟩
  · show _ = va_up (aL a) p z q
    by_cases e : q = p
    · subst e; rw [up_s, ud_n (by omega), ud_n (by omega), ud_s]
    · rw [up_n _ _ e, ud_n (by omega), ud_n (by omega), ud_n (by omega), ud_n (by omega)]; exact q1 q h
  · have hm : va_up (aM a) p true q = true := hm
    show _ = nI (2 * va_up (aP a) p n q + 1)
    by_cases e : q = p
    · subst e; rw [up_s, ud_n (by omega), ud_s]
    · rw [up_n _ _ e] at hm
      rw [up_n _ _ e, ud_n (by omega), ud_n (by omega), ud_n (by omega), ud_n (by omega)]; exact q2 q h hm
  · show _ = eR (aR a q)
    by_cases e : q = p
    · subst e; rw [ud_s, hr]; rfl
    · rw [ud_n (by omega), ud_n (by omega), ud_n (by omega), ud_n (by omega)]; exact q3 q h
  · have kb := kR_b hv
    have := q4 r hv
    rw [ud_n (by omega), ud_n (by omega), ud_n (by omega), ud_n (by omega), ud_n (by omega), ud_n (by omega), ud_n (by omega), ud_n (by omega)]
    refine ⟨this.1, this.2.1, ch_eq (fun x hx => ?_) this.2.2⟩
    have hxm := (I.mem hv).mp hx
    have hxp : x ≠ p := fun z => hv.pos (by rw [← hxm.2, z, hr])
    rw [ud_n (by omega), ud_n (by omega), ud_n (by omega), ud_n (by omega)]
  · rw [ud_n (by omega), ud_n (by omega), ud_n (by omega), ud_n (by omega)]; exact q5 t ht
  · rw [ud_n (by omega), ud_n (by omega), ud_n (by omega), ud_n (by omega)]; exact q6
  · rw [ud_n (by omega), ud_n (by omega), ud_n (by omega), ud_n (by omega)]; exact q7
theorem rc_prio {f : Nat → Int32} (h : RC f a) {p n : Nat} (hp : p < 32) : RC (upd f (4 * (p + 1) + 2) (nI (2 * n + 1))) (a_prio a p n) := by
  obtain ⟨q1, q2, q3, q4, q5, q6, q7⟩ := h
  refine ⟨fun q h => ?_, fun q h hm => ?_, fun q h => ?_, fun r hv => ?_, fun t ht => ?_, ?_, ?_⟩
  · rw [ud_n (by omega)]; exact q1 q h
  · show _ = nI (2 * va_up (aP a) p n q + 1)
    by_cases e : q = p
    · subst e; rw [up_s, ud_s]
    · rw [up_n _ _ e, ud_n (by omega)]; exact q2 q h hm
  · rw [ud_n (by omega)]; exact q3 q h
  · have kb := kR_b hv
    have := q4 r hv
    rw [ud_n (by omega), ud_n (by omega)]
    exact ⟨this.1, this.2.1, ch_eq (fun x hx => ud_n (by omega)) this.2.2⟩
  · rw [ud_n (by omega)]; exact q5 t ht
  · rw [ud_n (by omega)]; exact q6
  · rw [ud_n (by omega)]; exact q7
theorem ro_made {v : XS} {b : AS} (h : RO u a) {p : Nat} {t : Bool} : RO (xM' u (upd (xM u) p (if t = true then 1 else 0))) (aQ a, aR a, aT a, aN a, va_up (aM a) p t, aP a, aL a, aE a, aO a, aA a, aH a, aW a, aC a) := by
  refine ⟨h.1, h.2.1, fun q hq => ?_, h.2.2.2⟩
  show upd (xM u) p _ q = if va_up (aM a) p t q = true then 1 else 0
  by_cases e : q = p
  · subst e; rw [ud_s, up_s]
  · rw [ud_n e, up_n _ _ e]; exact h.2.2.1 q hq
theorem rx_unmk (X : RX u a) (p : Nat) : RX (xM' u (upd (xM u) p 0)) (a_unmk a p) := by
  refine ⟨⟨X.1.1, fun q h hm => X.1.2.1 q h ?_, X.1.2.2⟩, ro_made (v := u) (b := a) (t := false) X.2⟩
  have hm : va_up (aM a) p false q = true := hm
  by_cases e : q = p
  · subst e; rw [up_s] at hm; cases hm
  · rw [up_n _ _ e] at hm; exact hm
theorem rx_mk (X : RX u a) (I : Inv a) {p n : Nat} (hp : p < 32) (hr : aR a p = 0) (z : Int32) : RX (xC' (xM' u (upd (xM u) p 1)) (upd (upd (upd (upd (xC u) (4 * (p + 1)) 0) (4 * (p + 1) + 1) z) (4 * (p + 1) + 2) (nI (2 * n + 1))) (4 * (p + 1) + 3) 0)) (a_mk a p n z) :=
  ⟨rc_mk X.1 I hp hr z, ro_made (v := u) (b := a) (t := true) X.2⟩
theorem rx_made (X : RX u a) {p : Nat} (hp : p < 32) : xM u p = if aM a p = true then 1 else 0 := X.2.2.2.1 p hp
end
section
variable {lx : Launch} {D : va_G} {h : Nat → Nat} {cI cZ cJ : ClassId}
variable {u : XS} {a : AS}
set_option maxHeartbeats 200000 in
set_option maxRecDepth 20000 in
theorem c_X_isMade (X : RX u a) (I : Inv a) (x : Int32) : gMi lx D (ty3 cI cZ cJ) (XW h cI cZ) y_X_isMade b_X_isMade 2 (some .boolean) ({ frames := 0, cells := 0, slots := 0, locals := 0 } : Room) 0 0 [.ref (h 0), .int x] ((XW h cI cZ) u) (fun r u' => u = u' ∧ r = match mOf a x with | none => 0 | some _ => 1) := by
  refine gMi.of (by decide) (Nat.le_of_ble_eq_true rfl) (fun pg ev st md bl mt cd A ls C hmn hl V => ?_)
  have hl : lv_has ls 2 [(0, .ref (h 0)), (1, .int x)] := hl
  refine lv_iload_n C.x C.b d_X_isMade_0 rfl (lv_at hl 1 rfl) ?_
  refine lv_if_lt (tgt := 23) C.x C.b d_X_isMade_1 (by decide) (fun c1 => ?_) (fun c1 => ?_)
  · refine lv_iconst (v := 0) C.x C.b d_X_isMade_23 (by decide) ?_
    exact g_zret C _ V ⟨rfl, by first | rw [mOf_l c1] | rw [mOf_g c7] | rw [hx, mOf_n hp, if_neg (fun z => by rw [e15, rx_made X hp, if_pos z] at c16; exact absurd c16 (by decide))]⟩ (by simp) d_X_isMade_24
  · refine lv_iload_n C.x C.b d_X_isMade_4 rfl (lv_at hl 1 rfl) ?_
    refine lv_bipush (v := 32) C.x C.b d_X_isMade_5 (by decide) ?_
    refine lv_icmp_ge (tgt := 23) C.x C.b d_X_isMade_7 (by decide) (fun c7 => ?_) (fun c7 => ?_)
    · refine lv_iconst (v := 0) C.x C.b d_X_isMade_23 (by decide) ?_
      exact g_zret C _ V ⟨rfl, by first | rw [mOf_l c1] | rw [mOf_g c7] | rw [hx, mOf_n hp, if_neg (fun z => by rw [e15, rx_made X hp, if_pos z] at c16; exact absurd c16 (by decide))]⟩ (by simp) d_X_isMade_24
    · refine lv_aload_n C.x C.b d_X_isMade_10 rfl (lv_at hl 0 rfl) ?_
      refine xg_made C V fl_X_25 d_X_isMade_11 ?_
      obtain ⟨p, hp, hx⟩ := in32 c1 c7
      refine lv_iload_n C.x C.b d_X_isMade_14 rfl (lv_at hl 1 rfl) ?_
      refine xa_made (p) C V hx hp d_X_isMade_15 ?_
      refine lv_topi (fun v15 e15 => ?_)
      refine lv_if_eq (tgt := 23) C.x C.b d_X_isMade_16 (by decide) (fun c16 => ?_) (fun c16 => ?_)
      · refine lv_iconst (v := 0) C.x C.b d_X_isMade_23 (by decide) ?_
        exact g_zret C _ V ⟨rfl, by first | rw [mOf_l c1] | rw [mOf_g c7] | rw [hx, mOf_n hp, if_neg (fun z => by rw [e15, rx_made X hp, if_pos z] at c16; exact absurd c16 (by decide))]⟩ (by simp) d_X_isMade_24
      · refine lv_iconst (v := 1) C.x C.b d_X_isMade_19 (by decide) ?_
        refine lv_goto (tgt := 24) C.x C.b d_X_isMade_20 (by decide) ?_
        exact g_zret C _ V ⟨rfl, by rw [hx, mOf_t hp (Classical.byContradiction (fun z => c16 (by rw [e15, rx_made X hp, if_neg z])))]⟩ (by simp) d_X_isMade_24
set_option maxHeartbeats 200000 in
set_option maxRecDepth 20000 in
theorem c_X_isInRow0 (X : RX u a) (I : Inv a) (x : Int32) (em : mOf a x = none)  : gMi lx D (ty3 cI cZ cJ) (XW h cI cZ) y_X_isInRow b_X_isInRow 2 (some .boolean) ({ frames := 1, cells := 0, slots := 0, locals := 22 } : Room) 0 0 [.ref (h 0), .int x] ((XW h cI cZ) u) (fun r u' => u = u' ∧ r = match mOf a x with | none => 0 | some p => if aR a p = 0 then 0 else 1) := by
  refine gMi.of (by decide) (Nat.le_of_ble_eq_true rfl) (fun pg ev st md bl mt cd A ls C hmn hl V => ?_)
  have hl : lv_has ls 2 [(0, .ref (h 0)), (1, .int x)] := hl
  refine lv_aload_n C.x C.b d_X_isInRow_0 rfl (lv_at hl 0 rfl) ?_
  refine lv_iload_n C.x C.b d_X_isInRow_1 rfl (lv_at hl 1 rfl) ?_
  refine g_iV (q0 := 0) (As := [.int x]) (rest := []) C V cs_X_37 (c_X_isMade X I x) rfl rfl (by decide) rfl hl.1 rfl (Nat.le_of_ble_eq_true rfl) d_X_isInRow_2 (fun r2 u2 H locs w2 V => ?_)
  obtain ⟨rfl, q2⟩ := w2
  rw [em] at q2
  obtain rfl : r2 = 0 := q2
  refine lv_if_eq (tgt := 27) C.x C.b d_X_isInRow_5 (by decide) (fun c5 => ?_) (fun c5 => ?_)
  · refine lv_iconst (v := 0) C.x C.b d_X_isInRow_27 (by decide) ?_
    exact g_zret C _ V ⟨rfl, by rw [em]⟩ (by simp) d_X_isInRow_28
  · exact absurd rfl c5
set_option maxHeartbeats 200000 in
set_option maxRecDepth 20000 in
theorem c_X_isInRow1 (X : RX u a) (I : Inv a) (p : Nat) (hp : p < 32) (hm : aM a p = true)  : gMi lx D (ty3 cI cZ cJ) (XW h cI cZ) y_X_isInRow b_X_isInRow 2 (some .boolean) ({ frames := 1, cells := 0, slots := 0, locals := 22 } : Room) 0 0 [.ref (h 0), .int (nI p)] ((XW h cI cZ) u) (fun r u' => u = u' ∧ r = match mOf a (nI p) with | none => 0 | some p => if aR a p = 0 then 0 else 1) := by
  refine gMi.of (by decide) (Nat.le_of_ble_eq_true rfl) (fun pg ev st md bl mt cd A ls C hmn hl V => ?_)
  have hl : lv_has ls 2 [(0, .ref (h 0)), (1, .int (nI p))] := hl
  refine lv_aload_n C.x C.b d_X_isInRow_0 rfl (lv_at hl 0 rfl) ?_
  refine lv_iload_n C.x C.b d_X_isInRow_1 rfl (lv_at hl 1 rfl) ?_
  refine g_iV (q0 := 0) (As := [.int (nI p)]) (rest := []) C V cs_X_37 (c_X_isMade X I (nI p)) rfl rfl (by decide) rfl hl.1 rfl (Nat.le_of_ble_eq_true rfl) d_X_isInRow_2 (fun r2 u2 H locs w2 V => ?_)
  obtain ⟨rfl, q2⟩ := w2
  rw [mOf_t hp hm] at q2
  obtain rfl : r2 = 1 := q2
  refine lv_if_eq (tgt := 27) C.x C.b d_X_isInRow_5 (by decide) (fun c5 => ?_) (fun c5 => ?_)
  · exact absurd c5 (by decide)
  · refine lv_aload_n C.x C.b d_X_isInRow_8 rfl (lv_at hl 0 rfl) ?_
    refine xg_plain C V fl_X_10 d_X_isInRow_9 ?_
    refine lv_iload_n C.x C.b d_X_isInRow_12 rfl (lv_at hl 1 rfl) ?_
    refine g_iS (As := [.int (nI p)]) (rest := [.ref (h 1)]) C V cs_X_41 (c_X_process (Wd := XW h cI cZ) (nI p)) (by decide) rfl hl.1 rfl (Nat.le_of_ble_eq_true rfl) d_X_isInRow_13 (fun r13 u13 H locs w13 V => ?_)
    obtain ⟨rfl, q13⟩ := w13
    obtain rfl : r13 = nI (2 * (p + 1)) := by rw [q13]; exact nk_proc p
    refine lv_iconst (v := 3) C.x C.b d_X_isInRow_16 (by decide) ?_
    refine g_iV (q0 := 1) (As := [.int (nI (2 * (p + 1))), .int 3]) (rest := []) C V cs_X_45 (c_P_get (p + 1) 3 (by omega) (by omega)) rfl rfl (by decide) rfl hl.1 rfl (Nat.le_of_ble_eq_true rfl) d_X_isInRow_17 (fun r17 u17 H locs w17 V => ?_)
    obtain ⟨rfl, q17⟩ := w17
    obtain rfl : r17 = eR (aR a p) := q17.trans (X.1.2.2.1 p hp)
    refine lv_if_eq (tgt := 27) C.x C.b d_X_isInRow_20 (by decide) (fun c20 => ?_) (fun c20 => ?_)
    · refine lv_iconst (v := 0) C.x C.b d_X_isInRow_27 (by decide) ?_
      exact g_zret C _ V ⟨rfl, by rw [mOf_t hp hm]; dsimp only; rw [if_pos ((eR_0 I hp).mp c20)]⟩ (by simp) d_X_isInRow_28
    · refine lv_iconst (v := 1) C.x C.b d_X_isInRow_23 (by decide) ?_
      refine lv_goto (tgt := 28) C.x C.b d_X_isInRow_24 (by decide) ?_
      exact g_zret C _ V ⟨rfl, by rw [mOf_t hp hm]; dsimp only; rw [if_neg (fun z => c20 ((eR_0 I hp).mpr z))]⟩ (by simp) d_X_isInRow_28
theorem c_X_isInRow (X : RX u a) (I : Inv a) (x : Int32) : gMi lx D (ty3 cI cZ cJ) (XW h cI cZ) y_X_isInRow b_X_isInRow 2 (some .boolean) ({ frames := 1, cells := 0, slots := 0, locals := 22 } : Room) 0 0 [.ref (h 0), .int x] (XW h cI cZ u) (fun r u' => u = u' ∧ r = match mOf a x with | none => 0 | some p => if aR a p = 0 then 0 else 1) := by
  rcases mOf_c a x with ⟨p, hp, rfl, hm, em⟩ | em
  · exact c_X_isInRow1 X I p hp hm
  · exact c_X_isInRow0 X I x em
set_option maxHeartbeats 200000 in
set_option maxRecDepth 20000 in
theorem c_X_make (X : RX u a) (I : Inv a) (x y z : Int32) : gMi lx D (ty3 cI cZ cJ) (XW h cI cZ) y_X_make b_X_make 4 (some .boolean) ({ frames := 1, cells := 0, slots := 0, locals := 23 } : Room) 0 0 [.ref (h 0), .int x, .int y, .int z] ((XW h cI cZ) u) (fun r u' => r = (o_make a x y z).1 ∧ RX u' (o_make a x y z).2) := by
  refine gMi.of (by decide) (Nat.le_of_ble_eq_true rfl) (fun pg ev st md bl mt cd A ls C hmn hl V => ?_)
  have hl : lv_has ls 4 [(0, .ref (h 0)), (1, .int x), (2, .int y), (3, .int z)] := hl
  refine lv_iload_n C.x C.b d_X_make_0 rfl (lv_at hl 1 rfl) ?_
  refine lv_if_lt (tgt := 26) C.x C.b d_X_make_1 (by decide) (fun c1 => ?_) (fun c1 => ?_)
  · refine lv_iconst (v := 0) C.x C.b d_X_make_26 (by decide) ?_
    exact g_zret C _ V (by unfold o_make; first | (rw [pOf_l c1]; exact ⟨rfl, X⟩) | (rw [pOf_g c7]; exact ⟨rfl, X⟩) | (rw [ep, eq]; exact ⟨rfl, X⟩) | (rw [ep]; cases qOf y with | none => exact ⟨rfl, X⟩ | some n => dsimp only; rw [if_pos hm]; exact ⟨rfl, X⟩)) (by simp) d_X_make_27
  · refine lv_iload_n C.x C.b d_X_make_4 rfl (lv_at hl 1 rfl) ?_
    refine lv_bipush (v := 32) C.x C.b d_X_make_5 (by decide) ?_
    refine lv_icmp_ge (tgt := 26) C.x C.b d_X_make_7 (by decide) (fun c7 => ?_) (fun c7 => ?_)
    · refine lv_iconst (v := 0) C.x C.b d_X_make_26 (by decide) ?_
      exact g_zret C _ V (by unfold o_make; first | (rw [pOf_l c1]; exact ⟨rfl, X⟩) | (rw [pOf_g c7]; exact ⟨rfl, X⟩) | (rw [ep, eq]; exact ⟨rfl, X⟩) | (rw [ep]; cases qOf y with | none => exact ⟨rfl, X⟩ | some n => dsimp only; rw [if_pos hm]; exact ⟨rfl, X⟩)) (by simp) d_X_make_27
    · refine lv_aload_n C.x C.b d_X_make_10 rfl (lv_at hl 0 rfl) ?_
      obtain ⟨p, hp, hx⟩ := in32 c1 c7
      have ep : pOf x = some p := by rw [hx]; exact pOf_n hp
      refine xg_made C V fl_X_25 d_X_make_11 ?_
      refine lv_iload_n C.x C.b d_X_make_14 rfl (lv_at hl 1 rfl) ?_
      refine xa_made (p) C V hx hp d_X_make_15 ?_
      refine lv_topi (fun v15 e15 => ?_)
      refine lv_if_ne (tgt := 26) C.x C.b d_X_make_16 (by decide) (fun c16 => ?_) (fun c16 => ?_)
      · have hm : aM a p = true := Classical.byContradiction (fun z => c16 (by rw [e15, rx_made X hp, if_neg z]))
        refine lv_iconst (v := 0) C.x C.b d_X_make_26 (by decide) ?_
        exact g_zret C _ V (by unfold o_make; first | (rw [pOf_l c1]; exact ⟨rfl, X⟩) | (rw [pOf_g c7]; exact ⟨rfl, X⟩) | (rw [ep, eq]; exact ⟨rfl, X⟩) | (rw [ep]; cases qOf y with | none => exact ⟨rfl, X⟩ | some n => dsimp only; rw [if_pos hm]; exact ⟨rfl, X⟩)) (by simp) d_X_make_27
      · have hm : ¬ aM a p = true := fun z => by rw [e15, rx_made X hp, if_pos z] at c16; exact absurd c16 (by decide)
        refine lv_iload_n C.x C.b d_X_make_19 rfl (lv_at hl 2 rfl) ?_
        refine g_iS (As := [.int y]) (rest := []) C V cs_X_49 (c_X_isPriority (Wd := XW h cI cZ) (y)) (by decide) rfl hl.1 rfl (Nat.le_of_ble_eq_true rfl) d_X_make_20 (fun r20 u20 H locs w20 V => ?_)
        obtain ⟨rfl, q20⟩ := w20
        refine lv_if_ne (tgt := 28) C.x C.b d_X_make_23 (by decide) (fun c23 => ?_) (fun c23 => ?_)
        · obtain ⟨n, hn1, hn8, hy, eq⟩ : ∃ n, 1 ≤ n ∧ n ≤ 8 ∧ y = nI n ∧ qOf y = some n := by
            rcases qOf_c y with ⟨n, z1, z2, z3, z4, -⟩ | ⟨z, -⟩
            · exact ⟨n, z1, z2, z3, z4⟩
            · exact absurd (q20.trans (if_neg z)) c23
          have hr := I.unm hp hm
          refine lv_aload_n C.x C.b d_X_make_28 rfl (lv_at hl 0 rfl) ?_
          refine xg_made C V fl_X_25 d_X_make_29 ?_
          refine lv_iload_n C.x C.b d_X_make_32 rfl (lv_at hl 1 rfl) ?_
          refine lv_iconst (v := 1) C.x C.b d_X_make_33 (by decide) ?_
          refine xs_made (p) C V hx hp (by decide) d_X_make_34 (fun H locs V => ?_)
          refine lv_aload_n C.x C.b d_X_make_35 rfl (lv_at hl 0 rfl) ?_
          refine xg_plain C V fl_X_10 d_X_make_36 ?_
          refine lv_iload_n C.x C.b d_X_make_39 rfl (lv_at hl 1 rfl) ?_
          refine g_iS (As := [.int x]) (rest := [.ref (h 1)]) C V cs_X_41 (c_X_process (Wd := XW h cI cZ) x) (by decide) rfl hl.1 rfl (Nat.le_of_ble_eq_true rfl) d_X_make_40 (fun r40 u40 H locs w40 V => ?_)
          obtain ⟨rfl, q40⟩ := w40
          obtain rfl : r40 = nI (2 * (p + 1)) := by rw [q40, hx]; exact nk_proc p
          refine lv_iconst (v := 0) C.x C.b d_X_make_43 (by decide) ?_
          refine lv_iconst (v := 0) C.x C.b d_X_make_44 (by decide) ?_
          refine g_vV (q0 := 1) (As := [.int (nI (2 * (p + 1))), .int 0, .int 0]) (rest := []) C V cs_X_29 (c_P_put (p + 1) 0 (0) (by omega) (by omega)) rfl rfl (by decide) rfl hl.1 rfl (Nat.le_of_ble_eq_true rfl) d_X_make_45 (fun u45 H locs w45 V => ?_)
          subst w45
          refine lv_aload_n C.x C.b d_X_make_48 rfl (lv_at hl 0 rfl) ?_
          refine xg_plain C V fl_X_10 d_X_make_49 ?_
          refine lv_iload_n C.x C.b d_X_make_52 rfl (lv_at hl 1 rfl) ?_
          refine g_iS (As := [.int x]) (rest := [.ref (h 1)]) C V cs_X_41 (c_X_process (Wd := XW h cI cZ) x) (by decide) rfl hl.1 rfl (Nat.le_of_ble_eq_true rfl) d_X_make_53 (fun r53 u53 H locs w53 V => ?_)
          obtain ⟨rfl, q53⟩ := w53
          obtain rfl : r53 = nI (2 * (p + 1)) := by rw [q53, hx]; exact nk_proc p
          refine lv_iconst (v := 1) C.x C.b d_X_make_56 (by decide) ?_
          refine lv_iload_n C.x C.b d_X_make_57 rfl (lv_at hl 3 rfl) ?_
          refine g_vV (q0 := 1) (As := [.int (nI (2 * (p + 1))), .int 1, .int z]) (rest := []) C V cs_X_29 (c_P_put (p + 1) 1 (z) (by omega) (by omega)) rfl rfl (by decide) rfl hl.1 rfl (Nat.le_of_ble_eq_true rfl) d_X_make_58 (fun u58 H locs w58 V => ?_)
          subst w58
          refine lv_aload_n C.x C.b d_X_make_61 rfl (lv_at hl 0 rfl) ?_
          refine xg_plain C V fl_X_10 d_X_make_62 ?_
          refine lv_iload_n C.x C.b d_X_make_65 rfl (lv_at hl 1 rfl) ?_
          refine g_iS (As := [.int x]) (rest := [.ref (h 1)]) C V cs_X_41 (c_X_process (Wd := XW h cI cZ) x) (by decide) rfl hl.1 rfl (Nat.le_of_ble_eq_true rfl) d_X_make_66 (fun r66 u66 H locs w66 V => ?_)
          obtain ⟨rfl, q66⟩ := w66
          obtain rfl : r66 = nI (2 * (p + 1)) := by rw [q66, hx]; exact nk_proc p
          refine lv_iconst (v := 2) C.x C.b d_X_make_69 (by decide) ?_
          refine lv_iload_n C.x C.b d_X_make_70 rfl (lv_at hl 2 rfl) ?_
          refine lv_iconst (v := 1) C.x C.b d_X_make_71 (by decide) ?_
          refine lv_ishl C.x C.b d_X_make_72 ?_
          refine lv_topi (fun v72 e72 => ?_)
          refine lv_iconst (v := 1) C.x C.b d_X_make_73 (by decide) ?_
          refine lv_ior C.x C.b d_X_make_74 ?_
          refine lv_topi (fun v74 e74 => ?_)
          obtain rfl : v74 = nI (2 * n + 1) := by rw [e74, e72, hy]; exact nk_small (by omega)
          refine g_vV (q0 := 1) (As := [.int (nI (2 * (p + 1))), .int 2, .int (nI (2 * n + 1))]) (rest := []) C V cs_X_29 (c_P_put (p + 1) 2 (nI (2 * n + 1)) (by omega) (by omega)) rfl rfl (by decide) rfl hl.1 rfl (Nat.le_of_ble_eq_true rfl) d_X_make_75 (fun u75 H locs w75 V => ?_)
          subst w75
          refine lv_aload_n C.x C.b d_X_make_78 rfl (lv_at hl 0 rfl) ?_
          refine xg_plain C V fl_X_10 d_X_make_79 ?_
          refine lv_iload_n C.x C.b d_X_make_82 rfl (lv_at hl 1 rfl) ?_
          refine g_iS (As := [.int x]) (rest := [.ref (h 1)]) C V cs_X_41 (c_X_process (Wd := XW h cI cZ) x) (by decide) rfl hl.1 rfl (Nat.le_of_ble_eq_true rfl) d_X_make_83 (fun r83 u83 H locs w83 V => ?_)
          obtain ⟨rfl, q83⟩ := w83
          obtain rfl : r83 = nI (2 * (p + 1)) := by rw [q83, hx]; exact nk_proc p
          refine lv_iconst (v := 3) C.x C.b d_X_make_86 (by decide) ?_
          refine lv_iconst (v := 0) C.x C.b d_X_make_87 (by decide) ?_
          refine g_vV (q0 := 1) (As := [.int (nI (2 * (p + 1))), .int 3, .int 0]) (rest := []) C V cs_X_29 (c_P_put (p + 1) 3 (0) (by omega) (by omega)) rfl rfl (by decide) rfl hl.1 rfl (Nat.le_of_ble_eq_true rfl) d_X_make_88 (fun u88 H locs w88 V => ?_)
          subst w88
          refine lv_iconst (v := 1) C.x C.b d_X_make_91 (by decide) ?_
          exact g_zret C _ V (by unfold o_make; rw [ep, eq]; dsimp only; rw [if_neg hm]; exact ⟨rfl, rx_mk X I hp hr z⟩) (by simp) d_X_make_92
        · have eq : qOf y = none := by
            rcases qOf_c y with ⟨n, -, -, -, -, z⟩ | ⟨-, z⟩
            · rw [if_pos z] at q20; rw [q20] at c23; exact absurd c23 (by decide)
            · exact z
          refine lv_iconst (v := 0) C.x C.b d_X_make_26 (by decide) ?_
          exact g_zret C _ V (by unfold o_make; first | (rw [pOf_l c1]; exact ⟨rfl, X⟩) | (rw [pOf_g c7]; exact ⟨rfl, X⟩) | (rw [ep, eq]; exact ⟨rfl, X⟩) | (rw [ep]; cases qOf y with | none => exact ⟨rfl, X⟩ | some n => dsimp only; rw [if_pos hm]; exact ⟨rfl, X⟩)) (by simp) d_X_make_27
set_option maxHeartbeats 200000 in
set_option maxRecDepth 20000 in
theorem c_X_resume0 (X : RX u a) (I : Inv a) (P : Prs a) (x : Int32) (em : mOf a x = none)  : gMi lx D (ty3 cI cZ cJ) (XW h cI cZ) y_X_resume b_X_resume 2 (some .boolean) ({ frames := 5, cells := 0, slots := 0, locals := 110 } : Room) 0 0 [.ref (h 0), .int x] ((XW h cI cZ) u) (fun r u' => r = (o_resume a x).1 ∧ RX u' (o_resume a x).2) := by
  refine gMi.of (by decide) (Nat.le_of_ble_eq_true rfl) (fun pg ev st md bl mt cd A ls C hmn hl V => ?_)
  have hl : lv_has ls 2 [(0, .ref (h 0)), (1, .int x)] := hl
  refine lv_aload_n C.x C.b d_X_resume_0 rfl (lv_at hl 0 rfl) ?_
  refine lv_iload_n C.x C.b d_X_resume_1 rfl (lv_at hl 1 rfl) ?_
  refine g_iV (q0 := 0) (As := [.int x]) (rest := []) C V cs_X_37 (c_X_isMade X I x) rfl rfl (by decide) rfl hl.1 rfl (Nat.le_of_ble_eq_true rfl) d_X_resume_2 (fun r2 u2 H locs w2 V => ?_)
  obtain ⟨rfl, q2⟩ := w2
  rw [em] at q2
  obtain rfl : r2 = 0 := q2
  refine lv_if_eq (tgt := 44) C.x C.b d_X_resume_5 (by decide) (fun c5 => ?_) (fun c5 => ?_)
  · refine lv_iconst (v := 0) C.x C.b d_X_resume_44 (by decide) ?_
    exact g_zret C _ V (by unfold o_resume; rw [em]; exact ⟨rfl, X⟩) (by simp) d_X_resume_45
  · exact absurd rfl c5
set_option maxHeartbeats 200000 in
set_option maxRecDepth 20000 in
theorem c_X_resume1 (X : RX u a) (I : Inv a) (P : Prs a) (p : Nat) (hp : p < 32) (hm : aM a p = true)  : gMi lx D (ty3 cI cZ cJ) (XW h cI cZ) y_X_resume b_X_resume 2 (some .boolean) ({ frames := 5, cells := 0, slots := 0, locals := 110 } : Room) 0 0 [.ref (h 0), .int (nI p)] ((XW h cI cZ) u) (fun r u' => r = (o_resume a (nI p)).1 ∧ RX u' (o_resume a (nI p)).2) := by
  refine gMi.of (by decide) (Nat.le_of_ble_eq_true rfl) (fun pg ev st md bl mt cd A ls C hmn hl V => ?_)
  have hl : lv_has ls 2 [(0, .ref (h 0)), (1, .int (nI p))] := hl
  refine lv_aload_n C.x C.b d_X_resume_0 rfl (lv_at hl 0 rfl) ?_
  refine lv_iload_n C.x C.b d_X_resume_1 rfl (lv_at hl 1 rfl) ?_
  refine g_iV (q0 := 0) (As := [.int (nI p)]) (rest := []) C V cs_X_37 (c_X_isMade X I (nI p)) rfl rfl (by decide) rfl hl.1 rfl (Nat.le_of_ble_eq_true rfl) d_X_resume_2 (fun r2 u2 H locs w2 V => ?_)
  obtain ⟨rfl, q2⟩ := w2
  rw [mOf_t hp hm] at q2
  obtain rfl : r2 = 1 := q2
  refine lv_if_eq (tgt := 44) C.x C.b d_X_resume_5 (by decide) (fun c5 => ?_) (fun c5 => ?_)
  · exact absurd c5 (by decide)
  · refine lv_aload_n C.x C.b d_X_resume_8 rfl (lv_at hl 0 rfl) ?_
    refine lv_iload_n C.x C.b d_X_resume_9 rfl (lv_at hl 1 rfl) ?_
    refine g_iV (q0 := 0) (As := [.int (nI p)]) (rest := []) C V cs_X_52 (c_X_isInRow X I (nI p)) rfl rfl (by decide) rfl hl.1 rfl (Nat.le_of_ble_eq_true rfl) d_X_resume_10 (fun r10 u10 H locs w10 V => ?_)
    obtain ⟨rfl, q10⟩ := w10
    rw [mOf_t hp hm] at q10
    dsimp only at q10
    refine lv_if_ne (tgt := 44) C.x C.b d_X_resume_13 (by decide) (fun c13 => ?_) (fun c13 => ?_)
    · have hr : ¬ aR a p = 0 := fun z => c13 (q10.trans (if_pos z))
      refine lv_iconst (v := 0) C.x C.b d_X_resume_44 (by decide) ?_
      exact g_zret C _ V (by unfold o_resume; rw [mOf_t hp hm]; dsimp only; rw [if_neg (by simp_all)]; exact ⟨rfl, X⟩) (by simp) d_X_resume_45
    · have hr : aR a p = 0 := Classical.byContradiction (fun z => by rw [if_neg z] at q10; rw [q10] at c13; exact absurd c13 (by decide))
      refine lv_aload_n C.x C.b d_X_resume_16 rfl (lv_at hl 0 rfl) ?_
      refine xg_sched C V fl_X_21 d_X_resume_17 ?_
      refine g_iV (q0 := 2) (As := []) (rest := []) C V cs_X_55 (c_S_present X I) rfl rfl (by decide) rfl hl.1 rfl (Nat.le_of_ble_eq_true rfl) d_X_resume_20 (fun r20 u20 H locs w20 V => ?_)
      obtain ⟨rfl, q20⟩ := w20
      refine lv_iload_n C.x C.b d_X_resume_23 rfl (lv_at hl 1 rfl) ?_
      refine g_iS (As := [.int (nI p)]) (rest := [.int r20]) C V cs_X_41 (c_X_process (Wd := XW h cI cZ) (nI p)) (by decide) rfl hl.1 rfl (Nat.le_of_ble_eq_true rfl) d_X_resume_24 (fun r24 u24 H locs w24 V => ?_)
      obtain ⟨rfl, q24⟩ := w24
      obtain rfl : r24 = nI (2 * (p + 1)) := by rw [q24]; exact nk_proc p
      refine lv_icmp_eq (tgt := 44) C.x C.b d_X_resume_27 (by decide) (fun c27 => ?_) (fun c27 => ?_)
      · have hpr : a_pres a = some p := (eO_i (I.pres32 P) (fun q hq => by cases hq; exact hp)).mp (q20.symm.trans c27)
        refine lv_iconst (v := 0) C.x C.b d_X_resume_44 (by decide) ?_
        exact g_zret C _ V (by unfold o_resume; rw [mOf_t hp hm]; dsimp only; rw [if_neg (by simp_all)]; exact ⟨rfl, X⟩) (by simp) d_X_resume_45
      · have hpr : ¬ a_pres a = some p := fun z => c27 (by rw [q20, z]; rfl)
        refine lv_aload_n C.x C.b d_X_resume_30 rfl (lv_at hl 0 rfl) ?_
        refine xg_sched C V fl_X_21 d_X_resume_31 ?_
        refine g_iV (q0 := 2) (As := []) (rest := []) C V cs_X_59 (c_S_active X I) rfl rfl (by decide) rfl hl.1 rfl (Nat.le_of_ble_eq_true rfl) d_X_resume_34 (fun r34 u34 H locs w34 V => ?_)
        obtain ⟨rfl, q34⟩ := w34
        refine lv_iload_n C.x C.b d_X_resume_37 rfl (lv_at hl 1 rfl) ?_
        refine g_iS (As := [.int (nI p)]) (rest := [.int r34]) C V cs_X_41 (c_X_process (Wd := XW h cI cZ) (nI p)) (by decide) rfl hl.1 rfl (Nat.le_of_ble_eq_true rfl) d_X_resume_38 (fun r38 u38 H locs w38 V => ?_)
        obtain ⟨rfl, q38⟩ := w38
        obtain rfl : r38 = nI (2 * (p + 1)) := by rw [q38]; exact nk_proc p
        refine lv_icmp_ne (tgt := 46) C.x C.b d_X_resume_41 (by decide) (fun c41 => ?_) (fun c41 => ?_)
        · have hac : ¬ aA a = some p := fun z => c41 (by rw [q34, z]; rfl)
          refine lv_aload_n C.x C.b d_X_resume_46 rfl (lv_at hl 0 rfl) ?_
          refine xg_sched C V fl_X_21 d_X_resume_47 ?_
          refine lv_iload_n C.x C.b d_X_resume_50 rfl (lv_at hl 1 rfl) ?_
          refine g_iS (As := [.int (nI p)]) (rest := [.ref (h 2)]) C V cs_X_41 (c_X_process (Wd := XW h cI cZ) (nI p)) (by decide) rfl hl.1 rfl (Nat.le_of_ble_eq_true rfl) d_X_resume_51 (fun r51 u51 H locs w51 V => ?_)
          obtain ⟨rfl, q51⟩ := w51
          obtain rfl : r51 = nI (2 * (p + 1)) := by rw [q51]; exact nk_proc p
          refine g_vV (q0 := 2) (As := [.int (nI (2 * (p + 1)))]) (rest := []) C V cs_X_62 (c_S_wake X I P p hp hm hr) rfl rfl (by decide) rfl hl.1 rfl (Nat.le_of_ble_eq_true rfl) d_X_resume_54 (fun u54 H locs w54 V => ?_)
          refine lv_iconst (v := 1) C.x C.b d_X_resume_57 (by decide) ?_
          exact g_zret C _ V (by unfold o_resume; rw [mOf_t hp hm]; dsimp only; rw [if_pos ⟨hr, hpr, hac⟩]; exact ⟨rfl, w54⟩) (by simp) d_X_resume_58
        · have hac : aA a = some p := (eO_i (I.act32) (fun q hq => by cases hq; exact hp)).mp (q34.symm.trans c41)
          refine lv_iconst (v := 0) C.x C.b d_X_resume_44 (by decide) ?_
          exact g_zret C _ V (by unfold o_resume; rw [mOf_t hp hm]; dsimp only; rw [if_neg (by simp_all)]; exact ⟨rfl, X⟩) (by simp) d_X_resume_45
theorem c_X_resume (X : RX u a) (I : Inv a) (P : Prs a) (x : Int32) : gMi lx D (ty3 cI cZ cJ) (XW h cI cZ) y_X_resume b_X_resume 2 (some .boolean) ({ frames := 5, cells := 0, slots := 0, locals := 110 } : Room) 0 0 [.ref (h 0), .int x] (XW h cI cZ u) (fun r u' => r = (o_resume a x).1 ∧ RX u' (o_resume a x).2) := by
  rcases mOf_c a x with ⟨p, hp, rfl, hm, em⟩ | em
  · exact c_X_resume1 X I P p hp hm
  · exact c_X_resume0 X I P x em
set_option maxHeartbeats 200000 in
set_option maxRecDepth 20000 in
theorem c_X_suspend0 (X : RX u a) (I : Inv a) (P : Prs a) (ho : a_pres a = none) : gMi lx D (ty3 cI cZ cJ) (XW h cI cZ) y_X_suspend b_X_suspend 2 (some .int) ({ frames := 3, cells := 0, slots := 0, locals := 67 } : Room) 0 0 [.ref (h 0)] ((XW h cI cZ) u) (fun r u' => r = (o_suspend a).1 ∧ RX u' (o_suspend a).2) := by
  refine gMi.of (by decide) (Nat.le_of_ble_eq_true rfl) (fun pg ev st md bl mt cd A ls C hmn hl V => ?_)
  have hl : lv_has ls 2 [(0, .ref (h 0))] := hl
  refine lv_aload_n C.x C.b d_X_suspend_0 rfl (lv_at hl 0 rfl) ?_
  refine xg_sched C V fl_X_21 d_X_suspend_1 ?_
  refine g_iV (q0 := 2) (As := []) (rest := []) C V cs_X_55 (c_S_present X I) rfl rfl (by decide) rfl hl.1 rfl (Nat.le_of_ble_eq_true rfl) d_X_suspend_4 (fun r4 u4 H locs w4 V => ?_)
  obtain ⟨rfl, q4⟩ := w4
  obtain rfl : r4 = 0 := by rw [q4, ho]; rfl
  refine lv_istore_n (lv' := [(1, .int 0), (0, .ref (h 0))]) C.x C.b d_X_suspend_7 rfl hl (by decide) rfl (fun ls hl => ?_)
  refine lv_iload_n C.x C.b d_X_suspend_8 rfl (lv_at hl 0 rfl) ?_
  refine lv_if_eq (tgt := 19) C.x C.b d_X_suspend_9 (by decide) (fun c9 => ?_) (fun c9 => ?_)
  · refine lv_iload_n C.x C.b d_X_suspend_19 rfl (lv_at hl 0 rfl) ?_
    refine g_iS (As := [.int 0]) (rest := []) C V cs_X_68 (c_X_numberOf (Wd := XW h cI cZ) (0)) (by decide) rfl hl.1 rfl (Nat.le_of_ble_eq_true rfl) d_X_suspend_20 (fun r20 u20 H locs w20 V => ?_)
    obtain ⟨rfl, q20⟩ := w20
    obtain rfl : r20 = -1 := by rw [q20]; rfl
    exact g_iret C _ V (by unfold o_suspend; rw [ho]; exact ⟨rfl, X⟩) d_X_suspend_23
  · exact absurd rfl c9
set_option maxHeartbeats 200000 in
set_option maxRecDepth 20000 in
theorem c_X_suspend1 (X : RX u a) (I : Inv a) (P : Prs a) (p : Nat) (ho : a_pres a = some p) : gMi lx D (ty3 cI cZ cJ) (XW h cI cZ) y_X_suspend b_X_suspend 2 (some .int) ({ frames := 3, cells := 0, slots := 0, locals := 67 } : Room) 0 0 [.ref (h 0)] ((XW h cI cZ) u) (fun r u' => r = (o_suspend a).1 ∧ RX u' (o_suspend a).2) := by
  refine gMi.of (by decide) (Nat.le_of_ble_eq_true rfl) (fun pg ev st md bl mt cd A ls C hmn hl V => ?_)
  have hl : lv_has ls 2 [(0, .ref (h 0))] := hl
  have hq := P p ho
  refine lv_aload_n C.x C.b d_X_suspend_0 rfl (lv_at hl 0 rfl) ?_
  refine xg_sched C V fl_X_21 d_X_suspend_1 ?_
  refine g_iV (q0 := 2) (As := []) (rest := []) C V cs_X_55 (c_S_present X I) rfl rfl (by decide) rfl hl.1 rfl (Nat.le_of_ble_eq_true rfl) d_X_suspend_4 (fun r4 u4 H locs w4 V => ?_)
  obtain ⟨rfl, q4⟩ := w4
  obtain rfl : r4 = nI (2 * (p + 1)) := by rw [q4, ho]; rfl
  refine lv_istore_n (lv' := [(1, .int (nI (2 * (p + 1)))), (0, .ref (h 0))]) C.x C.b d_X_suspend_7 rfl hl (by decide) rfl (fun ls hl => ?_)
  refine lv_iload_n C.x C.b d_X_suspend_8 rfl (lv_at hl 0 rfl) ?_
  refine lv_if_eq (tgt := 19) C.x C.b d_X_suspend_9 (by decide) (fun c9 => ?_) (fun c9 => ?_)
  · exact absurd c9 (ob_n0 hq.1)
  · refine lv_aload_n C.x C.b d_X_suspend_12 rfl (lv_at hl 1 rfl) ?_
    refine xg_sched C V fl_X_21 d_X_suspend_13 ?_
    refine g_vV (q0 := 2) (As := []) (rest := []) C V cs_X_65 (c_S_putAside X I) rfl rfl (by decide) rfl hl.1 rfl (Nat.le_of_ble_eq_true rfl) d_X_suspend_16 (fun u16 H locs w16 V => ?_)
    refine lv_iload_n C.x C.b d_X_suspend_19 rfl (lv_at hl 0 rfl) ?_
    refine g_iS (As := [.int (nI (2 * (p + 1)))]) (rest := []) C V cs_X_68 (c_X_numberOf (Wd := XW h cI cZ) (nI (2 * (p + 1)))) (by decide) rfl hl.1 rfl (Nat.le_of_ble_eq_true rfl) d_X_suspend_20 (fun r20 u20 H locs w20 V => ?_)
    obtain ⟨rfl, q20⟩ := w20
    obtain rfl : r20 = nI p := by rw [q20, if_neg (ob_n0 hq.1)]; exact nk_num hq.1
    exact g_iret C _ V (by unfold o_suspend; rw [ho]; exact ⟨rfl, w16⟩) d_X_suspend_23
theorem c_X_suspend (X : RX u a) (I : Inv a) (P : Prs a) : gMi lx D (ty3 cI cZ cJ) (XW h cI cZ) y_X_suspend b_X_suspend 2 (some .int) ({ frames := 3, cells := 0, slots := 0, locals := 67 } : Room) 0 0 [.ref (h 0)] (XW h cI cZ u) (fun r u' => r = (o_suspend a).1 ∧ RX u' (o_suspend a).2) := by
  cases ho : a_pres a with
  | none => exact c_X_suspend0 X I P ho
  | some p => exact c_X_suspend1 X I P p ho
set_option maxHeartbeats 200000 in
set_option maxRecDepth 20000 in
theorem c_X_end0 (X : RX u a) (I : Inv a) (P : Prs a) (ho : a_pres a = none) : gMi lx D (ty3 cI cZ cJ) (XW h cI cZ) y_X_end b_X_end 2 (some .int) ({ frames := 3, cells := 0, slots := 0, locals := 67 } : Room) 0 0 [.ref (h 0)] ((XW h cI cZ) u) (fun r u' => r = (o_end a).1 ∧ RX u' (o_end a).2) := by
  refine gMi.of (by decide) (Nat.le_of_ble_eq_true rfl) (fun pg ev st md bl mt cd A ls C hmn hl V => ?_)
  have hl : lv_has ls 2 [(0, .ref (h 0))] := hl
  refine lv_aload_n C.x C.b d_X_end_0 rfl (lv_at hl 0 rfl) ?_
  refine xg_sched C V fl_X_21 d_X_end_1 ?_
  refine g_iV (q0 := 2) (As := []) (rest := []) C V cs_X_55 (c_S_present X I) rfl rfl (by decide) rfl hl.1 rfl (Nat.le_of_ble_eq_true rfl) d_X_end_4 (fun r4 u4 H locs w4 V => ?_)
  obtain ⟨rfl, q4⟩ := w4
  obtain rfl : r4 = 0 := by rw [q4, ho]; rfl
  refine lv_istore_n (lv' := [(1, .int 0), (0, .ref (h 0))]) C.x C.b d_X_end_7 rfl hl (by decide) rfl (fun ls hl => ?_)
  refine lv_iload_n C.x C.b d_X_end_8 rfl (lv_at hl 0 rfl) ?_
  refine lv_if_ne (tgt := 14) C.x C.b d_X_end_9 (by decide) (fun c9 => ?_) (fun c9 => ?_)
  · exact absurd rfl c9
  · refine lv_iconst (v := -1) C.x C.b d_X_end_12 (by decide) ?_
    exact g_iret C _ V (by unfold o_end; rw [ho]; exact ⟨rfl, X⟩) d_X_end_13
set_option maxHeartbeats 200000 in
set_option maxRecDepth 20000 in
theorem c_X_end1 (X : RX u a) (I : Inv a) (P : Prs a) (p : Nat) (ho : a_pres a = some p) : gMi lx D (ty3 cI cZ cJ) (XW h cI cZ) y_X_end b_X_end 2 (some .int) ({ frames := 3, cells := 0, slots := 0, locals := 67 } : Room) 0 0 [.ref (h 0)] ((XW h cI cZ) u) (fun r u' => r = (o_end a).1 ∧ RX u' (o_end a).2) := by
  refine gMi.of (by decide) (Nat.le_of_ble_eq_true rfl) (fun pg ev st md bl mt cd A ls C hmn hl V => ?_)
  have hl : lv_has ls 2 [(0, .ref (h 0))] := hl
  have hq := P p ho
  refine lv_aload_n C.x C.b d_X_end_0 rfl (lv_at hl 0 rfl) ?_
  refine xg_sched C V fl_X_21 d_X_end_1 ?_
  refine g_iV (q0 := 2) (As := []) (rest := []) C V cs_X_55 (c_S_present X I) rfl rfl (by decide) rfl hl.1 rfl (Nat.le_of_ble_eq_true rfl) d_X_end_4 (fun r4 u4 H locs w4 V => ?_)
  obtain ⟨rfl, q4⟩ := w4
  obtain rfl : r4 = nI (2 * (p + 1)) := by rw [q4, ho]; rfl
  refine lv_istore_n (lv' := [(1, .int (nI (2 * (p + 1)))), (0, .ref (h 0))]) C.x C.b d_X_end_7 rfl hl (by decide) rfl (fun ls hl => ?_)
  refine lv_iload_n C.x C.b d_X_end_8 rfl (lv_at hl 0 rfl) ?_
  refine lv_if_ne (tgt := 14) C.x C.b d_X_end_9 (by decide) (fun c9 => ?_) (fun c9 => ?_)
  · refine lv_aload_n C.x C.b d_X_end_14 rfl (lv_at hl 1 rfl) ?_
    refine xg_sched C V fl_X_21 d_X_end_15 ?_
    refine g_vV (q0 := 2) (As := []) (rest := []) C V cs_X_65 (c_S_putAside X I) rfl rfl (by decide) rfl hl.1 rfl (Nat.le_of_ble_eq_true rfl) d_X_end_18 (fun u18 H locs w18 V => ?_)
    have I2 := (inv_aside I).1
    refine lv_aload_n C.x C.b d_X_end_21 rfl (lv_at hl 1 rfl) ?_
    refine xg_sched C V fl_X_21 d_X_end_22 ?_
    refine lv_iload_n C.x C.b d_X_end_25 rfl (lv_at hl 0 rfl) ?_
    refine g_vV (q0 := 2) (As := [.int (nI (2 * (p + 1)))]) (rest := []) C V cs_X_71 (c_S_forget w18 I2 p hq.1) rfl rfl (by decide) rfl hl.1 rfl (Nat.le_of_ble_eq_true rfl) d_X_end_26 (fun u26 H locs w26 V => ?_)
    refine lv_aload_n C.x C.b d_X_end_29 rfl (lv_at hl 1 rfl) ?_
    refine xg_made C V fl_X_25 d_X_end_30 ?_
    refine lv_iload_n C.x C.b d_X_end_33 rfl (lv_at hl 0 rfl) ?_
    refine g_iS (As := [.int (nI (2 * (p + 1)))]) (rest := [.ref (h 3)]) C V cs_X_68 (c_X_numberOf (Wd := XW h cI cZ) (nI (2 * (p + 1)))) (by decide) rfl hl.1 rfl (Nat.le_of_ble_eq_true rfl) d_X_end_34 (fun r34 u34 H locs w34 V => ?_)
    obtain ⟨rfl, q34⟩ := w34
    obtain rfl : r34 = nI p := by rw [q34, if_neg (ob_n0 hq.1)]; exact nk_num hq.1
    refine lv_iconst (v := 0) C.x C.b d_X_end_37 (by decide) ?_
    refine xs_made (p) C V rfl hq.1 (by decide) d_X_end_38 (fun H locs V => ?_)
    refine lv_iload_n C.x C.b d_X_end_39 rfl (lv_at hl 0 rfl) ?_
    refine g_iS (As := [.int (nI (2 * (p + 1)))]) (rest := []) C V cs_X_68 (c_X_numberOf (Wd := XW h cI cZ) (nI (2 * (p + 1)))) (by decide) rfl hl.1 rfl (Nat.le_of_ble_eq_true rfl) d_X_end_40 (fun r40 u40 H locs w40 V => ?_)
    obtain ⟨rfl, q40⟩ := w40
    obtain rfl : r40 = nI p := by rw [q40, if_neg (ob_n0 hq.1)]; exact nk_num hq.1
    exact g_iret C _ V (by unfold o_end; rw [ho]; exact ⟨rfl, rx_unmk w26 p⟩) d_X_end_43
  · exact absurd c9 (ob_n0 hq.1)
theorem c_X_end (X : RX u a) (I : Inv a) (P : Prs a) : gMi lx D (ty3 cI cZ cJ) (XW h cI cZ) y_X_end b_X_end 2 (some .int) ({ frames := 3, cells := 0, slots := 0, locals := 67 } : Room) 0 0 [.ref (h 0)] (XW h cI cZ u) (fun r u' => r = (o_end a).1 ∧ RX u' (o_end a).2) := by
  cases ho : a_pres a with
  | none => exact c_X_end0 X I P ho
  | some p => exact c_X_end1 X I P p ho
set_option maxHeartbeats 200000 in
set_option maxRecDepth 20000 in
theorem c_X_signal0 (X : RX u a) (I : Inv a) (P : Prs a) (hB : ∀ s, aE a s < 2 ^ 20) (x : Int32) (hx : ¬ (¬ x < 0 ∧ x < 16)) (es : sOf x = none)  : gMi lx D (ty3 cI cZ cJ) (XW h cI cZ) y_X_signal b_X_signal 2 (some .boolean) ({ frames := 6, cells := 0, slots := 0, locals := 131 } : Room) 0 0 [.ref (h 0), .int x] ((XW h cI cZ) u) (fun r u' => r = (o_signal a (x)).1 ∧ RX u' (o_signal a (x)).2) := by
  refine gMi.of (by decide) (Nat.le_of_ble_eq_true rfl) (fun pg ev st md bl mt cd A ls C hmn hl V => ?_)
  have hl : lv_has ls 2 [(0, .ref (h 0)), (1, .int x)] := hl
  refine lv_iload_n C.x C.b d_X_signal_0 rfl (lv_at hl 1 rfl) ?_
  refine g_iS (As := [.int x]) (rest := []) C V cs_X_74 (c_X_isSemaphore (Wd := XW h cI cZ) (x)) (by decide) rfl hl.1 rfl (Nat.le_of_ble_eq_true rfl) d_X_signal_1 (fun r1 u1 H locs w1 V => ?_)
  obtain ⟨rfl, q1⟩ := w1
  obtain rfl : r1 = 0 := by rw [q1, if_neg hx]
  refine lv_if_eq (tgt := 18) C.x C.b d_X_signal_4 (by decide) (fun c4 => ?_) (fun c4 => ?_)
  · refine lv_iload_n C.x C.b d_X_signal_18 rfl (lv_at hl 1 rfl) ?_
    refine g_iS (As := [.int x]) (rest := []) C V cs_X_74 (c_X_isSemaphore (Wd := XW h cI cZ) (x)) (by decide) rfl hl.1 rfl (Nat.le_of_ble_eq_true rfl) d_X_signal_19 (fun r19 u19 H locs w19 V => ?_)
    obtain ⟨rfl, q19⟩ := w19
    obtain rfl : r19 = 0 := by rw [q19, if_neg hx]
    exact g_zret C _ V (by unfold o_signal; rw [es]; exact ⟨rfl, X⟩) (by simp) d_X_signal_22
  · exact absurd rfl c4
set_option maxHeartbeats 200000 in
set_option maxRecDepth 20000 in
theorem c_X_signal1 (X : RX u a) (I : Inv a) (P : Prs a) (hB : ∀ s, aE a s < 2 ^ 20) (s : Nat) (hs : s < 16) (es : sOf (nI s) = some s) (hx : ¬ nI s < 0 ∧ nI s < 16)  : gMi lx D (ty3 cI cZ cJ) (XW h cI cZ) y_X_signal b_X_signal 2 (some .boolean) ({ frames := 6, cells := 0, slots := 0, locals := 131 } : Room) 0 0 [.ref (h 0), .int (nI s)] ((XW h cI cZ) u) (fun r u' => r = (o_signal a (nI s)).1 ∧ RX u' (o_signal a (nI s)).2) := by
  refine gMi.of (by decide) (Nat.le_of_ble_eq_true rfl) (fun pg ev st md bl mt cd A ls C hmn hl V => ?_)
  have hl : lv_has ls 2 [(0, .ref (h 0)), (1, .int (nI s))] := hl
  refine lv_iload_n C.x C.b d_X_signal_0 rfl (lv_at hl 1 rfl) ?_
  refine g_iS (As := [.int (nI s)]) (rest := []) C V cs_X_74 (c_X_isSemaphore (Wd := XW h cI cZ) (nI s)) (by decide) rfl hl.1 rfl (Nat.le_of_ble_eq_true rfl) d_X_signal_1 (fun r1 u1 H locs w1 V => ?_)
  obtain ⟨rfl, q1⟩ := w1
  obtain rfl : r1 = 1 := by rw [q1, if_pos hx]
  refine lv_if_eq (tgt := 18) C.x C.b d_X_signal_4 (by decide) (fun c4 => ?_) (fun c4 => ?_)
  · exact absurd c4 (by decide)
  · refine lv_aload_n C.x C.b d_X_signal_7 rfl (lv_at hl 0 rfl) ?_
    refine xg_sched C V fl_X_21 d_X_signal_8 ?_
    refine lv_iload_n C.x C.b d_X_signal_11 rfl (lv_at hl 1 rfl) ?_
    refine g_iS (As := [.int (nI s)]) (rest := [.ref (h 2)]) C V cs_X_77 (c_X_semaphore (Wd := XW h cI cZ) (nI s)) (by decide) rfl hl.1 rfl (Nat.le_of_ble_eq_true rfl) d_X_signal_12 (fun r12 u12 H locs w12 V => ?_)
    obtain ⟨rfl, q12⟩ := w12
    obtain rfl : r12 = nI (2 * kR (16 + s)) := by rw [q12]; exact nk_sem hs
    refine g_vV (q0 := 2) (As := [.int (nI (2 * kR (16 + s)))]) (rest := []) C V cs_X_83 (c_S_signal X I P s hs (hB s)) rfl rfl (by decide) rfl hl.1 rfl (Nat.le_of_ble_eq_true rfl) d_X_signal_15 (fun u15 H locs w15 V => ?_)
    refine lv_iload_n C.x C.b d_X_signal_18 rfl (lv_at hl 1 rfl) ?_
    refine g_iS (As := [.int (nI s)]) (rest := []) C V cs_X_74 (c_X_isSemaphore (Wd := XW h cI cZ) (nI s)) (by decide) rfl hl.1 rfl (Nat.le_of_ble_eq_true rfl) d_X_signal_19 (fun r19 u19 H locs w19 V => ?_)
    obtain ⟨rfl, q19⟩ := w19
    obtain rfl : r19 = 1 := by rw [q19, if_pos hx]
    exact g_zret C _ V (by unfold o_signal; rw [es]; exact ⟨rfl, w15⟩) (by simp) d_X_signal_22
theorem c_X_signal (X : RX u a) (I : Inv a) (P : Prs a) (hB : ∀ s, aE a s < 2 ^ 20) (x : Int32) : gMi lx D (ty3 cI cZ cJ) (XW h cI cZ) y_X_signal b_X_signal 2 (some .boolean) ({ frames := 6, cells := 0, slots := 0, locals := 131 } : Room) 0 0 [.ref (h 0), .int x] (XW h cI cZ u) (fun r u' => r = (o_signal a (x)).1 ∧ RX u' (o_signal a (x)).2) := by
  rcases sOf_c x with ⟨s, hs, rfl, es, hx⟩ | ⟨hx, es⟩
  · exact c_X_signal1 X I P hB s hs es hx
  · exact c_X_signal0 X I P hB x hx es
set_option maxHeartbeats 200000 in
set_option maxRecDepth 20000 in
theorem c_X_post0 (X : RX u a) (I : Inv a) (x : Int32) (hx : ¬ (¬ x < 0 ∧ x < 16)) (es : sOf x = none)  : gMi lx D (ty3 cI cZ cJ) (XW h cI cZ) y_X_post b_X_post 2 (some .int) ({ frames := 1, cells := 0, slots := 0, locals := 21 } : Room) 0 0 [.ref (h 0), .int x] ((XW h cI cZ) u) (fun r u' => r = (o_post a (x)).1 ∧ RX u' (o_post a (x)).2) := by
  refine gMi.of (by decide) (Nat.le_of_ble_eq_true rfl) (fun pg ev st md bl mt cd A ls C hmn hl V => ?_)
  have hl : lv_has ls 2 [(0, .ref (h 0)), (1, .int x)] := hl
  refine lv_iload_n C.x C.b d_X_post_0 rfl (lv_at hl 1 rfl) ?_
  refine g_iS (As := [.int x]) (rest := []) C V cs_X_74 (c_X_isSemaphore (Wd := XW h cI cZ) (x)) (by decide) rfl hl.1 rfl (Nat.le_of_ble_eq_true rfl) d_X_post_1 (fun r1 u1 H locs w1 V => ?_)
  obtain ⟨rfl, q1⟩ := w1
  obtain rfl : r1 = 0 := by rw [q1, if_neg hx]
  refine lv_if_eq (tgt := 21) C.x C.b d_X_post_4 (by decide) (fun c4 => ?_) (fun c4 => ?_)
  · refine lv_iconst (v := -1) C.x C.b d_X_post_21 (by decide) ?_
    exact g_iret C _ V (by unfold o_post; rw [es]; exact ⟨rfl, X⟩) d_X_post_22
  · exact absurd rfl c4
set_option maxHeartbeats 200000 in
set_option maxRecDepth 20000 in
theorem c_X_post1 (X : RX u a) (I : Inv a) (s : Nat) (hs : s < 16) (es : sOf (nI s) = some s) (hx : ¬ nI s < 0 ∧ nI s < 16)  : gMi lx D (ty3 cI cZ cJ) (XW h cI cZ) y_X_post b_X_post 2 (some .int) ({ frames := 1, cells := 0, slots := 0, locals := 21 } : Room) 0 0 [.ref (h 0), .int (nI s)] ((XW h cI cZ) u) (fun r u' => r = (o_post a (nI s)).1 ∧ RX u' (o_post a (nI s)).2) := by
  refine gMi.of (by decide) (Nat.le_of_ble_eq_true rfl) (fun pg ev st md bl mt cd A ls C hmn hl V => ?_)
  have hl : lv_has ls 2 [(0, .ref (h 0)), (1, .int (nI s))] := hl
  refine lv_iload_n C.x C.b d_X_post_0 rfl (lv_at hl 1 rfl) ?_
  refine g_iS (As := [.int (nI s)]) (rest := []) C V cs_X_74 (c_X_isSemaphore (Wd := XW h cI cZ) (nI s)) (by decide) rfl hl.1 rfl (Nat.le_of_ble_eq_true rfl) d_X_post_1 (fun r1 u1 H locs w1 V => ?_)
  obtain ⟨rfl, q1⟩ := w1
  obtain rfl : r1 = 1 := by rw [q1, if_pos hx]
  refine lv_if_eq (tgt := 21) C.x C.b d_X_post_4 (by decide) (fun c4 => ?_) (fun c4 => ?_)
  · exact absurd c4 (by decide)
  · refine lv_aload_n C.x C.b d_X_post_7 rfl (lv_at hl 0 rfl) ?_
    refine xg_sched C V fl_X_21 d_X_post_8 ?_
    refine lv_iload_n C.x C.b d_X_post_11 rfl (lv_at hl 1 rfl) ?_
    refine g_iS (As := [.int (nI s)]) (rest := [.ref (h 2)]) C V cs_X_77 (c_X_semaphore (Wd := XW h cI cZ) (nI s)) (by decide) rfl hl.1 rfl (Nat.le_of_ble_eq_true rfl) d_X_post_12 (fun r12 u12 H locs w12 V => ?_)
    obtain ⟨rfl, q12⟩ := w12
    obtain rfl : r12 = nI (2 * kR (16 + s)) := by rw [q12]; exact nk_sem hs
    refine g_iV (q0 := 2) (As := [.int (nI (2 * kR (16 + s)))]) (rest := []) C V cs_X_86 (c_S_post X I s hs) rfl rfl (by decide) rfl hl.1 rfl (Nat.le_of_ble_eq_true rfl) d_X_post_15 (fun r15 u15 H locs w15 V => ?_)
    refine lv_goto (tgt := 22) C.x C.b d_X_post_18 (by decide) ?_
    exact g_iret C _ V (by unfold o_post; rw [es]; exact w15) d_X_post_22
theorem c_X_post (X : RX u a) (I : Inv a) (x : Int32) : gMi lx D (ty3 cI cZ cJ) (XW h cI cZ) y_X_post b_X_post 2 (some .int) ({ frames := 1, cells := 0, slots := 0, locals := 21 } : Room) 0 0 [.ref (h 0), .int x] (XW h cI cZ u) (fun r u' => r = (o_post a (x)).1 ∧ RX u' (o_post a (x)).2) := by
  rcases sOf_c x with ⟨s, hs, rfl, es, hx⟩ | ⟨hx, es⟩
  · exact c_X_post1 X I s hs es hx
  · exact c_X_post0 X I x hx es
set_option maxHeartbeats 200000 in
set_option maxRecDepth 20000 in
theorem c_X_await0 (X : RX u a) (I : Inv a) (P : Prs a) (hB : ∀ s, aE a s < 2 ^ 20) (x : Int32) (hx : ¬ (¬ x < 0 ∧ x < 16)) (es : sOf x = none)  : gMi lx D (ty3 cI cZ cJ) (XW h cI cZ) y_X_await b_X_await 2 (some .int) ({ frames := 4, cells := 0, slots := 0, locals := 89 } : Room) 0 0 [.ref (h 0), .int x] ((XW h cI cZ) u) (fun r u' => r = (o_await a (x)).1 ∧ RX u' (o_await a (x)).2) := by
  refine gMi.of (by decide) (Nat.le_of_ble_eq_true rfl) (fun pg ev st md bl mt cd A ls C hmn hl V => ?_)
  have hl : lv_has ls 2 [(0, .ref (h 0)), (1, .int x)] := hl
  refine lv_iload_n C.x C.b d_X_await_0 rfl (lv_at hl 1 rfl) ?_
  refine g_iS (As := [.int x]) (rest := []) C V cs_X_74 (c_X_isSemaphore (Wd := XW h cI cZ) (x)) (by decide) rfl hl.1 rfl (Nat.le_of_ble_eq_true rfl) d_X_await_1 (fun r1 u1 H locs w1 V => ?_)
  obtain ⟨rfl, q1⟩ := w1
  obtain rfl : r1 = 0 := by rw [q1, if_neg hx]
  refine lv_if_eq (tgt := 17) C.x C.b d_X_await_4 (by decide) (fun c4 => ?_) (fun c4 => ?_)
  · refine lv_iconst (v := -1) C.x C.b d_X_await_17 (by decide) ?_
    exact g_iret C _ V (by unfold o_await; rw [es]; exact ⟨rfl, X⟩) d_X_await_18
  · exact absurd rfl c4
set_option maxHeartbeats 200000 in
set_option maxRecDepth 20000 in
theorem c_X_await2 (X : RX u a) (I : Inv a) (P : Prs a) (hB : ∀ s, aE a s < 2 ^ 20) (s : Nat) (hs : s < 16) (es : sOf (nI s) = some s) (hx : ¬ nI s < 0 ∧ nI s < 16) (ho : a_pres a = none) : gMi lx D (ty3 cI cZ cJ) (XW h cI cZ) y_X_await b_X_await 2 (some .int) ({ frames := 4, cells := 0, slots := 0, locals := 89 } : Room) 0 0 [.ref (h 0), .int (nI s)] ((XW h cI cZ) u) (fun r u' => r = (o_await a (nI s)).1 ∧ RX u' (o_await a (nI s)).2) := by
  refine gMi.of (by decide) (Nat.le_of_ble_eq_true rfl) (fun pg ev st md bl mt cd A ls C hmn hl V => ?_)
  have hl : lv_has ls 2 [(0, .ref (h 0)), (1, .int (nI s))] := hl
  refine lv_iload_n C.x C.b d_X_await_0 rfl (lv_at hl 1 rfl) ?_
  refine g_iS (As := [.int (nI s)]) (rest := []) C V cs_X_74 (c_X_isSemaphore (Wd := XW h cI cZ) (nI s)) (by decide) rfl hl.1 rfl (Nat.le_of_ble_eq_true rfl) d_X_await_1 (fun r1 u1 H locs w1 V => ?_)
  obtain ⟨rfl, q1⟩ := w1
  obtain rfl : r1 = 1 := by rw [q1, if_pos hx]
  refine lv_if_eq (tgt := 17) C.x C.b d_X_await_4 (by decide) (fun c4 => ?_) (fun c4 => ?_)
  · exact absurd c4 (by decide)
  · refine lv_aload_n C.x C.b d_X_await_7 rfl (lv_at hl 0 rfl) ?_
    refine xg_sched C V fl_X_21 d_X_await_8 ?_
    refine g_iV (q0 := 2) (As := []) (rest := []) C V cs_X_55 (c_S_present X I) rfl rfl (by decide) rfl hl.1 rfl (Nat.le_of_ble_eq_true rfl) d_X_await_11 (fun r11 u11 H locs w11 V => ?_)
    obtain ⟨rfl, q11⟩ := w11
    obtain rfl : r11 = 0 := by rw [q11, ho]; rfl
    refine lv_if_ne (tgt := 19) C.x C.b d_X_await_14 (by decide) (fun c14 => ?_) (fun c14 => ?_)
    · exact absurd rfl c14
    · refine lv_iconst (v := -1) C.x C.b d_X_await_17 (by decide) ?_
      exact g_iret C _ V (by unfold o_await; rw [es]; dsimp only; unfold a_await; rw [ho]; exact ⟨rfl, X⟩) d_X_await_18
theorem aw_01 {a : AS} {s p : Nat} (ho : a_pres a = some p) : (a_await a s).1 = 0 ∨ (a_await a s).1 = 1 := by
  unfold a_await; rw [ho]; dsimp only; split
  · exact Or.inr rfl
  · exact Or.inl rfl
set_option maxHeartbeats 200000 in
set_option maxRecDepth 20000 in
theorem c_X_await3 (X : RX u a) (I : Inv a) (P : Prs a) (hB : ∀ s, aE a s < 2 ^ 20) (s : Nat) (hs : s < 16) (es : sOf (nI s) = some s) (hx : ¬ nI s < 0 ∧ nI s < 16) (p : Nat) (ho : a_pres a = some p) : gMi lx D (ty3 cI cZ cJ) (XW h cI cZ) y_X_await b_X_await 2 (some .int) ({ frames := 4, cells := 0, slots := 0, locals := 89 } : Room) 0 0 [.ref (h 0), .int (nI s)] ((XW h cI cZ) u) (fun r u' => r = (o_await a (nI s)).1 ∧ RX u' (o_await a (nI s)).2) := by
  refine gMi.of (by decide) (Nat.le_of_ble_eq_true rfl) (fun pg ev st md bl mt cd A ls C hmn hl V => ?_)
  have hl : lv_has ls 2 [(0, .ref (h 0)), (1, .int (nI s))] := hl
  have hq := P p ho
  refine lv_iload_n C.x C.b d_X_await_0 rfl (lv_at hl 1 rfl) ?_
  refine g_iS (As := [.int (nI s)]) (rest := []) C V cs_X_74 (c_X_isSemaphore (Wd := XW h cI cZ) (nI s)) (by decide) rfl hl.1 rfl (Nat.le_of_ble_eq_true rfl) d_X_await_1 (fun r1 u1 H locs w1 V => ?_)
  obtain ⟨rfl, q1⟩ := w1
  obtain rfl : r1 = 1 := by rw [q1, if_pos hx]
  refine lv_if_eq (tgt := 17) C.x C.b d_X_await_4 (by decide) (fun c4 => ?_) (fun c4 => ?_)
  · exact absurd c4 (by decide)
  · refine lv_aload_n C.x C.b d_X_await_7 rfl (lv_at hl 0 rfl) ?_
    refine xg_sched C V fl_X_21 d_X_await_8 ?_
    refine g_iV (q0 := 2) (As := []) (rest := []) C V cs_X_55 (c_S_present X I) rfl rfl (by decide) rfl hl.1 rfl (Nat.le_of_ble_eq_true rfl) d_X_await_11 (fun r11 u11 H locs w11 V => ?_)
    obtain ⟨rfl, q11⟩ := w11
    obtain rfl : r11 = nI (2 * (p + 1)) := by rw [q11, ho]; rfl
    refine lv_if_ne (tgt := 19) C.x C.b d_X_await_14 (by decide) (fun c14 => ?_) (fun c14 => ?_)
    · refine lv_aload_n C.x C.b d_X_await_19 rfl (lv_at hl 0 rfl) ?_
      refine xg_sched C V fl_X_21 d_X_await_20 ?_
      refine lv_iload_n C.x C.b d_X_await_23 rfl (lv_at hl 1 rfl) ?_
      refine g_iS (As := [.int (nI s)]) (rest := [.ref (h 2)]) C V cs_X_77 (c_X_semaphore (Wd := XW h cI cZ) (nI s)) (by decide) rfl hl.1 rfl (Nat.le_of_ble_eq_true rfl) d_X_await_24 (fun r24 u24 H locs w24 V => ?_)
      obtain ⟨rfl, q24⟩ := w24
      obtain rfl : r24 = nI (2 * kR (16 + s)) := by rw [q24]; exact nk_sem hs
      refine g_iV (q0 := 2) (As := [.int (nI (2 * kR (16 + s)))]) (rest := []) C V cs_X_80 (c_S_await X I P s hs (hB s) p ho) rfl rfl (by decide) rfl hl.1 rfl (Nat.le_of_ble_eq_true rfl) d_X_await_27 (fun r27 u27 H locs w27 V => ?_)
      have h01 := aw_01 (s := s) ho
      refine lv_if_eq (tgt := 37) C.x C.b d_X_await_30 (by decide) (fun c30 => ?_) (fun c30 => ?_)
      · refine lv_iconst (v := 0) C.x C.b d_X_await_37 (by decide) ?_
        exact g_iret C _ V (by unfold o_await; rw [es]; dsimp only; exact ⟨c30.symm.trans w27.1, w27.2⟩) d_X_await_38
      · refine lv_iconst (v := 1) C.x C.b d_X_await_33 (by decide) ?_
        refine lv_goto (tgt := 38) C.x C.b d_X_await_34 (by decide) ?_
        exact g_iret C _ V (by unfold o_await; rw [es]; dsimp only; refine ⟨?_, w27.2⟩; rcases h01 with z | z; exact absurd (w27.1.trans z) c30; exact z.symm) d_X_await_38
    · exact absurd c14 (ob_n0 hq.1)
theorem c_X_await1 (X : RX u a) (I : Inv a) (P : Prs a) (hB : ∀ s, aE a s < 2 ^ 20) (s : Nat) (hs : s < 16) (es : sOf (nI s) = some s) (hx : ¬ nI s < 0 ∧ nI s < 16) : gMi lx D (ty3 cI cZ cJ) (XW h cI cZ) y_X_await b_X_await 2 (some .int) ({ frames := 4, cells := 0, slots := 0, locals := 89 } : Room) 0 0 [.ref (h 0), .int (nI s)] (XW h cI cZ u) (fun r u' => r = (o_await a (nI s)).1 ∧ RX u' (o_await a (nI s)).2) := by
  cases ho : a_pres a with
  | none => exact c_X_await2 X I P hB s hs es hx ho
  | some p => exact c_X_await3 X I P hB s hs es hx p ho
theorem c_X_await (X : RX u a) (I : Inv a) (P : Prs a) (hB : ∀ s, aE a s < 2 ^ 20) (x : Int32) : gMi lx D (ty3 cI cZ cJ) (XW h cI cZ) y_X_await b_X_await 2 (some .int) ({ frames := 4, cells := 0, slots := 0, locals := 89 } : Room) 0 0 [.ref (h 0), .int x] (XW h cI cZ u) (fun r u' => r = (o_await a (x)).1 ∧ RX u' (o_await a (x)).2) := by
  rcases sOf_c x with ⟨s, hs, rfl, es, hx⟩ | ⟨hx, es⟩
  · exact c_X_await1 X I P hB s hs es hx
  · exact c_X_await0 X I P hB x hx es
end
end
section
section
variable {a : AS}
theorem at_none {L : List Nat} {j : Nat} (h : L[j]? = none) {i : Nat} (hi : j ≤ i) : L[i]? = none := by
  rw [List.getElem?_eq_none_iff] at h ⊢; omega
theorem nk_16 {x : Int32} : (¬ x - 16 < 0 ∧ x - 16 < 16) ↔ (¬ x < 16 ∧ x < 32) := by
  constructor
  · intro hz
    rcases pk_ix (x - 16) (n := 16) (by decide) with z | z | ⟨j, hj, z⟩
    · exact absurd z hz.1
    · exact absurd hz.2 (Int32.not_lt.mpr z)
    · have hx : x = nI (j + 16) := by
        have : x = (x - 16) + 16 := (Int32.sub_add_cancel x 16).symm
        rw [this, z, show (16 : Int32) = nI 16 from rfl, nI_add]
      rw [hx]
      exact ⟨nI_nlt (b := 16) (by omega) (by omega), nI_lt (b := 32) (by omega) (by decide)⟩
  · intro hz
    rcases pk_ix x (n := 32) (by decide) with z | z | ⟨j, hj, z⟩
    · exact absurd (Int32.lt_trans z (by decide)) hz.1
    · exact absurd hz.2 (Int32.not_lt.mpr z)
    · have h16 : 16 ≤ j := Nat.le_of_not_lt (fun q => hz.1 (by rw [z]; exact nI_lt (b := 16) q (by decide)))
      rw [z, show (16 : Int32) = nI 16 from rfl, pk_sub h16]
      exact ⟨nI_pos (by omega), nI_lt (by omega) (by decide)⟩
theorem rOf_c (x : Int32) : (∃ n, 1 ≤ n ∧ n ≤ 8 ∧ x = nI n ∧ rOf x = some n ∧ ¬ x < 1 ∧ ¬ 8 < x) ∨ (∃ s, s < 16 ∧ x = nI (16 + s) ∧ rOf x = some (16 + s) ∧ ¬ (¬ x < 1 ∧ ¬ 8 < x) ∧ (¬ x < 16 ∧ x < 32)) ∨ (rOf x = none ∧ ¬ (¬ x < 1 ∧ ¬ 8 < x) ∧ ¬ (¬ x < 16 ∧ x < 32)) := by
  rcases qOf_c x with ⟨n, h1, h8, rfl, e, hh⟩ | ⟨hh, e⟩
  · exact Or.inl ⟨n, h1, h8, rfl, by unfold rOf; rw [e], hh⟩
  · refine Or.inr ?_
    by_cases hz : ¬ x < 16 ∧ x < 32
    · refine Or.inl ?_
      rcases pk_ix x (n := 32) (by decide) with z | z | ⟨j, hj, z⟩
      · exact absurd (Int32.lt_trans z (by decide)) hz.1
      · exact absurd hz.2 (Int32.not_lt.mpr z)
      · have h16 : 16 ≤ j := Nat.le_of_not_lt (fun q => hz.1 (by rw [z]; exact nI_lt (b := 16) q (by decide)))
        refine ⟨j - 16, by omega, by rw [z]; congr 1; omega, ?_, hh, hz⟩
        unfold rOf; rw [e]; dsimp only; rw [if_pos hz, z, nI_clamp (by omega)]; congr 1; omega
    · exact Or.inr ⟨by unfold rOf; rw [e]; dsimp only; rw [if_neg hz], hh, hz⟩
end
section
variable {lx : Launch} {D : va_G} {h : Nat → Nat} {cI cZ cJ : ClassId}
variable {u : XS} {a : AS}
theorem c_X_step_sub {a : AS} (I : Inv a) : ∀ (l : List Nat) (b : AS), Inv b → Prs b → (∀ s ∈ l, s < 16) → Inv (a_sigs b l) ∧ Prs (a_sigs b l)
  | [], b, I, P, _ => ⟨I, P⟩
  | s :: l, b, I, P, h => c_X_step_sub (a := a) ‹Inv a› l (a_sig b s) (inv_sig I P (h s List.mem_cons_self)).1 (inv_sig I P (h s List.mem_cons_self)).2 (fun t ht => h t (List.mem_cons_of_mem _ ht))
theorem inv_done (I : Inv a) : Inv (a_done a) := ⟨I.1, I.2.1, I.2.2.1, I.2.2.2.1, I.2.2.2.2.1, I.2.2.2.2.2.1, Nat.zero_le _, fun s h => by cases h⟩
theorem inv_swap (I : Inv a) (P : Prs a) : Inv (a_swap a) ∧ Prs (a_swap a) := by
  by_cases hw : aW a = true
  · rw [sw_w hw]
    have hpr : ∀ p, aC a = some p → p < 32 ∧ aM a p = true ∧ aR a p = 0 := fun p hp => P p (by unfold a_pres; rw [if_pos hw, hp])
    exact ⟨⟨I.1, I.2.1, I.2.2.1, I.2.2.2.1, I.2.2.2.2.1, fun p hp => ⟨(hpr p hp).1, (hpr p hp).2.1⟩, I.len, I.pst⟩, fun p hp => hpr p hp⟩
  · rw [sw_n hw]; exact ⟨I, P⟩
theorem inv_step (I : Inv a) (P : Prs a) : Inv (o_step a).2 ∧ Prs (o_step a).2 := by
  have h := c_X_step_sub I (aO a) a I P I.pst
  exact inv_swap (inv_done h.1) (show Prs (a_done (a_sigs a (aO a))) from h.2)
set_option maxHeartbeats 200000 in
set_option maxRecDepth 20000 in
theorem c_X_active (X : RX u a) (I : Inv a)  : gMi lx D (ty3 cI cZ cJ) (XW h cI cZ) y_X_active b_X_active 1 (some .int) ({ frames := 2, cells := 0, slots := 0, locals := 42 } : Room) 0 0 [.ref (h 0)] ((XW h cI cZ) u) (fun r u' => u = u' ∧ r = eN (aA a)) := by
  refine gMi.of (by decide) (Nat.le_of_ble_eq_true rfl) (fun pg ev st md bl mt cd A ls C hmn hl V => ?_)
  have hl : lv_has ls 1 [(0, .ref (h 0))] := hl
  refine lv_aload_n C.x C.b d_X_active_0 rfl (lv_at hl 0 rfl) ?_
  refine xg_sched C V fl_X_21 d_X_active_1 ?_
  refine g_iV (q0 := 2) (As := []) (rest := []) C V cs_X_59 (c_S_active X I) rfl rfl (by decide) rfl hl.1 rfl (Nat.le_of_ble_eq_true rfl) d_X_active_4 (fun r4 u4 H locs w4 V => ?_)
  obtain ⟨rfl, q4⟩ := w4
  obtain rfl : r4 = eO (aA a) := q4
  refine g_iS (As := [.int (eO (aA a))]) (rest := []) C V cs_X_68 (c_X_numberOf (Wd := XW h cI cZ) (eO (aA a))) (by decide) rfl hl.1 rfl (Nat.le_of_ble_eq_true rfl) d_X_active_7 (fun r7 u7 H locs w7 V => ?_)
  obtain ⟨rfl, q7⟩ := w7
  obtain rfl : r7 = eN (aA a) := by rw [q7]; exact nk_no (I.act32)
  exact g_iret C _ V ⟨rfl, rfl⟩ d_X_active_10
set_option maxHeartbeats 200000 in
set_option maxRecDepth 20000 in
theorem c_X_present (X : RX u a) (I : Inv a) (P : Prs a)  : gMi lx D (ty3 cI cZ cJ) (XW h cI cZ) y_X_present b_X_present 1 (some .int) ({ frames := 3, cells := 0, slots := 0, locals := 62 } : Room) 0 0 [.ref (h 0)] ((XW h cI cZ) u) (fun r u' => u = u' ∧ r = eN (a_pres a)) := by
  refine gMi.of (by decide) (Nat.le_of_ble_eq_true rfl) (fun pg ev st md bl mt cd A ls C hmn hl V => ?_)
  have hl : lv_has ls 1 [(0, .ref (h 0))] := hl
  refine lv_aload_n C.x C.b d_X_present_0 rfl (lv_at hl 0 rfl) ?_
  refine xg_sched C V fl_X_21 d_X_present_1 ?_
  refine g_iV (q0 := 2) (As := []) (rest := []) C V cs_X_55 (c_S_present X I) rfl rfl (by decide) rfl hl.1 rfl (Nat.le_of_ble_eq_true rfl) d_X_present_4 (fun r4 u4 H locs w4 V => ?_)
  obtain ⟨rfl, q4⟩ := w4
  obtain rfl : r4 = eO (a_pres a) := q4
  refine g_iS (As := [.int (eO (a_pres a))]) (rest := []) C V cs_X_68 (c_X_numberOf (Wd := XW h cI cZ) (eO (a_pres a))) (by decide) rfl hl.1 rfl (Nat.le_of_ble_eq_true rfl) d_X_present_7 (fun r7 u7 H locs w7 V => ?_)
  obtain ⟨rfl, q7⟩ := w7
  obtain rfl : r7 = eN (a_pres a) := by rw [q7]; exact nk_no (I.pres32 P)
  exact g_iret C _ V ⟨rfl, rfl⟩ d_X_present_10
set_option maxHeartbeats 200000 in
set_option maxRecDepth 20000 in
theorem c_X_wanted (X : RX u a) (I : Inv a)  : gMi lx D (ty3 cI cZ cJ) (XW h cI cZ) y_X_wanted b_X_wanted 1 (some .boolean) ({ frames := 1, cells := 0, slots := 0, locals := 20 } : Room) 0 0 [.ref (h 0)] ((XW h cI cZ) u) (fun r u' => u = u' ∧ r = if aW a = true then 1 else 0) := by
  refine gMi.of (by decide) (Nat.le_of_ble_eq_true rfl) (fun pg ev st md bl mt cd A ls C hmn hl V => ?_)
  have hl : lv_has ls 1 [(0, .ref (h 0))] := hl
  refine lv_aload_n C.x C.b d_X_wanted_0 rfl (lv_at hl 0 rfl) ?_
  refine xg_sched C V fl_X_21 d_X_wanted_1 ?_
  refine g_iV (q0 := 2) (As := []) (rest := []) C V cs_X_94 (c_S_isWanted X I) rfl rfl (by decide) rfl hl.1 rfl (Nat.le_of_ble_eq_true rfl) d_X_wanted_4 (fun r4 u4 H locs w4 V => ?_)
  obtain ⟨rfl, q4⟩ := w4
  exact g_zret C _ V ⟨rfl, q4⟩ (by rw [q4]; split <;> simp) d_X_wanted_7
set_option maxHeartbeats 200000 in
set_option maxRecDepth 20000 in
theorem c_X_here (X : RX u a) (I : Inv a)  : gMi lx D (ty3 cI cZ cJ) (XW h cI cZ) y_X_here b_X_here 1 (some .int) ({ frames := 0, cells := 0, slots := 0, locals := 0 } : Room) 0 0 [.ref (h 0)] ((XW h cI cZ) u) (fun r u' => u = u' ∧ r = aH a) := by
  refine gMi.of (by decide) (Nat.le_of_ble_eq_true rfl) (fun pg ev st md bl mt cd A ls C hmn hl V => ?_)
  have hl : lv_has ls 1 [(0, .ref (h 0))] := hl
  refine lv_aload_n C.x C.b d_X_here_0 rfl (lv_at hl 0 rfl) ?_
  refine xg_sched C V fl_X_21 d_X_here_1 ?_
  refine xg_here C V fl_X_97 d_X_here_4 ?_
  refine lv_topi (fun v4 e4 => ?_)
  exact g_iret C _ V ⟨rfl, by rw [e4]; exact X.2.2.2.2.2.2.2.2⟩ d_X_here_7
theorem ye_01 {a : AS} : (a_yield a).1 = 0 ∨ (a_yield a).1 = 1 := by
  unfold a_yield; cases a_pres a with
  | none => exact Or.inl rfl
  | some o => dsimp only; split
              · exact Or.inl rfl
              · exact Or.inr rfl
set_option maxHeartbeats 200000 in
set_option maxRecDepth 20000 in
theorem c_X_yield (X : RX u a) (I : Inv a) (P : Prs a)  : gMi lx D (ty3 cI cZ cJ) (XW h cI cZ) y_X_yield b_X_yield 1 (some .boolean) ({ frames := 5, cells := 0, slots := 0, locals := 109 } : Room) 0 0 [.ref (h 0)] ((XW h cI cZ) u) (fun r u' => r = (a_yield a).1 ∧ RX u' (a_yield a).2) := by
  refine gMi.of (by decide) (Nat.le_of_ble_eq_true rfl) (fun pg ev st md bl mt cd A ls C hmn hl V => ?_)
  have hl : lv_has ls 1 [(0, .ref (h 0))] := hl
  refine lv_aload_n C.x C.b d_X_yield_0 rfl (lv_at hl 0 rfl) ?_
  refine xg_sched C V fl_X_21 d_X_yield_1 ?_
  refine g_iV (q0 := 2) (As := []) (rest := []) C V cs_X_107 (c_S_giveWay X I P) rfl rfl (by decide) rfl hl.1 rfl (Nat.le_of_ble_eq_true rfl) d_X_yield_4 (fun r4 u4 H locs w4 V => ?_)
  exact g_zret C _ V w4 (by rw [w4.1]; exact ye_01) d_X_yield_7
set_option maxHeartbeats 200000 in
set_option maxRecDepth 20000 in
theorem c_X_step (X : RX u a) (I : Inv a) (P : Prs a) (B0 : Nat) (hB : Bd a B0) (hB0 : B0 < 2 ^ 19) : gMi lx D (ty3 cI cZ cJ) (XW h cI cZ) y_X_step b_X_step 1 (some .int) ({ frames := 7, cells := 0, slots := 0, locals := 152 } : Room) 0 0 [.ref (h 0)] ((XW h cI cZ) u) (fun r u' => r = (o_step a).1 ∧ RX u' (o_step a).2) := by
  refine gMi.of (by decide) (Nat.le_of_ble_eq_true rfl) (fun pg ev st md bl mt cd A ls C hmn hl V => ?_)
  have hl : lv_has ls 1 [(0, .ref (h 0))] := hl
  refine lv_aload_n C.x C.b d_X_step_0 rfl (lv_at hl 0 rfl) ?_
  refine xg_sched C V fl_X_21 d_X_step_1 ?_
  refine g_iV (q0 := 2) (As := []) (rest := []) C V cs_X_89 (c_S_step X I P B0 hB hB0) rfl rfl (by decide) rfl hl.1 rfl (Nat.le_of_ble_eq_true rfl) d_X_step_4 (fun r4 u4 H locs w4 V => ?_)
  have X2 := w4
  have I2 := (inv_step I P).1
  refine lv_pop C.x C.b d_X_step_7 rfl ?_
  refine lv_aload_n C.x C.b d_X_step_8 rfl (lv_at hl 0 rfl) ?_
  refine g_iV (q0 := 0) (As := []) (rest := []) C V cs_X_93 (c_X_active X2 I2) rfl rfl (by decide) rfl hl.1 rfl (Nat.le_of_ble_eq_true rfl) d_X_step_9 (fun r9 u9 H locs w9 V => ?_)
  obtain ⟨rfl, q9⟩ := w9
  exact g_iret C _ V ⟨q9, X2⟩ d_X_step_12
set_option maxHeartbeats 200000 in
set_option maxRecDepth 20000 in
theorem c_X_work (X : RX u a) (I : Inv a) (x : Int32) : gMi lx D (ty3 cI cZ cJ) (XW h cI cZ) y_X_work b_X_work 2 (some .boolean) ({ frames := 2, cells := 0, slots := 0, locals := 42 } : Room) 0 0 [.ref (h 0), .int x] ((XW h cI cZ) u) (fun r u' => r = (o_work a x).1 ∧ RX u' (o_work a x).2) := by
  refine gMi.of (by decide) (Nat.le_of_ble_eq_true rfl) (fun pg ev st md bl mt cd A ls C hmn hl V => ?_)
  have hl : lv_has ls 2 [(0, .ref (h 0)), (1, .int x)] := hl
  refine lv_iload_n C.x C.b d_X_work_0 rfl (lv_at hl 1 rfl) ?_
  refine lv_iconst (v := 1) C.x C.b d_X_work_1 (by decide) ?_
  refine lv_icmp_lt (tgt := 32) C.x C.b d_X_work_2 (by decide) (fun c2 => ?_) (fun c2 => ?_)
  · refine lv_iconst (v := 0) C.x C.b d_X_work_32 (by decide) ?_
    exact g_zret C _ V (by unfold o_work; rw [if_neg (by simp_all)]; exact ⟨rfl, X⟩) (by simp) d_X_work_33
  · refine lv_iload_n C.x C.b d_X_work_5 rfl (lv_at hl 1 rfl) ?_
    refine lv_sipush (v := 1000) C.x C.b d_X_work_6 (by decide) ?_
    refine lv_icmp_gt (tgt := 32) C.x C.b d_X_work_9 (by decide) (fun c9 => ?_) (fun c9 => ?_)
    · refine lv_iconst (v := 0) C.x C.b d_X_work_32 (by decide) ?_
      exact g_zret C _ V (by unfold o_work; rw [if_neg (by simp_all)]; exact ⟨rfl, X⟩) (by simp) d_X_work_33
    · refine lv_aload_n C.x C.b d_X_work_12 rfl (lv_at hl 0 rfl) ?_
      refine xg_sched C V fl_X_21 d_X_work_13 ?_
      refine g_iV (q0 := 2) (As := []) (rest := []) C V cs_X_59 (c_S_active X I) rfl rfl (by decide) rfl hl.1 rfl (Nat.le_of_ble_eq_true rfl) d_X_work_16 (fun r16 u16 H locs w16 V => ?_)
      obtain ⟨rfl, q16⟩ := w16
      refine lv_if_eq (tgt := 32) C.x C.b d_X_work_19 (by decide) (fun c19 => ?_) (fun c19 => ?_)
      · have hA : aA a = none := (eO_0 I.act32).mp (q16.symm.trans c19)
        refine lv_iconst (v := 0) C.x C.b d_X_work_32 (by decide) ?_
        exact g_zret C _ V (by unfold o_work; rw [if_neg (by simp_all)]; exact ⟨rfl, X⟩) (by simp) d_X_work_33
      · have hA : ¬ aA a = none := fun z => c19 (by rw [q16, z]; rfl)
        refine lv_aload_n C.x C.b d_X_work_22 rfl (lv_at hl 0 rfl) ?_
        refine xg_sched C V fl_X_21 d_X_work_23 ?_
        refine g_iV (q0 := 2) (As := []) (rest := []) C V cs_X_94 (c_S_isWanted X I) rfl rfl (by decide) rfl hl.1 rfl (Nat.le_of_ble_eq_true rfl) d_X_work_26 (fun r26 u26 H locs w26 V => ?_)
        obtain ⟨rfl, q26⟩ := w26
        refine lv_if_eq (tgt := 34) C.x C.b d_X_work_29 (by decide) (fun c29 => ?_) (fun c29 => ?_)
        · have hW : ¬ aW a = true := fun z => by rw [if_pos z] at q26; rw [q26] at c29; exact absurd c29 (by decide)
          refine lv_aload_n C.x C.b d_X_work_34 rfl (lv_at hl 0 rfl) ?_
          refine xg_sched C V fl_X_21 d_X_work_35 ?_
          refine lv_dup C.x C.b d_X_work_38 rfl ?_
          refine xg_here C V fl_X_97 d_X_work_39 ?_
          refine lv_topi (fun v39 e39 => ?_)
          obtain rfl : v39 = aH a := by rw [e39]; exact X.2.2.2.2.2.2.2.2
          refine lv_iload_n C.x C.b d_X_work_42 rfl (lv_at hl 1 rfl) ?_
          refine lv_iadd C.x C.b d_X_work_43 ?_
          refine lv_topi (fun v43 e43 => ?_)
          refine xp_here C V fl_X_97 d_X_work_44 (fun H locs V => ?_)
          refine lv_iconst (v := 1) C.x C.b d_X_work_47 (by decide) ?_
          exact g_zret C _ V (by unfold o_work; rw [if_pos ⟨⟨c2, c9⟩, hA, hW⟩]; exact ⟨rfl, X.1, X.2.1, X.2.2.1, X.2.2.2.1, X.2.2.2.2.1, X.2.2.2.2.2.1, X.2.2.2.2.2.2.1, X.2.2.2.2.2.2.2.1, e43⟩) (by simp) d_X_work_48
        · have hW : aW a = true := Classical.byContradiction (fun z => c29 (q26.trans (if_neg z)))
          refine lv_iconst (v := 0) C.x C.b d_X_work_32 (by decide) ?_
          exact g_zret C _ V (by unfold o_work; rw [if_neg (by simp_all)]; exact ⟨rfl, X⟩) (by simp) d_X_work_33
set_option maxHeartbeats 200000 in
set_option maxRecDepth 20000 in
theorem c_X_take0 (X : RX u a) (I : Inv a) (x : Int32) (em : mOf a x = none)  : gMi lx D (ty3 cI cZ cJ) (XW h cI cZ) y_X_take b_X_take 2 (some .boolean) ({ frames := 3, cells := 0, slots := 0, locals := 70 } : Room) 0 0 [.ref (h 0), .int x] ((XW h cI cZ) u) (fun r u' => r = (o_take a x).1 ∧ RX u' (o_take a x).2) := by
  refine gMi.of (by decide) (Nat.le_of_ble_eq_true rfl) (fun pg ev st md bl mt cd A ls C hmn hl V => ?_)
  have hl : lv_has ls 2 [(0, .ref (h 0)), (1, .int x)] := hl
  refine lv_aload_n C.x C.b d_X_take_0 rfl (lv_at hl 0 rfl) ?_
  refine lv_iload_n C.x C.b d_X_take_1 rfl (lv_at hl 1 rfl) ?_
  refine g_iV (q0 := 0) (As := [.int x]) (rest := []) C V cs_X_52 (c_X_isInRow X I x) rfl rfl (by decide) rfl hl.1 rfl (Nat.le_of_ble_eq_true rfl) d_X_take_2 (fun r2 u2 H locs w2 V => ?_)
  obtain ⟨rfl, q2⟩ := w2
  rw [em] at q2
  obtain rfl : r2 = 0 := q2
  refine lv_if_ne (tgt := 10) C.x C.b d_X_take_5 (by decide) (fun c5 => ?_) (fun c5 => ?_)
  · exact absurd rfl c5
  · refine lv_iconst (v := 0) C.x C.b d_X_take_8 (by decide) ?_
    exact g_zret C _ V (by unfold o_take; rw [em]; exact ⟨rfl, X⟩) (by simp) d_X_take_9
set_option maxHeartbeats 200000 in
set_option maxRecDepth 20000 in
theorem c_X_take1 (X : RX u a) (I : Inv a) (p : Nat) (hp : p < 32) (hm : aM a p = true)  : gMi lx D (ty3 cI cZ cJ) (XW h cI cZ) y_X_take b_X_take 2 (some .boolean) ({ frames := 3, cells := 0, slots := 0, locals := 70 } : Room) 0 0 [.ref (h 0), .int (nI p)] ((XW h cI cZ) u) (fun r u' => r = (o_take a (nI p)).1 ∧ RX u' (o_take a (nI p)).2) := by
  refine gMi.of (by decide) (Nat.le_of_ble_eq_true rfl) (fun pg ev st md bl mt cd A ls C hmn hl V => ?_)
  have hl : lv_has ls 2 [(0, .ref (h 0)), (1, .int (nI p))] := hl
  refine lv_aload_n C.x C.b d_X_take_0 rfl (lv_at hl 0 rfl) ?_
  refine lv_iload_n C.x C.b d_X_take_1 rfl (lv_at hl 1 rfl) ?_
  refine g_iV (q0 := 0) (As := [.int (nI p)]) (rest := []) C V cs_X_52 (c_X_isInRow X I (nI p)) rfl rfl (by decide) rfl hl.1 rfl (Nat.le_of_ble_eq_true rfl) d_X_take_2 (fun r2 u2 H locs w2 V => ?_)
  obtain ⟨rfl, q2⟩ := w2
  rw [mOf_t hp hm] at q2
  dsimp only at q2
  refine lv_if_ne (tgt := 10) C.x C.b d_X_take_5 (by decide) (fun c5 => ?_) (fun c5 => ?_)
  · have hr : ¬ aR a p = 0 := fun z => c5 (q2.trans (if_pos z))
    refine lv_aload_n C.x C.b d_X_take_10 rfl (lv_at hl 0 rfl) ?_
    refine xg_sched C V fl_X_21 d_X_take_11 ?_
    refine lv_iload_n C.x C.b d_X_take_14 rfl (lv_at hl 1 rfl) ?_
    refine g_iS (As := [.int (nI p)]) (rest := [.ref (h 2)]) C V cs_X_41 (c_X_process (Wd := XW h cI cZ) (nI p)) (by decide) rfl hl.1 rfl (Nat.le_of_ble_eq_true rfl) d_X_take_15 (fun r15 u15 H locs w15 V => ?_)
    obtain ⟨rfl, q15⟩ := w15
    obtain rfl : r15 = nI (2 * (p + 1)) := by rw [q15]; exact nk_proc p
    refine g_vV (q0 := 2) (As := [.int (nI (2 * (p + 1)))]) (rest := []) C V cs_X_101 (c_S_remove X I p hp hr) rfl rfl (by decide) rfl hl.1 rfl (Nat.le_of_ble_eq_true rfl) d_X_take_18 (fun u18 H locs w18 V => ?_)
    refine lv_iconst (v := 1) C.x C.b d_X_take_21 (by decide) ?_
    exact g_zret C _ V (by unfold o_take; rw [mOf_t hp hm]; dsimp only; rw [if_neg hr]; exact ⟨rfl, w18⟩) (by simp) d_X_take_22
  · have hr : aR a p = 0 := Classical.byContradiction (fun z => by rw [if_neg z] at q2; rw [q2] at c5; exact absurd c5 (by decide))
    refine lv_iconst (v := 0) C.x C.b d_X_take_8 (by decide) ?_
    exact g_zret C _ V (by unfold o_take; rw [mOf_t hp hm]; dsimp only; rw [if_pos hr]; exact ⟨rfl, X⟩) (by simp) d_X_take_9
theorem c_X_take (X : RX u a) (I : Inv a) (x : Int32) : gMi lx D (ty3 cI cZ cJ) (XW h cI cZ) y_X_take b_X_take 2 (some .boolean) ({ frames := 3, cells := 0, slots := 0, locals := 70 } : Room) 0 0 [.ref (h 0), .int x] (XW h cI cZ u) (fun r u' => r = (o_take a x).1 ∧ RX u' (o_take a x).2) := by
  rcases mOf_c a x with ⟨p, hp, rfl, hm, em⟩ | em
  · exact c_X_take1 X I p hp hm
  · exact c_X_take0 X I x em
set_option maxHeartbeats 200000 in
set_option maxRecDepth 20000 in
theorem c_X_rate0 (X : RX u a) (I : Inv a) (x y : Int32) (em : mOf a x = none) : gMi lx D (ty3 cI cZ cJ) (XW h cI cZ) y_X_rate b_X_rate 4 (some .int) ({ frames := 3, cells := 0, slots := 0, locals := 67 } : Room) 0 0 [.ref (h 0), .int x, .int y] ((XW h cI cZ) u) (fun r u' => r = (o_rate a x y).1 ∧ RX u' (o_rate a x y).2) := by
  refine gMi.of (by decide) (Nat.le_of_ble_eq_true rfl) (fun pg ev st md bl mt cd A ls C hmn hl V => ?_)
  have hl : lv_has ls 4 [(0, .ref (h 0)), (1, .int x), (2, .int y)] := hl
  refine lv_aload_n C.x C.b d_X_rate_0 rfl (lv_at hl 0 rfl) ?_
  refine lv_iload_n C.x C.b d_X_rate_1 rfl (lv_at hl 1 rfl) ?_
  refine g_iV (q0 := 0) (As := [.int x]) (rest := []) C V cs_X_37 (c_X_isMade X I x) rfl rfl (by decide) rfl hl.1 rfl (Nat.le_of_ble_eq_true rfl) d_X_rate_2 (fun r2 u2 H locs w2 V => ?_)
  obtain ⟨rfl, q2⟩ := w2
  rw [em] at q2
  obtain rfl : r2 = 0 := q2
  refine lv_if_eq (tgt := 15) C.x C.b d_X_rate_5 (by decide) (fun c5 => ?_) (fun c5 => ?_)
  · refine lv_iconst (v := -1) C.x C.b d_X_rate_15 (by decide) ?_
    exact g_iret C _ V (by unfold o_rate; rw [em]; exact ⟨rfl, X⟩) d_X_rate_16
  · exact absurd rfl c5
set_option maxHeartbeats 200000 in
set_option maxRecDepth 20000 in
theorem c_X_rate1 (X : RX u a) (I : Inv a) (y : Int32) (p : Nat) (hp : p < 32) (hm : aM a p = true)  : gMi lx D (ty3 cI cZ cJ) (XW h cI cZ) y_X_rate b_X_rate 4 (some .int) ({ frames := 3, cells := 0, slots := 0, locals := 67 } : Room) 0 0 [.ref (h 0), .int (nI p), .int y] ((XW h cI cZ) u) (fun r u' => r = (o_rate a (nI p) y).1 ∧ RX u' (o_rate a (nI p) y).2) := by
  refine gMi.of (by decide) (Nat.le_of_ble_eq_true rfl) (fun pg ev st md bl mt cd A ls C hmn hl V => ?_)
  have hl : lv_has ls 4 [(0, .ref (h 0)), (1, .int (nI p)), (2, .int y)] := hl
  refine lv_aload_n C.x C.b d_X_rate_0 rfl (lv_at hl 0 rfl) ?_
  refine lv_iload_n C.x C.b d_X_rate_1 rfl (lv_at hl 1 rfl) ?_
  refine g_iV (q0 := 0) (As := [.int (nI p)]) (rest := []) C V cs_X_37 (c_X_isMade X I (nI p)) rfl rfl (by decide) rfl hl.1 rfl (Nat.le_of_ble_eq_true rfl) d_X_rate_2 (fun r2 u2 H locs w2 V => ?_)
  obtain ⟨rfl, q2⟩ := w2
  rw [mOf_t hp hm] at q2
  obtain rfl : r2 = 1 := q2
  refine lv_if_eq (tgt := 15) C.x C.b d_X_rate_5 (by decide) (fun c5 => ?_) (fun c5 => ?_)
  · exact absurd c5 (by decide)
  · refine lv_iload_n C.x C.b d_X_rate_8 rfl (lv_at hl 2 rfl) ?_
    refine g_iS (As := [.int y]) (rest := []) C V cs_X_49 (c_X_isPriority (Wd := XW h cI cZ) (y)) (by decide) rfl hl.1 rfl (Nat.le_of_ble_eq_true rfl) d_X_rate_9 (fun r9 u9 H locs w9 V => ?_)
    obtain ⟨rfl, q9⟩ := w9
    refine lv_if_ne (tgt := 17) C.x C.b d_X_rate_12 (by decide) (fun c12 => ?_) (fun c12 => ?_)
    · obtain ⟨n, hn1, hn8, hy, eq⟩ : ∃ n, 1 ≤ n ∧ n ≤ 8 ∧ y = nI n ∧ qOf y = some n := by
        rcases qOf_c y with ⟨n, z1, z2, z3, z4, -⟩ | ⟨z, -⟩
        · exact ⟨n, z1, z2, z3, z4⟩
        · exact absurd (q9.trans (if_neg z)) c12
      refine lv_aload_n C.x C.b d_X_rate_17 rfl (lv_at hl 0 rfl) ?_
      refine xg_sched C V fl_X_21 d_X_rate_18 ?_
      refine lv_iload_n C.x C.b d_X_rate_21 rfl (lv_at hl 1 rfl) ?_
      refine g_iS (As := [.int (nI p)]) (rest := [.ref (h 2)]) C V cs_X_41 (c_X_process (Wd := XW h cI cZ) (nI p)) (by decide) rfl hl.1 rfl (Nat.le_of_ble_eq_true rfl) d_X_rate_22 (fun r22 u22 H locs w22 V => ?_)
      obtain ⟨rfl, q22⟩ := w22
      obtain rfl : r22 = nI (2 * (p + 1)) := by rw [q22]; exact nk_proc p
      refine g_iV (q0 := 2) (As := [.int (nI (2 * (p + 1)))]) (rest := []) C V cs_X_104 (c_S_priority X I p hp hm) rfl rfl (by decide) rfl hl.1 rfl (Nat.le_of_ble_eq_true rfl) d_X_rate_25 (fun r25 u25 H locs w25 V => ?_)
      obtain ⟨rfl, q25⟩ := w25
      obtain rfl : r25 = nI (aP a p) := q25
      refine lv_istore_n (lv' := [(3, .int (nI (aP a p))), (0, .ref (h 0)), (1, .int (nI p)), (2, .int y)]) C.x C.b d_X_rate_28 rfl hl (by decide) rfl (fun ls hl => ?_)
      refine lv_aload_n C.x C.b d_X_rate_29 rfl (lv_at hl 1 rfl) ?_
      refine xg_plain C V fl_X_10 d_X_rate_30 ?_
      refine lv_iload_n C.x C.b d_X_rate_33 rfl (lv_at hl 2 rfl) ?_
      refine g_iS (As := [.int (nI p)]) (rest := [.ref (h 1)]) C V cs_X_41 (c_X_process (Wd := XW h cI cZ) (nI p)) (by decide) rfl hl.1 rfl (Nat.le_of_ble_eq_true rfl) d_X_rate_34 (fun r34 u34 H locs w34 V => ?_)
      obtain ⟨rfl, q34⟩ := w34
      obtain rfl : r34 = nI (2 * (p + 1)) := by rw [q34]; exact nk_proc p
      refine lv_iconst (v := 2) C.x C.b d_X_rate_37 (by decide) ?_
      refine lv_iload_n C.x C.b d_X_rate_38 rfl (lv_at hl 3 rfl) ?_
      refine lv_iconst (v := 1) C.x C.b d_X_rate_39 (by decide) ?_
      refine lv_ishl C.x C.b d_X_rate_40 ?_
      refine lv_topi (fun v40 e40 => ?_)
      refine lv_iconst (v := 1) C.x C.b d_X_rate_41 (by decide) ?_
      refine lv_ior C.x C.b d_X_rate_42 ?_
      refine lv_topi (fun v42 e42 => ?_)
      obtain rfl : v42 = nI (2 * n + 1) := by rw [e42, e40, hy]; exact nk_small (by omega)
      refine g_vV (q0 := 1) (As := [.int (nI (2 * (p + 1))), .int 2, .int (nI (2 * n + 1))]) (rest := []) C V cs_X_29 (c_P_put (p + 1) 2 (nI (2 * n + 1)) (by omega) (by omega)) rfl rfl (by decide) rfl hl.1 rfl (Nat.le_of_ble_eq_true rfl) d_X_rate_43 (fun u43 H locs w43 V => ?_)
      subst w43
      refine lv_iload_n C.x C.b d_X_rate_46 rfl (lv_at hl 0 rfl) ?_
      exact g_iret C _ V (by unfold o_rate; rw [mOf_t hp hm, eq]; exact ⟨rfl, rc_prio X.1 hp, X.2⟩) d_X_rate_47
    · have eq : qOf y = none := by
        rcases qOf_c y with ⟨n, -, -, -, -, z⟩ | ⟨-, z⟩
        · rw [if_pos z] at q9; rw [q9] at c12; exact absurd c12 (by decide)
        · exact z
      refine lv_iconst (v := -1) C.x C.b d_X_rate_15 (by decide) ?_
      exact g_iret C _ V (by unfold o_rate; rw [mOf_t hp hm, eq]; exact ⟨rfl, X⟩) d_X_rate_16
theorem c_X_rate (X : RX u a) (I : Inv a) (x y : Int32) : gMi lx D (ty3 cI cZ cJ) (XW h cI cZ) y_X_rate b_X_rate 4 (some .int) ({ frames := 3, cells := 0, slots := 0, locals := 67 } : Room) 0 0 [.ref (h 0), .int x, .int y] (XW h cI cZ u) (fun r u' => r = (o_rate a x y).1 ∧ RX u' (o_rate a x y).2) := by
  rcases mOf_c a x with ⟨p, hp, rfl, hm, em⟩ | em
  · exact c_X_rate1 X I y p hp hm
  · exact c_X_rate0 X I x y em
set_option maxHeartbeats 200000 in
set_option maxRecDepth 20000 in
theorem c_X_place0 (X : RX u a) (I : Inv a) (x : Int32) (em : mOf a x = none)  : gMi lx D (ty3 cI cZ cJ) (XW h cI cZ) y_X_place b_X_place 2 (some .int) ({ frames := 1, cells := 0, slots := 0, locals := 22 } : Room) 0 0 [.ref (h 0), .int x] ((XW h cI cZ) u) (fun r u' => u = u' ∧ r = o_place a x) := by
  refine gMi.of (by decide) (Nat.le_of_ble_eq_true rfl) (fun pg ev st md bl mt cd A ls C hmn hl V => ?_)
  have hl : lv_has ls 2 [(0, .ref (h 0)), (1, .int x)] := hl
  refine lv_aload_n C.x C.b d_X_place_0 rfl (lv_at hl 0 rfl) ?_
  refine lv_iload_n C.x C.b d_X_place_1 rfl (lv_at hl 1 rfl) ?_
  refine g_iV (q0 := 0) (As := [.int x]) (rest := []) C V cs_X_37 (c_X_isMade X I x) rfl rfl (by decide) rfl hl.1 rfl (Nat.le_of_ble_eq_true rfl) d_X_place_2 (fun r2 u2 H locs w2 V => ?_)
  obtain ⟨rfl, q2⟩ := w2
  rw [em] at q2
  obtain rfl : r2 = 0 := q2
  refine lv_if_eq (tgt := 23) C.x C.b d_X_place_5 (by decide) (fun c5 => ?_) (fun c5 => ?_)
  · refine lv_iconst (v := 0) C.x C.b d_X_place_23 (by decide) ?_
    exact g_iret C _ V ⟨rfl, by unfold o_place; rw [em]⟩ d_X_place_24
  · exact absurd rfl c5
set_option maxHeartbeats 200000 in
set_option maxRecDepth 20000 in
theorem c_X_place1 (X : RX u a) (I : Inv a) (p : Nat) (hp : p < 32) (hm : aM a p = true)  : gMi lx D (ty3 cI cZ cJ) (XW h cI cZ) y_X_place b_X_place 2 (some .int) ({ frames := 1, cells := 0, slots := 0, locals := 22 } : Room) 0 0 [.ref (h 0), .int (nI p)] ((XW h cI cZ) u) (fun r u' => u = u' ∧ r = o_place a (nI p)) := by
  refine gMi.of (by decide) (Nat.le_of_ble_eq_true rfl) (fun pg ev st md bl mt cd A ls C hmn hl V => ?_)
  have hl : lv_has ls 2 [(0, .ref (h 0)), (1, .int (nI p))] := hl
  refine lv_aload_n C.x C.b d_X_place_0 rfl (lv_at hl 0 rfl) ?_
  refine lv_iload_n C.x C.b d_X_place_1 rfl (lv_at hl 1 rfl) ?_
  refine g_iV (q0 := 0) (As := [.int (nI p)]) (rest := []) C V cs_X_37 (c_X_isMade X I (nI p)) rfl rfl (by decide) rfl hl.1 rfl (Nat.le_of_ble_eq_true rfl) d_X_place_2 (fun r2 u2 H locs w2 V => ?_)
  obtain ⟨rfl, q2⟩ := w2
  rw [mOf_t hp hm] at q2
  obtain rfl : r2 = 1 := q2
  refine lv_if_eq (tgt := 23) C.x C.b d_X_place_5 (by decide) (fun c5 => ?_) (fun c5 => ?_)
  · exact absurd c5 (by decide)
  · refine lv_aload_n C.x C.b d_X_place_8 rfl (lv_at hl 0 rfl) ?_
    refine xg_plain C V fl_X_10 d_X_place_9 ?_
    refine lv_iload_n C.x C.b d_X_place_12 rfl (lv_at hl 1 rfl) ?_
    refine g_iS (As := [.int (nI p)]) (rest := [.ref (h 1)]) C V cs_X_41 (c_X_process (Wd := XW h cI cZ) (nI p)) (by decide) rfl hl.1 rfl (Nat.le_of_ble_eq_true rfl) d_X_place_13 (fun r13 u13 H locs w13 V => ?_)
    obtain ⟨rfl, q13⟩ := w13
    obtain rfl : r13 = nI (2 * (p + 1)) := by rw [q13]; exact nk_proc p
    refine lv_iconst (v := 1) C.x C.b d_X_place_16 (by decide) ?_
    refine g_iV (q0 := 1) (As := [.int (nI (2 * (p + 1))), .int 1]) (rest := []) C V cs_X_45 (c_P_get (p + 1) 1 (by omega) (by omega)) rfl rfl (by decide) rfl hl.1 rfl (Nat.le_of_ble_eq_true rfl) d_X_place_17 (fun r17 u17 H locs w17 V => ?_)
    obtain ⟨rfl, q17⟩ := w17
    refine lv_goto (tgt := 24) C.x C.b d_X_place_20 (by decide) ?_
    exact g_iret C _ V ⟨rfl, by unfold o_place; rw [mOf_t hp hm]; exact q17.trans (X.1.1 p hp)⟩ d_X_place_24
theorem c_X_place (X : RX u a) (I : Inv a) (x : Int32) : gMi lx D (ty3 cI cZ cJ) (XW h cI cZ) y_X_place b_X_place 2 (some .int) ({ frames := 1, cells := 0, slots := 0, locals := 22 } : Room) 0 0 [.ref (h 0), .int x] (XW h cI cZ u) (fun r u' => u = u' ∧ r = o_place a x) := by
  rcases mOf_c a x with ⟨p, hp, rfl, hm, em⟩ | em
  · exact c_X_place1 X I p hp hm
  · exact c_X_place0 X I x em
set_option maxHeartbeats 200000 in
set_option maxRecDepth 20000 in
theorem c_X_priority0 (X : RX u a) (I : Inv a) (x : Int32) (em : mOf a x = none)  : gMi lx D (ty3 cI cZ cJ) (XW h cI cZ) y_X_priority b_X_priority 2 (some .int) ({ frames := 3, cells := 0, slots := 0, locals := 67 } : Room) 0 0 [.ref (h 0), .int x] ((XW h cI cZ) u) (fun r u' => u = u' ∧ r = o_priority a x) := by
  refine gMi.of (by decide) (Nat.le_of_ble_eq_true rfl) (fun pg ev st md bl mt cd A ls C hmn hl V => ?_)
  have hl : lv_has ls 2 [(0, .ref (h 0)), (1, .int x)] := hl
  refine lv_aload_n C.x C.b d_X_priority_0 rfl (lv_at hl 0 rfl) ?_
  refine lv_iload_n C.x C.b d_X_priority_1 rfl (lv_at hl 1 rfl) ?_
  refine g_iV (q0 := 0) (As := [.int x]) (rest := []) C V cs_X_37 (c_X_isMade X I x) rfl rfl (by decide) rfl hl.1 rfl (Nat.le_of_ble_eq_true rfl) d_X_priority_2 (fun r2 u2 H locs w2 V => ?_)
  obtain ⟨rfl, q2⟩ := w2
  rw [em] at q2
  obtain rfl : r2 = 0 := q2
  refine lv_if_eq (tgt := 22) C.x C.b d_X_priority_5 (by decide) (fun c5 => ?_) (fun c5 => ?_)
  · refine lv_iconst (v := -1) C.x C.b d_X_priority_22 (by decide) ?_
    exact g_iret C _ V ⟨rfl, by unfold o_priority; rw [em]⟩ d_X_priority_23
  · exact absurd rfl c5
set_option maxHeartbeats 200000 in
set_option maxRecDepth 20000 in
theorem c_X_priority1 (X : RX u a) (I : Inv a) (p : Nat) (hp : p < 32) (hm : aM a p = true)  : gMi lx D (ty3 cI cZ cJ) (XW h cI cZ) y_X_priority b_X_priority 2 (some .int) ({ frames := 3, cells := 0, slots := 0, locals := 67 } : Room) 0 0 [.ref (h 0), .int (nI p)] ((XW h cI cZ) u) (fun r u' => u = u' ∧ r = o_priority a (nI p)) := by
  refine gMi.of (by decide) (Nat.le_of_ble_eq_true rfl) (fun pg ev st md bl mt cd A ls C hmn hl V => ?_)
  have hl : lv_has ls 2 [(0, .ref (h 0)), (1, .int (nI p))] := hl
  refine lv_aload_n C.x C.b d_X_priority_0 rfl (lv_at hl 0 rfl) ?_
  refine lv_iload_n C.x C.b d_X_priority_1 rfl (lv_at hl 1 rfl) ?_
  refine g_iV (q0 := 0) (As := [.int (nI p)]) (rest := []) C V cs_X_37 (c_X_isMade X I (nI p)) rfl rfl (by decide) rfl hl.1 rfl (Nat.le_of_ble_eq_true rfl) d_X_priority_2 (fun r2 u2 H locs w2 V => ?_)
  obtain ⟨rfl, q2⟩ := w2
  rw [mOf_t hp hm] at q2
  obtain rfl : r2 = 1 := q2
  refine lv_if_eq (tgt := 22) C.x C.b d_X_priority_5 (by decide) (fun c5 => ?_) (fun c5 => ?_)
  · exact absurd c5 (by decide)
  · refine lv_aload_n C.x C.b d_X_priority_8 rfl (lv_at hl 0 rfl) ?_
    refine xg_sched C V fl_X_21 d_X_priority_9 ?_
    refine lv_iload_n C.x C.b d_X_priority_12 rfl (lv_at hl 1 rfl) ?_
    refine g_iS (As := [.int (nI p)]) (rest := [.ref (h 2)]) C V cs_X_41 (c_X_process (Wd := XW h cI cZ) (nI p)) (by decide) rfl hl.1 rfl (Nat.le_of_ble_eq_true rfl) d_X_priority_13 (fun r13 u13 H locs w13 V => ?_)
    obtain ⟨rfl, q13⟩ := w13
    obtain rfl : r13 = nI (2 * (p + 1)) := by rw [q13]; exact nk_proc p
    refine g_iV (q0 := 2) (As := [.int (nI (2 * (p + 1)))]) (rest := []) C V cs_X_104 (c_S_priority X I p hp hm) rfl rfl (by decide) rfl hl.1 rfl (Nat.le_of_ble_eq_true rfl) d_X_priority_16 (fun r16 u16 H locs w16 V => ?_)
    obtain ⟨rfl, q16⟩ := w16
    refine lv_goto (tgt := 23) C.x C.b d_X_priority_19 (by decide) ?_
    exact g_iret C _ V ⟨rfl, by unfold o_priority; rw [mOf_t hp hm]; exact q16⟩ d_X_priority_23
theorem c_X_priority (X : RX u a) (I : Inv a) (x : Int32) : gMi lx D (ty3 cI cZ cJ) (XW h cI cZ) y_X_priority b_X_priority 2 (some .int) ({ frames := 3, cells := 0, slots := 0, locals := 67 } : Room) 0 0 [.ref (h 0), .int x] (XW h cI cZ u) (fun r u' => u = u' ∧ r = o_priority a x) := by
  rcases mOf_c a x with ⟨p, hp, rfl, hm, em⟩ | em
  · exact c_X_priority1 X I p hp hm
  · exact c_X_priority0 X I x em
set_option maxHeartbeats 200000 in
set_option maxRecDepth 20000 in
theorem c_X_row0 (X : RX u a) (I : Inv a) (x : Int32) (em : mOf a x = none)  : gMi lx D (ty3 cI cZ cJ) (XW h cI cZ) y_X_row b_X_row 3 (some .int) ({ frames := 1, cells := 0, slots := 0, locals := 22 } : Room) 0 0 [.ref (h 0), .int x] ((XW h cI cZ) u) (fun r u' => u = u' ∧ r = o_row a x) := by
  refine gMi.of (by decide) (Nat.le_of_ble_eq_true rfl) (fun pg ev st md bl mt cd A ls C hmn hl V => ?_)
  have hl : lv_has ls 3 [(0, .ref (h 0)), (1, .int x)] := hl
  refine lv_aload_n C.x C.b d_X_row_0 rfl (lv_at hl 0 rfl) ?_
  refine lv_iload_n C.x C.b d_X_row_1 rfl (lv_at hl 1 rfl) ?_
  refine g_iV (q0 := 0) (As := [.int x]) (rest := []) C V cs_X_37 (c_X_isMade X I x) rfl rfl (by decide) rfl hl.1 rfl (Nat.le_of_ble_eq_true rfl) d_X_row_2 (fun r2 u2 H locs w2 V => ?_)
  obtain ⟨rfl, q2⟩ := w2
  rw [em] at q2
  obtain rfl : r2 = 0 := q2
  refine lv_if_ne (tgt := 10) C.x C.b d_X_row_5 (by decide) (fun c5 => ?_) (fun c5 => ?_)
  · exact absurd rfl c5
  · refine lv_iconst (v := -1) C.x C.b d_X_row_8 (by decide) ?_
    exact g_iret C _ V ⟨rfl, by unfold o_row; rw [em]⟩ d_X_row_9
set_option maxHeartbeats 200000 in
set_option maxRecDepth 20000 in
theorem c_X_row2 (X : RX u a) (I : Inv a) (p : Nat) (hp : p < 32) (hm : aM a p = true) (hr : aR a p = 0) : gMi lx D (ty3 cI cZ cJ) (XW h cI cZ) y_X_row b_X_row 3 (some .int) ({ frames := 1, cells := 0, slots := 0, locals := 22 } : Room) 0 0 [.ref (h 0), .int (nI p)] ((XW h cI cZ) u) (fun r u' => u = u' ∧ r = o_row a (nI p)) := by
  refine gMi.of (by decide) (Nat.le_of_ble_eq_true rfl) (fun pg ev st md bl mt cd A ls C hmn hl V => ?_)
  have hl : lv_has ls 3 [(0, .ref (h 0)), (1, .int (nI p))] := hl
  refine lv_aload_n C.x C.b d_X_row_0 rfl (lv_at hl 0 rfl) ?_
  refine lv_iload_n C.x C.b d_X_row_1 rfl (lv_at hl 1 rfl) ?_
  refine g_iV (q0 := 0) (As := [.int (nI p)]) (rest := []) C V cs_X_37 (c_X_isMade X I (nI p)) rfl rfl (by decide) rfl hl.1 rfl (Nat.le_of_ble_eq_true rfl) d_X_row_2 (fun r2 u2 H locs w2 V => ?_)
  obtain ⟨rfl, q2⟩ := w2
  rw [mOf_t hp hm] at q2
  obtain rfl : r2 = 1 := q2
  refine lv_if_ne (tgt := 10) C.x C.b d_X_row_5 (by decide) (fun c5 => ?_) (fun c5 => ?_)
  · refine lv_aload_n C.x C.b d_X_row_10 rfl (lv_at hl 0 rfl) ?_
    refine xg_plain C V fl_X_10 d_X_row_11 ?_
    refine lv_iload_n C.x C.b d_X_row_14 rfl (lv_at hl 1 rfl) ?_
    refine g_iS (As := [.int (nI p)]) (rest := [.ref (h 1)]) C V cs_X_41 (c_X_process (Wd := XW h cI cZ) (nI p)) (by decide) rfl hl.1 rfl (Nat.le_of_ble_eq_true rfl) d_X_row_15 (fun r15 u15 H locs w15 V => ?_)
    obtain ⟨rfl, q15⟩ := w15
    obtain rfl : r15 = nI (2 * (p + 1)) := by rw [q15]; exact nk_proc p
    refine lv_iconst (v := 3) C.x C.b d_X_row_18 (by decide) ?_
    refine g_iV (q0 := 1) (As := [.int (nI (2 * (p + 1))), .int 3]) (rest := []) C V cs_X_45 (c_P_get (p + 1) 3 (by omega) (by omega)) rfl rfl (by decide) rfl hl.1 rfl (Nat.le_of_ble_eq_true rfl) d_X_row_19 (fun r19 u19 H locs w19 V => ?_)
    obtain ⟨rfl, q19⟩ := w19
    obtain rfl : r19 = 0 := q19.trans ((X.1.2.2.1 p hp).trans (by rw [hr]; rfl))
    refine lv_istore_n (lv' := [(2, .int 0), (0, .ref (h 0)), (1, .int (nI p))]) C.x C.b d_X_row_22 rfl hl (by decide) rfl (fun ls hl => ?_)
    refine lv_iload_n C.x C.b d_X_row_23 rfl (lv_at hl 0 rfl) ?_
    refine lv_if_ne (tgt := 31) C.x C.b d_X_row_24 (by decide) (fun c24 => ?_) (fun c24 => ?_)
    · exact absurd rfl c24
    · refine lv_iconst (v := 0) C.x C.b d_X_row_27 (by decide) ?_
      refine lv_goto (tgt := 57) C.x C.b d_X_row_28 (by decide) ?_
      exact g_iret C _ V ⟨rfl, by unfold o_row; rw [mOf_t hp hm]; dsimp only; rw [hr]; rfl⟩ d_X_row_57
  · exact absurd c5 (by decide)
set_option maxHeartbeats 200000 in
set_option maxRecDepth 20000 in
theorem c_X_row3 (X : RX u a) (I : Inv a) (p : Nat) (hp : p < 32) (hm : aM a p = true) (r : Nat) (hr : aR a p = r) (h1 : 1 ≤ r) (h8 : r ≤ 8) : gMi lx D (ty3 cI cZ cJ) (XW h cI cZ) y_X_row b_X_row 3 (some .int) ({ frames := 1, cells := 0, slots := 0, locals := 22 } : Room) 0 0 [.ref (h 0), .int (nI p)] ((XW h cI cZ) u) (fun r u' => u = u' ∧ r = o_row a (nI p)) := by
  refine gMi.of (by decide) (Nat.le_of_ble_eq_true rfl) (fun pg ev st md bl mt cd A ls C hmn hl V => ?_)
  have hl : lv_has ls 3 [(0, .ref (h 0)), (1, .int (nI p))] := hl
  refine lv_aload_n C.x C.b d_X_row_0 rfl (lv_at hl 0 rfl) ?_
  refine lv_iload_n C.x C.b d_X_row_1 rfl (lv_at hl 1 rfl) ?_
  refine g_iV (q0 := 0) (As := [.int (nI p)]) (rest := []) C V cs_X_37 (c_X_isMade X I (nI p)) rfl rfl (by decide) rfl hl.1 rfl (Nat.le_of_ble_eq_true rfl) d_X_row_2 (fun r2 u2 H locs w2 V => ?_)
  obtain ⟨rfl, q2⟩ := w2
  rw [mOf_t hp hm] at q2
  obtain rfl : r2 = 1 := q2
  refine lv_if_ne (tgt := 10) C.x C.b d_X_row_5 (by decide) (fun c5 => ?_) (fun c5 => ?_)
  · refine lv_aload_n C.x C.b d_X_row_10 rfl (lv_at hl 0 rfl) ?_
    refine xg_plain C V fl_X_10 d_X_row_11 ?_
    refine lv_iload_n C.x C.b d_X_row_14 rfl (lv_at hl 1 rfl) ?_
    refine g_iS (As := [.int (nI p)]) (rest := [.ref (h 1)]) C V cs_X_41 (c_X_process (Wd := XW h cI cZ) (nI p)) (by decide) rfl hl.1 rfl (Nat.le_of_ble_eq_true rfl) d_X_row_15 (fun r15 u15 H locs w15 V => ?_)
    obtain ⟨rfl, q15⟩ := w15
    obtain rfl : r15 = nI (2 * (p + 1)) := by rw [q15]; exact nk_proc p
    refine lv_iconst (v := 3) C.x C.b d_X_row_18 (by decide) ?_
    refine g_iV (q0 := 1) (As := [.int (nI (2 * (p + 1))), .int 3]) (rest := []) C V cs_X_45 (c_P_get (p + 1) 3 (by omega) (by omega)) rfl rfl (by decide) rfl hl.1 rfl (Nat.le_of_ble_eq_true rfl) d_X_row_19 (fun r19 u19 H locs w19 V => ?_)
    obtain ⟨rfl, q19⟩ := w19
    obtain rfl : r19 = nI (2 * (48 + r)) := q19.trans ((X.1.2.2.1 p hp).trans (by rw [hr, eR_v (Or.inl ⟨h1, h8⟩), kR_r h8]))
    refine lv_istore_n (lv' := [(2, .int (nI (2 * (48 + r)))), (0, .ref (h 0)), (1, .int (nI p))]) C.x C.b d_X_row_22 rfl hl (by decide) rfl (fun ls hl => ?_)
    refine lv_iload_n C.x C.b d_X_row_23 rfl (lv_at hl 0 rfl) ?_
    refine lv_if_ne (tgt := 31) C.x C.b d_X_row_24 (by decide) (fun c24 => ?_) (fun c24 => ?_)
    · refine lv_iload_n C.x C.b d_X_row_31 rfl (lv_at hl 0 rfl) ?_
      refine lv_bipush (v := 98) C.x C.b d_X_row_32 (by decide) ?_
      refine lv_icmp_ge (tgt := 49) C.x C.b d_X_row_34 (by decide) (fun c34 => ?_) (fun c34 => ?_)
      · refine lv_iconst (v := 1) C.x C.b d_X_row_49 (by decide) ?_
        refine lv_iload_n C.x C.b d_X_row_50 rfl (lv_at hl 0 rfl) ?_
        refine lv_bipush (v := 98) C.x C.b d_X_row_51 (by decide) ?_
        refine lv_isub C.x C.b d_X_row_53 ?_
        refine lv_topi (fun v53 e53 => ?_)
        refine lv_iconst (v := 2) C.x C.b d_X_row_54 (by decide) ?_
        refine lv_idiv C.x C.b d_X_row_55 (by decide) ?_
        refine lv_topi (fun v55 e55 => ?_)
        refine lv_iadd C.x C.b d_X_row_56 ?_
        refine lv_topi (fun v56 e56 => ?_)
        exact g_iret C _ V ⟨rfl, by unfold o_row; rw [mOf_t hp hm]; dsimp only; rw [hr]; rw [e56, e55, e53, show (98 : Int32) = nI 98 from rfl, show (2 : Int32) = nI 2 from rfl, show (1 : Int32) = nI 1 from rfl, pk_sub (by omega), pk_div (by omega) (by decide) (by decide), nI_add]; congr 1; omega⟩ d_X_row_57
      · exact absurd (nI_le (a := 98) (by omega) (by omega)) c34
    · exact absurd c24 (nI_ne0 (by omega) (by omega))
  · exact absurd c5 (by decide)
set_option maxHeartbeats 200000 in
set_option maxRecDepth 20000 in
theorem c_X_row4 (X : RX u a) (I : Inv a) (p : Nat) (hp : p < 32) (hm : aM a p = true) (r : Nat) (hr : aR a p = r) (h1 : 16 ≤ r) (h8 : r < 32) : gMi lx D (ty3 cI cZ cJ) (XW h cI cZ) y_X_row b_X_row 3 (some .int) ({ frames := 1, cells := 0, slots := 0, locals := 22 } : Room) 0 0 [.ref (h 0), .int (nI p)] ((XW h cI cZ) u) (fun r u' => u = u' ∧ r = o_row a (nI p)) := by
  refine gMi.of (by decide) (Nat.le_of_ble_eq_true rfl) (fun pg ev st md bl mt cd A ls C hmn hl V => ?_)
  have hl : lv_has ls 3 [(0, .ref (h 0)), (1, .int (nI p))] := hl
  refine lv_aload_n C.x C.b d_X_row_0 rfl (lv_at hl 0 rfl) ?_
  refine lv_iload_n C.x C.b d_X_row_1 rfl (lv_at hl 1 rfl) ?_
  refine g_iV (q0 := 0) (As := [.int (nI p)]) (rest := []) C V cs_X_37 (c_X_isMade X I (nI p)) rfl rfl (by decide) rfl hl.1 rfl (Nat.le_of_ble_eq_true rfl) d_X_row_2 (fun r2 u2 H locs w2 V => ?_)
  obtain ⟨rfl, q2⟩ := w2
  rw [mOf_t hp hm] at q2
  obtain rfl : r2 = 1 := q2
  refine lv_if_ne (tgt := 10) C.x C.b d_X_row_5 (by decide) (fun c5 => ?_) (fun c5 => ?_)
  · refine lv_aload_n C.x C.b d_X_row_10 rfl (lv_at hl 0 rfl) ?_
    refine xg_plain C V fl_X_10 d_X_row_11 ?_
    refine lv_iload_n C.x C.b d_X_row_14 rfl (lv_at hl 1 rfl) ?_
    refine g_iS (As := [.int (nI p)]) (rest := [.ref (h 1)]) C V cs_X_41 (c_X_process (Wd := XW h cI cZ) (nI p)) (by decide) rfl hl.1 rfl (Nat.le_of_ble_eq_true rfl) d_X_row_15 (fun r15 u15 H locs w15 V => ?_)
    obtain ⟨rfl, q15⟩ := w15
    obtain rfl : r15 = nI (2 * (p + 1)) := by rw [q15]; exact nk_proc p
    refine lv_iconst (v := 3) C.x C.b d_X_row_18 (by decide) ?_
    refine g_iV (q0 := 1) (As := [.int (nI (2 * (p + 1))), .int 3]) (rest := []) C V cs_X_45 (c_P_get (p + 1) 3 (by omega) (by omega)) rfl rfl (by decide) rfl hl.1 rfl (Nat.le_of_ble_eq_true rfl) d_X_row_19 (fun r19 u19 H locs w19 V => ?_)
    obtain ⟨rfl, q19⟩ := w19
    obtain rfl : r19 = nI (2 * (17 + r)) := q19.trans ((X.1.2.2.1 p hp).trans (by rw [hr, eR_v (Or.inr ⟨h1, h8⟩)]; unfold kR; rw [if_neg (by omega)]))
    refine lv_istore_n (lv' := [(2, .int (nI (2 * (17 + r)))), (0, .ref (h 0)), (1, .int (nI p))]) C.x C.b d_X_row_22 rfl hl (by decide) rfl (fun ls hl => ?_)
    refine lv_iload_n C.x C.b d_X_row_23 rfl (lv_at hl 0 rfl) ?_
    refine lv_if_ne (tgt := 31) C.x C.b d_X_row_24 (by decide) (fun c24 => ?_) (fun c24 => ?_)
    · refine lv_iload_n C.x C.b d_X_row_31 rfl (lv_at hl 0 rfl) ?_
      refine lv_bipush (v := 98) C.x C.b d_X_row_32 (by decide) ?_
      refine lv_icmp_ge (tgt := 49) C.x C.b d_X_row_34 (by decide) (fun c34 => ?_) (fun c34 => ?_)
      · exact absurd c34 (nI_ge (b := 98) (by omega) (by decide))
      · refine lv_bipush (v := 16) C.x C.b d_X_row_37 (by decide) ?_
        refine lv_iload_n C.x C.b d_X_row_39 rfl (lv_at hl 0 rfl) ?_
        refine lv_bipush (v := 66) C.x C.b d_X_row_40 (by decide) ?_
        refine lv_isub C.x C.b d_X_row_42 ?_
        refine lv_topi (fun v42 e42 => ?_)
        refine lv_iconst (v := 2) C.x C.b d_X_row_43 (by decide) ?_
        refine lv_idiv C.x C.b d_X_row_44 (by decide) ?_
        refine lv_topi (fun v44 e44 => ?_)
        refine lv_iadd C.x C.b d_X_row_45 ?_
        refine lv_topi (fun v45 e45 => ?_)
        refine lv_goto (tgt := 57) C.x C.b d_X_row_46 (by decide) ?_
        exact g_iret C _ V ⟨rfl, by unfold o_row; rw [mOf_t hp hm]; dsimp only; rw [hr]; rw [e45, e44, e42, show (66 : Int32) = nI 66 from rfl, show (2 : Int32) = nI 2 from rfl, show (16 : Int32) = nI 16 from rfl, pk_sub (by omega), pk_div (by omega) (by decide) (by decide), nI_add]; congr 1; omega⟩ d_X_row_57
    · exact absurd c24 (nI_ne0 (by omega) (by omega))
  · exact absurd c5 (by decide)
theorem c_X_row1 (X : RX u a) (I : Inv a) (p : Nat) (hp : p < 32) (hm : aM a p = true) : gMi lx D (ty3 cI cZ cJ) (XW h cI cZ) y_X_row b_X_row 3 (some .int) ({ frames := 1, cells := 0, slots := 0, locals := 22 } : Room) 0 0 [.ref (h 0), .int (nI p)] (XW h cI cZ u) (fun r u' => u = u' ∧ r = o_row a (nI p)) := by
  rcases I.row hp with z | z | z
  · exact c_X_row2 X I p hp hm z
  · exact c_X_row3 X I p hp hm _ rfl z.1 z.2
  · exact c_X_row4 X I p hp hm _ rfl z.1 z.2
theorem c_X_row (X : RX u a) (I : Inv a) (x : Int32) : gMi lx D (ty3 cI cZ cJ) (XW h cI cZ) y_X_row b_X_row 3 (some .int) ({ frames := 1, cells := 0, slots := 0, locals := 22 } : Room) 0 0 [.ref (h 0), .int x] (XW h cI cZ u) (fun r u' => u = u' ∧ r = o_row a x) := by
  rcases mOf_c a x with ⟨p, hp, rfl, hm, em⟩ | em
  · exact c_X_row1 X I p hp hm
  · exact c_X_row0 X I x em
set_option maxHeartbeats 200000 in
set_option maxRecDepth 20000 in
theorem c_X_extra0 (X : RX u a) (I : Inv a) (hB : ∀ s, aE a s < 2 ^ 20) (x : Int32) (hx : ¬ (¬ x < 0 ∧ x < 16)) (es : sOf x = none)  : gMi lx D (ty3 cI cZ cJ) (XW h cI cZ) y_X_extra b_X_extra 2 (some .int) ({ frames := 1, cells := 0, slots := 0, locals := 22 } : Room) 0 0 [.ref (h 0), .int x] ((XW h cI cZ) u) (fun r u' => u = u' ∧ r = o_extra a (x)) := by
  refine gMi.of (by decide) (Nat.le_of_ble_eq_true rfl) (fun pg ev st md bl mt cd A ls C hmn hl V => ?_)
  have hl : lv_has ls 2 [(0, .ref (h 0)), (1, .int x)] := hl
  refine lv_iload_n C.x C.b d_X_extra_0 rfl (lv_at hl 1 rfl) ?_
  refine g_iS (As := [.int x]) (rest := []) C V cs_X_74 (c_X_isSemaphore (Wd := XW h cI cZ) (x)) (by decide) rfl hl.1 rfl (Nat.le_of_ble_eq_true rfl) d_X_extra_1 (fun r1 u1 H locs w1 V => ?_)
  obtain ⟨rfl, q1⟩ := w1
  obtain rfl : r1 = 0 := by rw [q1, if_neg hx]
  refine lv_if_eq (tgt := 24) C.x C.b d_X_extra_4 (by decide) (fun c4 => ?_) (fun c4 => ?_)
  · refine lv_iconst (v := -1) C.x C.b d_X_extra_24 (by decide) ?_
    exact g_iret C _ V ⟨rfl, by unfold o_extra; rw [es]⟩ d_X_extra_25
  · exact absurd rfl c4
set_option maxHeartbeats 200000 in
set_option maxRecDepth 20000 in
theorem c_X_extra1 (X : RX u a) (I : Inv a) (hB : ∀ s, aE a s < 2 ^ 20) (s : Nat) (hs : s < 16) (es : sOf (nI s) = some s) (hx : ¬ nI s < 0 ∧ nI s < 16)  : gMi lx D (ty3 cI cZ cJ) (XW h cI cZ) y_X_extra b_X_extra 2 (some .int) ({ frames := 1, cells := 0, slots := 0, locals := 22 } : Room) 0 0 [.ref (h 0), .int (nI s)] ((XW h cI cZ) u) (fun r u' => u = u' ∧ r = o_extra a (nI s)) := by
  refine gMi.of (by decide) (Nat.le_of_ble_eq_true rfl) (fun pg ev st md bl mt cd A ls C hmn hl V => ?_)
  have hl : lv_has ls 2 [(0, .ref (h 0)), (1, .int (nI s))] := hl
  have hk : kR (16 + s) < 60 := by rw [kR_s hs]; omega
  refine lv_iload_n C.x C.b d_X_extra_0 rfl (lv_at hl 1 rfl) ?_
  refine g_iS (As := [.int (nI s)]) (rest := []) C V cs_X_74 (c_X_isSemaphore (Wd := XW h cI cZ) (nI s)) (by decide) rfl hl.1 rfl (Nat.le_of_ble_eq_true rfl) d_X_extra_1 (fun r1 u1 H locs w1 V => ?_)
  obtain ⟨rfl, q1⟩ := w1
  obtain rfl : r1 = 1 := by rw [q1, if_pos hx]
  refine lv_if_eq (tgt := 24) C.x C.b d_X_extra_4 (by decide) (fun c4 => ?_) (fun c4 => ?_)
  · exact absurd c4 (by decide)
  · refine lv_aload_n C.x C.b d_X_extra_7 rfl (lv_at hl 0 rfl) ?_
    refine xg_plain C V fl_X_10 d_X_extra_8 ?_
    refine lv_iload_n C.x C.b d_X_extra_11 rfl (lv_at hl 1 rfl) ?_
    refine g_iS (As := [.int (nI s)]) (rest := [.ref (h 1)]) C V cs_X_77 (c_X_semaphore (Wd := XW h cI cZ) (nI s)) (by decide) rfl hl.1 rfl (Nat.le_of_ble_eq_true rfl) d_X_extra_12 (fun r12 u12 H locs w12 V => ?_)
    obtain ⟨rfl, q12⟩ := w12
    obtain rfl : r12 = nI (2 * kR (16 + s)) := by rw [q12]; exact nk_sem hs
    refine lv_iconst (v := 2) C.x C.b d_X_extra_15 (by decide) ?_
    refine g_iV (q0 := 1) (As := [.int (nI (2 * kR (16 + s))), .int 2]) (rest := []) C V cs_X_45 (c_P_get (kR (16 + s)) 2 (by omega) (by omega)) rfl rfl (by decide) rfl hl.1 rfl (Nat.le_of_ble_eq_true rfl) d_X_extra_16 (fun r16 u16 H locs w16 V => ?_)
    obtain ⟨rfl, q16⟩ := w16
    obtain rfl : r16 = nI (2 * aE a s + 1) := by rw [q16, kR_s hs]; exact X.1.2.2.2.2.1 s hs
    refine lv_iconst (v := 1) C.x C.b d_X_extra_19 (by decide) ?_
    refine lv_ishr C.x C.b d_X_extra_20 ?_
    refine lv_topi (fun v20 e20 => ?_)
    refine lv_goto (tgt := 25) C.x C.b d_X_extra_21 (by decide) ?_
    exact g_iret C _ V ⟨rfl, by unfold o_extra; rw [es, e20]; exact nk_half (by have := hB s; omega)⟩ d_X_extra_25
theorem c_X_extra (X : RX u a) (I : Inv a) (hB : ∀ s, aE a s < 2 ^ 20) (x : Int32) : gMi lx D (ty3 cI cZ cJ) (XW h cI cZ) y_X_extra b_X_extra 2 (some .int) ({ frames := 1, cells := 0, slots := 0, locals := 22 } : Room) 0 0 [.ref (h 0), .int x] (XW h cI cZ u) (fun r u' => u = u' ∧ r = o_extra a (x)) := by
  rcases sOf_c x with ⟨s, hs, rfl, es, hx⟩ | ⟨hx, es⟩
  · exact c_X_extra1 X I hB s hs es hx
  · exact c_X_extra0 X I hB x hx es
set_option maxHeartbeats 200000 in
set_option maxRecDepth 20000 in
theorem c_X_posted0 (X : RX u a) (I : Inv a) (x : Int32) (hz : a_pst a x = none) : gMi lx D (ty3 cI cZ cJ) (XW h cI cZ) y_X_posted b_X_posted 3 (some .int) ({ frames := 1, cells := 0, slots := 0, locals := 21 } : Room) 0 0 [.ref (h 0), .int x] ((XW h cI cZ) u) (fun r u' => u = u' ∧ r = o_posted a x) := by
  refine gMi.of (by decide) (Nat.le_of_ble_eq_true rfl) (fun pg ev st md bl mt cd A ls C hmn hl V => ?_)
  have hl : lv_has ls 3 [(0, .ref (h 0)), (1, .int x)] := hl
  refine lv_aload_n C.x C.b d_X_posted_0 rfl (lv_at hl 0 rfl) ?_
  refine xg_sched C V fl_X_21 d_X_posted_1 ?_
  refine lv_iload_n C.x C.b d_X_posted_4 rfl (lv_at hl 1 rfl) ?_
  refine g_iV (q0 := 2) (As := [.int x]) (rest := []) C V cs_X_113 (c_S_posted X I x) rfl rfl (by decide) rfl hl.1 rfl (Nat.le_of_ble_eq_true rfl) d_X_posted_5 (fun r5 u5 H locs w5 V => ?_)
  obtain ⟨rfl, q5⟩ := w5
  obtain rfl : r5 = 0 := by rw [q5, hz]; rfl
  refine lv_istore_n (lv' := [(2, .int 0), (0, .ref (h 0)), (1, .int x)]) C.x C.b d_X_posted_8 rfl hl (by decide) rfl (fun ls hl => ?_)
  refine lv_iload_n C.x C.b d_X_posted_9 rfl (lv_at hl 0 rfl) ?_
  refine lv_if_ne (tgt := 17) C.x C.b d_X_posted_10 (by decide) (fun c10 => ?_) (fun c10 => ?_)
  · exact absurd rfl c10
  · refine lv_iconst (v := -1) C.x C.b d_X_posted_13 (by decide) ?_
    refine lv_goto (tgt := 23) C.x C.b d_X_posted_14 (by decide) ?_
    exact g_iret C _ V ⟨rfl, by unfold o_posted; rw [hz]; rfl⟩ d_X_posted_23
set_option maxHeartbeats 200000 in
set_option maxRecDepth 20000 in
theorem c_X_posted1 (X : RX u a) (I : Inv a) (x : Int32) (s : Nat) (hs : s < 16) (hz : a_pst a x = some s) : gMi lx D (ty3 cI cZ cJ) (XW h cI cZ) y_X_posted b_X_posted 3 (some .int) ({ frames := 1, cells := 0, slots := 0, locals := 21 } : Room) 0 0 [.ref (h 0), .int x] ((XW h cI cZ) u) (fun r u' => u = u' ∧ r = o_posted a x) := by
  refine gMi.of (by decide) (Nat.le_of_ble_eq_true rfl) (fun pg ev st md bl mt cd A ls C hmn hl V => ?_)
  have hl : lv_has ls 3 [(0, .ref (h 0)), (1, .int x)] := hl
  refine lv_aload_n C.x C.b d_X_posted_0 rfl (lv_at hl 0 rfl) ?_
  refine xg_sched C V fl_X_21 d_X_posted_1 ?_
  refine lv_iload_n C.x C.b d_X_posted_4 rfl (lv_at hl 1 rfl) ?_
  refine g_iV (q0 := 2) (As := [.int x]) (rest := []) C V cs_X_113 (c_S_posted X I x) rfl rfl (by decide) rfl hl.1 rfl (Nat.le_of_ble_eq_true rfl) d_X_posted_5 (fun r5 u5 H locs w5 V => ?_)
  obtain ⟨rfl, q5⟩ := w5
  obtain rfl : r5 = nI (66 + 2 * s) := by rw [q5, hz]; rfl
  refine lv_istore_n (lv' := [(2, .int (nI (66 + 2 * s))), (0, .ref (h 0)), (1, .int x)]) C.x C.b d_X_posted_8 rfl hl (by decide) rfl (fun ls hl => ?_)
  refine lv_iload_n C.x C.b d_X_posted_9 rfl (lv_at hl 0 rfl) ?_
  refine lv_if_ne (tgt := 17) C.x C.b d_X_posted_10 (by decide) (fun c10 => ?_) (fun c10 => ?_)
  · refine lv_iload_n C.x C.b d_X_posted_17 rfl (lv_at hl 0 rfl) ?_
    refine lv_bipush (v := 66) C.x C.b d_X_posted_18 (by decide) ?_
    refine lv_isub C.x C.b d_X_posted_20 ?_
    refine lv_topi (fun v20 e20 => ?_)
    refine lv_iconst (v := 2) C.x C.b d_X_posted_21 (by decide) ?_
    refine lv_idiv C.x C.b d_X_posted_22 (by decide) ?_
    refine lv_topi (fun v22 e22 => ?_)
    exact g_iret C _ V ⟨rfl, by unfold o_posted; rw [hz, e22, e20, show (66 : Int32) = nI 66 from rfl, show (2 : Int32) = nI 2 from rfl, pk_sub (by omega), pk_div (by omega) (by decide) (by decide)]; show _ = nI s; congr 1; omega⟩ d_X_posted_23
  · exact absurd c10 (nI_ne0 (by omega) (by omega))
theorem c_X_posted (X : RX u a) (I : Inv a) (x : Int32) : gMi lx D (ty3 cI cZ cJ) (XW h cI cZ) y_X_posted b_X_posted 3 (some .int) ({ frames := 1, cells := 0, slots := 0, locals := 21 } : Room) 0 0 [.ref (h 0), .int x] (XW h cI cZ u) (fun r u' => u = u' ∧ r = o_posted a x) := by
  cases hz : a_pst a x with
  | none => exact c_X_posted0 X I x hz
  | some s =>
    refine c_X_posted1 X I x s ?_ hz
    unfold a_pst at hz
    split at hz
    · exact I.pst s (List.mem_of_getElem? hz)
    · cases hz
set_option maxHeartbeats 200000 in
set_option maxRecDepth 20000 in
theorem lp_X_at {pg : Program} {ev : Env} {st : State} {md : MethodId} {args : Array Value} {bl : List Frame} {mt : Method} {cd : Code} {A : Nat → Prop} (X : RX u a) (I : Inv a) (r j : Nat) (hv : vR r) (hj : j < 2 ^ 31) (C : gC pg st md args mt cd b_X_at 6 y_X_at.cls (some .int) D (ty3 cI cZ cJ) A) : ∀ (n k : Nat), k ≤ j → j ≤ k + n → ∀ (H : Heap) (locs : List Loc) (ls : Array Slot), gV D A st ((XW h cI cZ) u) H locs → lv_has ls 6 [(0, .ref (h 0)), (2, .int (nI j)), (4, .int (eO (aQ a r)[k]?)), (5, .int (nI k))] → W pg lx ev ({ frames := 2, cells := 0, slots := 0, locals := 43 } : Room) st md args bl mt cd H locs 0 0 (MQ bl (va_Qi (fun x u' => u = u' ∧ x = eN (aQ a r)[j]?) (fun u t => gB D (ty3 cI cZ cJ) A ((XW h cI cZ) u) t) A) args st 0 0 A) (F0 md 60 ls []) := by
  intro n
  induction n with
  | zero =>
    intro k h1 h2 H locs ls V hl
    have hb : ∀ q, (aQ a r)[k]? = some q → q < 32 := fun q hq => I.b32 hv q (List.mem_of_getElem? hq)
    refine lv_iload C.x C.b d_X_at_60 (lv_at hl 3 rfl) ?_
    refine lv_iload_n C.x C.b d_X_at_62 rfl (lv_at hl 1 rfl) ?_
    refine lv_icmp_ge (tgt := 89) C.x C.b d_X_at_63 (by decide) (fun c63 => ?_) (fun c63 => ?_)
    · have hkj : k = j := by
        rcases Nat.lt_or_ge k j with z | z
        · exact absurd c63 (nI_ge z (by omega))
        · omega
      refine lv_iload C.x C.b d_X_at_89 (lv_at hl 2 rfl) ?_
      refine g_iS (As := [.int (eO (aQ a r)[k]?)]) (rest := []) C V cs_X_68 (c_X_numberOf (Wd := XW h cI cZ) (eO (aQ a r)[k]?)) (by decide) rfl hl.1 rfl (Nat.le_of_ble_eq_true rfl) d_X_at_91 (fun r91 u91 H locs w91 V => ?_)
      obtain ⟨rfl, q91⟩ := w91
      obtain rfl : r91 = eN (aQ a r)[k]? := by rw [q91]; exact nk_no hb
      exact g_iret C _ V ⟨rfl, by first | rw [hkj] | rw [hn, at_none hn (Nat.le_of_lt hkj)]⟩ d_X_at_94
    · exact absurd (nI_le (by omega) (by omega)) c63
  | succ n ih =>
    intro k h1 h2 H locs ls V hl
    have hb : ∀ q, (aQ a r)[k]? = some q → q < 32 := fun q hq => I.b32 hv q (List.mem_of_getElem? hq)
    refine lv_iload C.x C.b d_X_at_60 (lv_at hl 3 rfl) ?_
    refine lv_iload_n C.x C.b d_X_at_62 rfl (lv_at hl 1 rfl) ?_
    refine lv_icmp_ge (tgt := 89) C.x C.b d_X_at_63 (by decide) (fun c63 => ?_) (fun c63 => ?_)
    · have hkj : k = j := by
        rcases Nat.lt_or_ge k j with z | z
        · exact absurd c63 (nI_ge z (by omega))
        · omega
      refine lv_iload C.x C.b d_X_at_89 (lv_at hl 2 rfl) ?_
      refine g_iS (As := [.int (eO (aQ a r)[k]?)]) (rest := []) C V cs_X_68 (c_X_numberOf (Wd := XW h cI cZ) (eO (aQ a r)[k]?)) (by decide) rfl hl.1 rfl (Nat.le_of_ble_eq_true rfl) d_X_at_91 (fun r91 u91 H locs w91 V => ?_)
      obtain ⟨rfl, q91⟩ := w91
      obtain rfl : r91 = eN (aQ a r)[k]? := by rw [q91]; exact nk_no hb
      exact g_iret C _ V ⟨rfl, by first | rw [hkj] | rw [hn, at_none hn (Nat.le_of_lt hkj)]⟩ d_X_at_94
    · have hkj : k < j := by
        rcases Nat.lt_or_ge k j with z | z
        · exact z
        · exact absurd (nI_le z (by omega)) c63
      refine lv_iload C.x C.b d_X_at_66 (lv_at hl 2 rfl) ?_
      refine lv_if_eq (tgt := 89) C.x C.b d_X_at_68 (by decide) (fun c68 => ?_) (fun c68 => ?_)
      · have hn : (aQ a r)[k]? = none := (eO_0 hb).mp c68
        refine lv_iload C.x C.b d_X_at_89 (lv_at hl 2 rfl) ?_
        refine g_iS (As := [.int (eO (aQ a r)[k]?)]) (rest := []) C V cs_X_68 (c_X_numberOf (Wd := XW h cI cZ) (eO (aQ a r)[k]?)) (by decide) rfl hl.1 rfl (Nat.le_of_ble_eq_true rfl) d_X_at_91 (fun r91 u91 H locs w91 V => ?_)
        obtain ⟨rfl, q91⟩ := w91
        obtain rfl : r91 = eN (aQ a r)[k]? := by rw [q91]; exact nk_no hb
        exact g_iret C _ V ⟨rfl, by first | rw [hkj] | rw [hn, at_none hn (Nat.le_of_lt hkj)]⟩ d_X_at_94
      · obtain ⟨q, hq⟩ : ∃ q, (aQ a r)[k]? = some q := by
          cases z : (aQ a r)[k]? with
          | none => exact absurd (by rw [z]; rfl) c68
          | some q => exact ⟨q, rfl⟩
        have hq32 := hb q hq
        refine lv_aload_n C.x C.b d_X_at_71 rfl (lv_at hl 0 rfl) ?_
        refine xg_plain C V fl_X_10 d_X_at_72 ?_
        refine lv_iload C.x C.b d_X_at_75 (lv_at hl 2 rfl) ?_
        refine lv_iconst (v := 0) C.x C.b d_X_at_77 (by decide) ?_
        rw [hq]
        refine g_iV (q0 := 1) (As := [.int (eO (some q)), .int 0]) (rest := []) C V cs_X_45 (c_P_get (q + 1) 0 (by omega) (by omega)) rfl rfl (by decide) rfl hl.1 rfl (Nat.le_of_ble_eq_true rfl) d_X_at_78 (fun r78 u78 H locs w78 V => ?_)
        obtain ⟨rfl, q78⟩ := w78
        obtain rfl : r78 = eO (aQ a r)[k + 1]? := q78.trans (ch_at (rx_ch X hv) hq)
        refine lv_istore (lv' := [(4, .int (eO (aQ a r)[k + 1]?)), (0, .ref (h 0)), (2, .int (nI j)), (5, .int (nI k))]) C.x C.b d_X_at_81 hl (by decide) rfl (fun ls hl => ?_)
        obtain ⟨v83, e83⟩ : ∃ y : Int32, y = nI k + 1 := ⟨_, rfl⟩
        refine lv_iinc (v := v83) (lv' := [(5, .int v83), (4, .int (eO (aQ a r)[k + 1]?)), (0, .ref (h 0)), (2, .int (nI j))]) C.x C.b d_X_at_83 hl (k := 3) rfl (by rw [e83]; rfl) (by decide) rfl (fun ls hl => ?_)
        refine lv_goto (tgt := 60) C.x C.b d_X_at_86 (by decide) ?_
        refine ih (k + 1) (by omega) (by omega) H locs ls V (lv_sub (by rw [e83, nI_1] at hl; exact hl) [2, 3, 1, 0] rfl)
theorem o_at_n {x : Int32} {r j : Nat} (hj : j < 2 ^ 31) (h : rOf x = some r) : o_at a x (nI j) = eN (aQ a r)[j]? := by
  unfold o_at; rw [h]; dsimp only; rw [if_neg (nI_pos hj), nI_clamp hj]
set_option maxHeartbeats 200000 in
set_option maxRecDepth 20000 in
theorem c_X_at1 (X : RX u a) (I : Inv a) (n j : Nat) (hj : j < 2 ^ 31) (h1 : 1 ≤ n) (h8 : n ≤ 8) (er : rOf (nI n) = some n) (hx : ¬ nI n < 1 ∧ ¬ 8 < nI n) : gMi lx D (ty3 cI cZ cJ) (XW h cI cZ) y_X_at b_X_at 6 (some .int) ({ frames := 2, cells := 0, slots := 0, locals := 43 } : Room) 0 0 [.ref (h 0), .int (nI n), .int (nI j)] ((XW h cI cZ) u) (fun r u' => u = u' ∧ r = o_at a (nI n) (nI j)) := by
  refine gMi.of (by decide) (Nat.le_of_ble_eq_true rfl) (fun pg ev st md bl mt cd A ls C hmn hl V => ?_)
  have hl : lv_has ls 6 [(0, .ref (h 0)), (1, .int (nI n)), (2, .int (nI j))] := hl
  have hv : vR n := Or.inl ⟨h1, h8⟩
  have kb := kR_b hv
  refine lv_iload_n C.x C.b d_X_at_0 rfl (lv_at hl 1 rfl) ?_
  refine g_iS (As := [.int (nI n)]) (rest := []) C V cs_X_49 (c_X_isPriority (Wd := XW h cI cZ) (nI n)) (by decide) rfl hl.1 rfl (Nat.le_of_ble_eq_true rfl) d_X_at_1 (fun r1 u1 H locs w1 V => ?_)
  obtain ⟨rfl, q1⟩ := w1
  obtain rfl : r1 = 1 := by rw [q1, if_pos hx]
  refine lv_istore_n (lv' := [(3, .int 1), (0, .ref (h 0)), (1, .int (nI n)), (2, .int (nI j))]) C.x C.b d_X_at_4 rfl hl (by decide) rfl (fun ls hl => ?_)
  refine lv_iload_n C.x C.b d_X_at_5 rfl (lv_at hl 0 rfl) ?_
  refine lv_if_ne (tgt := 19) C.x C.b d_X_at_6 (by decide) (fun c6 => ?_) (fun c6 => ?_)
  · refine lv_iload_n C.x C.b d_X_at_19 rfl (lv_at hl 3 rfl) ?_
    refine lv_if_ge (tgt := 25) C.x C.b d_X_at_20 (by decide) (fun c20 => ?_) (fun c20 => ?_)
    · refine lv_aload_n C.x C.b d_X_at_25 rfl (lv_at hl 1 rfl) ?_
      refine xg_plain C V fl_X_10 d_X_at_26 ?_
      refine lv_iload_n C.x C.b d_X_at_29 rfl (lv_at hl 0 rfl) ?_
      refine lv_if_eq (tgt := 44) C.x C.b d_X_at_30 (by decide) (fun c30 => ?_) (fun c30 => ?_)
      · exact absurd c30 (by decide)
      · refine lv_aload_n C.x C.b d_X_at_33 rfl (lv_at hl 1 rfl) ?_
        refine xg_sched C V fl_X_21 d_X_at_34 ?_
        refine lv_iload_n C.x C.b d_X_at_37 rfl (lv_at hl 2 rfl) ?_
        refine g_iV (q0 := 2) (As := [.int (nI n)]) (rest := [.ref (h 1)]) C V cs_X_110 (c_S_readyRow X I n h1 h8) rfl rfl (by decide) rfl hl.1 rfl (Nat.le_of_ble_eq_true rfl) d_X_at_38 (fun r38 u38 H locs w38 V => ?_)
        obtain ⟨rfl, q38⟩ := w38
        obtain rfl : r38 = nI (2 * kR n) := q38
        refine lv_goto (tgt := 51) C.x C.b d_X_at_41 (by decide) ?_
        refine lv_iconst (v := 0) C.x C.b d_X_at_51 (by decide) ?_
        refine g_iV (q0 := 1) (As := [.int (nI (2 * kR n)), .int 0]) (rest := []) C V cs_X_45 (c_P_get (kR (n)) 0 (by omega) (by omega)) rfl rfl (by decide) rfl hl.1 rfl (Nat.le_of_ble_eq_true rfl) d_X_at_52 (fun r52 u52 H locs w52 V => ?_)
        obtain ⟨rfl, q52⟩ := w52
        obtain rfl : r52 = eO (aQ a (n))[0]? := q52.trans ((rx_first X hv).trans (by rw [List.head?_eq_getElem?]))
        refine lv_istore (lv' := [(4, .int (eO (aQ a (n))[0]?)), (3, .int 1), (0, .ref (h 0)), (1, .int (nI n)), (2, .int (nI j))]) C.x C.b d_X_at_55 hl (by decide) rfl (fun ls hl => ?_)
        refine lv_iconst (v := 0) C.x C.b d_X_at_57 (by decide) ?_
        refine lv_istore (lv' := [(5, .int 0), (4, .int (eO (aQ a (n))[0]?)), (3, .int 1), (0, .ref (h 0)), (1, .int (nI n)), (2, .int (nI j))]) C.x C.b d_X_at_58 hl (by decide) rfl (fun ls hl => ?_)
        rw [o_at_n hj er]
        exact lp_X_at X I (n) j hv hj C j 0 (by omega) (by omega) _ _ ls V (lv_sub hl [3, 5, 1, 0] rfl)
    · exact absurd (nI_pos' hj) c20
  · exact absurd c6 (by decide)
set_option maxHeartbeats 200000 in
set_option maxRecDepth 20000 in
theorem c_X_at2 (X : RX u a) (I : Inv a) (s j : Nat) (hj : j < 2 ^ 31) (hs : s < 16) (er : rOf (nI (16 + s)) = some (16 + s)) (hx : ¬ (¬ nI (16 + s) < 1 ∧ ¬ 8 < nI (16 + s))) : gMi lx D (ty3 cI cZ cJ) (XW h cI cZ) y_X_at b_X_at 6 (some .int) ({ frames := 2, cells := 0, slots := 0, locals := 43 } : Room) 0 0 [.ref (h 0), .int (nI (16 + s)), .int (nI j)] ((XW h cI cZ) u) (fun r u' => u = u' ∧ r = o_at a (nI (16 + s)) (nI j)) := by
  refine gMi.of (by decide) (Nat.le_of_ble_eq_true rfl) (fun pg ev st md bl mt cd A ls C hmn hl V => ?_)
  have hl : lv_has ls 6 [(0, .ref (h 0)), (1, .int (nI (16 + s))), (2, .int (nI j))] := hl
  have hv : vR (16 + s) := Or.inr ⟨by omega, by omega⟩
  have kb := kR_b hv
  refine lv_iload_n C.x C.b d_X_at_0 rfl (lv_at hl 1 rfl) ?_
  refine g_iS (As := [.int (nI (16 + s))]) (rest := []) C V cs_X_49 (c_X_isPriority (Wd := XW h cI cZ) (nI (16 + s))) (by decide) rfl hl.1 rfl (Nat.le_of_ble_eq_true rfl) d_X_at_1 (fun r1 u1 H locs w1 V => ?_)
  obtain ⟨rfl, q1⟩ := w1
  obtain rfl : r1 = 0 := by rw [q1, if_neg hx]
  refine lv_istore_n (lv' := [(3, .int 0), (0, .ref (h 0)), (1, .int (nI (16 + s))), (2, .int (nI j))]) C.x C.b d_X_at_4 rfl hl (by decide) rfl (fun ls hl => ?_)
  refine lv_iload_n C.x C.b d_X_at_5 rfl (lv_at hl 0 rfl) ?_
  refine lv_if_ne (tgt := 19) C.x C.b d_X_at_6 (by decide) (fun c6 => ?_) (fun c6 => ?_)
  · exact absurd rfl c6
  · refine lv_iload_n C.x C.b d_X_at_9 rfl (lv_at hl 2 rfl) ?_
    refine lv_bipush (v := 16) C.x C.b d_X_at_10 (by decide) ?_
    refine lv_isub C.x C.b d_X_at_12 ?_
    refine lv_topi (fun v12 e12 => ?_)
    obtain rfl : v12 = nI s := by rw [e12, show (16 : Int32) = nI 16 from rfl, pk_sub (by omega)]; congr 1; omega
    refine g_iS (As := [.int (nI s)]) (rest := []) C V cs_X_74 (c_X_isSemaphore (Wd := XW h cI cZ) (nI s)) (by decide) rfl hl.1 rfl (Nat.le_of_ble_eq_true rfl) d_X_at_13 (fun r13 u13 H locs w13 V => ?_)
    obtain ⟨rfl, q13⟩ := w13
    obtain rfl : r13 = 1 := by rw [q13, if_pos ⟨nI_pos (by omega), nI_lt (b := 16) hs (by decide)⟩]
    refine lv_if_eq (tgt := 23) C.x C.b d_X_at_16 (by decide) (fun c16 => ?_) (fun c16 => ?_)
    · exact absurd c16 (by decide)
    · refine lv_iload_n C.x C.b d_X_at_19 rfl (lv_at hl 3 rfl) ?_
      refine lv_if_ge (tgt := 25) C.x C.b d_X_at_20 (by decide) (fun c20 => ?_) (fun c20 => ?_)
      · refine lv_aload_n C.x C.b d_X_at_25 rfl (lv_at hl 1 rfl) ?_
        refine xg_plain C V fl_X_10 d_X_at_26 ?_
        refine lv_iload_n C.x C.b d_X_at_29 rfl (lv_at hl 0 rfl) ?_
        refine lv_if_eq (tgt := 44) C.x C.b d_X_at_30 (by decide) (fun c30 => ?_) (fun c30 => ?_)
        · refine lv_iload_n C.x C.b d_X_at_44 rfl (lv_at hl 2 rfl) ?_
          refine lv_bipush (v := 16) C.x C.b d_X_at_45 (by decide) ?_
          refine lv_isub C.x C.b d_X_at_47 ?_
          refine lv_topi (fun v47 e47 => ?_)
          obtain rfl : v47 = nI s := by rw [e47, show (16 : Int32) = nI 16 from rfl, pk_sub (by omega)]; congr 1; omega
          refine g_iS (As := [.int (nI s)]) (rest := [.ref (h 1)]) C V cs_X_77 (c_X_semaphore (Wd := XW h cI cZ) (nI s)) (by decide) rfl hl.1 rfl (Nat.le_of_ble_eq_true rfl) d_X_at_48 (fun r48 u48 H locs w48 V => ?_)
          obtain ⟨rfl, q48⟩ := w48
          obtain rfl : r48 = nI (2 * kR (16 + s)) := by rw [q48]; exact nk_sem hs
          refine lv_iconst (v := 0) C.x C.b d_X_at_51 (by decide) ?_
          refine g_iV (q0 := 1) (As := [.int (nI (2 * kR (16 + s))), .int 0]) (rest := []) C V cs_X_45 (c_P_get (kR (16 + s)) 0 (by omega) (by omega)) rfl rfl (by decide) rfl hl.1 rfl (Nat.le_of_ble_eq_true rfl) d_X_at_52 (fun r52 u52 H locs w52 V => ?_)
          obtain ⟨rfl, q52⟩ := w52
          obtain rfl : r52 = eO (aQ a (16 + s))[0]? := q52.trans ((rx_first X hv).trans (by rw [List.head?_eq_getElem?]))
          refine lv_istore (lv' := [(4, .int (eO (aQ a (16 + s))[0]?)), (3, .int 0), (0, .ref (h 0)), (1, .int (nI (16 + s))), (2, .int (nI j))]) C.x C.b d_X_at_55 hl (by decide) rfl (fun ls hl => ?_)
          refine lv_iconst (v := 0) C.x C.b d_X_at_57 (by decide) ?_
          refine lv_istore (lv' := [(5, .int 0), (4, .int (eO (aQ a (16 + s))[0]?)), (3, .int 0), (0, .ref (h 0)), (1, .int (nI (16 + s))), (2, .int (nI j))]) C.x C.b d_X_at_58 hl (by decide) rfl (fun ls hl => ?_)
          rw [o_at_n hj er]
          exact lp_X_at X I (16 + s) j hv hj C j 0 (by omega) (by omega) _ _ ls V (lv_sub hl [3, 5, 1, 0] rfl)
        · exact absurd rfl c30
      · exact absurd (nI_pos' hj) c20
set_option maxHeartbeats 200000 in
set_option maxRecDepth 20000 in
theorem c_X_at3 (X : RX u a) (I : Inv a) (x i : Int32) (er : rOf x = none) (hx : ¬ (¬ x < 1 ∧ ¬ 8 < x)) (hx2 : ¬ (¬ x < 16 ∧ x < 32)) : gMi lx D (ty3 cI cZ cJ) (XW h cI cZ) y_X_at b_X_at 6 (some .int) ({ frames := 2, cells := 0, slots := 0, locals := 43 } : Room) 0 0 [.ref (h 0), .int x, .int i] ((XW h cI cZ) u) (fun r u' => u = u' ∧ r = o_at a x i) := by
  refine gMi.of (by decide) (Nat.le_of_ble_eq_true rfl) (fun pg ev st md bl mt cd A ls C hmn hl V => ?_)
  have hl : lv_has ls 6 [(0, .ref (h 0)), (1, .int x), (2, .int i)] := hl
  refine lv_iload_n C.x C.b d_X_at_0 rfl (lv_at hl 1 rfl) ?_
  refine g_iS (As := [.int x]) (rest := []) C V cs_X_49 (c_X_isPriority (Wd := XW h cI cZ) (x)) (by decide) rfl hl.1 rfl (Nat.le_of_ble_eq_true rfl) d_X_at_1 (fun r1 u1 H locs w1 V => ?_)
  obtain ⟨rfl, q1⟩ := w1
  obtain rfl : r1 = 0 := by rw [q1, if_neg hx]
  refine lv_istore_n (lv' := [(3, .int 0), (0, .ref (h 0)), (1, .int x), (2, .int i)]) C.x C.b d_X_at_4 rfl hl (by decide) rfl (fun ls hl => ?_)
  refine lv_iload_n C.x C.b d_X_at_5 rfl (lv_at hl 0 rfl) ?_
  refine lv_if_ne (tgt := 19) C.x C.b d_X_at_6 (by decide) (fun c6 => ?_) (fun c6 => ?_)
  · exact absurd rfl c6
  · refine lv_iload_n C.x C.b d_X_at_9 rfl (lv_at hl 2 rfl) ?_
    refine lv_bipush (v := 16) C.x C.b d_X_at_10 (by decide) ?_
    refine lv_isub C.x C.b d_X_at_12 ?_
    refine lv_topi (fun v12 e12 => ?_)
    refine g_iS (As := [.int v12]) (rest := []) C V cs_X_74 (c_X_isSemaphore (Wd := XW h cI cZ) (v12)) (by decide) rfl hl.1 rfl (Nat.le_of_ble_eq_true rfl) d_X_at_13 (fun r13 u13 H locs w13 V => ?_)
    obtain ⟨rfl, q13⟩ := w13
    obtain rfl : r13 = 0 := by rw [q13, if_neg (by rw [e12]; exact fun z => hx2 (nk_16.mp z))]
    refine lv_if_eq (tgt := 23) C.x C.b d_X_at_16 (by decide) (fun c16 => ?_) (fun c16 => ?_)
    · refine lv_iconst (v := -1) C.x C.b d_X_at_23 (by decide) ?_
      exact g_iret C _ V ⟨rfl, by unfold o_at; rw [er]⟩ d_X_at_24
    · exact absurd rfl c16
set_option maxHeartbeats 200000 in
set_option maxRecDepth 20000 in
theorem c_X_at4 (X : RX u a) (I : Inv a) (x i : Int32) (hi : i < 0) : gMi lx D (ty3 cI cZ cJ) (XW h cI cZ) y_X_at b_X_at 6 (some .int) ({ frames := 2, cells := 0, slots := 0, locals := 43 } : Room) 0 0 [.ref (h 0), .int x, .int i] ((XW h cI cZ) u) (fun r u' => u = u' ∧ r = o_at a x i) := by
  refine gMi.of (by decide) (Nat.le_of_ble_eq_true rfl) (fun pg ev st md bl mt cd A ls C hmn hl V => ?_)
  have hl : lv_has ls 6 [(0, .ref (h 0)), (1, .int x), (2, .int i)] := hl
  refine lv_iload_n C.x C.b d_X_at_0 rfl (lv_at hl 1 rfl) ?_
  refine g_iS (As := [.int x]) (rest := []) C V cs_X_49 (c_X_isPriority (Wd := XW h cI cZ) (x)) (by decide) rfl hl.1 rfl (Nat.le_of_ble_eq_true rfl) d_X_at_1 (fun r1 u1 H locs w1 V => ?_)
  obtain ⟨rfl, q1⟩ := w1
  refine lv_istore_n (lv' := [(3, .int r1), (0, .ref (h 0)), (1, .int x), (2, .int i)]) C.x C.b d_X_at_4 rfl hl (by decide) rfl (fun ls hl => ?_)
  refine lv_iload_n C.x C.b d_X_at_5 rfl (lv_at hl 0 rfl) ?_
  refine lv_if_ne (tgt := 19) C.x C.b d_X_at_6 (by decide) (fun c6 => ?_) (fun c6 => ?_)
  · refine lv_iload_n C.x C.b d_X_at_19 rfl (lv_at hl 3 rfl) ?_
    refine lv_if_ge (tgt := 25) C.x C.b d_X_at_20 (by decide) (fun c20 => ?_) (fun c20 => ?_)
    · exact absurd c20 (Int32.not_le.mpr hi)
    · refine lv_iconst (v := -1) C.x C.b d_X_at_23 (by decide) ?_
      exact g_iret C _ V ⟨rfl, by unfold o_at; cases rOf x with | none => rfl | some r => dsimp only; rw [if_pos hi]⟩ d_X_at_24
  · refine lv_iload_n C.x C.b d_X_at_9 rfl (lv_at hl 2 rfl) ?_
    refine lv_bipush (v := 16) C.x C.b d_X_at_10 (by decide) ?_
    refine lv_isub C.x C.b d_X_at_12 ?_
    refine lv_topi (fun v12 e12 => ?_)
    refine g_iS (As := [.int v12]) (rest := []) C V cs_X_74 (c_X_isSemaphore (Wd := XW h cI cZ) (v12)) (by decide) rfl hl.1 rfl (Nat.le_of_ble_eq_true rfl) d_X_at_13 (fun r13 u13 H locs w13 V => ?_)
    obtain ⟨rfl, q13⟩ := w13
    refine lv_if_eq (tgt := 23) C.x C.b d_X_at_16 (by decide) (fun c16 => ?_) (fun c16 => ?_)
    · refine lv_iconst (v := -1) C.x C.b d_X_at_23 (by decide) ?_
      exact g_iret C _ V ⟨rfl, by unfold o_at; cases rOf x with | none => rfl | some r => dsimp only; rw [if_pos hi]⟩ d_X_at_24
    · refine lv_iload_n C.x C.b d_X_at_19 rfl (lv_at hl 3 rfl) ?_
      refine lv_if_ge (tgt := 25) C.x C.b d_X_at_20 (by decide) (fun c20 => ?_) (fun c20 => ?_)
      · exact absurd c20 (Int32.not_le.mpr hi)
      · refine lv_iconst (v := -1) C.x C.b d_X_at_23 (by decide) ?_
        exact g_iret C _ V ⟨rfl, by unfold o_at; cases rOf x with | none => rfl | some r => dsimp only; rw [if_pos hi]⟩ d_X_at_24
theorem c_X_at (X : RX u a) (I : Inv a) (x i : Int32) : gMi lx D (ty3 cI cZ cJ) (XW h cI cZ) y_X_at b_X_at 6 (some .int) ({ frames := 2, cells := 0, slots := 0, locals := 43 } : Room) 0 0 [.ref (h 0), .int x, .int i] (XW h cI cZ u) (fun r u' => u = u' ∧ r = o_at a x i) := by
  by_cases hi : i < 0
  · exact c_X_at4 X I x i hi
  · obtain ⟨j, hj, rfl⟩ := nI_of hi
    rcases rOf_c x with ⟨n, h1, h8, rfl, er, hx⟩ | ⟨s, hs, rfl, er, hx, -⟩ | ⟨er, hx, hx2⟩
    · exact c_X_at1 X I n j hj h1 h8 er hx
    · exact c_X_at2 X I s j hj hs er hx
    · exact c_X_at3 X I x (nI j) er hx hx2
end
end
section
/-! the model's state holds the value -/
def RM (w : MS) (a : AS) : Prop :=
  (∀ p, p < 32 → mM w p = if aM a p = true then 1 else 0) ∧ (∀ p, p < 32 → mP w p = nI (aP a p)) ∧ (∀ p, p < 32 → mL w p = aL a p) ∧ (∀ p, p < 32 → mR w p = nI (aR a p)) ∧ (∀ p, p < 32 → mT w p = lN (aT a p)) ∧ (∀ s, s < 16 → mE w s = nI (aE a s)) ∧ (∀ i s, (aO a)[i]? = some s → mO w i = nI s) ∧ mN w = lN (aN a) ∧ mK w = nI (aO a).length ∧ mA w = eN (aA a) ∧ mH w = aH a ∧ mW w = (if aW a = true then 1 else 0) ∧ mC w = eN (aC a)
section
variable {w : MS} {a : AS}
theorem RM.md (X : RM w a) {p : Nat} (h : p < 32) : mM w p = if aM a p = true then 1 else 0 := X.1 p h
theorem RM.pr (X : RM w a) {p : Nat} (h : p < 32) : mP w p = nI (aP a p) := X.2.1 p h
theorem RM.pl (X : RM w a) {p : Nat} (h : p < 32) : mL w p = aL a p := X.2.2.1 p h
theorem RM.rw (X : RM w a) {p : Nat} (h : p < 32) : mR w p = nI (aR a p) := X.2.2.2.1 p h
theorem RM.tm (X : RM w a) {p : Nat} (h : p < 32) : mT w p = lN (aT a p) := X.2.2.2.2.1 p h
theorem RM.ex (X : RM w a) {s : Nat} (h : s < 16) : mE w s = nI (aE a s) := X.2.2.2.2.2.1 s h
theorem RM.ps (X : RM w a) {i s : Nat} (h : (aO a)[i]? = some s) : mO w i = nI s := X.2.2.2.2.2.2.1 i s h
theorem RM.nw (X : RM w a) : mN w = lN (aN a) := X.2.2.2.2.2.2.2.1
theorem RM.ln (X : RM w a) : mK w = nI (aO a).length := X.2.2.2.2.2.2.2.2.1
theorem RM.ac (X : RM w a) : mA w = eN (aA a) := X.2.2.2.2.2.2.2.2.2.1
theorem RM.he (X : RM w a) : mH w = aH a := X.2.2.2.2.2.2.2.2.2.2.1
theorem RM.wa (X : RM w a) : mW w = if aW a = true then 1 else 0 := X.2.2.2.2.2.2.2.2.2.2.2.1
theorem RM.cg (X : RM w a) : mC w = eN (aC a) := X.2.2.2.2.2.2.2.2.2.2.2.2
/-- what 'find' reads -/
def RF (w : MS) (a : AS) : Prop := (∀ p, p < 32 → mM w p = if aM a p = true then 1 else 0) ∧ (∀ p, p < 32 → mR w p = nI (aR a p)) ∧ ∀ p, p < 32 → mT w p = lN (aT a p)
theorem RM.f (X : RM w a) : RF w a := ⟨X.1, X.2.2.2.1, X.2.2.2.2.1⟩
theorem RF.md (X : RF w a) {p : Nat} (h : p < 32) : mM w p = if aM a p = true then 1 else 0 := X.1 p h
theorem RF.rw (X : RF w a) {p : Nat} (h : p < 32) : mR w p = nI (aR a p) := X.2.1 p h
theorem RF.tm (X : RF w a) {p : Nat} (h : p < 32) : mT w p = lN (aT a p) := X.2.2 p h
theorem eN_neg {o : Option Nat} (hb : ∀ p, o = some p → p < 32) : eN o < 0 ↔ o = none := by
  cases o with
  | none => exact ⟨fun _ => rfl, fun _ => by decide⟩
  | some p =>
    have := hb p rfl
    exact ⟨fun h => absurd h (nI_pos (by omega)), fun h => by cases h⟩
theorem eN_ge {o : Option Nat} (hb : ∀ p, o = some p → p < 32) : 0 ≤ eN o ↔ o ≠ none := by
  rw [← Int32.not_lt, eN_neg hb]
theorem eN_i {o o' : Option Nat} (hb : ∀ p, o = some p → p < 32) (hb' : ∀ p, o' = some p → p < 32) : eN o = eN o' ↔ o = o' := by
  refine ⟨fun h => ?_, fun h => by rw [h]⟩
  cases o with
  | none =>
    have : eN o' < 0 := by rw [← h]; decide
    exact ((eN_neg hb').mp this).symm
  | some p =>
    cases o' with
    | none =>
      have : eN (some p) < 0 := by rw [h]; decide
      exact (eN_neg hb).mp this
    | some q =>
      have h1 := hb p rfl
      have h2 := hb' q rfl
      rw [(nI_eq (by omega) (by omega)).mp (show nI p = nI q from h)]
theorem lc_ge {x y : Nat} (hx : x < 2 ^ 62) (hy : y < 2 ^ 62) : 0 ≤ lg_cmp (lN x) (lN y) ↔ y ≤ x := by
  rw [lg_cmp_ge, pk_lLE (by omega) (by omega)]
theorem lc_le {x y : Nat} (hx : x < 2 ^ 62) (hy : y < 2 ^ 62) : lg_cmp (lN x) (lN y) ≤ 0 ↔ x ≤ y := by
  rw [lg_cmp_le, pk_lLE (by omega) (by omega)]
/-- rounds that are left, as the loop counts them -/
def eB : Nat → Int32
  | 0 => -1
  | m + 1 => nI m
theorem eB_1 (m : Nat) : eB (m + 1) - 1 = eB m := by
  cases m with
  | zero => rfl
  | succ m => exact nI_pred m
/-- who may be next, behind lo -/
def cand (a : AS) (r : Nat) (lo : Option Nat) (p : Nat) : Prop := aR a p = r ∧ ∀ l, lo = some l → aT a l < aT a p
def best (a : AS) (r : Nat) (lo : Option Nat) (q : Nat) : Option Nat → Prop
  | none => ∀ p, p < q → ¬ cand a r lo p
  | some x => x < q ∧ cand a r lo x ∧ ∀ p, p < q → cand a r lo p → aT a x ≤ aT a p
theorem best_0 {r : Nat} {lo : Option Nat} : best a r lo 0 none := fun p h => by omega
theorem best_no {r q : Nat} {lo b : Option Nat} (h : best a r lo q b) (hc : ¬ cand a r lo q) : best a r lo (q + 1) b := by
  cases b with
  | none =>
    intro p hp
    by_cases e : p = q
    · subst e; exact hc
    · exact h p (by omega)
  | some x =>
    refine ⟨by have := h.1; omega, h.2.1, fun p hp hcp => ?_⟩
    by_cases e : p = q
    · subst e; exact absurd hcp hc
    · exact h.2.2 p (by omega) hcp
theorem best_old {r q x : Nat} {lo : Option Nat} (h : best a r lo q (some x)) (hc : aT a x ≤ aT a q) : best a r lo (q + 1) (some x) := by
  refine ⟨by have := h.1; omega, h.2.1, fun p hp hcp => ?_⟩
  by_cases e : p = q
  · subst e; exact hc
  · exact h.2.2 p (by omega) hcp
theorem best_new {r q : Nat} {lo b : Option Nat} (h : best a r lo q b) (hc : cand a r lo q) (hb : ∀ x, b = some x → aT a q < aT a x) : best a r lo (q + 1) (some q) := by
  refine ⟨by omega, hc, fun p hp hcp => ?_⟩
  by_cases e : p = q
  · subst e; exact Nat.le_refl _
  · cases b with
    | none => exact absurd hcp (h p (by omega))
    | some x => exact Nat.le_trans (Nat.le_of_lt (hb x rfl)) (h.2.2 p (by omega) hcp)
/-- the k-th of a row is the next one behind the one ahead of it -/
def lst (L : List Nat) : Nat → Option Nat
  | 0 => none
  | k + 1 => L[k]?
theorem srt_lt {L : List Nat} {T : Nat → Nat} (h : L.Pairwise (fun x y => T x < T y)) {i j x y : Nat} (hij : i < j) (hx : L[i]? = some x) (hy : L[j]? = some y) : T x < T y := by
  obtain ⟨h1, e1⟩ := List.getElem?_eq_some_iff.mp hx
  obtain ⟨h2, e2⟩ := List.getElem?_eq_some_iff.mp hy
  rw [← e1, ← e2]
  exact List.pairwise_iff_getElem.mp h i j h1 h2 hij
theorem best_is (I : Inv a) {r k : Nat} (hv : vR r) (hk : k = 0 ∨ ∃ l, lst (aQ a r) k = some l) {b : Option Nat} (h : best a r (lst (aQ a r) k) 32 b) : b = (aQ a r)[k]? := by
  have hs := I.srt hv
  have inQ : ∀ p, p < 32 → aR a p = r → ∃ i, (aQ a r)[i]? = some p := fun p hp hr => List.getElem?_of_mem ((I.mem hv).mpr ⟨hp, hr⟩)
  have hcand : ∀ i x, (aQ a r)[i]? = some x → (cand a r (lst (aQ a r) k) x ↔ k ≤ i) := by
    intro i x hx
    have hm := (I.mem hv).mp (List.mem_of_getElem? hx)
    unfold cand
    cases k with
    | zero => exact ⟨fun _ => Nat.zero_le _, fun _ => ⟨hm.2, fun l hl => by cases hl⟩⟩
    | succ k =>
      constructor
      · intro hc
        rcases hk with z | ⟨l, hl⟩
        · omega
        · have ht := hc.2 l hl
          have hl : (aQ a r)[k]? = some l := hl
          rcases Nat.lt_or_ge k i with z | z
          · exact z
          · rcases Nat.lt_or_eq_of_le z with z | z
            · have := srt_lt hs z hx hl; omega
            · subst z; rw [hl] at hx; cases hx; omega
      · intro hi
        refine ⟨hm.2, fun l hl => ?_⟩
        have hl : (aQ a r)[k]? = some l := hl
        exact srt_lt hs (by omega) hl hx
  cases hq : (aQ a r)[k]? with
  | none =>
    cases b with
    | none => rfl
    | some x =>
      obtain ⟨hx, hc, -⟩ := h
      obtain ⟨i, hi⟩ := inQ x hx hc.1
      have := (hcand i x hi).mp hc
      have h1 := (List.getElem?_eq_some_iff.mp hi).1
      rw [List.getElem?_eq_none_iff] at hq
      omega
  | some y =>
    have hy := (I.mem hv).mp (List.mem_of_getElem? hq)
    have hcy := (hcand k y hq).mpr (Nat.le_refl _)
    cases b with
    | none => exact absurd hcy (h y hy.1)
    | some x =>
      obtain ⟨hx, hc, hmin⟩ := h
      obtain ⟨i, hi⟩ := inQ x hx hc.1
      have hki := (hcand i x hi).mp hc
      have hle := hmin y hy.1 hcy
      rcases Nat.lt_or_eq_of_le hki with z | z
      · have := srt_lt hs z hq hi; omega
      · subst z; rw [hq] at hi; exact hi.symm
end
section
variable {lx : Launch} {D : va_G} {h : Nat → Nat} {cI cZ cJ : ClassId}
variable {w : MS} {a : AS}
set_option maxHeartbeats 200000 in
set_option maxRecDepth 20000 in
theorem lp_M_find2 {pg : Program} {ev : Env} {st : State} {md : MethodId} {args : Array Value} {bl : List Frame} {mt : Method} {cd : Code} {A : Nat → Prop} {Q : State → Prop} (X : RF w a) (I : Inv a) (hT : aN a < 2 ^ 60) (r q : Nat) (lo b : Option Nat) (bf z : Int32) (hv : vR r) (hl32 : ∀ x, lo = some x → x < 32 ∧ aT a x < 2 ^ 60) (hb32 : ∀ x, b = some x → x < 32 ∧ aT a x < 2 ^ 60) (hq : q < 32) (hbst : best a r lo q b) (hz : (z = 0 ∧ ¬ ∀ l, lo = some l → aT a l < aT a q) ∨ (z = 1 ∧ ∀ l, lo = some l → aT a l < aT a q)) (C : gC pg st md args mt cd b_M_find 8 y_M_find.cls (some .int) D (ty3 cI cZ cJ) A) (K : ∀ (b2 : Option Nat), best a r lo (q + 1) b2 → ∀ (H : Heap) (locs : List Loc) (ls : Array Slot), gV D A st (MW h cI cZ cJ w) H locs → lv_has ls 8 [(0, .ref (h 0)), (1, .int (nI r)), (3, .int bf), (4, .int (eN lo)), (5, .int (eN b)), (6, .int (nI q))] → W pg lx ev ({ frames := 0, cells := 0, slots := 0, locals := 0 } : Room) st md args bl mt cd H locs 0 0 Q (F0 md 108 ls [.int (eN b2)])) : ∀ (H : Heap) (locs : List Loc) (ls : Array Slot), gV D A st (MW h cI cZ cJ w) H locs → lv_has ls 8 [(0, .ref (h 0)), (1, .int (nI r)), (3, .int bf), (4, .int (eN lo)), (5, .int (eN b)), (6, .int (nI q))] → W pg lx ev ({ frames := 0, cells := 0, slots := 0, locals := 0 } : Room) st md args bl mt cd H locs 0 0 Q (F0 md 50 ls [.int z]) := by
  intro H locs ls V hl
  refine lv_istore (lv' := [(7, .int z), (0, .ref (h 0)), (1, .int (nI r)), (3, .int bf), (4, .int (eN lo)), (5, .int (eN b)), (6, .int (nI q))]) C.x C.b d_M_find_50 hl (by decide) rfl (fun ls hl => ?_)
  refine lv_aload_n C.x C.b d_M_find_52 rfl (lv_at hl 1 rfl) ?_
  refine mg_made C V fl_M_7 d_M_find_53 ?_
  refine lv_iload C.x C.b d_M_find_56 (lv_at hl 6 rfl) ?_
  refine ma_made (q) C V rfl hq d_M_find_58 ?_
  refine lv_topi (fun v58 e58 => ?_)
  refine lv_if_eq (tgt := 106) C.x C.b d_M_find_59 (by decide) (fun c59 => ?_) (fun c59 => ?_)
  · have hnc : ¬ cand a r lo q := fun z => by
      have hm := I.mad hq (by rw [z.1]; exact hv.pos)
      rw [e58, X.md hq, if_pos hm] at c59
      exact absurd c59 (by decide)
    refine lv_iload C.x C.b d_M_find_106 (lv_at hl 5 rfl) ?_
    exact K _ (by first | exact best_no hbst hnc | exact hold) H locs ls V (lv_sub hl [1, 2, 3, 4, 5, 6] rfl)
  · refine lv_aload_n C.x C.b d_M_find_62 rfl (lv_at hl 1 rfl) ?_
    refine mg_rows C V fl_M_20 d_M_find_63 ?_
    refine lv_iload C.x C.b d_M_find_66 (lv_at hl 6 rfl) ?_
    refine ma_rows (q) C V rfl hq d_M_find_68 ?_
    refine lv_topi (fun v68 e68 => ?_)
    refine lv_iload_n C.x C.b d_M_find_69 rfl (lv_at hl 2 rfl) ?_
    refine lv_icmp_ne (tgt := 106) C.x C.b d_M_find_70 (by decide) (fun c70 => ?_) (fun c70 => ?_)
    · have hnc : ¬ cand a r lo q := fun z => c70 (by rw [e68, X.rw hq, z.1])
      refine lv_iload C.x C.b d_M_find_106 (lv_at hl 5 rfl) ?_
      exact K _ (by first | exact best_no hbst hnc | exact hold) H locs ls V (lv_sub hl [1, 2, 3, 4, 5, 6] rfl)
    · have hr : aR a q = r := by
        have hvr : r < 32 := by unfold vR at hv; omega
        have hq32 : aR a q < 32 := by rcases I.row hq with z | z; rw [z]; decide; unfold vR at z; omega
        exact (nI_eq (by omega) (by omega)).mp (by rw [← X.rw hq, ← e68]; exact c70)
      have tq : aT a q < 2 ^ 62 := by have := I.tim hq (by rw [hr]; exact hv.pos); omega
      refine lv_iload C.x C.b d_M_find_73 (lv_at hl 0 rfl) ?_
      refine lv_if_eq (tgt := 106) C.x C.b d_M_find_75 (by decide) (fun c75 => ?_) (fun c75 => ?_)
      · have hnc : ¬ cand a r lo q := fun hc => by
          rcases hz with ⟨-, z⟩ | ⟨z, -⟩
          · exact z hc.2
          · rw [z] at c75; exact absurd c75 (by decide)
        refine lv_iload C.x C.b d_M_find_106 (lv_at hl 5 rfl) ?_
        exact K _ (by first | exact best_no hbst hnc | exact hold) H locs ls V (lv_sub hl [1, 2, 3, 4, 5, 6] rfl)
      · have hlat : ∀ l, lo = some l → aT a l < aT a q := by
          rcases hz with ⟨z, -⟩ | ⟨-, z⟩
          · exact absurd z c75
          · exact z
        refine lv_iload C.x C.b d_M_find_78 (lv_at hl 5 rfl) ?_
        refine lv_if_lt (tgt := 101) C.x C.b d_M_find_80 (by decide) (fun c80 => ?_) (fun c80 => ?_)
        · have hbn : ∀ x, b = some x → aT a q < aT a x := by rw [(eN_neg (fun p hp => (hb32 p hp).1)).mp c80]; exact fun x hx => by cases hx
          refine lv_iload C.x C.b d_M_find_101 (lv_at hl 6 rfl) ?_
          refine lv_goto (tgt := 108) C.x C.b d_M_find_103 (by decide) ?_
          exact K (some q) (best_new hbst ⟨hr, hlat⟩ (by first | exact hbn | exact fun x hx => by cases hx; exact Nat.lt_of_not_le (fun z => c98 (by rw [e97, e89, e96, X.tm hq, X.tm hx2.1]; exact (lc_ge tq hx2.2).mpr z)))) H locs ls V (lv_sub hl [1, 2, 3, 4, 5, 6] rfl)
        · obtain ⟨x, hx⟩ : ∃ x, b = some x := by
            cases b with
            | none => exact absurd (by decide) c80
            | some x => exact ⟨x, rfl⟩
          have hx2 : x < 32 ∧ aT a x < 2 ^ 62 := ⟨(hb32 x hx).1, by have := (hb32 x hx).2; omega⟩
          subst hx
          refine lv_aload_n C.x C.b d_M_find_83 rfl (lv_at hl 1 rfl) ?_
          refine mg_when C V fl_M_23 d_M_find_84 ?_
          refine lv_iload C.x C.b d_M_find_87 (lv_at hl 6 rfl) ?_
          refine ma_when (q) C V rfl hq d_M_find_89 ?_
          refine lv_topl (fun v89 e89 => ?_)
          refine lv_aload_n C.x C.b d_M_find_90 rfl (lv_at hl 1 rfl) ?_
          refine mg_when C V fl_M_23 d_M_find_91 ?_
          refine lv_iload C.x C.b d_M_find_94 (lv_at hl 5 rfl) ?_
          refine ma_when (x) C V rfl hx2.1 d_M_find_96 ?_
          refine lv_topl (fun v96 e96 => ?_)
          refine W.lcmp C.x C.b d_M_find_97 ?_
          refine lv_topi (fun v97 e97 => ?_)
          refine lv_if_ge (tgt := 106) C.x C.b d_M_find_98 (by decide) (fun c98 => ?_) (fun c98 => ?_)
          · have hold : best a r lo (q + 1) (some x) := best_old hbst ((lc_ge tq hx2.2).mp (by rw [e97, e89, e96, X.tm hq, X.tm hx2.1] at c98; exact c98))
            refine lv_iload C.x C.b d_M_find_106 (lv_at hl 5 rfl) ?_
            exact K _ (by first | exact best_no hbst hnc | exact hold) H locs ls V (lv_sub hl [1, 2, 3, 4, 5, 6] rfl)
          · refine lv_iload C.x C.b d_M_find_101 (lv_at hl 6 rfl) ?_
            refine lv_goto (tgt := 108) C.x C.b d_M_find_103 (by decide) ?_
            exact K (some q) (best_new hbst ⟨hr, hlat⟩ (by first | exact hbn | exact fun x hx => by cases hx; exact Nat.lt_of_not_le (fun z => c98 (by rw [e97, e89, e96, X.tm hq, X.tm hx2.1]; exact (lc_ge tq hx2.2).mpr z)))) H locs ls V (lv_sub hl [1, 2, 3, 4, 5, 6] rfl)
set_option maxHeartbeats 200000 in
set_option maxRecDepth 20000 in
theorem lp_M_find1 {pg : Program} {ev : Env} {st : State} {md : MethodId} {args : Array Value} {bl : List Frame} {mt : Method} {cd : Code} {A : Nat → Prop} {Q : State → Prop} (X : RF w a) (I : Inv a) (hT : aN a < 2 ^ 60) (htt : ∀ p, p < 32 → aT a p < 2 ^ 60) (r q : Nat) (lo b : Option Nat) (bf : Int32) (hv : vR r) (hl32 : ∀ x, lo = some x → x < 32 ∧ aT a x < 2 ^ 60) (hb32 : ∀ x, b = some x → x < 32 ∧ aT a x < 2 ^ 60) (hq : q < 32) (hbst : best a r lo q b) (C : gC pg st md args mt cd b_M_find 8 y_M_find.cls (some .int) D (ty3 cI cZ cJ) A) (K : ∀ (b2 : Option Nat), best a r lo (q + 1) b2 → ∀ (H : Heap) (locs : List Loc) (ls : Array Slot), gV D A st (MW h cI cZ cJ w) H locs → lv_has ls 8 [(0, .ref (h 0)), (1, .int (nI r)), (3, .int bf), (4, .int (eN lo)), (5, .int (eN b)), (6, .int (nI q))] → W pg lx ev ({ frames := 0, cells := 0, slots := 0, locals := 0 } : Room) st md args bl mt cd H locs 0 0 Q (F0 md 108 ls [.int (eN b2)])) : ∀ (H : Heap) (locs : List Loc) (ls : Array Slot), gV D A st (MW h cI cZ cJ w) H locs → lv_has ls 8 [(0, .ref (h 0)), (1, .int (nI r)), (3, .int bf), (4, .int (eN lo)), (5, .int (eN b)), (6, .int (nI q))] → W pg lx ev ({ frames := 0, cells := 0, slots := 0, locals := 0 } : Room) st md args bl mt cd H locs 0 0 Q (F0 md 15 ls []) := by
  intro H locs ls V hl
  have tq : aT a q < 2 ^ 62 := by have := htt q hq; omega
  refine lv_iload C.x C.b d_M_find_15 (lv_at hl 5 rfl) ?_
  refine lv_bipush (v := 32) C.x C.b d_M_find_17 (by decide) ?_
  refine lv_icmp_ge (tgt := 116) C.x C.b d_M_find_19 (by decide) (fun c19 => ?_) (fun c19 => ?_)
  · exact absurd c19 (nI_ge (b := 32) hq (by decide))
  · refine lv_iload C.x C.b d_M_find_22 (lv_at hl 3 rfl) ?_
    refine lv_if_lt (tgt := 45) C.x C.b d_M_find_24 (by decide) (fun c24 => ?_) (fun c24 => ?_)
    · have hlo := (eN_neg (fun p hp => (hl32 p hp).1)).mp c24
      refine lv_iconst (v := 1) C.x C.b d_M_find_45 (by decide) ?_
      refine lv_goto (tgt := 50) C.x C.b d_M_find_46 (by decide) ?_
      exact lp_M_find2 X I hT r q _ b bf _ hv hl32 hb32 hq hbst (by first | exact Or.inr ⟨rfl, fun l hl => by rw [hlo] at hl; cases hl⟩ | exact Or.inr ⟨rfl, hla⟩ | exact Or.inl ⟨rfl, hnl⟩) C K H locs ls V (lv_sub hl [0, 1, 2, 3, 4, 5] rfl)
    · obtain ⟨y, hy⟩ : ∃ y, lo = some y := by
        cases lo with
        | none => exact absurd (by decide) c24
        | some y => exact ⟨y, rfl⟩
      have hy2 : y < 32 ∧ aT a y < 2 ^ 62 := ⟨(hl32 y hy).1, by have := (hl32 y hy).2; omega⟩
      subst hy
      refine lv_aload_n C.x C.b d_M_find_27 rfl (lv_at hl 0 rfl) ?_
      refine mg_when C V fl_M_23 d_M_find_28 ?_
      refine lv_iload C.x C.b d_M_find_31 (lv_at hl 5 rfl) ?_
      refine ma_when (q) C V rfl hq d_M_find_33 ?_
      refine lv_topl (fun v33 e33 => ?_)
      refine lv_aload_n C.x C.b d_M_find_34 rfl (lv_at hl 0 rfl) ?_
      refine mg_when C V fl_M_23 d_M_find_35 ?_
      refine lv_iload C.x C.b d_M_find_38 (lv_at hl 3 rfl) ?_
      refine ma_when (y) C V rfl hy2.1 d_M_find_40 ?_
      refine lv_topl (fun v40 e40 => ?_)
      refine W.lcmp C.x C.b d_M_find_41 ?_
      refine lv_topi (fun v41 e41 => ?_)
      refine lv_if_le (tgt := 49) C.x C.b d_M_find_42 (by decide) (fun c42 => ?_) (fun c42 => ?_)
      · have hnl : ¬ ∀ l, some y = some l → aT a l < aT a q := fun z => by
          have := z y rfl
          rw [e41, e33, e40, X.tm hq, X.tm hy2.1] at c42
          have := (lc_le tq hy2.2).mp c42
          omega
        refine lv_iconst (v := 0) C.x C.b d_M_find_49 (by decide) ?_
        exact lp_M_find2 X I hT r q _ b bf _ hv hl32 hb32 hq hbst (by first | exact Or.inr ⟨rfl, fun l hl => by rw [hlo] at hl; cases hl⟩ | exact Or.inr ⟨rfl, hla⟩ | exact Or.inl ⟨rfl, hnl⟩) C K H locs ls V (lv_sub hl [0, 1, 2, 3, 4, 5] rfl)
      · have hla : ∀ l, some y = some l → aT a l < aT a q := fun l hl => by
          cases hl
          exact Nat.lt_of_not_le (fun z => c42 (by rw [e41, e33, e40, X.tm hq, X.tm hy2.1]; exact (lc_le tq hy2.2).mpr z))
        refine lv_iconst (v := 1) C.x C.b d_M_find_45 (by decide) ?_
        refine lv_goto (tgt := 50) C.x C.b d_M_find_46 (by decide) ?_
        exact lp_M_find2 X I hT r q _ b bf _ hv hl32 hb32 hq hbst (by first | exact Or.inr ⟨rfl, fun l hl => by rw [hlo] at hl; cases hl⟩ | exact Or.inr ⟨rfl, hla⟩ | exact Or.inl ⟨rfl, hnl⟩) C K H locs ls V (lv_sub hl [0, 1, 2, 3, 4, 5] rfl)
set_option maxHeartbeats 200000 in
set_option maxRecDepth 20000 in
theorem lp_M_find0 {pg : Program} {ev : Env} {st : State} {md : MethodId} {args : Array Value} {bl : List Frame} {mt : Method} {cd : Code} {A : Nat → Prop} {Q : State → Prop} (X : RF w a) (I : Inv a) (hT : aN a < 2 ^ 60) (htt : ∀ p, p < 32 → aT a p < 2 ^ 60) (r : Nat) (lo : Option Nat) (bf : Int32) (hv : vR r) (hl32 : ∀ x, lo = some x → x < 32) (C : gC pg st md args mt cd b_M_find 8 y_M_find.cls (some .int) D (ty3 cI cZ cJ) A) (K : ∀ (b2 : Option Nat), best a r lo 32 b2 → ∀ (H : Heap) (locs : List Loc) (ls : Array Slot), gV D A st (MW h cI cZ cJ w) H locs → lv_has ls 8 [(0, .ref (h 0)), (1, .int (nI r)), (3, .int bf), (4, .int (eN lo)), (5, .int (eN b2))] → W pg lx ev ({ frames := 0, cells := 0, slots := 0, locals := 0 } : Room) st md args bl mt cd H locs 0 0 Q (F0 md 116 ls [])) : ∀ (n q : Nat) (b : Option Nat), q + n = 32 → best a r lo q b → ∀ (H : Heap) (locs : List Loc) (ls : Array Slot), gV D A st (MW h cI cZ cJ w) H locs → lv_has ls 8 [(0, .ref (h 0)), (1, .int (nI r)), (3, .int bf), (4, .int (eN lo)), (5, .int (eN b)), (6, .int (nI q))] → W pg lx ev ({ frames := 0, cells := 0, slots := 0, locals := 0 } : Room) st md args bl mt cd H locs 0 0 Q (F0 md 15 ls []) := by
  intro n
  induction n with
  | zero =>
    intro q b hn hbst H locs ls V hl
    obtain rfl : q = 32 := by omega
    refine lv_iload C.x C.b d_M_find_15 (lv_at hl 5 rfl) ?_
    refine lv_bipush (v := 32) C.x C.b d_M_find_17 (by decide) ?_
    refine lv_icmp_ge (tgt := 116) C.x C.b d_M_find_19 (by decide) (fun c19 => ?_) (fun c19 => ?_)
    · exact K b hbst H locs ls V (lv_sub hl [0, 1, 2, 3, 4] rfl)
    · exact absurd (Int32.le_refl _) c19
  | succ n ih =>
    intro q b hn hbst H locs ls V hl
    have hb32 : ∀ x, b = some x → x < 32 ∧ aT a x < 2 ^ 60 := fun x hx => by subst hx; exact ⟨by have := hbst.1; omega, htt x (by have := hbst.1; omega)⟩
    refine lp_M_find1 X I hT htt r q lo b bf hv (fun x hx => ⟨hl32 x hx, htt x (hl32 x hx)⟩) hb32 (by omega) hbst C (fun b2 hbst2 H locs ls V hl => ?_) H locs ls V hl
    refine lv_istore (lv' := [(5, .int (eN b2)), (0, .ref (h 0)), (1, .int (nI r)), (3, .int bf), (4, .int (eN lo)), (6, .int (nI q))]) C.x C.b d_M_find_108 hl (by decide) rfl (fun ls hl => ?_)
    obtain ⟨v110, e110⟩ : ∃ y : Int32, y = nI q + 1 := ⟨_, rfl⟩
    refine lv_iinc (v := v110) (lv' := [(6, .int v110), (5, .int (eN b2)), (0, .ref (h 0)), (1, .int (nI r)), (3, .int bf), (4, .int (eN lo))]) C.x C.b d_M_find_110 hl (k := 5) rfl (by rw [e110]; rfl) (by decide) rfl (fun ls hl => ?_)
    refine lv_goto (tgt := 15) C.x C.b d_M_find_113 (by decide) ?_
    exact ih (q + 1) b2 (by omega) hbst2 H locs ls V (lv_sub (by rw [e110, nI_1] at hl; exact hl) [2, 3, 4, 5, 1, 0] rfl)
set_option maxHeartbeats 200000 in
set_option maxRecDepth 20000 in
theorem lp_M_find {pg : Program} {ev : Env} {st : State} {md : MethodId} {args : Array Value} {bl : List Frame} {mt : Method} {cd : Code} {A : Nat → Prop} (X : RF w a) (I : Inv a) (hT : aN a < 2 ^ 60) (htt : ∀ p, p < 32 → aT a p < 2 ^ 60) (r j : Nat) (hv : vR r) (hj : j < 2 ^ 31) (C : gC pg st md args mt cd b_M_find 8 y_M_find.cls (some .int) D (ty3 cI cZ cJ) A) : ∀ (m k : Nat), k + m = j + 1 → (k = 0 ∨ ∃ l, lst (aQ a r) k = some l) → ∀ (H : Heap) (locs : List Loc) (ls : Array Slot), gV D A st ((MW h cI cZ cJ) w) H locs → lv_has ls 8 [(0, .ref (h 0)), (1, .int (nI r)), (3, .int (eB m)), (4, .int (eN (lst (aQ a r) k)))] → W pg lx ev ({ frames := 0, cells := 0, slots := 0, locals := 0 } : Room) st md args bl mt cd H locs 0 0 (MQ bl (va_Qi (fun x u' => w = u' ∧ x = eN (aQ a r)[j]?) (fun u t => gB D (ty3 cI cZ cJ) A ((MW h cI cZ cJ) u) t) A) args st 0 0 A) (F0 md 5 ls []) := by
  intro m
  induction m with
  | zero =>
    intro k hk hl0 H locs ls V hl
    obtain rfl : k = j + 1 := by omega
    refine lv_iload_n C.x C.b d_M_find_5 rfl (lv_at hl 2 rfl) ?_
    refine lv_if_lt (tgt := 134) C.x C.b d_M_find_6 (by decide) (fun c6 => ?_) (fun c6 => ?_)
    · refine lv_iload C.x C.b d_M_find_134 (lv_at hl 3 rfl) ?_
      exact g_iret C _ V ⟨rfl, rfl⟩ d_M_find_136
    · exact absurd (by decide) c6
  | succ m ih =>
    intro k hk hl0 H locs ls V hl
    have hlb : ∀ x, lst (aQ a r) k = some x → x < 32 := fun x hx => by cases k with | zero => cases hx | succ k => exact I.b32 hv x (List.mem_of_getElem? hx)
    refine lv_iload_n C.x C.b d_M_find_5 rfl (lv_at hl 2 rfl) ?_
    refine lv_if_lt (tgt := 134) C.x C.b d_M_find_6 (by decide) (fun c6 => ?_) (fun c6 => ?_)
    · exact absurd c6 (nI_pos (by omega))
    · refine lv_iconst (v := -1) C.x C.b d_M_find_9 (by decide) ?_
      refine lv_istore (lv' := [(5, .int (-1)), (0, .ref (h 0)), (1, .int (nI r)), (3, .int (eB (m + 1))), (4, .int (eN (lst (aQ a r) k)))]) C.x C.b d_M_find_10 hl (by decide) rfl (fun ls hl => ?_)
      refine lv_iconst (v := 0) C.x C.b d_M_find_12 (by decide) ?_
      refine lv_istore (lv' := [(6, .int 0), (5, .int (-1)), (0, .ref (h 0)), (1, .int (nI r)), (3, .int (eB (m + 1))), (4, .int (eN (lst (aQ a r) k)))]) C.x C.b d_M_find_13 hl (by decide) rfl (fun ls hl => ?_)
      refine lp_M_find0 X I hT htt r (lst (aQ a r) k) (eB (m + 1)) hv hlb C (fun b2 hb2 H locs ls V hl => ?_) 32 0 none (by omega) best_0 H locs ls V (lv_sub hl [2, 3, 4, 5, 1, 0] rfl)
      have hbe := best_is I hv hl0 hb2
      subst hbe
      have hb32 : ∀ x, (aQ a r)[k]? = some x → x < 32 := fun x hx => I.b32 hv x (List.mem_of_getElem? hx)
      refine lv_iload C.x C.b d_M_find_116 (lv_at hl 4 rfl) ?_
      refine lv_if_ge (tgt := 123) C.x C.b d_M_find_118 (by decide) (fun c118 => ?_) (fun c118 => ?_)
      · have hsm : ∃ l, lst (aQ a r) (k + 1) = some l := by
          cases z : (aQ a r)[k]? with
          | none => rw [z] at c118; exact absurd c118 (by decide)
          | some l => exact ⟨l, z⟩
        refine lv_iload C.x C.b d_M_find_123 (lv_at hl 4 rfl) ?_
        refine lv_istore (lv' := [(4, .int (eN (aQ a r)[k]?)), (0, .ref (h 0)), (1, .int (nI r)), (3, .int (eB (m + 1))), (5, .int (eN (aQ a r)[k]?))]) C.x C.b d_M_find_125 hl (by decide) rfl (fun ls hl => ?_)
        refine lv_iload_n C.x C.b d_M_find_127 rfl (lv_at hl 3 rfl) ?_
        refine lv_iconst (v := 1) C.x C.b d_M_find_128 (by decide) ?_
        refine lv_isub C.x C.b d_M_find_129 ?_
        refine lv_topi (fun v129 e129 => ?_)
        obtain rfl : v129 = eB m := by rw [e129]; exact eB_1 m
        refine lv_istore_n (lv' := [(3, .int (eB m)), (4, .int (eN (aQ a r)[k]?)), (0, .ref (h 0)), (1, .int (nI r)), (5, .int (eN (aQ a r)[k]?))]) C.x C.b d_M_find_130 rfl hl (by decide) rfl (fun ls hl => ?_)
        refine lv_goto (tgt := 5) C.x C.b d_M_find_131 (by decide) ?_
        exact ih (k + 1) (by omega) (Or.inr hsm) H locs ls V (lv_sub hl [2, 3, 0, 1] rfl)
      · have hn : (aQ a r)[k]? = none := Classical.byContradiction (fun z => c118 ((eN_ge hb32).mpr z))
        refine lv_iconst (v := -1) C.x C.b d_M_find_121 (by decide) ?_
        exact g_iret C _ V ⟨rfl, by rw [at_none hn (by omega)]; rfl⟩ d_M_find_122
set_option maxHeartbeats 200000 in
set_option maxRecDepth 20000 in
theorem c_M_find (X : RF w a) (I : Inv a) (hT : aN a < 2 ^ 60) (htt : ∀ p, p < 32 → aT a p < 2 ^ 60) (r j : Nat) (hv : vR r) (hj : j < 2 ^ 31) : gMi lx D (ty3 cI cZ cJ) (MW h cI cZ cJ) y_M_find b_M_find 8 (some .int) ({ frames := 0, cells := 0, slots := 0, locals := 0 } : Room) 0 0 [.ref (h 0), .int (nI r), .int (nI j)] ((MW h cI cZ cJ) w) (fun x u' => w = u' ∧ x = eN (aQ a r)[j]?) := by
  refine gMi.of (by decide) (Nat.le_of_ble_eq_true rfl) (fun pg ev st md bl mt cd A ls C hmn hl V => ?_)
  have hl : lv_has ls 8 [(0, .ref (h 0)), (1, .int (nI r)), (2, .int (nI j))] := hl
  refine lv_iload_n C.x C.b d_M_find_0 rfl (lv_at hl 2 rfl) ?_
  refine lv_istore_n (lv' := [(3, .int (nI j)), (0, .ref (h 0)), (1, .int (nI r)), (2, .int (nI j))]) C.x C.b d_M_find_1 rfl hl (by decide) rfl (fun ls hl => ?_)
  refine lv_iconst (v := -1) C.x C.b d_M_find_2 (by decide) ?_
  refine lv_istore (lv' := [(4, .int (-1)), (3, .int (nI j)), (0, .ref (h 0)), (1, .int (nI r)), (2, .int (nI j))]) C.x C.b d_M_find_3 hl (by decide) rfl (fun ls hl => ?_)
  exact lp_M_find X I hT htt r j hv hj C (j + 1) 0 (by omega) (Or.inl rfl) _ _ ls V (lv_sub hl [2, 3, 1, 0] rfl)
end
end
section
def Td (a : AS) (B : Nat) : Prop := Bd a B ∧ ∀ p, aT a p ≤ B
section
variable {w : MS} {a : AS} {B : Nat}
theorem td_up {B' : Nat} (h : Td a B) (hb : B ≤ B') : Td a B' := ⟨bd_up h.1 hb, fun p => Nat.le_trans (h.2 p) hb⟩
theorem td_enq {p r : Nat} (h : Td a B) : Td (a_enq a p r) (B + 1) := by
  refine ⟨bd_enq h.1, fun q => ?_⟩
  show va_up (aT a) p (aN a) q ≤ B + 1
  by_cases e : q = p
  · subst e; rw [up_s]; exact Nat.le_succ_of_le h.1.1
  · rw [up_n _ _ e]; exact Nat.le_succ_of_le (h.2 q)
theorem td_wake {p : Nat} (h : Td a B) : Td (a_wake a p) (B + 1) := by
  unfold a_wake
  cases a_pres a with
  | none => exact td_up (a := a_want a (some p)) h (Nat.le_succ _)
  | some o =>
    dsimp only
    by_cases hc : aP a p ≤ aP a o
    · rw [if_pos hc]; exact td_enq h
    · rw [if_neg hc]; exact td_enq (p := o) (r := aP a o) h
theorem td_aside (h : Td a B) : Td (a_aside a) B := by
  unfold a_aside
  cases a_top (aQ a) 8 with
  | none => exact h
  | some q => exact h
theorem td_sig {s : Nat} (h : Td a B) : Td (a_sig a s) (B + 1) := by
  refine ⟨bd_sig h.1, ?_⟩
  unfold a_sig
  cases aQ a (16 + s) with
  | nil => exact fun p => Nat.le_succ_of_le (h.2 p)
  | cons q l => exact (td_wake (a := a_rem a q) h).2
theorem lu_s (f : Nat → Int64) (k : Nat) (x : Int64) : vp_updL f k x k = x := if_pos rfl
theorem lu_n (f : Nat → Int64) {k j : Nat} (x : Int64) (h : j ≠ k) : vp_updL f k x j = f j := if_neg h
theorem rm_enq (X : RM w a) {p r : Nat} (hp : p < 32) : RM (mN' (mT' (mR' w (upd (mR w) p (nI r))) (vp_updL (mT w) p (lN (aN a)))) (lN (aN a + 1))) (a_enq a p r) := by
  refine ⟨X.1, X.2.1, X.2.2.1, fun q hq => ?_, fun q hq => ?_, X.2.2.2.2.2.1, X.2.2.2.2.2.2.1, rfl, X.2.2.2.2.2.2.2.2⟩
  · show upd (mR w) p (nI r) q = nI (va_up (aR a) p r q)
    by_cases e : q = p
    · subst e; rw [ud_s, up_s]
    · rw [ud_n e, up_n _ _ e]; exact X.rw hq
  · show vp_updL (mT w) p (lN (aN a)) q = lN (va_up (aT a) p (aN a) q)
    by_cases e : q = p
    · subst e; rw [lu_s, up_s]
    · rw [lu_n _ _ e, up_n _ _ e]; exact X.tm hq
theorem rm_rem (X : RM w a) {p : Nat} (hp : p < 32) : RM (mR' w (upd (mR w) p 0)) (a_rem a p) := by
  refine ⟨X.1, X.2.1, X.2.2.1, fun q hq => ?_, X.2.2.2.2⟩
  show upd (mR w) p 0 q = nI (va_up (aR a) p 0 q)
  by_cases e : q = p
  · subst e; rw [ud_s, up_s]; rfl
  · rw [ud_n e, up_n _ _ e]; exact X.rw hq
theorem rm_r0 (X : RM w a) {p : Nat} (hp : p < 32) (hr : aR a p = 0) : RM (mR' w (upd (mR w) p 0)) a := by
  refine ⟨X.1, X.2.1, X.2.2.1, fun q hq => ?_, X.2.2.2.2⟩
  show upd (mR w) p 0 q = nI (aR a q)
  by_cases e : q = p
  · subst e; rw [ud_s, hr]; rfl
  · rw [ud_n e]; exact X.rw hq
theorem rm_want (X : RM w a) (o : Option Nat) {x : Int32} (hx : x = eN o) : RM (mC' (mW' w 1) x) (a_want a o) := ⟨X.1, X.2.1, X.2.2.1, X.2.2.2.1, X.2.2.2.2.1, X.2.2.2.2.2.1, X.2.2.2.2.2.2.1, X.nw, X.ln, X.ac, X.he, rfl, hx⟩
theorem rm_ext (X : RM w a) {s n : Nat} : RM (mE' w (upd (mE w) s (nI n))) (a_ext a s n) := by
  refine ⟨X.1, X.2.1, X.2.2.1, X.2.2.2.1, X.2.2.2.2.1, fun t ht => ?_, X.2.2.2.2.2.2⟩
  show upd (mE w) s (nI n) t = nI (va_up (aE a) s n t)
  by_cases e : t = s
  · subst e; rw [ud_s, up_s]
  · rw [ud_n e, up_n _ _ e]; exact X.ex ht
/-- what 'putAside' does to the model's state -/
def mAside (w : MS) : Option Nat → MS
  | none => mC' (mW' w 1) (-1)
  | some p => mC' (mW' (mR' w (upd (mR w) p 0)) 1) (nI p)
theorem rm_aside (X : RM w a) (I : ∀ p, a_top (aQ a) 8 = some p → p < 32) : RM (mAside w (a_top (aQ a) 8)) (a_aside a) := by
  cases e : a_top (aQ a) 8 with
  | none => rw [as_none e]; exact rm_want X none rfl
  | some p => rw [as_some e]; exact rm_want (rm_rem X (I p e)) (some p) rfl
theorem top_b (I : Inv a) (n : Nat) (hn : n ≤ 8) : ∀ p, a_top (aQ a) n = some p → p < 32 := fun p hp => by
  rcases top_spec (aQ a) n with ⟨q, r, l, h1, h2, h3, h4, -⟩ | ⟨h1, -⟩
  · rw [hp] at h1; cases h1
    exact (I.hd (Or.inl ⟨h2, by omega⟩) h4).1
  · rw [hp] at h1; cases h1
theorem top_1 (Q : Nat → List Nat) (n : Nat) : a_top Q (n + 1) = match (Q (n + 1))[0]? with | none => a_top Q n | some p => some p := by
  cases e : Q (n + 1) <;> simp [a_top, e]
end
theorem gQv_mono {S : Type} {l : Launch} {D : va_G} {tys : List (ClassId × FieldType)} {Wd : S → va_W} {y : MethodName} {b : ByteArray} {mL : Nat} {rm : Room} {mc ms sz : Nat} {av : List Value} {ws : va_W} {P Q : S → Prop} (h : Met l y (.code y b mL none :: w_all) rm (va_Pc av (fun U => U.heap.size = sz ∧ gI D tys (fun _ => True) ws U)) (va_Qv P (fun u t => gB D tys (va_A ws sz) (Wd u) t) (va_A ws sz)) mc ms (va_A ws sz)) (hPQ : ∀ u, P u → Q u) : Met l y (.code y b mL none :: w_all) rm (va_Pc av (fun U => U.heap.size = sz ∧ gI D tys (fun _ => True) ws U)) (va_Qv Q (fun u t => gB D tys (va_A ws sz) (Wd u) t) (va_A ws sz)) mc ms (va_A ws sz) := by
  have e : ∀ a st o t, va_Qv P (fun u t => gB D tys (va_A ws sz) (Wd u) t) (va_A ws sz) a st o t → va_Qv Q (fun u t => gB D tys (va_A ws sz) (Wd u) t) (va_A ws sz) a st o t := fun a st o t hq => by
    obtain ⟨⟨u, h1, h2, h3⟩, h4⟩ := hq
    exact ⟨⟨u, h1, hPQ u h2, h3⟩, h4⟩
  intro p e1 ha hc hk s m args below hf hsp hP hK
  obtain ⟨k, o, h1, h2, h3, h4⟩ := h p e1 ha hc hk s m args below hf hsp hP hK
  exact ⟨k, o, h1, h2, h3, e _ _ _ _ h4.1, h4.2⟩
section
variable {lx : Launch} {D : va_G} {h : Nat → Nat} {cI cZ cJ : ClassId}
variable {w : MS} {a : AS}
theorem c_M_findT {F : RF w a} (I : Inv a) (B : Nat) (T : Td a B) (hB : B < 2 ^ 50) (r j : Nat) (hv : vR r) (hj : j < 2 ^ 31) : gMi lx D (ty3 cI cZ cJ) (MW h cI cZ cJ) y_M_find b_M_find 8 (some .int) ({ frames := 0, cells := 0, slots := 0, locals := 0 } : Room) 0 0 [.ref (h 0), .int (nI r), .int (nI j)] (MW h cI cZ cJ w) (fun x u' => w = u' ∧ x = eN (aQ a r)[j]?) :=
  c_M_find F I (by have := T.1.1; omega) (fun p _ => by have := T.2 p; omega) r j hv hj
set_option maxHeartbeats 200000 in
set_option maxRecDepth 20000 in
theorem c_M_isMade (X : RM w a) (x : Int32) : gMi lx D (ty3 cI cZ cJ) (MW h cI cZ cJ) y_M_isMade b_M_isMade 2 (some .boolean) ({ frames := 1, cells := 0, slots := 0, locals := 20 } : Room) 0 0 [.ref (h 0), .int x] ((MW h cI cZ cJ) w) (fun r u' => w = u' ∧ r = match mOf a x with | none => 0 | some _ => 1) := by
  refine gMi.of (by decide) (Nat.le_of_ble_eq_true rfl) (fun pg ev st md bl mt cd A ls C hmn hl V => ?_)
  have hl : lv_has ls 2 [(0, .ref (h 0)), (1, .int x)] := hl
  refine lv_iload_n C.x C.b d_M_isMade_0 rfl (lv_at hl 1 rfl) ?_
  refine g_iS (As := [.int x]) (rest := []) C V cs_M_40 (c_M_isProcess (Wd := MW h cI cZ cJ) (x)) (by decide) rfl hl.1 rfl (Nat.le_of_ble_eq_true rfl) d_M_isMade_1 (fun r1 u1 H locs w1 V => ?_)
  obtain ⟨rfl, q1⟩ := w1
  refine lv_if_eq (tgt := 20) C.x C.b d_M_isMade_4 (by decide) (fun c4 => ?_) (fun c4 => ?_)
  · have hx : pOf x = none := by unfold pOf; rw [if_neg (fun z => by rw [if_pos z] at q1; rw [q1] at c4; exact absurd c4 (by decide))]
    refine lv_iconst (v := 0) C.x C.b d_M_isMade_20 (by decide) ?_
    exact g_zret C _ V ⟨rfl, by first | (unfold mOf; rw [hx]; done) | (rw [hx, mOf_n hp, if_neg (fun z => by rw [e12, X.md hp, if_pos z] at c13; exact absurd c13 (by decide))])⟩ (by simp) d_M_isMade_21
  · obtain ⟨p, hp, hx, ep⟩ : ∃ p, p < 32 ∧ x = nI p ∧ pOf x = some p := by
      rcases pOf_c x with z | ⟨z, -⟩
      · exact z
      · exact absurd (q1.trans (if_neg z)) c4
    refine lv_aload_n C.x C.b d_M_isMade_7 rfl (lv_at hl 0 rfl) ?_
    refine mg_made C V fl_M_7 d_M_isMade_8 ?_
    refine lv_iload_n C.x C.b d_M_isMade_11 rfl (lv_at hl 1 rfl) ?_
    refine ma_made (p) C V hx hp d_M_isMade_12 ?_
    refine lv_topi (fun v12 e12 => ?_)
    refine lv_if_eq (tgt := 20) C.x C.b d_M_isMade_13 (by decide) (fun c13 => ?_) (fun c13 => ?_)
    · refine lv_iconst (v := 0) C.x C.b d_M_isMade_20 (by decide) ?_
      exact g_zret C _ V ⟨rfl, by first | (unfold mOf; rw [hx]; done) | (rw [hx, mOf_n hp, if_neg (fun z => by rw [e12, X.md hp, if_pos z] at c13; exact absurd c13 (by decide))])⟩ (by simp) d_M_isMade_21
    · refine lv_iconst (v := 1) C.x C.b d_M_isMade_16 (by decide) ?_
      refine lv_goto (tgt := 21) C.x C.b d_M_isMade_17 (by decide) ?_
      exact g_zret C _ V ⟨rfl, by rw [hx, mOf_t hp (Classical.byContradiction (fun z => c13 (by rw [e12, X.md hp, if_neg z])))]⟩ (by simp) d_M_isMade_21
set_option maxHeartbeats 200000 in
set_option maxRecDepth 20000 in
theorem c_M_enter (X : RM w a) (p r : Nat) (hp : p < 32) : gMv lx D (ty3 cI cZ cJ) (MW h cI cZ cJ) y_M_enter b_M_enter 3 ({ frames := 0, cells := 0, slots := 0, locals := 0 } : Room) 0 0 [.ref (h 0), .int (nI p), .int (nI r)] ((MW h cI cZ cJ) w) (fun u' => RM u' (a_enq a p r)) := by
  refine gMv.of (by decide) (Nat.le_of_ble_eq_true rfl) (fun pg ev st md bl mt cd A ls C hmn hl V => ?_)
  have hl : lv_has ls 3 [(0, .ref (h 0)), (1, .int (nI p)), (2, .int (nI r))] := hl
  refine lv_aload_n C.x C.b d_M_enter_0 rfl (lv_at hl 0 rfl) ?_
  refine mg_rows C V fl_M_20 d_M_enter_1 ?_
  refine lv_iload_n C.x C.b d_M_enter_4 rfl (lv_at hl 1 rfl) ?_
  refine lv_iload_n C.x C.b d_M_enter_5 rfl (lv_at hl 2 rfl) ?_
  refine ms_rows (p) C V rfl hp d_M_enter_6 (fun H locs V => ?_)
  refine lv_aload_n C.x C.b d_M_enter_7 rfl (lv_at hl 0 rfl) ?_
  refine mg_when C V fl_M_23 d_M_enter_8 ?_
  refine lv_iload_n C.x C.b d_M_enter_11 rfl (lv_at hl 1 rfl) ?_
  refine lv_aload_n C.x C.b d_M_enter_12 rfl (lv_at hl 0 rfl) ?_
  refine mg_now C V fl_M_44 d_M_enter_13 ?_
  refine lv_topl (fun v13 e13 => ?_)
  obtain rfl : v13 = lN (aN a) := by rw [e13]; exact X.nw
  refine ms_when (p) C V rfl hp d_M_enter_16 (fun H locs V => ?_)
  refine lv_aload_n C.x C.b d_M_enter_17 rfl (lv_at hl 0 rfl) ?_
  refine lv_aload_n C.x C.b d_M_enter_18 rfl (lv_at hl 0 rfl) ?_
  refine mg_now C V fl_M_44 d_M_enter_19 ?_
  refine lv_topl (fun v19 e19 => ?_)
  obtain rfl : v19 = lN (aN a) := by rw [e19]; exact X.nw
  refine lv_lconst (v := 1) C.x C.b d_M_enter_22 (by decide) ?_
  refine lv_ladd C.x C.b d_M_enter_23 ?_
  refine lv_topl (fun v23 e23 => ?_)
  obtain rfl : v23 = lN (aN a + 1) := by rw [e23]; exact lN_1 _
  refine mp_now C V fl_M_44 d_M_enter_24 (fun H locs V => ?_)
  exact g_vret C _ V (rm_enq X hp) d_M_enter_27
set_option maxHeartbeats 200000 in
set_option maxRecDepth 20000 in
theorem c_M_presentOne (X : RM w a) : gMi lx D (ty3 cI cZ cJ) (MW h cI cZ cJ) y_M_presentOne b_M_presentOne 1 (some .int) ({ frames := 0, cells := 0, slots := 0, locals := 0 } : Room) 0 0 [.ref (h 0)] ((MW h cI cZ cJ) w) (fun r u' => w = u' ∧ r = eN (a_pres a)) := by
  refine gMi.of (by decide) (Nat.le_of_ble_eq_true rfl) (fun pg ev st md bl mt cd A ls C hmn hl V => ?_)
  have hl : lv_has ls 1 [(0, .ref (h 0))] := hl
  refine lv_aload_n C.x C.b d_M_presentOne_0 rfl (lv_at hl 0 rfl) ?_
  refine mg_wanted C V fl_M_48 d_M_presentOne_1 ?_
  refine lv_topi (fun v1 e1 => ?_)
  refine lv_if_eq (tgt := 14) C.x C.b d_M_presentOne_4 (by decide) (fun c4 => ?_) (fun c4 => ?_)
  · refine lv_aload_n C.x C.b d_M_presentOne_14 rfl (lv_at hl 0 rfl) ?_
    refine mg_active C V fl_M_33 d_M_presentOne_15 ?_
    refine lv_topi (fun v15 e15 => ?_)
    exact g_iret C _ V ⟨rfl, by rw [e15, X.ac]; unfold a_pres; rw [e1, X.wa] at c4; rw [if_neg (by simpa using c4)]⟩ d_M_presentOne_18
  · refine lv_aload_n C.x C.b d_M_presentOne_7 rfl (lv_at hl 0 rfl) ?_
    refine mg_change C V fl_M_37 d_M_presentOne_8 ?_
    refine lv_topi (fun v8 e8 => ?_)
    refine lv_goto (tgt := 18) C.x C.b d_M_presentOne_11 (by decide) ?_
    exact g_iret C _ V ⟨rfl, by rw [e8, X.cg]; unfold a_pres; rw [e1, X.wa] at c4; rw [if_pos (by simpa using c4)]⟩ d_M_presentOne_18
set_option maxHeartbeats 200000 in
set_option maxRecDepth 20000 in
theorem c_M_want (x : Int32) : gMv lx D (ty3 cI cZ cJ) (MW h cI cZ cJ) y_M_want b_M_want 2 ({ frames := 0, cells := 0, slots := 0, locals := 0 } : Room) 0 0 [.ref (h 0), .int x] ((MW h cI cZ cJ) w) (fun u' => u' = mC' (mW' w 1) x) := by
  refine gMv.of (by decide) (Nat.le_of_ble_eq_true rfl) (fun pg ev st md bl mt cd A ls C hmn hl V => ?_)
  have hl : lv_has ls 2 [(0, .ref (h 0)), (1, .int x)] := hl
  refine lv_aload_n C.x C.b d_M_want_0 rfl (lv_at hl 0 rfl) ?_
  refine lv_iconst (v := 1) C.x C.b d_M_want_1 (by decide) ?_
  refine mp_wanted C V fl_M_48 (by decide) d_M_want_2 (fun H locs V => ?_)
  refine lv_aload_n C.x C.b d_M_want_5 rfl (lv_at hl 0 rfl) ?_
  refine lv_iload_n C.x C.b d_M_want_6 rfl (lv_at hl 1 rfl) ?_
  refine mp_change C V fl_M_37 d_M_want_7 (fun H locs V => ?_)
  exact g_vret C _ V rfl d_M_want_10
set_option maxHeartbeats 200000 in
set_option maxRecDepth 20000 in
theorem c_M_wake0 (X : RM w a) (I : Inv a) (p : Nat) (hp : p < 32) (hm : aM a p = true) (hr : aR a p = 0) (ho : a_pres a = none) : gMv lx D (ty3 cI cZ cJ) (MW h cI cZ cJ) y_M_wake b_M_wake 3 ({ frames := 1, cells := 0, slots := 0, locals := 22 } : Room) 0 0 [.ref (h 0), .int (nI p)] ((MW h cI cZ cJ) w) (fun u' => RM u' (a_wake a p)) := by
  refine gMv.of (by decide) (Nat.le_of_ble_eq_true rfl) (fun pg ev st md bl mt cd A ls C hmn hl V => ?_)
  have hl : lv_has ls 3 [(0, .ref (h 0)), (1, .int (nI p))] := hl
  refine lv_aload_n C.x C.b d_M_wake_0 rfl (lv_at hl 0 rfl) ?_
  refine g_iV (q0 := 0) (As := []) (rest := []) C V cs_M_52 (c_M_presentOne X) rfl rfl (by decide) rfl hl.1 rfl (Nat.le_of_ble_eq_true rfl) d_M_wake_1 (fun r1 u1 H locs w1 V => ?_)
  obtain ⟨rfl, q1⟩ := w1
  obtain rfl : r1 = -1 := by rw [q1, ho]; rfl
  refine lv_istore_n (lv' := [(2, .int (-1)), (0, .ref (h 0)), (1, .int (nI p))]) C.x C.b d_M_wake_4 rfl hl (by decide) rfl (fun ls hl => ?_)
  refine lv_iload_n C.x C.b d_M_wake_5 rfl (lv_at hl 0 rfl) ?_
  refine lv_if_lt (tgt := 36) C.x C.b d_M_wake_6 (by decide) (fun c6 => ?_) (fun c6 => ?_)
  · refine lv_iload_n C.x C.b d_M_wake_36 rfl (lv_at hl 0 rfl) ?_
    refine lv_if_lt (tgt := 51) C.x C.b d_M_wake_37 (by decide) (fun c37 => ?_) (fun c37 => ?_)
    · refine lv_aload_n C.x C.b d_M_wake_51 rfl (lv_at hl 1 rfl) ?_
      refine mg_rows C V fl_M_20 d_M_wake_52 ?_
      refine lv_iload_n C.x C.b d_M_wake_55 rfl (lv_at hl 2 rfl) ?_
      refine lv_iconst (v := 0) C.x C.b d_M_wake_56 (by decide) ?_
      refine ms_rows (p) C V rfl hp d_M_wake_57 (fun H locs V => ?_)
      refine lv_aload_n C.x C.b d_M_wake_58 rfl (lv_at hl 1 rfl) ?_
      refine lv_iload_n C.x C.b d_M_wake_59 rfl (lv_at hl 2 rfl) ?_
      refine g_vV (q0 := 0) (As := [.int (nI p)]) (rest := []) C V cs_M_60 (c_M_want (nI p)) rfl rfl (by decide) rfl hl.1 rfl (Nat.le_of_ble_eq_true rfl) d_M_wake_60 (fun u60 H locs w60 V => ?_)
      subst w60
      exact g_vret C _ V (by rw [wk_none ho]; exact rm_want (rm_r0 X hp hr) (some p) rfl) d_M_wake_63
    · exact absurd (by decide) c37
  · exact absurd (by decide) c6
set_option maxHeartbeats 200000 in
set_option maxRecDepth 20000 in
theorem c_M_wake1 (X : RM w a) (I : Inv a) (P : Prs a) (p : Nat) (hp : p < 32) (hm : aM a p = true) (hr : aR a p = 0) (o : Nat) (ho : a_pres a = some o) (hop : o ≠ p) : gMv lx D (ty3 cI cZ cJ) (MW h cI cZ cJ) y_M_wake b_M_wake 3 ({ frames := 1, cells := 0, slots := 0, locals := 22 } : Room) 0 0 [.ref (h 0), .int (nI p)] ((MW h cI cZ cJ) w) (fun u' => RM u' (a_wake a p)) := by
  refine gMv.of (by decide) (Nat.le_of_ble_eq_true rfl) (fun pg ev st md bl mt cd A ls C hmn hl V => ?_)
  have hl : lv_has ls 3 [(0, .ref (h 0)), (1, .int (nI p))] := hl
  have hq := P o ho
  have pp := I.pri hp hm
  have po := I.pri hq.1 hq.2.1
  refine lv_aload_n C.x C.b d_M_wake_0 rfl (lv_at hl 0 rfl) ?_
  refine g_iV (q0 := 0) (As := []) (rest := []) C V cs_M_52 (c_M_presentOne X) rfl rfl (by decide) rfl hl.1 rfl (Nat.le_of_ble_eq_true rfl) d_M_wake_1 (fun r1 u1 H locs w1 V => ?_)
  obtain ⟨rfl, q1⟩ := w1
  obtain rfl : r1 = nI o := by rw [q1, ho]; rfl
  refine lv_istore_n (lv' := [(2, .int (nI o)), (0, .ref (h 0)), (1, .int (nI p))]) C.x C.b d_M_wake_4 rfl hl (by decide) rfl (fun ls hl => ?_)
  refine lv_iload_n C.x C.b d_M_wake_5 rfl (lv_at hl 0 rfl) ?_
  refine lv_if_lt (tgt := 36) C.x C.b d_M_wake_6 (by decide) (fun c6 => ?_) (fun c6 => ?_)
  · exact absurd c6 (nI_pos (by omega))
  · refine lv_aload_n C.x C.b d_M_wake_9 rfl (lv_at hl 1 rfl) ?_
    refine mg_prio C V fl_M_13 d_M_wake_10 ?_
    refine lv_iload_n C.x C.b d_M_wake_13 rfl (lv_at hl 0 rfl) ?_
    refine ma_prio (o) C V rfl hq.1 d_M_wake_14 ?_
    refine lv_topi (fun v14 e14 => ?_)
    obtain rfl : v14 = nI (aP a o) := by rw [e14]; exact X.pr hq.1
    refine lv_aload_n C.x C.b d_M_wake_15 rfl (lv_at hl 1 rfl) ?_
    refine mg_prio C V fl_M_13 d_M_wake_16 ?_
    refine lv_iload_n C.x C.b d_M_wake_19 rfl (lv_at hl 2 rfl) ?_
    refine ma_prio (p) C V rfl hp d_M_wake_20 ?_
    refine lv_topi (fun v20 e20 => ?_)
    obtain rfl : v20 = nI (aP a p) := by rw [e20]; exact X.pr hp
    refine lv_icmp_lt (tgt := 36) C.x C.b d_M_wake_21 (by decide) (fun c21 => ?_) (fun c21 => ?_)
    · refine lv_iload_n C.x C.b d_M_wake_36 rfl (lv_at hl 0 rfl) ?_
      refine lv_if_lt (tgt := 51) C.x C.b d_M_wake_37 (by decide) (fun c37 => ?_) (fun c37 => ?_)
      · exact absurd c37 (nI_pos (by omega))
      · refine lv_aload_n C.x C.b d_M_wake_40 rfl (lv_at hl 1 rfl) ?_
        refine lv_iload_n C.x C.b d_M_wake_41 rfl (lv_at hl 0 rfl) ?_
        refine lv_aload_n C.x C.b d_M_wake_42 rfl (lv_at hl 1 rfl) ?_
        refine mg_prio C V fl_M_13 d_M_wake_43 ?_
        refine lv_iload_n C.x C.b d_M_wake_46 rfl (lv_at hl 0 rfl) ?_
        refine ma_prio (o) C V rfl hq.1 d_M_wake_47 ?_
        refine lv_topi (fun v47 e47 => ?_)
        obtain rfl : v47 = nI (aP a o) := by rw [e47]; exact X.pr hq.1
        refine g_vV (q0 := 0) (As := [.int (nI o), .int (nI (aP a o))]) (rest := []) C V cs_M_56 (c_M_enter X o (aP a o) hq.1) rfl rfl (by decide) rfl hl.1 rfl (Nat.le_of_ble_eq_true rfl) d_M_wake_48 (fun u48 H locs w48 V => ?_)
        have X2 := w48
        refine lv_aload_n C.x C.b d_M_wake_51 rfl (lv_at hl 1 rfl) ?_
        refine mg_rows C V fl_M_20 d_M_wake_52 ?_
        refine lv_iload_n C.x C.b d_M_wake_55 rfl (lv_at hl 2 rfl) ?_
        refine lv_iconst (v := 0) C.x C.b d_M_wake_56 (by decide) ?_
        refine ms_rows (p) C V rfl hp d_M_wake_57 (fun H locs V => ?_)
        refine lv_aload_n C.x C.b d_M_wake_58 rfl (lv_at hl 1 rfl) ?_
        refine lv_iload_n C.x C.b d_M_wake_59 rfl (lv_at hl 2 rfl) ?_
        refine g_vV (q0 := 0) (As := [.int (nI p)]) (rest := []) C V cs_M_60 (c_M_want (nI p)) rfl rfl (by decide) rfl hl.1 rfl (Nat.le_of_ble_eq_true rfl) d_M_wake_60 (fun u60 H locs w60 V => ?_)
        subst w60
        exact g_vret C _ V (by rw [wk_hi ho (fun z => absurd c21 (nI_nlt z (by omega)))]; exact rm_want (rm_r0 X2 hp (by show va_up (aR a) o (aP a o) p = 0; rw [up_n _ _ (Ne.symm hop)]; exact hr)) (some p) rfl) d_M_wake_63
    · refine lv_aload_n C.x C.b d_M_wake_24 rfl (lv_at hl 1 rfl) ?_
      refine lv_iload_n C.x C.b d_M_wake_25 rfl (lv_at hl 2 rfl) ?_
      refine lv_aload_n C.x C.b d_M_wake_26 rfl (lv_at hl 1 rfl) ?_
      refine mg_prio C V fl_M_13 d_M_wake_27 ?_
      refine lv_iload_n C.x C.b d_M_wake_30 rfl (lv_at hl 2 rfl) ?_
      refine ma_prio (p) C V rfl hp d_M_wake_31 ?_
      refine lv_topi (fun v31 e31 => ?_)
      obtain rfl : v31 = nI (aP a p) := by rw [e31]; exact X.pr hp
      refine g_vV (q0 := 0) (As := [.int (nI p), .int (nI (aP a p))]) (rest := []) C V cs_M_56 (c_M_enter X p (aP a p) hp) rfl rfl (by decide) rfl hl.1 rfl (Nat.le_of_ble_eq_true rfl) d_M_wake_32 (fun u32 H locs w32 V => ?_)
      exact g_vret C _ V (by rw [wk_lo ho (Nat.le_of_not_lt (fun z => c21 (nI_lt z (by omega))))]; exact w32) d_M_wake_35
theorem c_M_wake (X : RM w a) (I : Inv a) (P : Prs a) (p : Nat) (hp : p < 32) (hm : aM a p = true) (hr : aR a p = 0) (hn : a_pres a ≠ some p) : gMv lx D (ty3 cI cZ cJ) (MW h cI cZ cJ) y_M_wake b_M_wake 3 ({ frames := 1, cells := 0, slots := 0, locals := 22 } : Room) 0 0 [.ref (h 0), .int (nI p)] (MW h cI cZ cJ w) (fun u' => RM u' (a_wake a p)) := by
  cases ho : a_pres a with
  | none => exact c_M_wake0 X I p hp hm hr ho
  | some o => exact c_M_wake1 X I P p hp hm hr o ho (fun z => hn (by rw [ho, z]))
set_option maxHeartbeats 200000 in
set_option maxRecDepth 20000 in
theorem lp_M_putAside {pg : Program} {ev : Env} {st : State} {md : MethodId} {args : Array Value} {bl : List Frame} {mt : Method} {cd : Code} {A : Nat → Prop} (F : RF w a) (I : Inv a) (B : Nat) (T : Td a B) (hB : B < 2 ^ 50)  (C : gC pg st md args mt cd b_M_putAside 4 y_M_putAside.cls none D (ty3 cI cZ cJ) A) : ∀ (m n : Nat), n + m = 8 → ∀ (H : Heap) (locs : List Loc) (ls : Array Slot), gV D A st ((MW h cI cZ cJ) w) H locs → lv_has ls 4 [(0, .ref (h 0)), (1, .int (eN (a_top (aQ a) n))), (2, .int (nI (n + 1)))] → W pg lx ev ({ frames := 1, cells := 0, slots := 0, locals := 27 } : Room) st md args bl mt cd H locs 0 0 (MQ bl (va_Qv (fun u' => u' = mAside w (a_top (aQ a) 8)) (fun u t => gB D (ty3 cI cZ cJ) A ((MW h cI cZ cJ) u) t) A) args st 0 0 A) (F0 md 4 ls []) := by
  intro m
  induction m with
  | zero =>
    intro n hn H locs ls V hl
    obtain rfl : n = 8 := by omega
    have tb := top_b I 8 (Nat.le_refl 8)
    refine lv_iload_n C.x C.b d_M_putAside_4 rfl (lv_at hl 2 rfl) ?_
    refine lv_bipush (v := 8) C.x C.b d_M_putAside_5 (by decide) ?_
    refine lv_icmp_gt (tgt := 33) C.x C.b d_M_putAside_7 (by decide) (fun c7 => ?_) (fun c7 => ?_)
    · refine lv_iload_n C.x C.b d_M_putAside_33 rfl (lv_at hl 1 rfl) ?_
      refine lv_if_lt (tgt := 44) C.x C.b d_M_putAside_34 (by decide) (fun c34 => ?_) (fun c34 => ?_)
      · have ht := (eN_neg tb).mp c34
        refine lv_aload_n C.x C.b d_M_putAside_44 rfl (lv_at hl 0 rfl) ?_
        refine lv_iload_n C.x C.b d_M_putAside_45 rfl (lv_at hl 1 rfl) ?_
        refine g_vV (q0 := 0) (As := [.int (eN (a_top (aQ a) 8))]) (rest := []) C V cs_M_60 (c_M_want (eN (a_top (aQ a) 8))) rfl rfl (by decide) rfl hl.1 rfl (Nat.le_of_ble_eq_true rfl) d_M_putAside_46 (fun u46 H locs w46 V => ?_)
        subst w46
        exact g_vret C _ V (by first | (rw [ht]; rfl) | (rw [hp]; rfl)) d_M_putAside_49
      · obtain ⟨p, hp⟩ : ∃ p, a_top (aQ a) 8 = some p := by
          cases z : a_top (aQ a) 8 with
          | none => rw [z] at c34; exact absurd (by decide) c34
          | some p => exact ⟨p, rfl⟩
        refine lv_aload_n C.x C.b d_M_putAside_37 rfl (lv_at hl 0 rfl) ?_
        refine mg_rows C V fl_M_20 d_M_putAside_38 ?_
        refine lv_iload_n C.x C.b d_M_putAside_41 rfl (lv_at hl 1 rfl) ?_
        refine lv_iconst (v := 0) C.x C.b d_M_putAside_42 (by decide) ?_
        refine ms_rows (p) C V (by rw [hp]; rfl) (tb p hp) d_M_putAside_43 (fun H locs V => ?_)
        refine lv_aload_n C.x C.b d_M_putAside_44 rfl (lv_at hl 0 rfl) ?_
        refine lv_iload_n C.x C.b d_M_putAside_45 rfl (lv_at hl 1 rfl) ?_
        refine g_vV (q0 := 0) (As := [.int (eN (a_top (aQ a) 8))]) (rest := []) C V cs_M_60 (c_M_want (eN (a_top (aQ a) 8))) rfl rfl (by decide) rfl hl.1 rfl (Nat.le_of_ble_eq_true rfl) d_M_putAside_46 (fun u46 H locs w46 V => ?_)
        subst w46
        exact g_vret C _ V (by first | (rw [ht]; rfl) | (rw [hp]; rfl)) d_M_putAside_49
    · exact absurd (show (8 : Int32) < nI 9 by decide) c7
  | succ m ih =>
    intro n hn H locs ls V hl
    have hv : vR (n + 1) := Or.inl ⟨by omega, by omega⟩
    have tb := top_b I n (by omega)
    have qb : ∀ p, (aQ a (n + 1))[0]? = some p → p < 32 := fun p hp => I.b32 hv p (List.mem_of_getElem? hp)
    refine lv_iload_n C.x C.b d_M_putAside_4 rfl (lv_at hl 2 rfl) ?_
    refine lv_bipush (v := 8) C.x C.b d_M_putAside_5 (by decide) ?_
    refine lv_icmp_gt (tgt := 33) C.x C.b d_M_putAside_7 (by decide) (fun c7 => ?_) (fun c7 => ?_)
    · exact absurd c7 (nI_nlt (a := 8) (b := n + 1) (by omega) (by decide))
    · refine lv_aload_n C.x C.b d_M_putAside_10 rfl (lv_at hl 0 rfl) ?_
      refine lv_iload_n C.x C.b d_M_putAside_11 rfl (lv_at hl 2 rfl) ?_
      refine lv_iconst (v := 0) C.x C.b d_M_putAside_12 (by decide) ?_
      refine g_iV (q0 := 0) (As := [.int (nI (n + 1)), .int 0]) (rest := []) C V cs_M_64 (c_M_findT (F := F) I B T hB (n + 1) 0 hv (by decide)) rfl rfl (by decide) rfl hl.1 rfl (Nat.le_of_ble_eq_true rfl) d_M_putAside_13 (fun r13 u13 H locs w13 V => ?_)
      obtain ⟨rfl, q13⟩ := w13
      obtain rfl : r13 = eN (aQ a (n + 1))[0]? := q13
      refine lv_istore_n (lv' := [(3, .int (eN (aQ a (n + 1))[0]?)), (0, .ref (h 0)), (1, .int (eN (a_top (aQ a) n))), (2, .int (nI (n + 1)))]) C.x C.b d_M_putAside_16 rfl hl (by decide) rfl (fun ls hl => ?_)
      refine lv_iload_n C.x C.b d_M_putAside_17 rfl (lv_at hl 0 rfl) ?_
      refine lv_if_lt (tgt := 25) C.x C.b d_M_putAside_18 (by decide) (fun c18 => ?_) (fun c18 => ?_)
      · have hno := (eN_neg qb).mp c18
        have hnone : a_top (aQ a) n = a_top (aQ a) (n + 1) := by rw [top_1, hno]
        refine lv_iload_n C.x C.b d_M_putAside_25 rfl (lv_at hl 2 rfl) ?_
        refine lv_istore_n (lv' := [(1, .int (eN (a_top (aQ a) n))), (3, .int (eN (aQ a (n + 1))[0]?)), (0, .ref (h 0)), (2, .int (nI (n + 1)))]) C.x C.b d_M_putAside_26 rfl hl (by decide) rfl (fun ls hl => ?_)
        obtain ⟨v27, e27⟩ : ∃ y : Int32, y = nI (n + 1) + 1 := ⟨_, rfl⟩
        refine lv_iinc (v := v27) (lv' := [(2, .int v27), (1, .int (eN (a_top (aQ a) n))), (3, .int (eN (aQ a (n + 1))[0]?)), (0, .ref (h 0))]) C.x C.b d_M_putAside_27 hl (k := 3) rfl (by rw [e27]; rfl) (by decide) rfl (fun ls hl => ?_)
        refine lv_goto (tgt := 4) C.x C.b d_M_putAside_30 (by decide) ?_
        refine ih (n + 1) (by omega) H locs ls V ?_
        rw [e27, show (1 : Int32) = nI 1 from rfl, nI_add, hnone] at hl
        exact (lv_sub hl [3, 1, 0] rfl)
      · have hsome : (aQ a (n + 1))[0]? = a_top (aQ a) (n + 1) := by
          rw [top_1]
          cases z : (aQ a (n + 1))[0]? with
          | none => rw [z] at c18; exact absurd (by decide) c18
          | some p => rfl
        refine lv_iload_n C.x C.b d_M_putAside_21 rfl (lv_at hl 0 rfl) ?_
        refine lv_goto (tgt := 26) C.x C.b d_M_putAside_22 (by decide) ?_
        refine lv_istore_n (lv' := [(1, .int (eN (aQ a (n + 1))[0]?)), (3, .int (eN (aQ a (n + 1))[0]?)), (0, .ref (h 0)), (2, .int (nI (n + 1)))]) C.x C.b d_M_putAside_26 rfl hl (by decide) rfl (fun ls hl => ?_)
        obtain ⟨v27, e27⟩ : ∃ y : Int32, y = nI (n + 1) + 1 := ⟨_, rfl⟩
        refine lv_iinc (v := v27) (lv' := [(2, .int v27), (1, .int (eN (aQ a (n + 1))[0]?)), (3, .int (eN (aQ a (n + 1))[0]?)), (0, .ref (h 0))]) C.x C.b d_M_putAside_27 hl (k := 3) rfl (by rw [e27]; rfl) (by decide) rfl (fun ls hl => ?_)
        refine lv_goto (tgt := 4) C.x C.b d_M_putAside_30 (by decide) ?_
        refine ih (n + 1) (by omega) H locs ls V ?_
        rw [e27, show (1 : Int32) = nI 1 from rfl, nI_add, hsome] at hl
        exact (lv_sub hl [3, 1, 0] rfl)
set_option maxHeartbeats 200000 in
set_option maxRecDepth 20000 in
theorem c_M_putAside (F : RF w a) (I : Inv a) (B : Nat) (T : Td a B) (hB : B < 2 ^ 50)  : gMv lx D (ty3 cI cZ cJ) (MW h cI cZ cJ) y_M_putAside b_M_putAside 4 ({ frames := 1, cells := 0, slots := 0, locals := 27 } : Room) 0 0 [.ref (h 0)] ((MW h cI cZ cJ) w) (fun u' => u' = mAside w (a_top (aQ a) 8)) := by
  refine gMv.of (by decide) (Nat.le_of_ble_eq_true rfl) (fun pg ev st md bl mt cd A ls C hmn hl V => ?_)
  have hl : lv_has ls 4 [(0, .ref (h 0))] := hl
  refine lv_iconst (v := -1) C.x C.b d_M_putAside_0 (by decide) ?_
  refine lv_istore_n (lv' := [(1, .int (-1)), (0, .ref (h 0))]) C.x C.b d_M_putAside_1 rfl hl (by decide) rfl (fun ls hl => ?_)
  refine lv_iconst (v := 1) C.x C.b d_M_putAside_2 (by decide) ?_
  refine lv_istore_n (lv' := [(2, .int 1), (1, .int (-1)), (0, .ref (h 0))]) C.x C.b d_M_putAside_3 rfl hl (by decide) rfl (fun ls hl => ?_)
  exact lp_M_putAside F I B T hB C 8 0 (by omega) _ _ ls V (lv_sub hl [2, 1, 0] rfl)
theorem c_M_putAsideR (X : RM w a) (I : Inv a) (B : Nat) (T : Td a B) (hB : B < 2 ^ 50) : gMv lx D (ty3 cI cZ cJ) (MW h cI cZ cJ) y_M_putAside b_M_putAside 4 ({ frames := 1, cells := 0, slots := 0, locals := 27 } : Room) 0 0 [.ref (h 0)] (MW h cI cZ cJ w) (fun u' => RM u' (a_aside a)) := by
  intro sz
  have hM := c_M_putAside (lx := lx) (D := D) (h := h) (cI := cI) (cZ := cZ) (cJ := cJ) X.f I B T hB sz
  have e : (fun u' => u' = mAside w (a_top (aQ a) 8)) = (fun u' => u' = mAside w (a_top (aQ a) 8)) := rfl
  exact gQv_mono hM (fun u hu => by subst hu; exact rm_aside X (top_b I 8 (Nat.le_refl 8)))
set_option maxHeartbeats 200000 in
set_option maxRecDepth 20000 in
theorem c_M_give0 (X : RM w a) (I : Inv a) (B : Nat) (T : Td a B) (hB : B < 2 ^ 50) (s : Nat) (hs : s < 16) (he : aQ a (16 + s) = []) : gMv lx D (ty3 cI cZ cJ) (MW h cI cZ cJ) y_M_give b_M_give 3 ({ frames := 2, cells := 0, slots := 0, locals := 44 } : Room) 0 0 [.ref (h 0), .int (nI s)] ((MW h cI cZ cJ) w) (fun u' => RM u' (a_sig a s)) := by
  refine gMv.of (by decide) (Nat.le_of_ble_eq_true rfl) (fun pg ev st md bl mt cd A ls C hmn hl V => ?_)
  have hl : lv_has ls 3 [(0, .ref (h 0)), (1, .int (nI s))] := hl
  have hv : vR (16 + s) := Or.inr ⟨by omega, by omega⟩
  refine lv_aload_n C.x C.b d_M_give_0 rfl (lv_at hl 0 rfl) ?_
  refine lv_bipush (v := 16) C.x C.b d_M_give_1 (by decide) ?_
  refine lv_iload_n C.x C.b d_M_give_3 rfl (lv_at hl 1 rfl) ?_
  refine lv_iadd C.x C.b d_M_give_4 ?_
  refine lv_topi (fun v4 e4 => ?_)
  obtain rfl : v4 = nI (16 + s) := by rw [e4, show (16 : Int32) = nI 16 from rfl, nI_add]
  refine lv_iconst (v := 0) C.x C.b d_M_give_5 (by decide) ?_
  refine g_iV (q0 := 0) (As := [.int (nI (16 + s)), .int 0]) (rest := []) C V cs_M_64 (c_M_findT (F := X.f) I B T hB (16 + s) 0 hv (by decide)) rfl rfl (by decide) rfl hl.1 rfl (Nat.le_of_ble_eq_true rfl) d_M_give_6 (fun r6 u6 H locs w6 V => ?_)
  obtain ⟨rfl, q6⟩ := w6
  obtain rfl : r6 = -1 := by rw [q6, he]; rfl
  refine lv_istore_n (lv' := [(2, .int (-1)), (0, .ref (h 0)), (1, .int (nI s))]) C.x C.b d_M_give_9 rfl hl (by decide) rfl (fun ls hl => ?_)
  refine lv_iload_n C.x C.b d_M_give_10 rfl (lv_at hl 0 rfl) ?_
  refine lv_if_ge (tgt := 31) C.x C.b d_M_give_11 (by decide) (fun c11 => ?_) (fun c11 => ?_)
  · exact absurd c11 (by decide)
  · refine lv_aload_n C.x C.b d_M_give_14 rfl (lv_at hl 1 rfl) ?_
    refine mg_extras C V fl_M_27 d_M_give_15 ?_
    refine lv_iload_n C.x C.b d_M_give_18 rfl (lv_at hl 2 rfl) ?_
    refine lv_aload_n C.x C.b d_M_give_19 rfl (lv_at hl 1 rfl) ?_
    refine mg_extras C V fl_M_27 d_M_give_20 ?_
    refine lv_iload_n C.x C.b d_M_give_23 rfl (lv_at hl 2 rfl) ?_
    refine ma_extras (s) C V rfl hs d_M_give_24 ?_
    refine lv_topi (fun v24 e24 => ?_)
    obtain rfl : v24 = nI (aE a s) := by rw [e24]; exact X.ex hs
    refine lv_iconst (v := 1) C.x C.b d_M_give_25 (by decide) ?_
    refine lv_iadd C.x C.b d_M_give_26 ?_
    refine lv_topi (fun v26 e26 => ?_)
    obtain rfl : v26 = nI (aE a s + 1) := by rw [e26]; exact nI_1 _
    refine ms_extras (s) C V rfl hs d_M_give_27 (fun H locs V => ?_)
    refine lv_goto (tgt := 43) C.x C.b d_M_give_28 (by decide) ?_
    exact g_vret C _ V (by unfold a_sig; rw [he]; exact rm_ext X) d_M_give_43
set_option maxHeartbeats 200000 in
set_option maxRecDepth 20000 in
theorem c_M_give1 (X : RM w a) (I : Inv a) (P : Prs a) (B : Nat) (T : Td a B) (hB : B < 2 ^ 50) (s : Nat) (hs : s < 16) (q : Nat) (l : List Nat) (he : aQ a (16 + s) = q :: l) : gMv lx D (ty3 cI cZ cJ) (MW h cI cZ cJ) y_M_give b_M_give 3 ({ frames := 2, cells := 0, slots := 0, locals := 44 } : Room) 0 0 [.ref (h 0), .int (nI s)] ((MW h cI cZ cJ) w) (fun u' => RM u' (a_sig a s)) := by
  refine gMv.of (by decide) (Nat.le_of_ble_eq_true rfl) (fun pg ev st md bl mt cd A ls C hmn hl V => ?_)
  have hl : lv_has ls 3 [(0, .ref (h 0)), (1, .int (nI s))] := hl
  have hv : vR (16 + s) := Or.inr ⟨by omega, by omega⟩
  have hd := I.hd hv he
  have hr : aR a q ≠ 0 := by rw [hd.2.1]; exact hv.pos
  have hq32 := hd.1
  refine lv_aload_n C.x C.b d_M_give_0 rfl (lv_at hl 0 rfl) ?_
  refine lv_bipush (v := 16) C.x C.b d_M_give_1 (by decide) ?_
  refine lv_iload_n C.x C.b d_M_give_3 rfl (lv_at hl 1 rfl) ?_
  refine lv_iadd C.x C.b d_M_give_4 ?_
  refine lv_topi (fun v4 e4 => ?_)
  obtain rfl : v4 = nI (16 + s) := by rw [e4, show (16 : Int32) = nI 16 from rfl, nI_add]
  refine lv_iconst (v := 0) C.x C.b d_M_give_5 (by decide) ?_
  refine g_iV (q0 := 0) (As := [.int (nI (16 + s)), .int 0]) (rest := []) C V cs_M_64 (c_M_findT (F := X.f) I B T hB (16 + s) 0 hv (by decide)) rfl rfl (by decide) rfl hl.1 rfl (Nat.le_of_ble_eq_true rfl) d_M_give_6 (fun r6 u6 H locs w6 V => ?_)
  obtain ⟨rfl, q6⟩ := w6
  obtain rfl : r6 = nI q := by rw [q6, he]; rfl
  refine lv_istore_n (lv' := [(2, .int (nI q)), (0, .ref (h 0)), (1, .int (nI s))]) C.x C.b d_M_give_9 rfl hl (by decide) rfl (fun ls hl => ?_)
  refine lv_iload_n C.x C.b d_M_give_10 rfl (lv_at hl 0 rfl) ?_
  refine lv_if_ge (tgt := 31) C.x C.b d_M_give_11 (by decide) (fun c11 => ?_) (fun c11 => ?_)
  · refine lv_aload_n C.x C.b d_M_give_31 rfl (lv_at hl 1 rfl) ?_
    refine mg_rows C V fl_M_20 d_M_give_32 ?_
    refine lv_iload_n C.x C.b d_M_give_35 rfl (lv_at hl 0 rfl) ?_
    refine lv_iconst (v := 0) C.x C.b d_M_give_36 (by decide) ?_
    refine ms_rows (q) C V rfl hd.1 d_M_give_37 (fun H locs V => ?_)
    refine lv_aload_n C.x C.b d_M_give_38 rfl (lv_at hl 1 rfl) ?_
    refine lv_iload_n C.x C.b d_M_give_39 rfl (lv_at hl 0 rfl) ?_
    refine g_vV (q0 := 0) (As := [.int (nI q)]) (rest := []) C V cs_M_68 (c_M_wake (rm_rem X hd.1) (inv_rem I hd.1 hr) (prs_rem P) q hd.1 hd.2.2 (up_s _ _ _) (fun hx => hr (P q hx).2.2)) rfl rfl (by decide) rfl hl.1 rfl (Nat.le_of_ble_eq_true rfl) d_M_give_40 (fun u40 H locs w40 V => ?_)
    exact g_vret C _ V (by unfold a_sig; rw [he]; exact w40) d_M_give_43
  · exact absurd (nI_pos' (by omega)) c11
theorem c_M_give (X : RM w a) (I : Inv a) (P : Prs a) (B : Nat) (T : Td a B) (hB : B < 2 ^ 50) (s : Nat) (hs : s < 16) : gMv lx D (ty3 cI cZ cJ) (MW h cI cZ cJ) y_M_give b_M_give 3 ({ frames := 2, cells := 0, slots := 0, locals := 44 } : Room) 0 0 [.ref (h 0), .int (nI s)] (MW h cI cZ cJ w) (fun u' => RM u' (a_sig a s)) := by
  cases he : aQ a (16 + s) with
  | nil => exact c_M_give0 X I B T hB s hs he
  | cons q l => exact c_M_give1 X I P B T hB s hs q l he
end
end
section
section
variable {w : MS} {a : AS} {B : Nat}
theorem Inv.r32 (I : Inv a) {p : Nat} (hp : p < 32) : aR a p < 32 := by
  rcases I.row hp with q | q
  · omega
  · unfold vR at q; omega
theorem rm_mk (X : RM w a) {p n : Nat} (hp : p < 32) (hr : aR a p = 0) (z : Int32) : RM (mR' (mL' (mP' (mM' w (upd (mM w) p 1)) (upd (mP w) p (nI n))) (upd (mL w) p z)) (upd (mR w) p 0)) (a_mk a p n z) := by
  refine ⟨fun q hq => ?_, fun q hq => ?_, fun q hq => ?_, fun q hq => ?_, X.2.2.2.2⟩
  · show upd (mM w) p 1 q = if va_up (aM a) p true q = true then 1 else 0
    by_cases e : q = p
    · subst e; rw [ud_s, up_s]; rfl
    · rw [ud_n e, up_n _ _ e]; exact X.md hq
  · show upd (mP w) p (nI n) q = nI (va_up (aP a) p n q)
    by_cases e : q = p
    · subst e; rw [ud_s, up_s]
    · rw [ud_n e, up_n _ _ e]; exact X.pr hq
  · show upd (mL w) p z q = va_up (aL a) p z q
    by_cases e : q = p
    · subst e; rw [ud_s, up_s]
    · rw [ud_n e, up_n _ _ e]; exact X.pl hq
  · show upd (mR w) p 0 q = nI (aR a q)
    by_cases e : q = p
    · subst e; rw [ud_s, hr]; rfl
    · rw [ud_n e]; exact X.rw hq
theorem rm_prio (X : RM w a) {p n : Nat} : RM (mP' w (upd (mP w) p (nI n))) (a_prio a p n) := by
  refine ⟨X.1, fun q hq => ?_, X.2.2⟩
  show upd (mP w) p (nI n) q = nI (va_up (aP a) p n q)
  by_cases e : q = p
  · subst e; rw [ud_s, up_s]
  · rw [ud_n e, up_n _ _ e]; exact X.pr hq
theorem rm_unmk (X : RM w a) {p : Nat} : RM (mM' w (upd (mM w) p 0)) (a_unmk a p) := by
  refine ⟨fun q hq => ?_, X.2⟩
  show upd (mM w) p 0 q = if va_up (aM a) p false q = true then 1 else 0
  by_cases e : q = p
  · subst e; rw [ud_s, up_s]; rfl
  · rw [ud_n e, up_n _ _ e]; exact X.md hq
theorem rm_act (X : RM w a) (o : Option Nat) {x : Int32} (hx : x = eN o) : RM (mA' w x) (a_act a o) := ⟨X.1, X.2.1, X.2.2.1, X.2.2.2.1, X.2.2.2.2.1, X.2.2.2.2.2.1, X.2.2.2.2.2.2.1, X.nw, X.ln, hx, X.he, X.wa, X.cg⟩
theorem rm_push (X : RM w a) {s : Nat} : RM (mK' (mO' w (upd (mO w) (aO a).length (nI s))) (nI ((aO a).length + 1))) (a_push a s) := by
  refine ⟨X.1, X.2.1, X.2.2.1, X.2.2.2.1, X.2.2.2.2.1, X.2.2.2.2.2.1, fun i t ht => ?_, X.nw, ?_, X.ac, X.he, X.wa, X.cg⟩
  · have ht : (aO a ++ [s])[i]? = some t := ht
    show upd (mO w) (aO a).length _ i = _
    by_cases e : i = (aO a).length
    · subst e
      rw [ud_s]
      simp at ht
      subst ht
      rfl
    · rw [ud_n e]
      have hl : i < (aO a).length := by
        have := (List.getElem?_eq_some_iff.mp ht).1
        rw [List.length_append] at this
        simp at this
        omega
      rw [List.getElem?_append_left hl] at ht
      exact X.ps ht
  · show nI _ = nI (aO a ++ [s]).length
    rw [List.length_append]; rfl
theorem rm_done (X : RM w a) : RM (mK' w 0) (a_done a) := ⟨X.1, X.2.1, X.2.2.1, X.2.2.2.1, X.2.2.2.2.1, X.2.2.2.2.2.1, (fun i s h => by have h : ([] : List Nat)[i]? = some s := h; simp at h), X.nw, rfl, X.ac, X.he, X.wa, X.cg⟩
theorem rm_swap0 (X : RM w a) (hw : aW a = true) (hA : aA a = none) {v : Int32} (hv : v = sw_h a) : RM (mW' (mH' (mA' w (eN (aC a))) v) 0) (a_swap a) := by
  rw [sw_w hw, lay_n hA]
  refine ⟨X.1, X.2.1, X.2.2.1, X.2.2.2.1, X.2.2.2.2.1, X.2.2.2.2.2.1, X.2.2.2.2.2.2.1, X.nw, X.ln, rfl, ?_, rfl, X.cg⟩
  show v = _
  rw [hv]; unfold sw_h; rw [lay_n hA]
theorem rm_swap1 (X : RM w a) (hw : aW a = true) {o : Nat} (hA : aA a = some o) {v : Int32} (hv : v = sw_h a) : RM (mW' (mH' (mA' (mL' w (upd (mL w) o (aH a))) (eN (aC a))) v) 0) (a_swap a) := by
  rw [sw_w hw, lay_s hA]
  refine ⟨X.1, X.2.1, fun q hq => ?_, X.2.2.2.1, X.2.2.2.2.1, X.2.2.2.2.2.1, X.2.2.2.2.2.2.1, X.nw, X.ln, rfl, ?_, rfl, X.cg⟩
  · show upd (mL w) o (aH a) q = va_up (aL a) o (aH a) q
    by_cases e : q = o
    · subst e; rw [ud_s, up_s]
    · rw [ud_n e, up_n _ _ e]; exact X.pl hq
  · show v = _
    rw [hv]; unfold sw_h; rw [lay_s hA]
theorem len_b : ∀ (n : Nat) (l : List Nat), l.Nodup → (∀ x ∈ l, x < n) → l.length ≤ n
  | 0, l, _, h => by
    cases l with
    | nil => exact Nat.le_refl _
    | cons x l => exact absurd (h x List.mem_cons_self) (Nat.not_lt_zero _)
  | n + 1, l, hn, h => by
    by_cases e : n ∈ l
    · have h1 := len_b n (l.erase n) (hn.erase n) (fun x hx => by
        have hx2 := List.mem_of_mem_erase hx
        have := h x hx2
        have hne : x ≠ n := fun z => by subst z; exact hn.not_mem_erase hx
        omega)
      rw [List.length_erase_of_mem e] at h1
      omega
    · have h1 := len_b n l hn (fun x hx => by
        have := h x hx
        have hne : x ≠ n := fun z => e (z ▸ hx)
        omega)
      omega
theorem inv_unact (I : Inv a) {p : Nat} (hp : p < 32) (hr : aR a p = 0) : Inv (a_act (a_unmk a p) none) := by
  refine ⟨I.1, I.2.1, I.2.2.1, fun q hq hqr => ?_, fun q hq hm => ?_, (fun q hq => by cases hq), I.len, I.pst⟩
  · have hqr : aR a q ≠ 0 := hqr
    refine ⟨I.tim hq hqr, ?_⟩
    show va_up (aM a) p false q = true
    rw [up_n _ _ (fun z => hqr (by rw [z, hr]))]
    exact I.mad hq hqr
  · have hm : va_up (aM a) p false q = true := hm
    by_cases e : q = p
    · subst e; rw [up_s] at hm; cases hm
    · rw [up_n _ _ e] at hm; exact I.pri hq hm
theorem end_eq (p : Nat) : a_unmk (a_forget (a_aside a) p) p = a_forget (a_aside (a_unmk a p)) p := by
  have hA : aA (a_aside a) = aA a := by unfold a_aside; cases a_top (aQ a) 8 <;> rfl
  have hA2 : aA (a_aside (a_unmk a p)) = aA a := by unfold a_aside; cases a_top (aQ (a_unmk a p)) 8 <;> rfl
  have hc : a_unmk (a_aside a) p = a_aside (a_unmk a p) := by
    unfold a_aside
    show a_unmk (match a_top (aQ a) 8 with | none => _ | some p => _) p = (match a_top (aQ a) 8 with | none => _ | some q => _)
    cases a_top (aQ a) 8 <;> rfl
  unfold a_forget
  rw [hA, hA2]
  by_cases e : aA a = some p
  · rw [if_pos e, if_pos e, ← hc]; rfl
  · rw [if_neg e, if_neg e, hc]
end
section
variable {lx : Launch} {D : va_G} {h : Nat → Nat} {cI cZ cJ : ClassId}
variable {w : MS} {a : AS}
set_option maxHeartbeats 200000 in
set_option maxRecDepth 20000 in
theorem c_M_make (X : RM w a) (I : Inv a) (x y z : Int32) : gMi lx D (ty3 cI cZ cJ) (MW h cI cZ cJ) y_M_make b_M_make 4 (some .boolean) ({ frames := 1, cells := 0, slots := 0, locals := 20 } : Room) 0 0 [.ref (h 0), .int x, .int y, .int z] ((MW h cI cZ cJ) w) (fun r u' => r = (o_make a x y z).1 ∧ RM u' (o_make a x y z).2) := by
  refine gMi.of (by decide) (Nat.le_of_ble_eq_true rfl) (fun pg ev st md bl mt cd A ls C hmn hl V => ?_)
  have hl : lv_has ls 4 [(0, .ref (h 0)), (1, .int x), (2, .int y), (3, .int z)] := hl
  refine lv_iload_n C.x C.b d_M_make_0 rfl (lv_at hl 1 rfl) ?_
  refine g_iS (As := [.int x]) (rest := []) C V cs_M_40 (c_M_isProcess (Wd := MW h cI cZ cJ) (x)) (by decide) rfl hl.1 rfl (Nat.le_of_ble_eq_true rfl) d_M_make_1 (fun r1 u1 H locs w1 V => ?_)
  obtain ⟨rfl, q1⟩ := w1
  refine lv_if_eq (tgt := 23) C.x C.b d_M_make_4 (by decide) (fun c4 => ?_) (fun c4 => ?_)
  · have ep : pOf x = none := by unfold pOf; rw [if_neg (fun z => by rw [if_pos z] at q1; rw [q1] at c4; exact absurd c4 (by decide))]
    refine lv_iconst (v := 0) C.x C.b d_M_make_23 (by decide) ?_
    exact g_zret C _ V (by unfold o_make; first | (rw [ep, eq]; exact ⟨rfl, X⟩) | (rw [ep]; cases qOf y with | none => exact ⟨rfl, X⟩ | some n => dsimp only; rw [if_pos hm]; exact ⟨rfl, X⟩) | (rw [ep]; exact ⟨rfl, X⟩)) (by simp) d_M_make_24
  · obtain ⟨p, hp, hx, ep⟩ : ∃ p, p < 32 ∧ x = nI p ∧ pOf x = some p := by
      rcases pOf_c x with z | ⟨z, -⟩
      · exact z
      · exact absurd (q1.trans (if_neg z)) c4
    refine lv_aload_n C.x C.b d_M_make_7 rfl (lv_at hl 0 rfl) ?_
    refine mg_made C V fl_M_7 d_M_make_8 ?_
    refine lv_iload_n C.x C.b d_M_make_11 rfl (lv_at hl 1 rfl) ?_
    refine ma_made (p) C V hx hp d_M_make_12 ?_
    refine lv_topi (fun v12 e12 => ?_)
    refine lv_if_ne (tgt := 23) C.x C.b d_M_make_13 (by decide) (fun c13 => ?_) (fun c13 => ?_)
    · have hm : aM a p = true := Classical.byContradiction (fun z => c13 (by rw [e12, X.md hp, if_neg z]))
      refine lv_iconst (v := 0) C.x C.b d_M_make_23 (by decide) ?_
      exact g_zret C _ V (by unfold o_make; first | (rw [ep, eq]; exact ⟨rfl, X⟩) | (rw [ep]; cases qOf y with | none => exact ⟨rfl, X⟩ | some n => dsimp only; rw [if_pos hm]; exact ⟨rfl, X⟩) | (rw [ep]; exact ⟨rfl, X⟩)) (by simp) d_M_make_24
    · have hm : ¬ aM a p = true := fun z => by rw [e12, X.md hp, if_pos z] at c13; exact absurd c13 (by decide)
      refine lv_iload_n C.x C.b d_M_make_16 rfl (lv_at hl 2 rfl) ?_
      refine g_iS (As := [.int y]) (rest := []) C V cs_M_71 (c_M_isPriority (Wd := MW h cI cZ cJ) (y)) (by decide) rfl hl.1 rfl (Nat.le_of_ble_eq_true rfl) d_M_make_17 (fun r17 u17 H locs w17 V => ?_)
      obtain ⟨rfl, q17⟩ := w17
      refine lv_if_ne (tgt := 25) C.x C.b d_M_make_20 (by decide) (fun c20 => ?_) (fun c20 => ?_)
      · obtain ⟨n, hn1, hn8, hy, eq⟩ : ∃ n, 1 ≤ n ∧ n ≤ 8 ∧ y = nI n ∧ qOf y = some n := by
          rcases qOf_c y with ⟨n, z1, z2, z3, z4, -⟩ | ⟨z, -⟩
          · exact ⟨n, z1, z2, z3, z4⟩
          · exact absurd (q17.trans (if_neg z)) c20
        have hr := I.unm hp hm
        refine lv_aload_n C.x C.b d_M_make_25 rfl (lv_at hl 0 rfl) ?_
        refine mg_made C V fl_M_7 d_M_make_26 ?_
        refine lv_iload_n C.x C.b d_M_make_29 rfl (lv_at hl 1 rfl) ?_
        refine lv_iconst (v := 1) C.x C.b d_M_make_30 (by decide) ?_
        refine ms_made (p) C V hx hp (by decide) d_M_make_31 (fun H locs V => ?_)
        refine lv_aload_n C.x C.b d_M_make_32 rfl (lv_at hl 0 rfl) ?_
        refine mg_prio C V fl_M_13 d_M_make_33 ?_
        refine lv_iload_n C.x C.b d_M_make_36 rfl (lv_at hl 1 rfl) ?_
        refine lv_iload_n C.x C.b d_M_make_37 rfl (lv_at hl 2 rfl) ?_
        refine ms_prio (p) C V hx hp d_M_make_38 (fun H locs V => ?_)
        refine lv_aload_n C.x C.b d_M_make_39 rfl (lv_at hl 0 rfl) ?_
        refine mg_place C V fl_M_17 d_M_make_40 ?_
        refine lv_iload_n C.x C.b d_M_make_43 rfl (lv_at hl 1 rfl) ?_
        refine lv_iload_n C.x C.b d_M_make_44 rfl (lv_at hl 3 rfl) ?_
        refine ms_place (p) C V hx hp d_M_make_45 (fun H locs V => ?_)
        refine lv_aload_n C.x C.b d_M_make_46 rfl (lv_at hl 0 rfl) ?_
        refine mg_rows C V fl_M_20 d_M_make_47 ?_
        refine lv_iload_n C.x C.b d_M_make_50 rfl (lv_at hl 1 rfl) ?_
        refine lv_iconst (v := 0) C.x C.b d_M_make_51 (by decide) ?_
        refine ms_rows (p) C V hx hp d_M_make_52 (fun H locs V => ?_)
        refine lv_iconst (v := 1) C.x C.b d_M_make_53 (by decide) ?_
        exact g_zret C _ V (by unfold o_make; rw [ep, eq]; dsimp only; rw [if_neg hm]; refine ⟨rfl, ?_⟩; subst hy; exact rm_mk X hp hr z) (by simp) d_M_make_54
      · have eq : qOf y = none := by
          rcases qOf_c y with ⟨n, -, -, -, -, z⟩ | ⟨-, z⟩
          · rw [if_pos z] at q17; rw [q17] at c20; exact absurd c20 (by decide)
          · exact z
        refine lv_iconst (v := 0) C.x C.b d_M_make_23 (by decide) ?_
        exact g_zret C _ V (by unfold o_make; first | (rw [ep, eq]; exact ⟨rfl, X⟩) | (rw [ep]; cases qOf y with | none => exact ⟨rfl, X⟩ | some n => dsimp only; rw [if_pos hm]; exact ⟨rfl, X⟩) | (rw [ep]; exact ⟨rfl, X⟩)) (by simp) d_M_make_24
set_option maxHeartbeats 200000 in
set_option maxRecDepth 20000 in
theorem c_M_resume0 (X : RM w a) (I : Inv a) (P : Prs a) (x : Int32) (em : mOf a x = none)  : gMi lx D (ty3 cI cZ cJ) (MW h cI cZ cJ) y_M_resume b_M_resume 2 (some .boolean) ({ frames := 2, cells := 0, slots := 0, locals := 44 } : Room) 0 0 [.ref (h 0), .int x] ((MW h cI cZ cJ) w) (fun r u' => r = (o_resume a x).1 ∧ RM u' (o_resume a x).2) := by
  refine gMi.of (by decide) (Nat.le_of_ble_eq_true rfl) (fun pg ev st md bl mt cd A ls C hmn hl V => ?_)
  have hl : lv_has ls 2 [(0, .ref (h 0)), (1, .int x)] := hl
  refine lv_aload_n C.x C.b d_M_resume_0 rfl (lv_at hl 0 rfl) ?_
  refine lv_iload_n C.x C.b d_M_resume_1 rfl (lv_at hl 1 rfl) ?_
  refine g_iV (q0 := 0) (As := [.int x]) (rest := []) C V cs_M_74 (c_M_isMade X x) rfl rfl (by decide) rfl hl.1 rfl (Nat.le_of_ble_eq_true rfl) d_M_resume_2 (fun r2 u2 H locs w2 V => ?_)
  obtain ⟨rfl, q2⟩ := w2
  rw [em] at q2
  obtain rfl : r2 = 0 := q2
  refine lv_if_eq (tgt := 33) C.x C.b d_M_resume_5 (by decide) (fun c5 => ?_) (fun c5 => ?_)
  · refine lv_iconst (v := 0) C.x C.b d_M_resume_33 (by decide) ?_
    exact g_zret C _ V (by unfold o_resume; rw [em]; exact ⟨rfl, X⟩) (by simp) d_M_resume_34
  · exact absurd rfl c5
set_option maxHeartbeats 200000 in
set_option maxRecDepth 20000 in
theorem c_M_resume1 (X : RM w a) (I : Inv a) (P : Prs a) (p : Nat) (hp : p < 32) (hm : aM a p = true)  : gMi lx D (ty3 cI cZ cJ) (MW h cI cZ cJ) y_M_resume b_M_resume 2 (some .boolean) ({ frames := 2, cells := 0, slots := 0, locals := 44 } : Room) 0 0 [.ref (h 0), .int (nI p)] ((MW h cI cZ cJ) w) (fun r u' => r = (o_resume a (nI p)).1 ∧ RM u' (o_resume a (nI p)).2) := by
  refine gMi.of (by decide) (Nat.le_of_ble_eq_true rfl) (fun pg ev st md bl mt cd A ls C hmn hl V => ?_)
  have hl : lv_has ls 2 [(0, .ref (h 0)), (1, .int (nI p))] := hl
  refine lv_aload_n C.x C.b d_M_resume_0 rfl (lv_at hl 0 rfl) ?_
  refine lv_iload_n C.x C.b d_M_resume_1 rfl (lv_at hl 1 rfl) ?_
  refine g_iV (q0 := 0) (As := [.int (nI p)]) (rest := []) C V cs_M_74 (c_M_isMade X (nI p)) rfl rfl (by decide) rfl hl.1 rfl (Nat.le_of_ble_eq_true rfl) d_M_resume_2 (fun r2 u2 H locs w2 V => ?_)
  obtain ⟨rfl, q2⟩ := w2
  rw [mOf_t hp hm] at q2
  obtain rfl : r2 = 1 := q2
  refine lv_if_eq (tgt := 33) C.x C.b d_M_resume_5 (by decide) (fun c5 => ?_) (fun c5 => ?_)
  · exact absurd c5 (by decide)
  · refine lv_aload_n C.x C.b d_M_resume_8 rfl (lv_at hl 0 rfl) ?_
    refine mg_rows C V fl_M_20 d_M_resume_9 ?_
    refine lv_iload_n C.x C.b d_M_resume_12 rfl (lv_at hl 1 rfl) ?_
    refine ma_rows (p) C V rfl hp d_M_resume_13 ?_
    refine lv_topi (fun v13 e13 => ?_)
    obtain rfl : v13 = nI (aR a p) := by rw [e13]; exact X.rw hp
    refine lv_if_ne (tgt := 33) C.x C.b d_M_resume_14 (by decide) (fun c14 => ?_) (fun c14 => ?_)
    · have hr : ¬ aR a p = 0 := fun z => c14 (by rw [z]; rfl)
      refine lv_iconst (v := 0) C.x C.b d_M_resume_33 (by decide) ?_
      exact g_zret C _ V (by unfold o_resume; rw [mOf_t hp hm]; dsimp only; rw [if_neg (by simp_all)]; exact ⟨rfl, X⟩) (by simp) d_M_resume_34
    · have hr : aR a p = 0 := Classical.byContradiction (fun z => absurd c14 (nI_ne0 (by omega) (by have := I.r32 hp; omega)))
      refine lv_iload_n C.x C.b d_M_resume_17 rfl (lv_at hl 1 rfl) ?_
      refine lv_aload_n C.x C.b d_M_resume_18 rfl (lv_at hl 0 rfl) ?_
      refine g_iV (q0 := 0) (As := []) (rest := [.int (nI p)]) C V cs_M_52 (c_M_presentOne X) rfl rfl (by decide) rfl hl.1 rfl (Nat.le_of_ble_eq_true rfl) d_M_resume_19 (fun r19 u19 H locs w19 V => ?_)
      obtain ⟨rfl, q19⟩ := w19
      refine lv_icmp_eq (tgt := 33) C.x C.b d_M_resume_22 (by decide) (fun c22 => ?_) (fun c22 => ?_)
      · have hpr : a_pres a = some p := ((eN_i (o := some p) (fun q hq => by cases hq; exact hp) (I.pres32 P)).mp (c22.trans q19)).symm
        refine lv_iconst (v := 0) C.x C.b d_M_resume_33 (by decide) ?_
        exact g_zret C _ V (by unfold o_resume; rw [mOf_t hp hm]; dsimp only; rw [if_neg (by simp_all)]; exact ⟨rfl, X⟩) (by simp) d_M_resume_34
      · have hpr : ¬ a_pres a = some p := fun z => c22 (by rw [q19, z]; rfl)
        refine lv_iload_n C.x C.b d_M_resume_25 rfl (lv_at hl 1 rfl) ?_
        refine lv_aload_n C.x C.b d_M_resume_26 rfl (lv_at hl 0 rfl) ?_
        refine mg_active C V fl_M_33 d_M_resume_27 ?_
        refine lv_topi (fun v27 e27 => ?_)
        obtain rfl : v27 = eN (aA a) := by rw [e27]; exact X.ac
        refine lv_icmp_ne (tgt := 35) C.x C.b d_M_resume_30 (by decide) (fun c30 => ?_) (fun c30 => ?_)
        · have hac : ¬ aA a = some p := fun z => c30 (by rw [z]; rfl)
          refine lv_aload_n C.x C.b d_M_resume_35 rfl (lv_at hl 0 rfl) ?_
          refine lv_iload_n C.x C.b d_M_resume_36 rfl (lv_at hl 1 rfl) ?_
          refine g_vV (q0 := 0) (As := [.int (nI p)]) (rest := []) C V cs_M_68 (c_M_wake X I P p hp hm hr hpr) rfl rfl (by decide) rfl hl.1 rfl (Nat.le_of_ble_eq_true rfl) d_M_resume_37 (fun u37 H locs w37 V => ?_)
          refine lv_iconst (v := 1) C.x C.b d_M_resume_40 (by decide) ?_
          exact g_zret C _ V (by unfold o_resume; rw [mOf_t hp hm]; dsimp only; rw [if_pos ⟨hr, hpr, hac⟩]; exact ⟨rfl, w37⟩) (by simp) d_M_resume_41
        · have hac : aA a = some p := ((eN_i (o := some p) (fun q hq => by cases hq; exact hp) (I.act32)).mp c30).symm
          refine lv_iconst (v := 0) C.x C.b d_M_resume_33 (by decide) ?_
          exact g_zret C _ V (by unfold o_resume; rw [mOf_t hp hm]; dsimp only; rw [if_neg (by simp_all)]; exact ⟨rfl, X⟩) (by simp) d_M_resume_34
theorem c_M_resume (X : RM w a) (I : Inv a) (P : Prs a) (x : Int32) : gMi lx D (ty3 cI cZ cJ) (MW h cI cZ cJ) y_M_resume b_M_resume 2 (some .boolean) ({ frames := 2, cells := 0, slots := 0, locals := 44 } : Room) 0 0 [.ref (h 0), .int x] (MW h cI cZ cJ w) (fun r u' => r = (o_resume a x).1 ∧ RM u' (o_resume a x).2) := by
  rcases mOf_c a x with ⟨p, hp, rfl, hm, em⟩ | em
  · exact c_M_resume1 X I P p hp hm
  · exact c_M_resume0 X I P x em
set_option maxHeartbeats 200000 in
set_option maxRecDepth 20000 in
theorem c_M_suspend0 (X : RM w a) (I : Inv a) (P : Prs a) (B : Nat) (T : Td a B) (hB : B < 2 ^ 49) (ho : a_pres a = none)  : gMi lx D (ty3 cI cZ cJ) (MW h cI cZ cJ) y_M_suspend b_M_suspend 2 (some .int) ({ frames := 2, cells := 0, slots := 0, locals := 50 } : Room) 0 0 [.ref (h 0)] ((MW h cI cZ cJ) w) (fun r u' => r = (o_suspend a).1 ∧ RM u' (o_suspend a).2) := by
  refine gMi.of (by decide) (Nat.le_of_ble_eq_true rfl) (fun pg ev st md bl mt cd A ls C hmn hl V => ?_)
  have hl : lv_has ls 2 [(0, .ref (h 0))] := hl
  refine lv_aload_n C.x C.b d_M_suspend_0 rfl (lv_at hl 0 rfl) ?_
  refine g_iV (q0 := 0) (As := []) (rest := []) C V cs_M_52 (c_M_presentOne X) rfl rfl (by decide) rfl hl.1 rfl (Nat.le_of_ble_eq_true rfl) d_M_suspend_1 (fun r1 u1 H locs w1 V => ?_)
  obtain ⟨rfl, q1⟩ := w1
  obtain rfl : r1 = -1 := by rw [q1, ho]; rfl
  refine lv_istore_n (lv' := [(1, .int (-1)), (0, .ref (h 0))]) C.x C.b d_M_suspend_4 rfl hl (by decide) rfl (fun ls hl => ?_)
  refine lv_iload_n C.x C.b d_M_suspend_5 rfl (lv_at hl 0 rfl) ?_
  refine lv_if_lt (tgt := 13) C.x C.b d_M_suspend_6 (by decide) (fun c6 => ?_) (fun c6 => ?_)
  · refine lv_iload_n C.x C.b d_M_suspend_13 rfl (lv_at hl 0 rfl) ?_
    exact g_iret C _ V (by unfold o_suspend; rw [ho]; exact ⟨rfl, X⟩) d_M_suspend_14
  · exact absurd (by decide) c6
set_option maxHeartbeats 200000 in
set_option maxRecDepth 20000 in
theorem c_M_suspend1 (X : RM w a) (I : Inv a) (P : Prs a) (B : Nat) (T : Td a B) (hB : B < 2 ^ 49) (p : Nat) (ho : a_pres a = some p)  : gMi lx D (ty3 cI cZ cJ) (MW h cI cZ cJ) y_M_suspend b_M_suspend 2 (some .int) ({ frames := 2, cells := 0, slots := 0, locals := 50 } : Room) 0 0 [.ref (h 0)] ((MW h cI cZ cJ) w) (fun r u' => r = (o_suspend a).1 ∧ RM u' (o_suspend a).2) := by
  refine gMi.of (by decide) (Nat.le_of_ble_eq_true rfl) (fun pg ev st md bl mt cd A ls C hmn hl V => ?_)
  have hl : lv_has ls 2 [(0, .ref (h 0))] := hl
  have hq := P p ho
  have hq32 := hq.1
  refine lv_aload_n C.x C.b d_M_suspend_0 rfl (lv_at hl 0 rfl) ?_
  refine g_iV (q0 := 0) (As := []) (rest := []) C V cs_M_52 (c_M_presentOne X) rfl rfl (by decide) rfl hl.1 rfl (Nat.le_of_ble_eq_true rfl) d_M_suspend_1 (fun r1 u1 H locs w1 V => ?_)
  obtain ⟨rfl, q1⟩ := w1
  obtain rfl : r1 = nI p := by rw [q1, ho]; rfl
  refine lv_istore_n (lv' := [(1, .int (nI p)), (0, .ref (h 0))]) C.x C.b d_M_suspend_4 rfl hl (by decide) rfl (fun ls hl => ?_)
  refine lv_iload_n C.x C.b d_M_suspend_5 rfl (lv_at hl 0 rfl) ?_
  refine lv_if_lt (tgt := 13) C.x C.b d_M_suspend_6 (by decide) (fun c6 => ?_) (fun c6 => ?_)
  · exact absurd c6 (nI_pos (by omega))
  · refine lv_aload_n C.x C.b d_M_suspend_9 rfl (lv_at hl 1 rfl) ?_
    refine g_vV (q0 := 0) (As := []) (rest := []) C V cs_M_77 (c_M_putAsideR X I B T (by omega)) rfl rfl (by decide) rfl hl.1 rfl (Nat.le_of_ble_eq_true rfl) d_M_suspend_10 (fun u10 H locs w10 V => ?_)
    refine lv_iload_n C.x C.b d_M_suspend_13 rfl (lv_at hl 0 rfl) ?_
    exact g_iret C _ V (by unfold o_suspend; rw [ho]; exact ⟨rfl, w10⟩) d_M_suspend_14
theorem c_M_suspend (X : RM w a) (I : Inv a) (P : Prs a) (B : Nat) (T : Td a B) (hB : B < 2 ^ 49) : gMi lx D (ty3 cI cZ cJ) (MW h cI cZ cJ) y_M_suspend b_M_suspend 2 (some .int) ({ frames := 2, cells := 0, slots := 0, locals := 50 } : Room) 0 0 [.ref (h 0)] (MW h cI cZ cJ w) (fun r u' => r = (o_suspend a).1 ∧ RM u' (o_suspend a).2) := by
  cases ho : a_pres a with
  | none => exact c_M_suspend0 X I P B T hB ho
  | some p => exact c_M_suspend1 X I P B T hB p ho
set_option maxHeartbeats 200000 in
set_option maxRecDepth 20000 in
theorem c_M_end0 (X : RM w a) (I : Inv a) (P : Prs a) (B : Nat) (T : Td a B) (hB : B < 2 ^ 49) (ho : a_pres a = none)  : gMi lx D (ty3 cI cZ cJ) (MW h cI cZ cJ) y_M_end b_M_end 2 (some .int) ({ frames := 2, cells := 0, slots := 0, locals := 50 } : Room) 0 0 [.ref (h 0)] ((MW h cI cZ cJ) w) (fun r u' => r = (o_end a).1 ∧ RM u' (o_end a).2) := by
  refine gMi.of (by decide) (Nat.le_of_ble_eq_true rfl) (fun pg ev st md bl mt cd A ls C hmn hl V => ?_)
  have hl : lv_has ls 2 [(0, .ref (h 0))] := hl
  refine lv_aload_n C.x C.b d_M_end_0 rfl (lv_at hl 0 rfl) ?_
  refine g_iV (q0 := 0) (As := []) (rest := []) C V cs_M_52 (c_M_presentOne X) rfl rfl (by decide) rfl hl.1 rfl (Nat.le_of_ble_eq_true rfl) d_M_end_1 (fun r1 u1 H locs w1 V => ?_)
  obtain ⟨rfl, q1⟩ := w1
  obtain rfl : r1 = -1 := by rw [q1, ho]; rfl
  refine lv_istore_n (lv' := [(1, .int (-1)), (0, .ref (h 0))]) C.x C.b d_M_end_4 rfl hl (by decide) rfl (fun ls hl => ?_)
  refine lv_iload_n C.x C.b d_M_end_5 rfl (lv_at hl 0 rfl) ?_
  refine lv_if_lt (tgt := 40) C.x C.b d_M_end_6 (by decide) (fun c6 => ?_) (fun c6 => ?_)
  · refine lv_iload_n C.x C.b d_M_end_40 rfl (lv_at hl 0 rfl) ?_
    exact g_iret C _ V (by unfold o_end; rw [ho]; exact ⟨rfl, X⟩) d_M_end_41
  · exact absurd (by decide) c6
set_option maxHeartbeats 200000 in
set_option maxRecDepth 20000 in
theorem c_M_end1 (X : RM w a) (I : Inv a) (P : Prs a) (B : Nat) (T : Td a B) (hB : B < 2 ^ 49) (p : Nat) (ho : a_pres a = some p)  : gMi lx D (ty3 cI cZ cJ) (MW h cI cZ cJ) y_M_end b_M_end 2 (some .int) ({ frames := 2, cells := 0, slots := 0, locals := 50 } : Room) 0 0 [.ref (h 0)] ((MW h cI cZ cJ) w) (fun r u' => r = (o_end a).1 ∧ RM u' (o_end a).2) := by
  refine gMi.of (by decide) (Nat.le_of_ble_eq_true rfl) (fun pg ev st md bl mt cd A ls C hmn hl V => ?_)
  have hl : lv_has ls 2 [(0, .ref (h 0))] := hl
  have hq := P p ho
  have hq32 := hq.1
  refine lv_aload_n C.x C.b d_M_end_0 rfl (lv_at hl 0 rfl) ?_
  refine g_iV (q0 := 0) (As := []) (rest := []) C V cs_M_52 (c_M_presentOne X) rfl rfl (by decide) rfl hl.1 rfl (Nat.le_of_ble_eq_true rfl) d_M_end_1 (fun r1 u1 H locs w1 V => ?_)
  obtain ⟨rfl, q1⟩ := w1
  obtain rfl : r1 = nI p := by rw [q1, ho]; rfl
  refine lv_istore_n (lv' := [(1, .int (nI p)), (0, .ref (h 0))]) C.x C.b d_M_end_4 rfl hl (by decide) rfl (fun ls hl => ?_)
  refine lv_iload_n C.x C.b d_M_end_5 rfl (lv_at hl 0 rfl) ?_
  refine lv_if_lt (tgt := 40) C.x C.b d_M_end_6 (by decide) (fun c6 => ?_) (fun c6 => ?_)
  · exact absurd c6 (nI_pos (by omega))
  · refine lv_aload_n C.x C.b d_M_end_9 rfl (lv_at hl 1 rfl) ?_
    refine mg_made C V fl_M_7 d_M_end_10 ?_
    refine lv_iload_n C.x C.b d_M_end_13 rfl (lv_at hl 0 rfl) ?_
    refine lv_iconst (v := 0) C.x C.b d_M_end_14 (by decide) ?_
    refine ms_made (p) C V rfl hq.1 (by decide) d_M_end_15 (fun H locs V => ?_)
    have X2 := rm_unmk X (p := p)
    have F2 : RF (mM' w (upd (mM w) p 0)) (a_act (a_unmk a p) none) := X2.f
    have I2 := inv_unact I hq.1 hq.2.2
    refine lv_aload_n C.x C.b d_M_end_16 rfl (lv_at hl 1 rfl) ?_
    refine g_vV (q0 := 0) (As := []) (rest := []) C V cs_M_77 (c_M_putAside F2 I2 B T (by omega)) rfl rfl (by decide) rfl hl.1 rfl (Nat.le_of_ble_eq_true rfl) d_M_end_17 (fun u17 H locs w17 V => ?_)
    have X3 := rm_aside X2 (top_b I2 8 (Nat.le_refl 8))
    have e17 : u17 = mAside (mM' w (upd (mM w) p 0)) (a_top (aQ (a_unmk a p)) 8) := w17
    rw [← e17] at X3
    have hac : aA (a_aside (a_unmk a p)) = aA a := by unfold a_aside; cases a_top (aQ (a_unmk a p)) 8 <;> rfl
    refine lv_aload_n C.x C.b d_M_end_20 rfl (lv_at hl 1 rfl) ?_
    refine lv_iload_n C.x C.b d_M_end_21 rfl (lv_at hl 0 rfl) ?_
    refine lv_aload_n C.x C.b d_M_end_22 rfl (lv_at hl 1 rfl) ?_
    refine mg_active C V fl_M_33 d_M_end_23 ?_
    refine lv_topi (fun v23 e23 => ?_)
    obtain rfl : v23 = eN (aA a) := by rw [e23, X3.ac, hac]
    refine lv_icmp_ne (tgt := 33) C.x C.b d_M_end_26 (by decide) (fun c26 => ?_) (fun c26 => ?_)
    · have hne : ¬ aA a = some p := fun z => c26 (by rw [z]; rfl)
      refine lv_aload_n C.x C.b d_M_end_33 rfl (lv_at hl 1 rfl) ?_
      refine mg_active C V fl_M_33 d_M_end_34 ?_
      refine lv_topi (fun v34 e34 => ?_)
      obtain rfl : v34 = eN (aA a) := by rw [e34, X3.ac, hac]
      refine mp_active C V fl_M_33 d_M_end_37 (fun H locs V => ?_)
      refine lv_iload_n C.x C.b d_M_end_40 rfl (lv_at hl 0 rfl) ?_
      exact g_iret C _ V (by unfold o_end; rw [ho]; refine ⟨rfl, ?_⟩; dsimp only; rw [end_eq]; unfold a_forget; rw [hac]; first | (rw [if_pos heq]; exact rm_act X3 none rfl) | (rw [if_neg hne]; exact rm_act X3 (aA (a_aside (a_unmk a p))) (x := eN (aA a)) (by rw [hac]))) d_M_end_41
    · have heq : aA a = some p := ((eN_i (o := some p) (fun q hq => by cases hq; exact hq32) I.act32).mp c26).symm
      refine lv_iconst (v := -1) C.x C.b d_M_end_29 (by decide) ?_
      refine lv_goto (tgt := 37) C.x C.b d_M_end_30 (by decide) ?_
      refine mp_active C V fl_M_33 d_M_end_37 (fun H locs V => ?_)
      refine lv_iload_n C.x C.b d_M_end_40 rfl (lv_at hl 0 rfl) ?_
      exact g_iret C _ V (by unfold o_end; rw [ho]; refine ⟨rfl, ?_⟩; dsimp only; rw [end_eq]; unfold a_forget; rw [hac]; first | (rw [if_pos heq]; exact rm_act X3 none rfl) | (rw [if_neg hne]; exact rm_act X3 (aA (a_aside (a_unmk a p))) (x := eN (aA a)) (by rw [hac]))) d_M_end_41
theorem c_M_end (X : RM w a) (I : Inv a) (P : Prs a) (B : Nat) (T : Td a B) (hB : B < 2 ^ 49) : gMi lx D (ty3 cI cZ cJ) (MW h cI cZ cJ) y_M_end b_M_end 2 (some .int) ({ frames := 2, cells := 0, slots := 0, locals := 50 } : Room) 0 0 [.ref (h 0)] (MW h cI cZ cJ w) (fun r u' => r = (o_end a).1 ∧ RM u' (o_end a).2) := by
  cases ho : a_pres a with
  | none => exact c_M_end0 X I P B T hB ho
  | some p => exact c_M_end1 X I P B T hB p ho
set_option maxHeartbeats 200000 in
set_option maxRecDepth 20000 in
theorem c_M_signal0 (X : RM w a) (I : Inv a) (P : Prs a) (B : Nat) (T : Td a B) (hB : B < 2 ^ 49) (x : Int32) (hx : ¬ (¬ x < 0 ∧ x < 16)) (es : sOf x = none)  : gMi lx D (ty3 cI cZ cJ) (MW h cI cZ cJ) y_M_signal b_M_signal 2 (some .boolean) ({ frames := 3, cells := 0, slots := 0, locals := 66 } : Room) 0 0 [.ref (h 0), .int x] ((MW h cI cZ cJ) w) (fun r u' => r = (o_signal a x).1 ∧ RM u' (o_signal a x).2) := by
  refine gMi.of (by decide) (Nat.le_of_ble_eq_true rfl) (fun pg ev st md bl mt cd A ls C hmn hl V => ?_)
  have hl : lv_has ls 2 [(0, .ref (h 0)), (1, .int x)] := hl
  refine lv_iload_n C.x C.b d_M_signal_0 rfl (lv_at hl 1 rfl) ?_
  refine g_iS (As := [.int x]) (rest := []) C V cs_M_80 (c_M_isSemaphore (Wd := MW h cI cZ cJ) (x)) (by decide) rfl hl.1 rfl (Nat.le_of_ble_eq_true rfl) d_M_signal_1 (fun r1 u1 H locs w1 V => ?_)
  obtain ⟨rfl, q1⟩ := w1
  obtain rfl : r1 = 0 := by rw [q1, if_neg hx]
  refine lv_if_ne (tgt := 9) C.x C.b d_M_signal_4 (by decide) (fun c4 => ?_) (fun c4 => ?_)
  · exact absurd rfl c4
  · refine lv_iconst (v := 0) C.x C.b d_M_signal_7 (by decide) ?_
    exact g_zret C _ V (by unfold o_signal; rw [es]; exact ⟨rfl, X⟩) (by simp) d_M_signal_8
set_option maxHeartbeats 200000 in
set_option maxRecDepth 20000 in
theorem c_M_signal1 (X : RM w a) (I : Inv a) (P : Prs a) (B : Nat) (T : Td a B) (hB : B < 2 ^ 49) (s : Nat) (hs : s < 16) (es : sOf (nI s) = some s) (hx : ¬ nI s < 0 ∧ nI s < 16)  : gMi lx D (ty3 cI cZ cJ) (MW h cI cZ cJ) y_M_signal b_M_signal 2 (some .boolean) ({ frames := 3, cells := 0, slots := 0, locals := 66 } : Room) 0 0 [.ref (h 0), .int (nI s)] ((MW h cI cZ cJ) w) (fun r u' => r = (o_signal a (nI s)).1 ∧ RM u' (o_signal a (nI s)).2) := by
  refine gMi.of (by decide) (Nat.le_of_ble_eq_true rfl) (fun pg ev st md bl mt cd A ls C hmn hl V => ?_)
  have hl : lv_has ls 2 [(0, .ref (h 0)), (1, .int (nI s))] := hl
  refine lv_iload_n C.x C.b d_M_signal_0 rfl (lv_at hl 1 rfl) ?_
  refine g_iS (As := [.int (nI s)]) (rest := []) C V cs_M_80 (c_M_isSemaphore (Wd := MW h cI cZ cJ) (nI s)) (by decide) rfl hl.1 rfl (Nat.le_of_ble_eq_true rfl) d_M_signal_1 (fun r1 u1 H locs w1 V => ?_)
  obtain ⟨rfl, q1⟩ := w1
  obtain rfl : r1 = 1 := by rw [q1, if_pos hx]
  refine lv_if_ne (tgt := 9) C.x C.b d_M_signal_4 (by decide) (fun c4 => ?_) (fun c4 => ?_)
  · refine lv_aload_n C.x C.b d_M_signal_9 rfl (lv_at hl 0 rfl) ?_
    refine lv_iload_n C.x C.b d_M_signal_10 rfl (lv_at hl 1 rfl) ?_
    refine g_vV (q0 := 0) (As := [.int (nI s)]) (rest := []) C V cs_M_83 (c_M_give X I P B T (by omega) s hs) rfl rfl (by decide) rfl hl.1 rfl (Nat.le_of_ble_eq_true rfl) d_M_signal_11 (fun u11 H locs w11 V => ?_)
    refine lv_iconst (v := 1) C.x C.b d_M_signal_14 (by decide) ?_
    exact g_zret C _ V (by unfold o_signal; rw [es]; exact ⟨rfl, w11⟩) (by simp) d_M_signal_15
  · exact absurd c4 (by decide)
theorem c_M_signal (X : RM w a) (I : Inv a) (P : Prs a) (B : Nat) (T : Td a B) (hB : B < 2 ^ 49) (x : Int32) : gMi lx D (ty3 cI cZ cJ) (MW h cI cZ cJ) y_M_signal b_M_signal 2 (some .boolean) ({ frames := 3, cells := 0, slots := 0, locals := 66 } : Room) 0 0 [.ref (h 0), .int x] (MW h cI cZ cJ w) (fun r u' => r = (o_signal a x).1 ∧ RM u' (o_signal a x).2) := by
  rcases sOf_c x with ⟨s, hs, rfl, es, hx⟩ | ⟨hx, es⟩
  · exact c_M_signal1 X I P B T hB s hs es hx
  · exact c_M_signal0 X I P B T hB x hx es
set_option maxHeartbeats 200000 in
set_option maxRecDepth 20000 in
theorem c_M_post0 (X : RM w a) (I : Inv a) (x : Int32) (hx : ¬ (¬ x < 0 ∧ x < 16)) (es : sOf x = none)  : gMi lx D (ty3 cI cZ cJ) (MW h cI cZ cJ) y_M_post b_M_post 2 (some .int) ({ frames := 1, cells := 0, slots := 0, locals := 20 } : Room) 0 0 [.ref (h 0), .int x] ((MW h cI cZ cJ) w) (fun r u' => r = (o_post a x).1 ∧ RM u' (o_post a x).2) := by
  refine gMi.of (by decide) (Nat.le_of_ble_eq_true rfl) (fun pg ev st md bl mt cd A ls C hmn hl V => ?_)
  have hl : lv_has ls 2 [(0, .ref (h 0)), (1, .int x)] := hl
  refine lv_iload_n C.x C.b d_M_post_0 rfl (lv_at hl 1 rfl) ?_
  refine g_iS (As := [.int x]) (rest := []) C V cs_M_80 (c_M_isSemaphore (Wd := MW h cI cZ cJ) (x)) (by decide) rfl hl.1 rfl (Nat.le_of_ble_eq_true rfl) d_M_post_1 (fun r1 u1 H locs w1 V => ?_)
  obtain ⟨rfl, q1⟩ := w1
  obtain rfl : r1 = 0 := by rw [q1, if_neg hx]
  refine lv_if_eq (tgt := 16) C.x C.b d_M_post_4 (by decide) (fun c4 => ?_) (fun c4 => ?_)
  · refine lv_iconst (v := -1) C.x C.b d_M_post_16 (by decide) ?_
    exact g_iret C _ V (by unfold o_post; rw [es]; exact ⟨rfl, X⟩) d_M_post_17
  · exact absurd rfl c4
set_option maxHeartbeats 200000 in
set_option maxRecDepth 20000 in
theorem c_M_post1 (X : RM w a) (I : Inv a) (s : Nat) (hs : s < 16) (es : sOf (nI s) = some s) (hx : ¬ nI s < 0 ∧ nI s < 16)  : gMi lx D (ty3 cI cZ cJ) (MW h cI cZ cJ) y_M_post b_M_post 2 (some .int) ({ frames := 1, cells := 0, slots := 0, locals := 20 } : Room) 0 0 [.ref (h 0), .int (nI s)] ((MW h cI cZ cJ) w) (fun r u' => r = (o_post a (nI s)).1 ∧ RM u' (o_post a (nI s)).2) := by
  refine gMi.of (by decide) (Nat.le_of_ble_eq_true rfl) (fun pg ev st md bl mt cd A ls C hmn hl V => ?_)
  have hl : lv_has ls 2 [(0, .ref (h 0)), (1, .int (nI s))] := hl
  have hlen := I.len
  refine lv_iload_n C.x C.b d_M_post_0 rfl (lv_at hl 1 rfl) ?_
  refine g_iS (As := [.int (nI s)]) (rest := []) C V cs_M_80 (c_M_isSemaphore (Wd := MW h cI cZ cJ) (nI s)) (by decide) rfl hl.1 rfl (Nat.le_of_ble_eq_true rfl) d_M_post_1 (fun r1 u1 H locs w1 V => ?_)
  obtain ⟨rfl, q1⟩ := w1
  obtain rfl : r1 = 1 := by rw [q1, if_pos hx]
  refine lv_if_eq (tgt := 16) C.x C.b d_M_post_4 (by decide) (fun c4 => ?_) (fun c4 => ?_)
  · exact absurd c4 (by decide)
  · refine lv_aload_n C.x C.b d_M_post_7 rfl (lv_at hl 0 rfl) ?_
    refine mg_posts C V fl_M_86 d_M_post_8 ?_
    refine lv_topi (fun v8 e8 => ?_)
    obtain rfl : v8 = nI (aO a).length := by rw [e8]; exact X.ln
    refine lv_bipush (v := 40) C.x C.b d_M_post_11 (by decide) ?_
    refine lv_icmp_ne (tgt := 18) C.x C.b d_M_post_13 (by decide) (fun c13 => ?_) (fun c13 => ?_)
    · have hne : ¬ (aO a).length = 40 := fun z => c13 (by rw [z]; rfl)
      refine lv_aload_n C.x C.b d_M_post_18 rfl (lv_at hl 0 rfl) ?_
      refine mg_posted C V fl_M_30 d_M_post_19 ?_
      refine lv_aload_n C.x C.b d_M_post_22 rfl (lv_at hl 0 rfl) ?_
      refine mg_posts C V fl_M_86 d_M_post_23 ?_
      refine lv_topi (fun v23 e23 => ?_)
      obtain rfl : v23 = nI (aO a).length := by rw [e23]; exact X.ln
      refine lv_iload_n C.x C.b d_M_post_26 rfl (lv_at hl 1 rfl) ?_
      refine ms_posted ((aO a).length) C V rfl (by omega) d_M_post_27 (fun H locs V => ?_)
      refine lv_aload_n C.x C.b d_M_post_28 rfl (lv_at hl 0 rfl) ?_
      refine lv_aload_n C.x C.b d_M_post_29 rfl (lv_at hl 0 rfl) ?_
      refine mg_posts C V fl_M_86 d_M_post_30 ?_
      refine lv_topi (fun v30 e30 => ?_)
      obtain rfl : v30 = nI (aO a).length := by rw [e30]; exact X.ln
      refine lv_iconst (v := 1) C.x C.b d_M_post_33 (by decide) ?_
      refine lv_iadd C.x C.b d_M_post_34 ?_
      refine lv_topi (fun v34 e34 => ?_)
      obtain rfl : v34 = nI ((aO a).length + 1) := by rw [e34]; exact nI_1 _
      refine mp_posts C V fl_M_86 d_M_post_35 (fun H locs V => ?_)
      refine lv_aload_n C.x C.b d_M_post_38 rfl (lv_at hl 0 rfl) ?_
      refine mg_posts C V fl_M_86 d_M_post_39 ?_
      refine lv_topi (fun v39 e39 => ?_)
      exact g_iret C _ V (by unfold o_post; rw [es]; dsimp only; unfold a_post; rw [if_neg hne]; exact ⟨e39, rm_push X⟩) d_M_post_42
    · have heq : (aO a).length = 40 := (nI_eq (by omega) (by decide)).mp (show nI (aO a).length = nI 40 from c13)
      refine lv_iconst (v := -1) C.x C.b d_M_post_16 (by decide) ?_
      exact g_iret C _ V (by unfold o_post; rw [es]; dsimp only; unfold a_post; rw [if_pos heq]; exact ⟨rfl, X⟩) d_M_post_17
theorem c_M_post (X : RM w a) (I : Inv a) (x : Int32) : gMi lx D (ty3 cI cZ cJ) (MW h cI cZ cJ) y_M_post b_M_post 2 (some .int) ({ frames := 1, cells := 0, slots := 0, locals := 20 } : Room) 0 0 [.ref (h 0), .int x] (MW h cI cZ cJ w) (fun r u' => r = (o_post a x).1 ∧ RM u' (o_post a x).2) := by
  rcases sOf_c x with ⟨s, hs, rfl, es, hx⟩ | ⟨hx, es⟩
  · exact c_M_post1 X I s hs es hx
  · exact c_M_post0 X I x hx es
set_option maxHeartbeats 200000 in
set_option maxRecDepth 20000 in
theorem c_M_await00 (X : RM w a) (I : Inv a) (P : Prs a) (B : Nat) (T : Td a B) (hB : B < 2 ^ 49) (x : Int32) (hx : ¬ (¬ x < 0 ∧ x < 16)) (es : sOf x = none) (o : Option Nat) (ho : a_pres a = o) : gMi lx D (ty3 cI cZ cJ) (MW h cI cZ cJ) y_M_await b_M_await 3 (some .int) ({ frames := 2, cells := 0, slots := 0, locals := 50 } : Room) 0 0 [.ref (h 0), .int x] ((MW h cI cZ cJ) w) (fun r u' => r = (o_await a x).1 ∧ RM u' (o_await a x).2) := by
  refine gMi.of (by decide) (Nat.le_of_ble_eq_true rfl) (fun pg ev st md bl mt cd A ls C hmn hl V => ?_)
  have hl : lv_has ls 3 [(0, .ref (h 0)), (1, .int x)] := hl
  refine lv_aload_n C.x C.b d_M_await_0 rfl (lv_at hl 0 rfl) ?_
  refine g_iV (q0 := 0) (As := []) (rest := []) C V cs_M_52 (c_M_presentOne X) rfl rfl (by decide) rfl hl.1 rfl (Nat.le_of_ble_eq_true rfl) d_M_await_1 (fun r1 u1 H locs w1 V => ?_)
  obtain ⟨rfl, q1⟩ := w1
  refine lv_istore_n (lv' := [(2, .int r1), (0, .ref (h 0)), (1, .int x)]) C.x C.b d_M_await_4 rfl hl (by decide) rfl (fun ls hl => ?_)
  refine lv_iload_n C.x C.b d_M_await_5 rfl (lv_at hl 2 rfl) ?_
  refine g_iS (As := [.int x]) (rest := []) C V cs_M_80 (c_M_isSemaphore (Wd := MW h cI cZ cJ) (x)) (by decide) rfl hl.1 rfl (Nat.le_of_ble_eq_true rfl) d_M_await_6 (fun r6 u6 H locs w6 V => ?_)
  obtain ⟨rfl, q6⟩ := w6
  obtain rfl : r6 = 0 := by rw [q6, if_neg hx]
  refine lv_if_eq (tgt := 16) C.x C.b d_M_await_9 (by decide) (fun c9 => ?_) (fun c9 => ?_)
  · refine lv_iconst (v := -1) C.x C.b d_M_await_16 (by decide) ?_
    exact g_iret C _ V (by unfold o_await; rw [es]; exact ⟨rfl, X⟩) d_M_await_17
  · exact absurd rfl c9
set_option maxHeartbeats 200000 in
set_option maxRecDepth 20000 in
theorem c_M_await2 (X : RM w a) (I : Inv a) (P : Prs a) (B : Nat) (T : Td a B) (hB : B < 2 ^ 49) (s : Nat) (hs : s < 16) (es : sOf (nI s) = some s) (hx : ¬ nI s < 0 ∧ nI s < 16) (ho : a_pres a = none)  : gMi lx D (ty3 cI cZ cJ) (MW h cI cZ cJ) y_M_await b_M_await 3 (some .int) ({ frames := 2, cells := 0, slots := 0, locals := 50 } : Room) 0 0 [.ref (h 0), .int (nI s)] ((MW h cI cZ cJ) w) (fun r u' => r = (o_await a (nI s)).1 ∧ RM u' (o_await a (nI s)).2) := by
  refine gMi.of (by decide) (Nat.le_of_ble_eq_true rfl) (fun pg ev st md bl mt cd A ls C hmn hl V => ?_)
  have hl : lv_has ls 3 [(0, .ref (h 0)), (1, .int (nI s))] := hl
  refine lv_aload_n C.x C.b d_M_await_0 rfl (lv_at hl 0 rfl) ?_
  refine g_iV (q0 := 0) (As := []) (rest := []) C V cs_M_52 (c_M_presentOne X) rfl rfl (by decide) rfl hl.1 rfl (Nat.le_of_ble_eq_true rfl) d_M_await_1 (fun r1 u1 H locs w1 V => ?_)
  obtain ⟨rfl, q1⟩ := w1
  obtain rfl : r1 = -1 := by rw [q1, ho]; rfl
  refine lv_istore_n (lv' := [(2, .int (-1)), (0, .ref (h 0)), (1, .int (nI s))]) C.x C.b d_M_await_4 rfl hl (by decide) rfl (fun ls hl => ?_)
  refine lv_iload_n C.x C.b d_M_await_5 rfl (lv_at hl 2 rfl) ?_
  refine g_iS (As := [.int (nI s)]) (rest := []) C V cs_M_80 (c_M_isSemaphore (Wd := MW h cI cZ cJ) (nI s)) (by decide) rfl hl.1 rfl (Nat.le_of_ble_eq_true rfl) d_M_await_6 (fun r6 u6 H locs w6 V => ?_)
  obtain ⟨rfl, q6⟩ := w6
  obtain rfl : r6 = 1 := by rw [q6, if_pos hx]
  refine lv_if_eq (tgt := 16) C.x C.b d_M_await_9 (by decide) (fun c9 => ?_) (fun c9 => ?_)
  · exact absurd c9 (by decide)
  · refine lv_iload_n C.x C.b d_M_await_12 rfl (lv_at hl 0 rfl) ?_
    refine lv_if_ge (tgt := 18) C.x C.b d_M_await_13 (by decide) (fun c13 => ?_) (fun c13 => ?_)
    · exact absurd c13 (by decide)
    · refine lv_iconst (v := -1) C.x C.b d_M_await_16 (by decide) ?_
      exact g_iret C _ V (by unfold o_await; rw [es]; dsimp only; unfold a_await; rw [ho]; exact ⟨rfl, X⟩) d_M_await_17
set_option maxHeartbeats 200000 in
set_option maxRecDepth 20000 in
theorem c_M_await3 (X : RM w a) (I : Inv a) (P : Prs a) (B : Nat) (T : Td a B) (hB : B < 2 ^ 49) (hE : ∀ s, aE a s < 2 ^ 20) (s : Nat) (hs : s < 16) (es : sOf (nI s) = some s) (hx : ¬ nI s < 0 ∧ nI s < 16) (p : Nat) (ho : a_pres a = some p)  : gMi lx D (ty3 cI cZ cJ) (MW h cI cZ cJ) y_M_await b_M_await 3 (some .int) ({ frames := 2, cells := 0, slots := 0, locals := 50 } : Room) 0 0 [.ref (h 0), .int (nI s)] ((MW h cI cZ cJ) w) (fun r u' => r = (o_await a (nI s)).1 ∧ RM u' (o_await a (nI s)).2) := by
  refine gMi.of (by decide) (Nat.le_of_ble_eq_true rfl) (fun pg ev st md bl mt cd A ls C hmn hl V => ?_)
  have hl : lv_has ls 3 [(0, .ref (h 0)), (1, .int (nI s))] := hl
  have hq := P p ho
  have hq32 := hq.1
  have hv : vR (16 + s) := Or.inr ⟨by omega, by omega⟩
  have hE := hE s
  refine lv_aload_n C.x C.b d_M_await_0 rfl (lv_at hl 0 rfl) ?_
  refine g_iV (q0 := 0) (As := []) (rest := []) C V cs_M_52 (c_M_presentOne X) rfl rfl (by decide) rfl hl.1 rfl (Nat.le_of_ble_eq_true rfl) d_M_await_1 (fun r1 u1 H locs w1 V => ?_)
  obtain ⟨rfl, q1⟩ := w1
  obtain rfl : r1 = nI p := by rw [q1, ho]; rfl
  refine lv_istore_n (lv' := [(2, .int (nI p)), (0, .ref (h 0)), (1, .int (nI s))]) C.x C.b d_M_await_4 rfl hl (by decide) rfl (fun ls hl => ?_)
  refine lv_iload_n C.x C.b d_M_await_5 rfl (lv_at hl 2 rfl) ?_
  refine g_iS (As := [.int (nI s)]) (rest := []) C V cs_M_80 (c_M_isSemaphore (Wd := MW h cI cZ cJ) (nI s)) (by decide) rfl hl.1 rfl (Nat.le_of_ble_eq_true rfl) d_M_await_6 (fun r6 u6 H locs w6 V => ?_)
  obtain ⟨rfl, q6⟩ := w6
  obtain rfl : r6 = 1 := by rw [q6, if_pos hx]
  refine lv_if_eq (tgt := 16) C.x C.b d_M_await_9 (by decide) (fun c9 => ?_) (fun c9 => ?_)
  · exact absurd c9 (by decide)
  · refine lv_iload_n C.x C.b d_M_await_12 rfl (lv_at hl 0 rfl) ?_
    refine lv_if_ge (tgt := 18) C.x C.b d_M_await_13 (by decide) (fun c13 => ?_) (fun c13 => ?_)
    · refine lv_aload_n C.x C.b d_M_await_18 rfl (lv_at hl 1 rfl) ?_
      refine mg_extras C V fl_M_27 d_M_await_19 ?_
      refine lv_iload_n C.x C.b d_M_await_22 rfl (lv_at hl 2 rfl) ?_
      refine ma_extras (s) C V rfl hs d_M_await_23 ?_
      refine lv_topi (fun v23 e23 => ?_)
      obtain rfl : v23 = nI (aE a s) := by rw [e23]; exact X.ex hs
      refine lv_if_le (tgt := 43) C.x C.b d_M_await_24 (by decide) (fun c24 => ?_) (fun c24 => ?_)
      · have hz : ¬ 0 < aE a s := fun z => absurd c24 (nI_nle z (by omega))
        refine lv_aload_n C.x C.b d_M_await_43 rfl (lv_at hl 1 rfl) ?_
        refine lv_iload_n C.x C.b d_M_await_44 rfl (lv_at hl 0 rfl) ?_
        refine lv_bipush (v := 16) C.x C.b d_M_await_45 (by decide) ?_
        refine lv_iload_n C.x C.b d_M_await_47 rfl (lv_at hl 2 rfl) ?_
        refine lv_iadd C.x C.b d_M_await_48 ?_
        refine lv_topi (fun v48 e48 => ?_)
        obtain rfl : v48 = nI (16 + s) := by rw [e48, show (16 : Int32) = nI 16 from rfl, nI_add]
        refine g_vV (q0 := 0) (As := [.int (nI p), .int (nI (16 + s))]) (rest := []) C V cs_M_56 (c_M_enter X p (16 + s) hq.1) rfl rfl (by decide) rfl hl.1 rfl (Nat.le_of_ble_eq_true rfl) d_M_await_49 (fun u49 H locs w49 V => ?_)
        have I2 := inv_enq I hq.1 hq.2.1 hq.2.2 hv
        refine lv_aload_n C.x C.b d_M_await_52 rfl (lv_at hl 1 rfl) ?_
        refine g_vV (q0 := 0) (As := []) (rest := []) C V cs_M_77 (c_M_putAsideR w49 I2 (B + 1) (td_enq T) (by omega)) rfl rfl (by decide) rfl hl.1 rfl (Nat.le_of_ble_eq_true rfl) d_M_await_53 (fun u53 H locs w53 V => ?_)
        refine lv_iconst (v := 0) C.x C.b d_M_await_56 (by decide) ?_
        exact g_iret C _ V (by unfold o_await; rw [es]; dsimp only; unfold a_await; rw [ho]; dsimp only; rw [if_neg hz]; exact ⟨rfl, w53⟩) d_M_await_57
      · have hz : 0 < aE a s := Nat.pos_of_ne_zero (fun z => c24 (by rw [z]; exact Int32.le_refl 0))
        refine lv_aload_n C.x C.b d_M_await_27 rfl (lv_at hl 1 rfl) ?_
        refine mg_extras C V fl_M_27 d_M_await_28 ?_
        refine lv_iload_n C.x C.b d_M_await_31 rfl (lv_at hl 2 rfl) ?_
        refine lv_aload_n C.x C.b d_M_await_32 rfl (lv_at hl 1 rfl) ?_
        refine mg_extras C V fl_M_27 d_M_await_33 ?_
        refine lv_iload_n C.x C.b d_M_await_36 rfl (lv_at hl 2 rfl) ?_
        refine ma_extras (s) C V rfl hs d_M_await_37 ?_
        refine lv_topi (fun v37 e37 => ?_)
        obtain rfl : v37 = nI (aE a s) := by rw [e37]; exact X.ex hs
        refine lv_iconst (v := 1) C.x C.b d_M_await_38 (by decide) ?_
        refine lv_isub C.x C.b d_M_await_39 ?_
        refine lv_topi (fun v39 e39 => ?_)
        obtain rfl : v39 = nI (aE a s - 1) := by rw [e39]; exact pk_sub (b := 1) hz
        refine ms_extras (s) C V rfl hs d_M_await_40 (fun H locs V => ?_)
        refine lv_iconst (v := 1) C.x C.b d_M_await_41 (by decide) ?_
        exact g_iret C _ V (by unfold o_await; rw [es]; dsimp only; unfold a_await; rw [ho]; dsimp only; rw [if_pos hz]; exact ⟨rfl, rm_ext X⟩) d_M_await_42
    · exact absurd (nI_pos' (by omega)) c13
theorem c_M_await (X : RM w a) (I : Inv a) (P : Prs a) (B : Nat) (T : Td a B) (hB : B < 2 ^ 49) (hE : ∀ s, aE a s < 2 ^ 20) (x : Int32) : gMi lx D (ty3 cI cZ cJ) (MW h cI cZ cJ) y_M_await b_M_await 3 (some .int) ({ frames := 2, cells := 0, slots := 0, locals := 50 } : Room) 0 0 [.ref (h 0), .int x] (MW h cI cZ cJ w) (fun r u' => r = (o_await a x).1 ∧ RM u' (o_await a x).2) := by
  rcases sOf_c x with ⟨s, hs, rfl, es, hx⟩ | ⟨hx, es⟩
  · cases ho : a_pres a with
    | none => exact c_M_await2 X I P B T hB s hs es hx ho
    | some p => exact c_M_await3 X I P B T hB hE s hs es hx p ho
  · exact c_M_await00 X I P B T hB x hx es _ rfl
set_option maxHeartbeats 200000 in
set_option maxRecDepth 20000 in
theorem c_M_yield0 (X : RM w a) (I : Inv a) (P : Prs a) (B : Nat) (T : Td a B) (hB : B < 2 ^ 49) (ho : a_pres a = none)  : gMi lx D (ty3 cI cZ cJ) (MW h cI cZ cJ) y_M_yield b_M_yield 2 (some .boolean) ({ frames := 2, cells := 0, slots := 0, locals := 50 } : Room) 0 0 [.ref (h 0)] ((MW h cI cZ cJ) w) (fun r u' => r = (a_yield a).1 ∧ RM u' (a_yield a).2) := by
  refine gMi.of (by decide) (Nat.le_of_ble_eq_true rfl) (fun pg ev st md bl mt cd A ls C hmn hl V => ?_)
  have hl : lv_has ls 2 [(0, .ref (h 0))] := hl
  refine lv_aload_n C.x C.b d_M_yield_0 rfl (lv_at hl 0 rfl) ?_
  refine g_iV (q0 := 0) (As := []) (rest := []) C V cs_M_52 (c_M_presentOne X) rfl rfl (by decide) rfl hl.1 rfl (Nat.le_of_ble_eq_true rfl) d_M_yield_1 (fun r1 u1 H locs w1 V => ?_)
  obtain ⟨rfl, q1⟩ := w1
  obtain rfl : r1 = -1 := by rw [q1, ho]; rfl
  refine lv_istore_n (lv' := [(1, .int (-1)), (0, .ref (h 0))]) C.x C.b d_M_yield_4 rfl hl (by decide) rfl (fun ls hl => ?_)
  refine lv_iload_n C.x C.b d_M_yield_5 rfl (lv_at hl 0 rfl) ?_
  refine lv_if_lt (tgt := 23) C.x C.b d_M_yield_6 (by decide) (fun c6 => ?_) (fun c6 => ?_)
  · refine lv_iconst (v := 0) C.x C.b d_M_yield_23 (by decide) ?_
    exact g_zret C _ V (by unfold a_yield; rw [ho]; exact ⟨rfl, X⟩) (by simp) d_M_yield_24
  · exact absurd (by decide) c6
set_option maxHeartbeats 200000 in
set_option maxRecDepth 20000 in
theorem c_M_yield1 (X : RM w a) (I : Inv a) (P : Prs a) (B : Nat) (T : Td a B) (hB : B < 2 ^ 49) (p : Nat) (ho : a_pres a = some p)  : gMi lx D (ty3 cI cZ cJ) (MW h cI cZ cJ) y_M_yield b_M_yield 2 (some .boolean) ({ frames := 2, cells := 0, slots := 0, locals := 50 } : Room) 0 0 [.ref (h 0)] ((MW h cI cZ cJ) w) (fun r u' => r = (a_yield a).1 ∧ RM u' (a_yield a).2) := by
  refine gMi.of (by decide) (Nat.le_of_ble_eq_true rfl) (fun pg ev st md bl mt cd A ls C hmn hl V => ?_)
  have hl : lv_has ls 2 [(0, .ref (h 0))] := hl
  have hq := P p ho
  have hq32 := hq.1
  have po := I.pri hq.1 hq.2.1
  have hv : vR (aP a p) := Or.inl po
  refine lv_aload_n C.x C.b d_M_yield_0 rfl (lv_at hl 0 rfl) ?_
  refine g_iV (q0 := 0) (As := []) (rest := []) C V cs_M_52 (c_M_presentOne X) rfl rfl (by decide) rfl hl.1 rfl (Nat.le_of_ble_eq_true rfl) d_M_yield_1 (fun r1 u1 H locs w1 V => ?_)
  obtain ⟨rfl, q1⟩ := w1
  obtain rfl : r1 = nI p := by rw [q1, ho]; rfl
  refine lv_istore_n (lv' := [(1, .int (nI p)), (0, .ref (h 0))]) C.x C.b d_M_yield_4 rfl hl (by decide) rfl (fun ls hl => ?_)
  refine lv_iload_n C.x C.b d_M_yield_5 rfl (lv_at hl 0 rfl) ?_
  refine lv_if_lt (tgt := 23) C.x C.b d_M_yield_6 (by decide) (fun c6 => ?_) (fun c6 => ?_)
  · exact absurd c6 (nI_pos (by omega))
  · refine lv_aload_n C.x C.b d_M_yield_9 rfl (lv_at hl 1 rfl) ?_
    refine lv_aload_n C.x C.b d_M_yield_10 rfl (lv_at hl 1 rfl) ?_
    refine mg_prio C V fl_M_13 d_M_yield_11 ?_
    refine lv_iload_n C.x C.b d_M_yield_14 rfl (lv_at hl 0 rfl) ?_
    refine ma_prio (p) C V rfl hq.1 d_M_yield_15 ?_
    refine lv_topi (fun v15 e15 => ?_)
    obtain rfl : v15 = nI (aP a p) := by rw [e15]; exact X.pr hq.1
    refine lv_iconst (v := 0) C.x C.b d_M_yield_16 (by decide) ?_
    refine g_iV (q0 := 0) (As := [.int (nI (aP a p)), .int 0]) (rest := []) C V cs_M_64 (c_M_findT (F := X.f) I B T (by omega) (aP a p) 0 hv (by decide)) rfl rfl (by decide) rfl hl.1 rfl (Nat.le_of_ble_eq_true rfl) d_M_yield_17 (fun r17 u17 H locs w17 V => ?_)
    obtain ⟨rfl, q17⟩ := w17
    refine lv_if_ge (tgt := 25) C.x C.b d_M_yield_20 (by decide) (fun c20 => ?_) (fun c20 => ?_)
    · have hne : ¬ aQ a (aP a p) = [] := fun z => by rw [q17, z] at c20; exact absurd c20 (by decide)
      refine lv_aload_n C.x C.b d_M_yield_25 rfl (lv_at hl 1 rfl) ?_
      refine lv_iload_n C.x C.b d_M_yield_26 rfl (lv_at hl 0 rfl) ?_
      refine lv_aload_n C.x C.b d_M_yield_27 rfl (lv_at hl 1 rfl) ?_
      refine mg_prio C V fl_M_13 d_M_yield_28 ?_
      refine lv_iload_n C.x C.b d_M_yield_31 rfl (lv_at hl 0 rfl) ?_
      refine ma_prio (p) C V rfl hq.1 d_M_yield_32 ?_
      refine lv_topi (fun v32 e32 => ?_)
      obtain rfl : v32 = nI (aP a p) := by rw [e32]; exact X.pr hq.1
      refine g_vV (q0 := 0) (As := [.int (nI p), .int (nI (aP a p))]) (rest := []) C V cs_M_56 (c_M_enter X p (aP a p) hq.1) rfl rfl (by decide) rfl hl.1 rfl (Nat.le_of_ble_eq_true rfl) d_M_yield_33 (fun u33 H locs w33 V => ?_)
      have I2 := inv_enq I hq.1 hq.2.1 hq.2.2 hv
      refine lv_aload_n C.x C.b d_M_yield_36 rfl (lv_at hl 1 rfl) ?_
      refine g_vV (q0 := 0) (As := []) (rest := []) C V cs_M_77 (c_M_putAsideR w33 I2 (B + 1) (td_enq T) (by omega)) rfl rfl (by decide) rfl hl.1 rfl (Nat.le_of_ble_eq_true rfl) d_M_yield_37 (fun u37 H locs w37 V => ?_)
      refine lv_iconst (v := 1) C.x C.b d_M_yield_40 (by decide) ?_
      exact g_zret C _ V (by unfold a_yield; rw [ho]; dsimp only; rw [if_neg hne]; exact ⟨rfl, w37⟩) (by simp) d_M_yield_41
    · have hem : aQ a (aP a p) = [] := by
        cases z : aQ a (aP a p) with
        | nil => rfl
        | cons y l => rw [q17, z] at c20; exact absurd (nI_pos' (by have := (I.hd hv z).1; omega)) c20
      refine lv_iconst (v := 0) C.x C.b d_M_yield_23 (by decide) ?_
      exact g_zret C _ V (by unfold a_yield; rw [ho]; dsimp only; rw [if_pos hem]; exact ⟨rfl, X⟩) (by simp) d_M_yield_24
theorem c_M_yield (X : RM w a) (I : Inv a) (P : Prs a) (B : Nat) (T : Td a B) (hB : B < 2 ^ 49) : gMi lx D (ty3 cI cZ cJ) (MW h cI cZ cJ) y_M_yield b_M_yield 2 (some .boolean) ({ frames := 2, cells := 0, slots := 0, locals := 50 } : Room) 0 0 [.ref (h 0)] (MW h cI cZ cJ w) (fun r u' => r = (a_yield a).1 ∧ RM u' (a_yield a).2) := by
  cases ho : a_pres a with
  | none => exact c_M_yield0 X I P B T hB ho
  | some p => exact c_M_yield1 X I P B T hB p ho
end
end
section
section
variable {lx : Launch} {D : va_G} {h : Nat → Nat} {cI cZ cJ : ClassId}
variable {w : MS} {a : AS}
set_option maxHeartbeats 200000 in
set_option maxRecDepth 20000 in
theorem c_M_active (X : RM w a) (I : Inv a)  : gMi lx D (ty3 cI cZ cJ) (MW h cI cZ cJ) y_M_active b_M_active 1 (some .int) ({ frames := 0, cells := 0, slots := 0, locals := 0 } : Room) 0 0 [.ref (h 0)] ((MW h cI cZ cJ) w) (fun r u' => w = u' ∧ r = eN (aA a)) := by
  refine gMi.of (by decide) (Nat.le_of_ble_eq_true rfl) (fun pg ev st md bl mt cd A ls C hmn hl V => ?_)
  have hl : lv_has ls 1 [(0, .ref (h 0))] := hl
  refine lv_aload_n C.x C.b d_M_active_0 rfl (lv_at hl 0 rfl) ?_
  refine mg_active C V fl_M_33 d_M_active_1 ?_
  refine lv_topi (fun v1 e1 => ?_)
  exact g_iret C _ V ⟨rfl, by rw [e1]; exact X.ac⟩ d_M_active_4
set_option maxHeartbeats 200000 in
set_option maxRecDepth 20000 in
theorem c_M_present (X : RM w a) (I : Inv a)  : gMi lx D (ty3 cI cZ cJ) (MW h cI cZ cJ) y_M_present b_M_present 1 (some .int) ({ frames := 1, cells := 0, slots := 0, locals := 20 } : Room) 0 0 [.ref (h 0)] ((MW h cI cZ cJ) w) (fun r u' => w = u' ∧ r = eN (a_pres a)) := by
  refine gMi.of (by decide) (Nat.le_of_ble_eq_true rfl) (fun pg ev st md bl mt cd A ls C hmn hl V => ?_)
  have hl : lv_has ls 1 [(0, .ref (h 0))] := hl
  refine lv_aload_n C.x C.b d_M_present_0 rfl (lv_at hl 0 rfl) ?_
  refine g_iV (q0 := 0) (As := []) (rest := []) C V cs_M_52 (c_M_presentOne X) rfl rfl (by decide) rfl hl.1 rfl (Nat.le_of_ble_eq_true rfl) d_M_present_1 (fun r1 u1 H locs w1 V => ?_)
  obtain ⟨rfl, q1⟩ := w1
  exact g_iret C _ V ⟨rfl, q1⟩ d_M_present_4
set_option maxHeartbeats 200000 in
set_option maxRecDepth 20000 in
theorem c_M_wanted (X : RM w a) (I : Inv a)  : gMi lx D (ty3 cI cZ cJ) (MW h cI cZ cJ) y_M_wanted b_M_wanted 1 (some .boolean) ({ frames := 0, cells := 0, slots := 0, locals := 0 } : Room) 0 0 [.ref (h 0)] ((MW h cI cZ cJ) w) (fun r u' => w = u' ∧ r = if aW a = true then 1 else 0) := by
  refine gMi.of (by decide) (Nat.le_of_ble_eq_true rfl) (fun pg ev st md bl mt cd A ls C hmn hl V => ?_)
  have hl : lv_has ls 1 [(0, .ref (h 0))] := hl
  refine lv_aload_n C.x C.b d_M_wanted_0 rfl (lv_at hl 0 rfl) ?_
  refine mg_wanted C V fl_M_48 d_M_wanted_1 ?_
  refine lv_topi (fun v1 e1 => ?_)
  exact g_zret C _ V ⟨rfl, by rw [e1]; exact X.wa⟩ (by rw [e1, X.wa]; split <;> simp) d_M_wanted_4
set_option maxHeartbeats 200000 in
set_option maxRecDepth 20000 in
theorem c_M_here (X : RM w a) (I : Inv a)  : gMi lx D (ty3 cI cZ cJ) (MW h cI cZ cJ) y_M_here b_M_here 1 (some .int) ({ frames := 0, cells := 0, slots := 0, locals := 0 } : Room) 0 0 [.ref (h 0)] ((MW h cI cZ cJ) w) (fun r u' => w = u' ∧ r = aH a) := by
  refine gMi.of (by decide) (Nat.le_of_ble_eq_true rfl) (fun pg ev st md bl mt cd A ls C hmn hl V => ?_)
  have hl : lv_has ls 1 [(0, .ref (h 0))] := hl
  refine lv_aload_n C.x C.b d_M_here_0 rfl (lv_at hl 0 rfl) ?_
  refine mg_here C V fl_M_89 d_M_here_1 ?_
  refine lv_topi (fun v1 e1 => ?_)
  exact g_iret C _ V ⟨rfl, by rw [e1]; exact X.he⟩ d_M_here_4
set_option maxHeartbeats 200000 in
set_option maxRecDepth 20000 in
theorem c_M_place0 (X : RM w a) (I : Inv a) (x : Int32) (em : mOf a x = none)  : gMi lx D (ty3 cI cZ cJ) (MW h cI cZ cJ) y_M_place b_M_place 2 (some .int) ({ frames := 2, cells := 0, slots := 0, locals := 41 } : Room) 0 0 [.ref (h 0), .int x] ((MW h cI cZ cJ) w) (fun r u' => w = u' ∧ r = o_place a x) := by
  refine gMi.of (by decide) (Nat.le_of_ble_eq_true rfl) (fun pg ev st md bl mt cd A ls C hmn hl V => ?_)
  have hl : lv_has ls 2 [(0, .ref (h 0)), (1, .int x)] := hl
  refine lv_aload_n C.x C.b d_M_place_0 rfl (lv_at hl 0 rfl) ?_
  refine lv_iload_n C.x C.b d_M_place_1 rfl (lv_at hl 1 rfl) ?_
  refine g_iV (q0 := 0) (As := [.int x]) (rest := []) C V cs_M_74 (c_M_isMade X x) rfl rfl (by decide) rfl hl.1 rfl (Nat.le_of_ble_eq_true rfl) d_M_place_2 (fun r2 u2 H locs w2 V => ?_)
  obtain ⟨rfl, q2⟩ := w2
  rw [em] at q2
  obtain rfl : r2 = 0 := q2
  refine lv_if_eq (tgt := 17) C.x C.b d_M_place_5 (by decide) (fun c5 => ?_) (fun c5 => ?_)
  · refine lv_iconst (v := 0) C.x C.b d_M_place_17 (by decide) ?_
    exact g_iret C _ V ⟨rfl, by unfold o_place; rw [em]⟩ d_M_place_18
  · exact absurd rfl c5
set_option maxHeartbeats 200000 in
set_option maxRecDepth 20000 in
theorem c_M_place1 (X : RM w a) (I : Inv a) (p : Nat) (hp : p < 32) (hm : aM a p = true)  : gMi lx D (ty3 cI cZ cJ) (MW h cI cZ cJ) y_M_place b_M_place 2 (some .int) ({ frames := 2, cells := 0, slots := 0, locals := 41 } : Room) 0 0 [.ref (h 0), .int (nI p)] ((MW h cI cZ cJ) w) (fun r u' => w = u' ∧ r = o_place a (nI p)) := by
  refine gMi.of (by decide) (Nat.le_of_ble_eq_true rfl) (fun pg ev st md bl mt cd A ls C hmn hl V => ?_)
  have hl : lv_has ls 2 [(0, .ref (h 0)), (1, .int (nI p))] := hl
  refine lv_aload_n C.x C.b d_M_place_0 rfl (lv_at hl 0 rfl) ?_
  refine lv_iload_n C.x C.b d_M_place_1 rfl (lv_at hl 1 rfl) ?_
  refine g_iV (q0 := 0) (As := [.int (nI p)]) (rest := []) C V cs_M_74 (c_M_isMade X (nI p)) rfl rfl (by decide) rfl hl.1 rfl (Nat.le_of_ble_eq_true rfl) d_M_place_2 (fun r2 u2 H locs w2 V => ?_)
  obtain ⟨rfl, q2⟩ := w2
  rw [mOf_t hp hm] at q2
  obtain rfl : r2 = 1 := q2
  refine lv_if_eq (tgt := 17) C.x C.b d_M_place_5 (by decide) (fun c5 => ?_) (fun c5 => ?_)
  · exact absurd c5 (by decide)
  · refine lv_aload_n C.x C.b d_M_place_8 rfl (lv_at hl 0 rfl) ?_
    refine mg_place C V fl_M_17 d_M_place_9 ?_
    refine lv_iload_n C.x C.b d_M_place_12 rfl (lv_at hl 1 rfl) ?_
    refine ma_place (p) C V rfl hp d_M_place_13 ?_
    refine lv_topi (fun v13 e13 => ?_)
    refine lv_goto (tgt := 18) C.x C.b d_M_place_14 (by decide) ?_
    exact g_iret C _ V ⟨rfl, by unfold o_place; rw [mOf_t hp hm]; exact e13.trans (X.pl hp)⟩ d_M_place_18
theorem c_M_place (X : RM w a) (I : Inv a) (x : Int32) : gMi lx D (ty3 cI cZ cJ) (MW h cI cZ cJ) y_M_place b_M_place 2 (some .int) ({ frames := 2, cells := 0, slots := 0, locals := 41 } : Room) 0 0 [.ref (h 0), .int x] (MW h cI cZ cJ w) (fun r u' => w = u' ∧ r = o_place a x) := by
  rcases mOf_c a x with ⟨p, hp, rfl, hm, em⟩ | em
  · exact c_M_place1 X I p hp hm
  · exact c_M_place0 X I x em
set_option maxHeartbeats 200000 in
set_option maxRecDepth 20000 in
theorem c_M_priority0 (X : RM w a) (I : Inv a) (x : Int32) (em : mOf a x = none)  : gMi lx D (ty3 cI cZ cJ) (MW h cI cZ cJ) y_M_priority b_M_priority 2 (some .int) ({ frames := 2, cells := 0, slots := 0, locals := 41 } : Room) 0 0 [.ref (h 0), .int x] ((MW h cI cZ cJ) w) (fun r u' => w = u' ∧ r = o_priority a x) := by
  refine gMi.of (by decide) (Nat.le_of_ble_eq_true rfl) (fun pg ev st md bl mt cd A ls C hmn hl V => ?_)
  have hl : lv_has ls 2 [(0, .ref (h 0)), (1, .int x)] := hl
  refine lv_aload_n C.x C.b d_M_priority_0 rfl (lv_at hl 0 rfl) ?_
  refine lv_iload_n C.x C.b d_M_priority_1 rfl (lv_at hl 1 rfl) ?_
  refine g_iV (q0 := 0) (As := [.int x]) (rest := []) C V cs_M_74 (c_M_isMade X x) rfl rfl (by decide) rfl hl.1 rfl (Nat.le_of_ble_eq_true rfl) d_M_priority_2 (fun r2 u2 H locs w2 V => ?_)
  obtain ⟨rfl, q2⟩ := w2
  rw [em] at q2
  obtain rfl : r2 = 0 := q2
  refine lv_if_eq (tgt := 17) C.x C.b d_M_priority_5 (by decide) (fun c5 => ?_) (fun c5 => ?_)
  · refine lv_iconst (v := -1) C.x C.b d_M_priority_17 (by decide) ?_
    exact g_iret C _ V ⟨rfl, by unfold o_priority; rw [em]⟩ d_M_priority_18
  · exact absurd rfl c5
set_option maxHeartbeats 200000 in
set_option maxRecDepth 20000 in
theorem c_M_priority1 (X : RM w a) (I : Inv a) (p : Nat) (hp : p < 32) (hm : aM a p = true)  : gMi lx D (ty3 cI cZ cJ) (MW h cI cZ cJ) y_M_priority b_M_priority 2 (some .int) ({ frames := 2, cells := 0, slots := 0, locals := 41 } : Room) 0 0 [.ref (h 0), .int (nI p)] ((MW h cI cZ cJ) w) (fun r u' => w = u' ∧ r = o_priority a (nI p)) := by
  refine gMi.of (by decide) (Nat.le_of_ble_eq_true rfl) (fun pg ev st md bl mt cd A ls C hmn hl V => ?_)
  have hl : lv_has ls 2 [(0, .ref (h 0)), (1, .int (nI p))] := hl
  refine lv_aload_n C.x C.b d_M_priority_0 rfl (lv_at hl 0 rfl) ?_
  refine lv_iload_n C.x C.b d_M_priority_1 rfl (lv_at hl 1 rfl) ?_
  refine g_iV (q0 := 0) (As := [.int (nI p)]) (rest := []) C V cs_M_74 (c_M_isMade X (nI p)) rfl rfl (by decide) rfl hl.1 rfl (Nat.le_of_ble_eq_true rfl) d_M_priority_2 (fun r2 u2 H locs w2 V => ?_)
  obtain ⟨rfl, q2⟩ := w2
  rw [mOf_t hp hm] at q2
  obtain rfl : r2 = 1 := q2
  refine lv_if_eq (tgt := 17) C.x C.b d_M_priority_5 (by decide) (fun c5 => ?_) (fun c5 => ?_)
  · exact absurd c5 (by decide)
  · refine lv_aload_n C.x C.b d_M_priority_8 rfl (lv_at hl 0 rfl) ?_
    refine mg_prio C V fl_M_13 d_M_priority_9 ?_
    refine lv_iload_n C.x C.b d_M_priority_12 rfl (lv_at hl 1 rfl) ?_
    refine ma_prio (p) C V rfl hp d_M_priority_13 ?_
    refine lv_topi (fun v13 e13 => ?_)
    refine lv_goto (tgt := 18) C.x C.b d_M_priority_14 (by decide) ?_
    exact g_iret C _ V ⟨rfl, by unfold o_priority; rw [mOf_t hp hm]; exact e13.trans (X.pr hp)⟩ d_M_priority_18
theorem c_M_priority (X : RM w a) (I : Inv a) (x : Int32) : gMi lx D (ty3 cI cZ cJ) (MW h cI cZ cJ) y_M_priority b_M_priority 2 (some .int) ({ frames := 2, cells := 0, slots := 0, locals := 41 } : Room) 0 0 [.ref (h 0), .int x] (MW h cI cZ cJ w) (fun r u' => w = u' ∧ r = o_priority a x) := by
  rcases mOf_c a x with ⟨p, hp, rfl, hm, em⟩ | em
  · exact c_M_priority1 X I p hp hm
  · exact c_M_priority0 X I x em
set_option maxHeartbeats 200000 in
set_option maxRecDepth 20000 in
theorem c_M_row0 (X : RM w a) (I : Inv a) (x : Int32) (em : mOf a x = none)  : gMi lx D (ty3 cI cZ cJ) (MW h cI cZ cJ) y_M_row b_M_row 2 (some .int) ({ frames := 2, cells := 0, slots := 0, locals := 41 } : Room) 0 0 [.ref (h 0), .int x] ((MW h cI cZ cJ) w) (fun r u' => w = u' ∧ r = o_row a x) := by
  refine gMi.of (by decide) (Nat.le_of_ble_eq_true rfl) (fun pg ev st md bl mt cd A ls C hmn hl V => ?_)
  have hl : lv_has ls 2 [(0, .ref (h 0)), (1, .int x)] := hl
  refine lv_aload_n C.x C.b d_M_row_0 rfl (lv_at hl 0 rfl) ?_
  refine lv_iload_n C.x C.b d_M_row_1 rfl (lv_at hl 1 rfl) ?_
  refine g_iV (q0 := 0) (As := [.int x]) (rest := []) C V cs_M_74 (c_M_isMade X x) rfl rfl (by decide) rfl hl.1 rfl (Nat.le_of_ble_eq_true rfl) d_M_row_2 (fun r2 u2 H locs w2 V => ?_)
  obtain ⟨rfl, q2⟩ := w2
  rw [em] at q2
  obtain rfl : r2 = 0 := q2
  refine lv_if_eq (tgt := 17) C.x C.b d_M_row_5 (by decide) (fun c5 => ?_) (fun c5 => ?_)
  · refine lv_iconst (v := -1) C.x C.b d_M_row_17 (by decide) ?_
    exact g_iret C _ V ⟨rfl, by unfold o_row; rw [em]⟩ d_M_row_18
  · exact absurd rfl c5
set_option maxHeartbeats 200000 in
set_option maxRecDepth 20000 in
theorem c_M_row1 (X : RM w a) (I : Inv a) (p : Nat) (hp : p < 32) (hm : aM a p = true)  : gMi lx D (ty3 cI cZ cJ) (MW h cI cZ cJ) y_M_row b_M_row 2 (some .int) ({ frames := 2, cells := 0, slots := 0, locals := 41 } : Room) 0 0 [.ref (h 0), .int (nI p)] ((MW h cI cZ cJ) w) (fun r u' => w = u' ∧ r = o_row a (nI p)) := by
  refine gMi.of (by decide) (Nat.le_of_ble_eq_true rfl) (fun pg ev st md bl mt cd A ls C hmn hl V => ?_)
  have hl : lv_has ls 2 [(0, .ref (h 0)), (1, .int (nI p))] := hl
  refine lv_aload_n C.x C.b d_M_row_0 rfl (lv_at hl 0 rfl) ?_
  refine lv_iload_n C.x C.b d_M_row_1 rfl (lv_at hl 1 rfl) ?_
  refine g_iV (q0 := 0) (As := [.int (nI p)]) (rest := []) C V cs_M_74 (c_M_isMade X (nI p)) rfl rfl (by decide) rfl hl.1 rfl (Nat.le_of_ble_eq_true rfl) d_M_row_2 (fun r2 u2 H locs w2 V => ?_)
  obtain ⟨rfl, q2⟩ := w2
  rw [mOf_t hp hm] at q2
  obtain rfl : r2 = 1 := q2
  refine lv_if_eq (tgt := 17) C.x C.b d_M_row_5 (by decide) (fun c5 => ?_) (fun c5 => ?_)
  · exact absurd c5 (by decide)
  · refine lv_aload_n C.x C.b d_M_row_8 rfl (lv_at hl 0 rfl) ?_
    refine mg_rows C V fl_M_20 d_M_row_9 ?_
    refine lv_iload_n C.x C.b d_M_row_12 rfl (lv_at hl 1 rfl) ?_
    refine ma_rows (p) C V rfl hp d_M_row_13 ?_
    refine lv_topi (fun v13 e13 => ?_)
    refine lv_goto (tgt := 18) C.x C.b d_M_row_14 (by decide) ?_
    exact g_iret C _ V ⟨rfl, by unfold o_row; rw [mOf_t hp hm]; exact e13.trans (X.rw hp)⟩ d_M_row_18
theorem c_M_row (X : RM w a) (I : Inv a) (x : Int32) : gMi lx D (ty3 cI cZ cJ) (MW h cI cZ cJ) y_M_row b_M_row 2 (some .int) ({ frames := 2, cells := 0, slots := 0, locals := 41 } : Room) 0 0 [.ref (h 0), .int x] (MW h cI cZ cJ w) (fun r u' => w = u' ∧ r = o_row a x) := by
  rcases mOf_c a x with ⟨p, hp, rfl, hm, em⟩ | em
  · exact c_M_row1 X I p hp hm
  · exact c_M_row0 X I x em
set_option maxHeartbeats 200000 in
set_option maxRecDepth 20000 in
theorem c_M_extra0 (X : RM w a) (I : Inv a) (x : Int32) (hx : ¬ (¬ x < 0 ∧ x < 16)) (es : sOf x = none)  : gMi lx D (ty3 cI cZ cJ) (MW h cI cZ cJ) y_M_extra b_M_extra 2 (some .int) ({ frames := 1, cells := 0, slots := 0, locals := 20 } : Room) 0 0 [.ref (h 0), .int x] ((MW h cI cZ cJ) w) (fun r u' => w = u' ∧ r = o_extra a x) := by
  refine gMi.of (by decide) (Nat.le_of_ble_eq_true rfl) (fun pg ev st md bl mt cd A ls C hmn hl V => ?_)
  have hl : lv_has ls 2 [(0, .ref (h 0)), (1, .int x)] := hl
  refine lv_iload_n C.x C.b d_M_extra_0 rfl (lv_at hl 1 rfl) ?_
  refine g_iS (As := [.int x]) (rest := []) C V cs_M_80 (c_M_isSemaphore (Wd := MW h cI cZ cJ) (x)) (by decide) rfl hl.1 rfl (Nat.le_of_ble_eq_true rfl) d_M_extra_1 (fun r1 u1 H locs w1 V => ?_)
  obtain ⟨rfl, q1⟩ := w1
  obtain rfl : r1 = 0 := by rw [q1, if_neg hx]
  refine lv_if_eq (tgt := 16) C.x C.b d_M_extra_4 (by decide) (fun c4 => ?_) (fun c4 => ?_)
  · refine lv_iconst (v := -1) C.x C.b d_M_extra_16 (by decide) ?_
    exact g_iret C _ V ⟨rfl, by unfold o_extra; rw [es]⟩ d_M_extra_17
  · exact absurd rfl c4
set_option maxHeartbeats 200000 in
set_option maxRecDepth 20000 in
theorem c_M_extra1 (X : RM w a) (I : Inv a) (s : Nat) (hs : s < 16) (es : sOf (nI s) = some s) (hx : ¬ nI s < 0 ∧ nI s < 16)  : gMi lx D (ty3 cI cZ cJ) (MW h cI cZ cJ) y_M_extra b_M_extra 2 (some .int) ({ frames := 1, cells := 0, slots := 0, locals := 20 } : Room) 0 0 [.ref (h 0), .int (nI s)] ((MW h cI cZ cJ) w) (fun r u' => w = u' ∧ r = o_extra a (nI s)) := by
  refine gMi.of (by decide) (Nat.le_of_ble_eq_true rfl) (fun pg ev st md bl mt cd A ls C hmn hl V => ?_)
  have hl : lv_has ls 2 [(0, .ref (h 0)), (1, .int (nI s))] := hl
  refine lv_iload_n C.x C.b d_M_extra_0 rfl (lv_at hl 1 rfl) ?_
  refine g_iS (As := [.int (nI s)]) (rest := []) C V cs_M_80 (c_M_isSemaphore (Wd := MW h cI cZ cJ) (nI s)) (by decide) rfl hl.1 rfl (Nat.le_of_ble_eq_true rfl) d_M_extra_1 (fun r1 u1 H locs w1 V => ?_)
  obtain ⟨rfl, q1⟩ := w1
  obtain rfl : r1 = 1 := by rw [q1, if_pos hx]
  refine lv_if_eq (tgt := 16) C.x C.b d_M_extra_4 (by decide) (fun c4 => ?_) (fun c4 => ?_)
  · exact absurd c4 (by decide)
  · refine lv_aload_n C.x C.b d_M_extra_7 rfl (lv_at hl 0 rfl) ?_
    refine mg_extras C V fl_M_27 d_M_extra_8 ?_
    refine lv_iload_n C.x C.b d_M_extra_11 rfl (lv_at hl 1 rfl) ?_
    refine ma_extras (s) C V rfl hs d_M_extra_12 ?_
    refine lv_topi (fun v12 e12 => ?_)
    refine lv_goto (tgt := 17) C.x C.b d_M_extra_13 (by decide) ?_
    exact g_iret C _ V ⟨rfl, by unfold o_extra; rw [es]; exact e12.trans (X.ex hs)⟩ d_M_extra_17
theorem c_M_extra (X : RM w a) (I : Inv a) (x : Int32) : gMi lx D (ty3 cI cZ cJ) (MW h cI cZ cJ) y_M_extra b_M_extra 2 (some .int) ({ frames := 1, cells := 0, slots := 0, locals := 20 } : Room) 0 0 [.ref (h 0), .int x] (MW h cI cZ cJ w) (fun r u' => w = u' ∧ r = o_extra a x) := by
  rcases sOf_c x with ⟨s, hs, rfl, es, hx⟩ | ⟨hx, es⟩
  · exact c_M_extra1 X I s hs es hx
  · exact c_M_extra0 X I x hx es
set_option maxHeartbeats 200000 in
set_option maxRecDepth 20000 in
theorem c_M_posted (X : RM w a) (I : Inv a) (x : Int32) : gMi lx D (ty3 cI cZ cJ) (MW h cI cZ cJ) y_M_posted b_M_posted 2 (some .int) ({ frames := 0, cells := 0, slots := 0, locals := 0 } : Room) 0 0 [.ref (h 0), .int x] ((MW h cI cZ cJ) w) (fun r u' => w = u' ∧ r = o_posted a x) := by
  refine gMi.of (by decide) (Nat.le_of_ble_eq_true rfl) (fun pg ev st md bl mt cd A ls C hmn hl V => ?_)
  have hl : lv_has ls 2 [(0, .ref (h 0)), (1, .int x)] := hl
  have hlen := I.len
  refine lv_iload_n C.x C.b d_M_posted_0 rfl (lv_at hl 1 rfl) ?_
  refine lv_if_lt (tgt := 21) C.x C.b d_M_posted_1 (by decide) (fun c1 => ?_) (fun c1 => ?_)
  · refine lv_iconst (v := -1) C.x C.b d_M_posted_21 (by decide) ?_
    exact g_iret C _ V ⟨rfl, by unfold o_posted a_pst; rw [if_neg (by simp_all [Int32.not_lt])]; rfl⟩ d_M_posted_22
  · refine lv_iload_n C.x C.b d_M_posted_4 rfl (lv_at hl 1 rfl) ?_
    refine lv_aload_n C.x C.b d_M_posted_5 rfl (lv_at hl 0 rfl) ?_
    refine mg_posts C V fl_M_86 d_M_posted_6 ?_
    refine lv_topi (fun v6 e6 => ?_)
    obtain rfl : v6 = nI (aO a).length := by rw [e6]; exact X.ln
    refine lv_icmp_ge (tgt := 21) C.x C.b d_M_posted_9 (by decide) (fun c9 => ?_) (fun c9 => ?_)
    · refine lv_iconst (v := -1) C.x C.b d_M_posted_21 (by decide) ?_
      exact g_iret C _ V ⟨rfl, by unfold o_posted a_pst; rw [if_neg (by simp_all [Int32.not_lt])]; rfl⟩ d_M_posted_22
    · obtain ⟨j, hj, hx⟩ : ∃ j, j < (aO a).length ∧ x = nI j := by
        rcases pk_ix x (n := (aO a).length) (by omega) with z | z | z
        · exact absurd z c1
        · exact absurd z c9
        · exact z
      obtain ⟨t, ht⟩ : ∃ t, (aO a)[j]? = some t := ⟨_, List.getElem?_eq_getElem hj⟩
      refine lv_aload_n C.x C.b d_M_posted_12 rfl (lv_at hl 0 rfl) ?_
      refine mg_posted C V fl_M_30 d_M_posted_13 ?_
      refine lv_iload_n C.x C.b d_M_posted_16 rfl (lv_at hl 1 rfl) ?_
      refine ma_posted (j) C V hx (by omega) d_M_posted_17 ?_
      refine lv_topi (fun v17 e17 => ?_)
      refine lv_goto (tgt := 22) C.x C.b d_M_posted_18 (by decide) ?_
      exact g_iret C _ V ⟨rfl, by unfold o_posted a_pst; rw [if_pos ⟨c1, Int32.not_le.mp c9⟩, e17, hx, nI_clamp (by omega), ht]; exact X.ps ht⟩ d_M_posted_22
set_option maxHeartbeats 200000 in
set_option maxRecDepth 20000 in
theorem c_M_work (X : RM w a) (I : Inv a) (x : Int32) : gMi lx D (ty3 cI cZ cJ) (MW h cI cZ cJ) y_M_work b_M_work 2 (some .boolean) ({ frames := 0, cells := 0, slots := 0, locals := 0 } : Room) 0 0 [.ref (h 0), .int x] ((MW h cI cZ cJ) w) (fun r u' => r = (o_work a x).1 ∧ RM u' (o_work a x).2) := by
  refine gMi.of (by decide) (Nat.le_of_ble_eq_true rfl) (fun pg ev st md bl mt cd A ls C hmn hl V => ?_)
  have hl : lv_has ls 2 [(0, .ref (h 0)), (1, .int x)] := hl
  refine lv_iload_n C.x C.b d_M_work_0 rfl (lv_at hl 1 rfl) ?_
  refine lv_iconst (v := 1) C.x C.b d_M_work_1 (by decide) ?_
  refine lv_icmp_lt (tgt := 26) C.x C.b d_M_work_2 (by decide) (fun c2 => ?_) (fun c2 => ?_)
  · refine lv_iconst (v := 0) C.x C.b d_M_work_26 (by decide) ?_
    exact g_zret C _ V (by unfold o_work; rw [if_neg (by simp_all)]; exact ⟨rfl, X⟩) (by simp) d_M_work_27
  · refine lv_iload_n C.x C.b d_M_work_5 rfl (lv_at hl 1 rfl) ?_
    refine lv_sipush (v := 1000) C.x C.b d_M_work_6 (by decide) ?_
    refine lv_icmp_gt (tgt := 26) C.x C.b d_M_work_9 (by decide) (fun c9 => ?_) (fun c9 => ?_)
    · refine lv_iconst (v := 0) C.x C.b d_M_work_26 (by decide) ?_
      exact g_zret C _ V (by unfold o_work; rw [if_neg (by simp_all)]; exact ⟨rfl, X⟩) (by simp) d_M_work_27
    · refine lv_aload_n C.x C.b d_M_work_12 rfl (lv_at hl 0 rfl) ?_
      refine mg_active C V fl_M_33 d_M_work_13 ?_
      refine lv_topi (fun v13 e13 => ?_)
      obtain rfl : v13 = eN (aA a) := by rw [e13]; exact X.ac
      refine lv_if_lt (tgt := 26) C.x C.b d_M_work_16 (by decide) (fun c16 => ?_) (fun c16 => ?_)
      · have hA : aA a = none := (eN_neg I.act32).mp c16
        refine lv_iconst (v := 0) C.x C.b d_M_work_26 (by decide) ?_
        exact g_zret C _ V (by unfold o_work; rw [if_neg (by simp_all)]; exact ⟨rfl, X⟩) (by simp) d_M_work_27
      · have hA : ¬ aA a = none := fun z => c16 ((eN_neg I.act32).mpr z)
        refine lv_aload_n C.x C.b d_M_work_19 rfl (lv_at hl 0 rfl) ?_
        refine mg_wanted C V fl_M_48 d_M_work_20 ?_
        refine lv_topi (fun v20 e20 => ?_)
        refine lv_if_eq (tgt := 28) C.x C.b d_M_work_23 (by decide) (fun c23 => ?_) (fun c23 => ?_)
        · have hW : ¬ aW a = true := fun z => by rw [e20, X.wa, if_pos z] at c23; exact absurd c23 (by decide)
          refine lv_aload_n C.x C.b d_M_work_28 rfl (lv_at hl 0 rfl) ?_
          refine lv_aload_n C.x C.b d_M_work_29 rfl (lv_at hl 0 rfl) ?_
          refine mg_here C V fl_M_89 d_M_work_30 ?_
          refine lv_topi (fun v30 e30 => ?_)
          obtain rfl : v30 = aH a := by rw [e30]; exact X.he
          refine lv_iload_n C.x C.b d_M_work_33 rfl (lv_at hl 1 rfl) ?_
          refine lv_iadd C.x C.b d_M_work_34 ?_
          refine lv_topi (fun v34 e34 => ?_)
          refine mp_here C V fl_M_89 d_M_work_35 (fun H locs V => ?_)
          refine lv_iconst (v := 1) C.x C.b d_M_work_38 (by decide) ?_
          exact g_zret C _ V (by unfold o_work; rw [if_pos ⟨⟨c2, c9⟩, hA, hW⟩]; exact ⟨rfl, X.1, X.2.1, X.2.2.1, X.2.2.2.1, X.2.2.2.2.1, X.2.2.2.2.2.1, X.2.2.2.2.2.2.1, X.nw, X.ln, X.ac, e34, X.wa, X.cg⟩) (by simp) d_M_work_39
        · have hW : aW a = true := Classical.byContradiction (fun z => c23 (by rw [e20, X.wa, if_neg z]))
          refine lv_iconst (v := 0) C.x C.b d_M_work_26 (by decide) ?_
          exact g_zret C _ V (by unfold o_work; rw [if_neg (by simp_all)]; exact ⟨rfl, X⟩) (by simp) d_M_work_27
set_option maxHeartbeats 200000 in
set_option maxRecDepth 20000 in
theorem c_M_take0 (X : RM w a) (I : Inv a) (x : Int32) (em : mOf a x = none)  : gMi lx D (ty3 cI cZ cJ) (MW h cI cZ cJ) y_M_take b_M_take 2 (some .boolean) ({ frames := 2, cells := 0, slots := 0, locals := 41 } : Room) 0 0 [.ref (h 0), .int x] ((MW h cI cZ cJ) w) (fun r u' => r = (o_take a x).1 ∧ RM u' (o_take a x).2) := by
  refine gMi.of (by decide) (Nat.le_of_ble_eq_true rfl) (fun pg ev st md bl mt cd A ls C hmn hl V => ?_)
  have hl : lv_has ls 2 [(0, .ref (h 0)), (1, .int x)] := hl
  refine lv_aload_n C.x C.b d_M_take_0 rfl (lv_at hl 0 rfl) ?_
  refine lv_iload_n C.x C.b d_M_take_1 rfl (lv_at hl 1 rfl) ?_
  refine g_iV (q0 := 0) (As := [.int x]) (rest := []) C V cs_M_74 (c_M_isMade X x) rfl rfl (by decide) rfl hl.1 rfl (Nat.le_of_ble_eq_true rfl) d_M_take_2 (fun r2 u2 H locs w2 V => ?_)
  obtain ⟨rfl, q2⟩ := w2
  rw [em] at q2
  obtain rfl : r2 = 0 := q2
  refine lv_if_eq (tgt := 17) C.x C.b d_M_take_5 (by decide) (fun c5 => ?_) (fun c5 => ?_)
  · refine lv_iconst (v := 0) C.x C.b d_M_take_17 (by decide) ?_
    exact g_zret C _ V (by unfold o_take; rw [em]; exact ⟨rfl, X⟩) (by simp) d_M_take_18
  · exact absurd rfl c5
set_option maxHeartbeats 200000 in
set_option maxRecDepth 20000 in
theorem c_M_take1 (X : RM w a) (I : Inv a) (p : Nat) (hp : p < 32) (hm : aM a p = true)  : gMi lx D (ty3 cI cZ cJ) (MW h cI cZ cJ) y_M_take b_M_take 2 (some .boolean) ({ frames := 2, cells := 0, slots := 0, locals := 41 } : Room) 0 0 [.ref (h 0), .int (nI p)] ((MW h cI cZ cJ) w) (fun r u' => r = (o_take a (nI p)).1 ∧ RM u' (o_take a (nI p)).2) := by
  refine gMi.of (by decide) (Nat.le_of_ble_eq_true rfl) (fun pg ev st md bl mt cd A ls C hmn hl V => ?_)
  have hl : lv_has ls 2 [(0, .ref (h 0)), (1, .int (nI p))] := hl
  refine lv_aload_n C.x C.b d_M_take_0 rfl (lv_at hl 0 rfl) ?_
  refine lv_iload_n C.x C.b d_M_take_1 rfl (lv_at hl 1 rfl) ?_
  refine g_iV (q0 := 0) (As := [.int (nI p)]) (rest := []) C V cs_M_74 (c_M_isMade X (nI p)) rfl rfl (by decide) rfl hl.1 rfl (Nat.le_of_ble_eq_true rfl) d_M_take_2 (fun r2 u2 H locs w2 V => ?_)
  obtain ⟨rfl, q2⟩ := w2
  rw [mOf_t hp hm] at q2
  obtain rfl : r2 = 1 := q2
  refine lv_if_eq (tgt := 17) C.x C.b d_M_take_5 (by decide) (fun c5 => ?_) (fun c5 => ?_)
  · exact absurd c5 (by decide)
  · refine lv_aload_n C.x C.b d_M_take_8 rfl (lv_at hl 0 rfl) ?_
    refine mg_rows C V fl_M_20 d_M_take_9 ?_
    refine lv_iload_n C.x C.b d_M_take_12 rfl (lv_at hl 1 rfl) ?_
    refine ma_rows (p) C V rfl hp d_M_take_13 ?_
    refine lv_topi (fun v13 e13 => ?_)
    obtain rfl : v13 = nI (aR a p) := by rw [e13]; exact X.rw hp
    refine lv_if_ne (tgt := 19) C.x C.b d_M_take_14 (by decide) (fun c14 => ?_) (fun c14 => ?_)
    · have hr : ¬ aR a p = 0 := fun z => c14 (by rw [z]; rfl)
      refine lv_aload_n C.x C.b d_M_take_19 rfl (lv_at hl 0 rfl) ?_
      refine mg_rows C V fl_M_20 d_M_take_20 ?_
      refine lv_iload_n C.x C.b d_M_take_23 rfl (lv_at hl 1 rfl) ?_
      refine lv_iconst (v := 0) C.x C.b d_M_take_24 (by decide) ?_
      refine ms_rows (p) C V rfl hp d_M_take_25 (fun H locs V => ?_)
      refine lv_iconst (v := 1) C.x C.b d_M_take_26 (by decide) ?_
      exact g_zret C _ V (by unfold o_take; rw [mOf_t hp hm]; dsimp only; rw [if_neg hr]; exact ⟨rfl, rm_rem X hp⟩) (by simp) d_M_take_27
    · have hr : aR a p = 0 := Classical.byContradiction (fun z => absurd c14 (nI_ne0 (by omega) (by have := I.r32 hp; omega)))
      refine lv_iconst (v := 0) C.x C.b d_M_take_17 (by decide) ?_
      exact g_zret C _ V (by unfold o_take; rw [mOf_t hp hm]; dsimp only; rw [if_pos hr]; exact ⟨rfl, X⟩) (by simp) d_M_take_18
theorem c_M_take (X : RM w a) (I : Inv a) (x : Int32) : gMi lx D (ty3 cI cZ cJ) (MW h cI cZ cJ) y_M_take b_M_take 2 (some .boolean) ({ frames := 2, cells := 0, slots := 0, locals := 41 } : Room) 0 0 [.ref (h 0), .int x] (MW h cI cZ cJ w) (fun r u' => r = (o_take a x).1 ∧ RM u' (o_take a x).2) := by
  rcases mOf_c a x with ⟨p, hp, rfl, hm, em⟩ | em
  · exact c_M_take1 X I p hp hm
  · exact c_M_take0 X I x em
set_option maxHeartbeats 200000 in
set_option maxRecDepth 20000 in
theorem c_M_rate0 (X : RM w a) (I : Inv a) (y : Int32) (x : Int32) (em : mOf a x = none)  : gMi lx D (ty3 cI cZ cJ) (MW h cI cZ cJ) y_M_rate b_M_rate 4 (some .int) ({ frames := 2, cells := 0, slots := 0, locals := 41 } : Room) 0 0 [.ref (h 0), .int x, .int y] ((MW h cI cZ cJ) w) (fun r u' => r = (o_rate a x y).1 ∧ RM u' (o_rate a x y).2) := by
  refine gMi.of (by decide) (Nat.le_of_ble_eq_true rfl) (fun pg ev st md bl mt cd A ls C hmn hl V => ?_)
  have hl : lv_has ls 4 [(0, .ref (h 0)), (1, .int x), (2, .int y)] := hl
  refine lv_aload_n C.x C.b d_M_rate_0 rfl (lv_at hl 0 rfl) ?_
  refine lv_iload_n C.x C.b d_M_rate_1 rfl (lv_at hl 1 rfl) ?_
  refine g_iV (q0 := 0) (As := [.int x]) (rest := []) C V cs_M_74 (c_M_isMade X x) rfl rfl (by decide) rfl hl.1 rfl (Nat.le_of_ble_eq_true rfl) d_M_rate_2 (fun r2 u2 H locs w2 V => ?_)
  obtain ⟨rfl, q2⟩ := w2
  rw [em] at q2
  obtain rfl : r2 = 0 := q2
  refine lv_if_eq (tgt := 15) C.x C.b d_M_rate_5 (by decide) (fun c5 => ?_) (fun c5 => ?_)
  · refine lv_iconst (v := -1) C.x C.b d_M_rate_15 (by decide) ?_
    exact g_iret C _ V (by unfold o_rate; rw [em]; exact ⟨rfl, X⟩) d_M_rate_16
  · exact absurd rfl c5
set_option maxHeartbeats 200000 in
set_option maxRecDepth 20000 in
theorem c_M_rate1 (X : RM w a) (I : Inv a) (y : Int32) (p : Nat) (hp : p < 32) (hm : aM a p = true)  : gMi lx D (ty3 cI cZ cJ) (MW h cI cZ cJ) y_M_rate b_M_rate 4 (some .int) ({ frames := 2, cells := 0, slots := 0, locals := 41 } : Room) 0 0 [.ref (h 0), .int (nI p), .int y] ((MW h cI cZ cJ) w) (fun r u' => r = (o_rate a (nI p) y).1 ∧ RM u' (o_rate a (nI p) y).2) := by
  refine gMi.of (by decide) (Nat.le_of_ble_eq_true rfl) (fun pg ev st md bl mt cd A ls C hmn hl V => ?_)
  have hl : lv_has ls 4 [(0, .ref (h 0)), (1, .int (nI p)), (2, .int y)] := hl
  refine lv_aload_n C.x C.b d_M_rate_0 rfl (lv_at hl 0 rfl) ?_
  refine lv_iload_n C.x C.b d_M_rate_1 rfl (lv_at hl 1 rfl) ?_
  refine g_iV (q0 := 0) (As := [.int (nI p)]) (rest := []) C V cs_M_74 (c_M_isMade X (nI p)) rfl rfl (by decide) rfl hl.1 rfl (Nat.le_of_ble_eq_true rfl) d_M_rate_2 (fun r2 u2 H locs w2 V => ?_)
  obtain ⟨rfl, q2⟩ := w2
  rw [mOf_t hp hm] at q2
  obtain rfl : r2 = 1 := q2
  refine lv_if_eq (tgt := 15) C.x C.b d_M_rate_5 (by decide) (fun c5 => ?_) (fun c5 => ?_)
  · exact absurd c5 (by decide)
  · refine lv_iload_n C.x C.b d_M_rate_8 rfl (lv_at hl 2 rfl) ?_
    refine g_iS (As := [.int y]) (rest := []) C V cs_M_71 (c_M_isPriority (Wd := MW h cI cZ cJ) (y)) (by decide) rfl hl.1 rfl (Nat.le_of_ble_eq_true rfl) d_M_rate_9 (fun r9 u9 H locs w9 V => ?_)
    obtain ⟨rfl, q9⟩ := w9
    refine lv_if_ne (tgt := 17) C.x C.b d_M_rate_12 (by decide) (fun c12 => ?_) (fun c12 => ?_)
    · obtain ⟨n, hn1, hn8, hy, eq⟩ : ∃ n, 1 ≤ n ∧ n ≤ 8 ∧ y = nI n ∧ qOf y = some n := by
        rcases qOf_c y with ⟨n, z1, z2, z3, z4, -⟩ | ⟨z, -⟩
        · exact ⟨n, z1, z2, z3, z4⟩
        · exact absurd (q9.trans (if_neg z)) c12
      refine lv_aload_n C.x C.b d_M_rate_17 rfl (lv_at hl 0 rfl) ?_
      refine mg_prio C V fl_M_13 d_M_rate_18 ?_
      refine lv_iload_n C.x C.b d_M_rate_21 rfl (lv_at hl 1 rfl) ?_
      refine ma_prio (p) C V rfl hp d_M_rate_22 ?_
      refine lv_topi (fun v22 e22 => ?_)
      obtain rfl : v22 = nI (aP a p) := by rw [e22]; exact X.pr hp
      refine lv_istore_n (lv' := [(3, .int (nI (aP a p))), (0, .ref (h 0)), (1, .int (nI p)), (2, .int y)]) C.x C.b d_M_rate_23 rfl hl (by decide) rfl (fun ls hl => ?_)
      refine lv_aload_n C.x C.b d_M_rate_24 rfl (lv_at hl 1 rfl) ?_
      refine mg_prio C V fl_M_13 d_M_rate_25 ?_
      refine lv_iload_n C.x C.b d_M_rate_28 rfl (lv_at hl 2 rfl) ?_
      refine lv_iload_n C.x C.b d_M_rate_29 rfl (lv_at hl 3 rfl) ?_
      refine ms_prio (p) C V rfl hp d_M_rate_30 (fun H locs V => ?_)
      refine lv_iload_n C.x C.b d_M_rate_31 rfl (lv_at hl 0 rfl) ?_
      exact g_iret C _ V (by unfold o_rate; rw [mOf_t hp hm, eq]; subst hy; exact ⟨rfl, rm_prio X⟩) d_M_rate_32
    · have eq : qOf y = none := by
        rcases qOf_c y with ⟨n, -, -, -, -, z⟩ | ⟨-, z⟩
        · rw [if_pos z] at q9; rw [q9] at c12; exact absurd c12 (by decide)
        · exact z
      refine lv_iconst (v := -1) C.x C.b d_M_rate_15 (by decide) ?_
      exact g_iret C _ V (by unfold o_rate; rw [mOf_t hp hm, eq]; exact ⟨rfl, X⟩) d_M_rate_16
theorem c_M_rate (X : RM w a) (I : Inv a) (x y : Int32) : gMi lx D (ty3 cI cZ cJ) (MW h cI cZ cJ) y_M_rate b_M_rate 4 (some .int) ({ frames := 2, cells := 0, slots := 0, locals := 41 } : Room) 0 0 [.ref (h 0), .int x, .int y] (MW h cI cZ cJ w) (fun r u' => r = (o_rate a x y).1 ∧ RM u' (o_rate a x y).2) := by
  rcases mOf_c a x with ⟨p, hp, rfl, hm, em⟩ | em
  · exact c_M_rate1 X I y p hp hm
  · exact c_M_rate0 X I y x em
theorem o_at_big (I : Inv a) {x : Int32} {r j : Nat} (hv : vR r) (hj : 32 ≤ j) : (aQ a r)[j]? = none := by
  rw [List.getElem?_eq_none_iff]
  have := len_b 32 (aQ a r) (I.nod hv) (I.b32 hv)
  omega
set_option maxHeartbeats 200000 in
set_option maxRecDepth 20000 in
theorem c_M_at1 (X : RM w a) (I : Inv a) (B : Nat) (T : Td a B) (hB : B < 2 ^ 48) (n j : Nat) (hj : j < 2 ^ 31) (h1 : 1 ≤ n) (h8 : n ≤ 8) (er : rOf (nI n) = some n) (hx : ¬ nI n < 1 ∧ ¬ 8 < nI n) : gMi lx D (ty3 cI cZ cJ) (MW h cI cZ cJ) y_M_at b_M_at 4 (some .int) ({ frames := 1, cells := 0, slots := 0, locals := 27 } : Room) 0 0 [.ref (h 0), .int (nI n), .int (nI j)] ((MW h cI cZ cJ) w) (fun r u' => w = u' ∧ r = o_at a (nI n) (nI j)) := by
  refine gMi.of (by decide) (Nat.le_of_ble_eq_true rfl) (fun pg ev st md bl mt cd A ls C hmn hl V => ?_)
  have hl : lv_has ls 4 [(0, .ref (h 0)), (1, .int (nI n)), (2, .int (nI j))] := hl
  have hv : vR (n) := Or.inl ⟨h1, h8⟩
  refine lv_iload_n C.x C.b d_M_at_0 rfl (lv_at hl 1 rfl) ?_
  refine g_iS (As := [.int (nI n)]) (rest := []) C V cs_M_71 (c_M_isPriority (Wd := MW h cI cZ cJ) (nI n)) (by decide) rfl hl.1 rfl (Nat.le_of_ble_eq_true rfl) d_M_at_1 (fun r1 u1 H locs w1 V => ?_)
  obtain ⟨rfl, q1⟩ := w1
  obtain rfl : r1 = 1 := by rw [q1, if_pos hx]
  refine lv_if_ne (tgt := 19) C.x C.b d_M_at_4 (by decide) (fun c4 => ?_) (fun c4 => ?_)
  · refine lv_iconst (v := 1) C.x C.b d_M_at_19 (by decide) ?_
    refine lv_goto (tgt := 24) C.x C.b d_M_at_20 (by decide) ?_
    refine lv_istore_n (lv' := [(3, .int 1), (0, .ref (h 0)), (1, .int (nI n)), (2, .int (nI j))]) C.x C.b d_M_at_24 rfl hl (by decide) rfl (fun ls hl => ?_)
    refine lv_iload_n C.x C.b d_M_at_25 rfl (lv_at hl 0 rfl) ?_
    refine lv_if_eq (tgt := 48) C.x C.b d_M_at_26 (by decide) (fun c26 => ?_) (fun c26 => ?_)
    · exact absurd c26 (by decide)
    · refine lv_iload_n C.x C.b d_M_at_29 rfl (lv_at hl 3 rfl) ?_
      refine lv_if_lt (tgt := 48) C.x C.b d_M_at_30 (by decide) (fun c30 => ?_) (fun c30 => ?_)
      · exact absurd c30 (nI_pos hj)
      · refine lv_iload_n C.x C.b d_M_at_33 rfl (lv_at hl 3 rfl) ?_
        refine lv_bipush (v := 32) C.x C.b d_M_at_34 (by decide) ?_
        refine lv_icmp_ge (tgt := 48) C.x C.b d_M_at_36 (by decide) (fun c36 => ?_) (fun c36 => ?_)
        · have hb : 32 ≤ j := Nat.le_of_not_lt (fun z => absurd c36 (nI_ge (b := 32) z (by decide)))
          refine lv_iconst (v := -1) C.x C.b d_M_at_48 (by decide) ?_
          exact g_iret C _ V ⟨rfl, by rw [o_at_n hj er, o_at_big (x := 0) I hv hb]; rfl⟩ d_M_at_49
        · refine lv_aload_n C.x C.b d_M_at_39 rfl (lv_at hl 1 rfl) ?_
          refine lv_iload_n C.x C.b d_M_at_40 rfl (lv_at hl 2 rfl) ?_
          refine lv_iload_n C.x C.b d_M_at_41 rfl (lv_at hl 3 rfl) ?_
          refine g_iV (q0 := 0) (As := [.int (nI n), .int (nI j)]) (rest := []) C V cs_M_64 (c_M_findT (F := X.f) I B T (by omega) (n) j hv hj) rfl rfl (by decide) rfl hl.1 rfl (Nat.le_of_ble_eq_true rfl) d_M_at_42 (fun r42 u42 H locs w42 V => ?_)
          obtain ⟨rfl, q42⟩ := w42
          refine lv_goto (tgt := 49) C.x C.b d_M_at_45 (by decide) ?_
          exact g_iret C _ V ⟨rfl, by rw [o_at_n hj er]; exact q42⟩ d_M_at_49
  · exact absurd c4 (by decide)
set_option maxHeartbeats 200000 in
set_option maxRecDepth 20000 in
theorem c_M_at2 (X : RM w a) (I : Inv a) (B : Nat) (T : Td a B) (hB : B < 2 ^ 48) (s j : Nat) (hj : j < 2 ^ 31) (hs : s < 16) (er : rOf (nI (16 + s)) = some (16 + s)) (hx : ¬ (¬ nI (16 + s) < 1 ∧ ¬ 8 < nI (16 + s))) (hx2 : ¬ nI (16 + s) < 16 ∧ nI (16 + s) < 32) : gMi lx D (ty3 cI cZ cJ) (MW h cI cZ cJ) y_M_at b_M_at 4 (some .int) ({ frames := 1, cells := 0, slots := 0, locals := 27 } : Room) 0 0 [.ref (h 0), .int (nI (16 + s)), .int (nI j)] ((MW h cI cZ cJ) w) (fun r u' => w = u' ∧ r = o_at a (nI (16 + s)) (nI j)) := by
  refine gMi.of (by decide) (Nat.le_of_ble_eq_true rfl) (fun pg ev st md bl mt cd A ls C hmn hl V => ?_)
  have hl : lv_has ls 4 [(0, .ref (h 0)), (1, .int (nI (16 + s))), (2, .int (nI j))] := hl
  have hv : vR (16 + s) := Or.inr ⟨by omega, by omega⟩
  refine lv_iload_n C.x C.b d_M_at_0 rfl (lv_at hl 1 rfl) ?_
  refine g_iS (As := [.int (nI (16 + s))]) (rest := []) C V cs_M_71 (c_M_isPriority (Wd := MW h cI cZ cJ) (nI (16 + s))) (by decide) rfl hl.1 rfl (Nat.le_of_ble_eq_true rfl) d_M_at_1 (fun r1 u1 H locs w1 V => ?_)
  obtain ⟨rfl, q1⟩ := w1
  obtain rfl : r1 = 0 := by rw [q1, if_neg hx]
  refine lv_if_ne (tgt := 19) C.x C.b d_M_at_4 (by decide) (fun c4 => ?_) (fun c4 => ?_)
  · exact absurd rfl c4
  · refine lv_iload_n C.x C.b d_M_at_7 rfl (lv_at hl 1 rfl) ?_
    refine lv_bipush (v := 16) C.x C.b d_M_at_8 (by decide) ?_
    refine lv_icmp_lt (tgt := 23) C.x C.b d_M_at_10 (by decide) (fun c10 => ?_) (fun c10 => ?_)
    · exact absurd c10 hx2.1
    · refine lv_iload_n C.x C.b d_M_at_13 rfl (lv_at hl 1 rfl) ?_
      refine lv_bipush (v := 32) C.x C.b d_M_at_14 (by decide) ?_
      refine lv_icmp_ge (tgt := 23) C.x C.b d_M_at_16 (by decide) (fun c16 => ?_) (fun c16 => ?_)
      · exact absurd hx2.2 (Int32.not_lt.mpr c16)
      · refine lv_iconst (v := 1) C.x C.b d_M_at_19 (by decide) ?_
        refine lv_goto (tgt := 24) C.x C.b d_M_at_20 (by decide) ?_
        refine lv_istore_n (lv' := [(3, .int 1), (0, .ref (h 0)), (1, .int (nI (16 + s))), (2, .int (nI j))]) C.x C.b d_M_at_24 rfl hl (by decide) rfl (fun ls hl => ?_)
        refine lv_iload_n C.x C.b d_M_at_25 rfl (lv_at hl 0 rfl) ?_
        refine lv_if_eq (tgt := 48) C.x C.b d_M_at_26 (by decide) (fun c26 => ?_) (fun c26 => ?_)
        · exact absurd c26 (by decide)
        · refine lv_iload_n C.x C.b d_M_at_29 rfl (lv_at hl 3 rfl) ?_
          refine lv_if_lt (tgt := 48) C.x C.b d_M_at_30 (by decide) (fun c30 => ?_) (fun c30 => ?_)
          · exact absurd c30 (nI_pos hj)
          · refine lv_iload_n C.x C.b d_M_at_33 rfl (lv_at hl 3 rfl) ?_
            refine lv_bipush (v := 32) C.x C.b d_M_at_34 (by decide) ?_
            refine lv_icmp_ge (tgt := 48) C.x C.b d_M_at_36 (by decide) (fun c36 => ?_) (fun c36 => ?_)
            · have hb : 32 ≤ j := Nat.le_of_not_lt (fun z => absurd c36 (nI_ge (b := 32) z (by decide)))
              refine lv_iconst (v := -1) C.x C.b d_M_at_48 (by decide) ?_
              exact g_iret C _ V ⟨rfl, by rw [o_at_n hj er, o_at_big (x := 0) I hv hb]; rfl⟩ d_M_at_49
            · refine lv_aload_n C.x C.b d_M_at_39 rfl (lv_at hl 1 rfl) ?_
              refine lv_iload_n C.x C.b d_M_at_40 rfl (lv_at hl 2 rfl) ?_
              refine lv_iload_n C.x C.b d_M_at_41 rfl (lv_at hl 3 rfl) ?_
              refine g_iV (q0 := 0) (As := [.int (nI (16 + s)), .int (nI j)]) (rest := []) C V cs_M_64 (c_M_findT (F := X.f) I B T (by omega) (16 + s) j hv hj) rfl rfl (by decide) rfl hl.1 rfl (Nat.le_of_ble_eq_true rfl) d_M_at_42 (fun r42 u42 H locs w42 V => ?_)
              obtain ⟨rfl, q42⟩ := w42
              refine lv_goto (tgt := 49) C.x C.b d_M_at_45 (by decide) ?_
              exact g_iret C _ V ⟨rfl, by rw [o_at_n hj er]; exact q42⟩ d_M_at_49
set_option maxHeartbeats 200000 in
set_option maxRecDepth 20000 in
theorem c_M_at3 (X : RM w a) (I : Inv a) (x i : Int32) (er : rOf x = none) (hx : ¬ (¬ x < 1 ∧ ¬ 8 < x)) (hx2 : ¬ (¬ x < 16 ∧ x < 32)) : gMi lx D (ty3 cI cZ cJ) (MW h cI cZ cJ) y_M_at b_M_at 4 (some .int) ({ frames := 1, cells := 0, slots := 0, locals := 27 } : Room) 0 0 [.ref (h 0), .int x, .int i] ((MW h cI cZ cJ) w) (fun r u' => w = u' ∧ r = o_at a x i) := by
  refine gMi.of (by decide) (Nat.le_of_ble_eq_true rfl) (fun pg ev st md bl mt cd A ls C hmn hl V => ?_)
  have hl : lv_has ls 4 [(0, .ref (h 0)), (1, .int x), (2, .int i)] := hl
  refine lv_iload_n C.x C.b d_M_at_0 rfl (lv_at hl 1 rfl) ?_
  refine g_iS (As := [.int x]) (rest := []) C V cs_M_71 (c_M_isPriority (Wd := MW h cI cZ cJ) (x)) (by decide) rfl hl.1 rfl (Nat.le_of_ble_eq_true rfl) d_M_at_1 (fun r1 u1 H locs w1 V => ?_)
  obtain ⟨rfl, q1⟩ := w1
  obtain rfl : r1 = 0 := by rw [q1, if_neg hx]
  refine lv_if_ne (tgt := 19) C.x C.b d_M_at_4 (by decide) (fun c4 => ?_) (fun c4 => ?_)
  · exact absurd rfl c4
  · refine lv_iload_n C.x C.b d_M_at_7 rfl (lv_at hl 1 rfl) ?_
    refine lv_bipush (v := 16) C.x C.b d_M_at_8 (by decide) ?_
    refine lv_icmp_lt (tgt := 23) C.x C.b d_M_at_10 (by decide) (fun c10 => ?_) (fun c10 => ?_)
    · refine lv_iconst (v := 0) C.x C.b d_M_at_23 (by decide) ?_
      refine lv_istore_n (lv' := [(3, .int 0), (0, .ref (h 0)), (1, .int x), (2, .int i)]) C.x C.b d_M_at_24 rfl hl (by decide) rfl (fun ls hl => ?_)
      refine lv_iload_n C.x C.b d_M_at_25 rfl (lv_at hl 0 rfl) ?_
      refine lv_if_eq (tgt := 48) C.x C.b d_M_at_26 (by decide) (fun c26 => ?_) (fun c26 => ?_)
      · refine lv_iconst (v := -1) C.x C.b d_M_at_48 (by decide) ?_
        exact g_iret C _ V ⟨rfl, by unfold o_at; rw [er]⟩ d_M_at_49
      · exact absurd rfl c26
    · refine lv_iload_n C.x C.b d_M_at_13 rfl (lv_at hl 1 rfl) ?_
      refine lv_bipush (v := 32) C.x C.b d_M_at_14 (by decide) ?_
      refine lv_icmp_ge (tgt := 23) C.x C.b d_M_at_16 (by decide) (fun c16 => ?_) (fun c16 => ?_)
      · refine lv_iconst (v := 0) C.x C.b d_M_at_23 (by decide) ?_
        refine lv_istore_n (lv' := [(3, .int 0), (0, .ref (h 0)), (1, .int x), (2, .int i)]) C.x C.b d_M_at_24 rfl hl (by decide) rfl (fun ls hl => ?_)
        refine lv_iload_n C.x C.b d_M_at_25 rfl (lv_at hl 0 rfl) ?_
        refine lv_if_eq (tgt := 48) C.x C.b d_M_at_26 (by decide) (fun c26 => ?_) (fun c26 => ?_)
        · refine lv_iconst (v := -1) C.x C.b d_M_at_48 (by decide) ?_
          exact g_iret C _ V ⟨rfl, by unfold o_at; rw [er]⟩ d_M_at_49
        · exact absurd rfl c26
      · exact absurd ⟨c10, Int32.not_le.mp c16⟩ hx2
set_option maxHeartbeats 200000 in
set_option maxRecDepth 20000 in
theorem c_M_at4 (X : RM w a) (I : Inv a) (x i : Int32) (hi : i < 0) : gMi lx D (ty3 cI cZ cJ) (MW h cI cZ cJ) y_M_at b_M_at 4 (some .int) ({ frames := 1, cells := 0, slots := 0, locals := 27 } : Room) 0 0 [.ref (h 0), .int x, .int i] ((MW h cI cZ cJ) w) (fun r u' => w = u' ∧ r = o_at a x i) := by
  refine gMi.of (by decide) (Nat.le_of_ble_eq_true rfl) (fun pg ev st md bl mt cd A ls C hmn hl V => ?_)
  have hl : lv_has ls 4 [(0, .ref (h 0)), (1, .int x), (2, .int i)] := hl
  refine lv_iload_n C.x C.b d_M_at_0 rfl (lv_at hl 1 rfl) ?_
  refine g_iS (As := [.int x]) (rest := []) C V cs_M_71 (c_M_isPriority (Wd := MW h cI cZ cJ) (x)) (by decide) rfl hl.1 rfl (Nat.le_of_ble_eq_true rfl) d_M_at_1 (fun r1 u1 H locs w1 V => ?_)
  obtain ⟨rfl, q1⟩ := w1
  refine lv_if_ne (tgt := 19) C.x C.b d_M_at_4 (by decide) (fun c4 => ?_) (fun c4 => ?_)
  · refine lv_iconst (v := 1) C.x C.b d_M_at_19 (by decide) ?_
    refine lv_goto (tgt := 24) C.x C.b d_M_at_20 (by decide) ?_
    refine lv_istore_n (lv' := [(3, .int 1), (0, .ref (h 0)), (1, .int x), (2, .int i)]) C.x C.b d_M_at_24 rfl hl (by decide) rfl (fun ls hl => ?_)
    refine lv_iload_n C.x C.b d_M_at_25 rfl (lv_at hl 0 rfl) ?_
    refine lv_if_eq (tgt := 48) C.x C.b d_M_at_26 (by decide) (fun c26 => ?_) (fun c26 => ?_)
    · refine lv_iconst (v := -1) C.x C.b d_M_at_48 (by decide) ?_
      exact g_iret C _ V ⟨rfl, by unfold o_at; cases rOf x with | none => rfl | some r => dsimp only; rw [if_pos hi]⟩ d_M_at_49
    · refine lv_iload_n C.x C.b d_M_at_29 rfl (lv_at hl 3 rfl) ?_
      refine lv_if_lt (tgt := 48) C.x C.b d_M_at_30 (by decide) (fun c30 => ?_) (fun c30 => ?_)
      · refine lv_iconst (v := -1) C.x C.b d_M_at_48 (by decide) ?_
        exact g_iret C _ V ⟨rfl, by unfold o_at; cases rOf x with | none => rfl | some r => dsimp only; rw [if_pos hi]⟩ d_M_at_49
      · exact absurd hi c30
  · refine lv_iload_n C.x C.b d_M_at_7 rfl (lv_at hl 1 rfl) ?_
    refine lv_bipush (v := 16) C.x C.b d_M_at_8 (by decide) ?_
    refine lv_icmp_lt (tgt := 23) C.x C.b d_M_at_10 (by decide) (fun c10 => ?_) (fun c10 => ?_)
    · refine lv_iconst (v := 0) C.x C.b d_M_at_23 (by decide) ?_
      refine lv_istore_n (lv' := [(3, .int 0), (0, .ref (h 0)), (1, .int x), (2, .int i)]) C.x C.b d_M_at_24 rfl hl (by decide) rfl (fun ls hl => ?_)
      refine lv_iload_n C.x C.b d_M_at_25 rfl (lv_at hl 0 rfl) ?_
      refine lv_if_eq (tgt := 48) C.x C.b d_M_at_26 (by decide) (fun c26 => ?_) (fun c26 => ?_)
      · refine lv_iconst (v := -1) C.x C.b d_M_at_48 (by decide) ?_
        exact g_iret C _ V ⟨rfl, by unfold o_at; cases rOf x with | none => rfl | some r => dsimp only; rw [if_pos hi]⟩ d_M_at_49
      · refine lv_iload_n C.x C.b d_M_at_29 rfl (lv_at hl 3 rfl) ?_
        refine lv_if_lt (tgt := 48) C.x C.b d_M_at_30 (by decide) (fun c30 => ?_) (fun c30 => ?_)
        · refine lv_iconst (v := -1) C.x C.b d_M_at_48 (by decide) ?_
          exact g_iret C _ V ⟨rfl, by unfold o_at; cases rOf x with | none => rfl | some r => dsimp only; rw [if_pos hi]⟩ d_M_at_49
        · exact absurd hi c30
    · refine lv_iload_n C.x C.b d_M_at_13 rfl (lv_at hl 1 rfl) ?_
      refine lv_bipush (v := 32) C.x C.b d_M_at_14 (by decide) ?_
      refine lv_icmp_ge (tgt := 23) C.x C.b d_M_at_16 (by decide) (fun c16 => ?_) (fun c16 => ?_)
      · refine lv_iconst (v := 0) C.x C.b d_M_at_23 (by decide) ?_
        refine lv_istore_n (lv' := [(3, .int 0), (0, .ref (h 0)), (1, .int x), (2, .int i)]) C.x C.b d_M_at_24 rfl hl (by decide) rfl (fun ls hl => ?_)
        refine lv_iload_n C.x C.b d_M_at_25 rfl (lv_at hl 0 rfl) ?_
        refine lv_if_eq (tgt := 48) C.x C.b d_M_at_26 (by decide) (fun c26 => ?_) (fun c26 => ?_)
        · refine lv_iconst (v := -1) C.x C.b d_M_at_48 (by decide) ?_
          exact g_iret C _ V ⟨rfl, by unfold o_at; cases rOf x with | none => rfl | some r => dsimp only; rw [if_pos hi]⟩ d_M_at_49
        · refine lv_iload_n C.x C.b d_M_at_29 rfl (lv_at hl 3 rfl) ?_
          refine lv_if_lt (tgt := 48) C.x C.b d_M_at_30 (by decide) (fun c30 => ?_) (fun c30 => ?_)
          · refine lv_iconst (v := -1) C.x C.b d_M_at_48 (by decide) ?_
            exact g_iret C _ V ⟨rfl, by unfold o_at; cases rOf x with | none => rfl | some r => dsimp only; rw [if_pos hi]⟩ d_M_at_49
          · exact absurd hi c30
      · refine lv_iconst (v := 1) C.x C.b d_M_at_19 (by decide) ?_
        refine lv_goto (tgt := 24) C.x C.b d_M_at_20 (by decide) ?_
        refine lv_istore_n (lv' := [(3, .int 1), (0, .ref (h 0)), (1, .int x), (2, .int i)]) C.x C.b d_M_at_24 rfl hl (by decide) rfl (fun ls hl => ?_)
        refine lv_iload_n C.x C.b d_M_at_25 rfl (lv_at hl 0 rfl) ?_
        refine lv_if_eq (tgt := 48) C.x C.b d_M_at_26 (by decide) (fun c26 => ?_) (fun c26 => ?_)
        · refine lv_iconst (v := -1) C.x C.b d_M_at_48 (by decide) ?_
          exact g_iret C _ V ⟨rfl, by unfold o_at; cases rOf x with | none => rfl | some r => dsimp only; rw [if_pos hi]⟩ d_M_at_49
        · refine lv_iload_n C.x C.b d_M_at_29 rfl (lv_at hl 3 rfl) ?_
          refine lv_if_lt (tgt := 48) C.x C.b d_M_at_30 (by decide) (fun c30 => ?_) (fun c30 => ?_)
          · refine lv_iconst (v := -1) C.x C.b d_M_at_48 (by decide) ?_
            exact g_iret C _ V ⟨rfl, by unfold o_at; cases rOf x with | none => rfl | some r => dsimp only; rw [if_pos hi]⟩ d_M_at_49
          · exact absurd hi c30
theorem c_M_at (X : RM w a) (I : Inv a) (B : Nat) (T : Td a B) (hB : B < 2 ^ 48) (x i : Int32) : gMi lx D (ty3 cI cZ cJ) (MW h cI cZ cJ) y_M_at b_M_at 4 (some .int) ({ frames := 1, cells := 0, slots := 0, locals := 27 } : Room) 0 0 [.ref (h 0), .int x, .int i] (MW h cI cZ cJ w) (fun r u' => w = u' ∧ r = o_at a x i) := by
  by_cases hi : i < 0
  · exact c_M_at4 X I x i hi
  · obtain ⟨j, hj, rfl⟩ := nI_of hi
    rcases rOf_c x with ⟨n, h1, h8, rfl, er, hx⟩ | ⟨s, hs, rfl, er, hx, hx2⟩ | ⟨er, hx, hx2⟩
    · exact c_M_at1 X I B T hB n j hj h1 h8 er hx
    · exact c_M_at2 X I B T hB s j hj hs er hx hx2
    · exact c_M_at3 X I x (nI j) er hx hx2
set_option maxHeartbeats 200000 in
set_option maxRecDepth 20000 in
theorem tl_M_step00 {pg : Program} {ev : Env} {st : State} {md : MethodId} {args : Array Value} {bl : List Frame} {mt : Method} {cd : Code} {A : Nat → Prop} {F : AS} (X : RM w a) (I : Inv a) (P : Prs a) (hw : aW a = true) (hF : a_swap a = F) (hA : aA a = none) (hC : aC a = none)  (C : gC pg st md args mt cd b_M_step 2 y_M_step.cls (some .int) D (ty3 cI cZ cJ) A) : ∀ (H : Heap) (locs : List Loc) (ls : Array Slot), gV D A st ((MW h cI cZ cJ) w) H locs → lv_has ls 2 [(0, .ref (h 0))] → W pg lx ev ({ frames := 3, cells := 0, slots := 0, locals := 66 } : Room) st md args bl mt cd H locs 0 0 (MQ bl (va_Qi (fun x u' => x = eN (aA F) ∧ RM u' F) (fun u t => gB D (ty3 cI cZ cJ) A ((MW h cI cZ cJ) u) t) A) args st 0 0 A) (F0 md 38 ls []) := by
  intro H locs ls V hl
  refine lv_aload_n C.x C.b d_M_step_38 rfl (lv_at hl 0 rfl) ?_
  refine mg_active C V fl_M_33 d_M_step_39 ?_
  refine lv_topi (fun v39 e39 => ?_)
  obtain rfl : v39 = -1 := by rw [e39]; exact X.ac.trans (by rw [hA]; rfl)
  refine lv_if_lt (tgt := 58) C.x C.b d_M_step_42 (by decide) (fun c42 => ?_) (fun c42 => ?_)
  · refine lv_aload_n C.x C.b d_M_step_58 rfl (lv_at hl 0 rfl) ?_
    refine lv_aload_n C.x C.b d_M_step_59 rfl (lv_at hl 0 rfl) ?_
    refine mg_change C V fl_M_37 d_M_step_60 ?_
    refine lv_topi (fun v60 e60 => ?_)
    obtain rfl : v60 = -1 := by rw [e60]; exact X.cg.trans (by rw [hC]; rfl)
    refine mp_active C V fl_M_33 d_M_step_63 (fun H locs V => ?_)
    refine lv_aload_n C.x C.b d_M_step_66 rfl (lv_at hl 0 rfl) ?_
    refine lv_aload_n C.x C.b d_M_step_67 rfl (lv_at hl 0 rfl) ?_
    refine mg_active C V fl_M_33 d_M_step_68 ?_
    refine lv_topi (fun v68 e68 => ?_)
    obtain rfl : v68 = -1 := by rw [e68]
    refine lv_if_lt (tgt := 86) C.x C.b d_M_step_71 (by decide) (fun c71 => ?_) (fun c71 => ?_)
    · refine lv_iconst (v := 0) C.x C.b d_M_step_86 (by decide) ?_
      refine mp_here C V fl_M_89 d_M_step_87 (fun H locs V => ?_)
      refine lv_aload_n C.x C.b d_M_step_90 rfl (lv_at hl 0 rfl) ?_
      refine lv_iconst (v := 0) C.x C.b d_M_step_91 (by decide) ?_
      refine mp_wanted C V fl_M_48 (by decide) d_M_step_92 (fun H locs V => ?_)
      refine lv_aload_n C.x C.b d_M_step_95 rfl (lv_at hl 0 rfl) ?_
      refine mg_active C V fl_M_33 d_M_step_96 ?_
      refine lv_topi (fun v96 e96 => ?_)
      exact g_iret C _ V (by rw [← hF]; have hz := rm_swap0 X hw hA (by unfold sw_h; rw [hC]); refine ⟨?_, by rw [hC] at hz; exact hz⟩; rw [e96, sw_w hw]; show _ = eN (aC a); rw [hC]; rfl) d_M_step_99
    · exact absurd (by decide) c71
  · exact absurd (by decide) c42
set_option maxHeartbeats 200000 in
set_option maxRecDepth 20000 in
theorem tl_M_step01 {pg : Program} {ev : Env} {st : State} {md : MethodId} {args : Array Value} {bl : List Frame} {mt : Method} {cd : Code} {A : Nat → Prop} {F : AS} (X : RM w a) (I : Inv a) (P : Prs a) (hw : aW a = true) (hF : a_swap a = F) (hA : aA a = none) (d : Nat) (hC : aC a = some d)  (C : gC pg st md args mt cd b_M_step 2 y_M_step.cls (some .int) D (ty3 cI cZ cJ) A) : ∀ (H : Heap) (locs : List Loc) (ls : Array Slot), gV D A st ((MW h cI cZ cJ) w) H locs → lv_has ls 2 [(0, .ref (h 0))] → W pg lx ev ({ frames := 3, cells := 0, slots := 0, locals := 66 } : Room) st md args bl mt cd H locs 0 0 (MQ bl (va_Qi (fun x u' => x = eN (aA F) ∧ RM u' F) (fun u t => gB D (ty3 cI cZ cJ) A ((MW h cI cZ cJ) u) t) A) args st 0 0 A) (F0 md 38 ls []) := by
  intro H locs ls V hl
  have hd := (P d (by unfold a_pres; rw [if_pos hw, hC])).1
  refine lv_aload_n C.x C.b d_M_step_38 rfl (lv_at hl 0 rfl) ?_
  refine mg_active C V fl_M_33 d_M_step_39 ?_
  refine lv_topi (fun v39 e39 => ?_)
  obtain rfl : v39 = -1 := by rw [e39]; exact X.ac.trans (by rw [hA]; rfl)
  refine lv_if_lt (tgt := 58) C.x C.b d_M_step_42 (by decide) (fun c42 => ?_) (fun c42 => ?_)
  · refine lv_aload_n C.x C.b d_M_step_58 rfl (lv_at hl 0 rfl) ?_
    refine lv_aload_n C.x C.b d_M_step_59 rfl (lv_at hl 0 rfl) ?_
    refine mg_change C V fl_M_37 d_M_step_60 ?_
    refine lv_topi (fun v60 e60 => ?_)
    obtain rfl : v60 = nI d := by rw [e60]; exact X.cg.trans (by rw [hC]; rfl)
    refine mp_active C V fl_M_33 d_M_step_63 (fun H locs V => ?_)
    refine lv_aload_n C.x C.b d_M_step_66 rfl (lv_at hl 0 rfl) ?_
    refine lv_aload_n C.x C.b d_M_step_67 rfl (lv_at hl 0 rfl) ?_
    refine mg_active C V fl_M_33 d_M_step_68 ?_
    refine lv_topi (fun v68 e68 => ?_)
    obtain rfl : v68 = nI d := by rw [e68]
    refine lv_if_lt (tgt := 86) C.x C.b d_M_step_71 (by decide) (fun c71 => ?_) (fun c71 => ?_)
    · exact absurd c71 (nI_pos (by omega))
    · refine lv_aload_n C.x C.b d_M_step_74 rfl (lv_at hl 0 rfl) ?_
      refine mg_place C V fl_M_17 d_M_step_75 ?_
      refine lv_aload_n C.x C.b d_M_step_78 rfl (lv_at hl 0 rfl) ?_
      refine mg_active C V fl_M_33 d_M_step_79 ?_
      refine lv_topi (fun v79 e79 => ?_)
      obtain rfl : v79 = nI d := by rw [e79]
      refine ma_place (d) C V rfl hd d_M_step_82 ?_
      refine lv_topi (fun v82 e82 => ?_)
      refine lv_goto (tgt := 87) C.x C.b d_M_step_83 (by decide) ?_
      refine mp_here C V fl_M_89 d_M_step_87 (fun H locs V => ?_)
      refine lv_aload_n C.x C.b d_M_step_90 rfl (lv_at hl 0 rfl) ?_
      refine lv_iconst (v := 0) C.x C.b d_M_step_91 (by decide) ?_
      refine mp_wanted C V fl_M_48 (by decide) d_M_step_92 (fun H locs V => ?_)
      refine lv_aload_n C.x C.b d_M_step_95 rfl (lv_at hl 0 rfl) ?_
      refine mg_active C V fl_M_33 d_M_step_96 ?_
      refine lv_topi (fun v96 e96 => ?_)
      exact g_iret C _ V (by rw [← hF]; have hz := rm_swap0 (v := v82) X hw hA (by unfold sw_h; rw [hC]; dsimp only; rw [lay_n hA, e82]; exact X.pl hd); refine ⟨?_, by rw [hC] at hz; exact hz⟩; rw [e96, sw_w hw]; show _ = eN (aC a); rw [hC]; rfl) d_M_step_99
  · exact absurd (by decide) c42
set_option maxHeartbeats 200000 in
set_option maxRecDepth 20000 in
theorem tl_M_step10 {pg : Program} {ev : Env} {st : State} {md : MethodId} {args : Array Value} {bl : List Frame} {mt : Method} {cd : Code} {A : Nat → Prop} {F : AS} (X : RM w a) (I : Inv a) (P : Prs a) (hw : aW a = true) (hF : a_swap a = F) (o : Nat) (hA : aA a = some o) (hC : aC a = none)  (C : gC pg st md args mt cd b_M_step 2 y_M_step.cls (some .int) D (ty3 cI cZ cJ) A) : ∀ (H : Heap) (locs : List Loc) (ls : Array Slot), gV D A st ((MW h cI cZ cJ) w) H locs → lv_has ls 2 [(0, .ref (h 0))] → W pg lx ev ({ frames := 3, cells := 0, slots := 0, locals := 66 } : Room) st md args bl mt cd H locs 0 0 (MQ bl (va_Qi (fun x u' => x = eN (aA F) ∧ RM u' F) (fun u t => gB D (ty3 cI cZ cJ) A ((MW h cI cZ cJ) u) t) A) args st 0 0 A) (F0 md 38 ls []) := by
  intro H locs ls V hl
  have ho := (I.act hA).1
  refine lv_aload_n C.x C.b d_M_step_38 rfl (lv_at hl 0 rfl) ?_
  refine mg_active C V fl_M_33 d_M_step_39 ?_
  refine lv_topi (fun v39 e39 => ?_)
  obtain rfl : v39 = nI o := by rw [e39]; exact X.ac.trans (by rw [hA]; rfl)
  refine lv_if_lt (tgt := 58) C.x C.b d_M_step_42 (by decide) (fun c42 => ?_) (fun c42 => ?_)
  · exact absurd c42 (nI_pos (by omega))
  · refine lv_aload_n C.x C.b d_M_step_45 rfl (lv_at hl 0 rfl) ?_
    refine mg_place C V fl_M_17 d_M_step_46 ?_
    refine lv_aload_n C.x C.b d_M_step_49 rfl (lv_at hl 0 rfl) ?_
    refine mg_active C V fl_M_33 d_M_step_50 ?_
    refine lv_topi (fun v50 e50 => ?_)
    obtain rfl : v50 = nI o := by rw [e50]; exact X.ac.trans (by rw [hA]; rfl)
    refine lv_aload_n C.x C.b d_M_step_53 rfl (lv_at hl 0 rfl) ?_
    refine mg_here C V fl_M_89 d_M_step_54 ?_
    refine lv_topi (fun v54 e54 => ?_)
    obtain rfl : v54 = aH a := by rw [e54]; exact X.he
    refine ms_place (o) C V rfl ho d_M_step_57 (fun H locs V => ?_)
    refine lv_aload_n C.x C.b d_M_step_58 rfl (lv_at hl 0 rfl) ?_
    refine lv_aload_n C.x C.b d_M_step_59 rfl (lv_at hl 0 rfl) ?_
    refine mg_change C V fl_M_37 d_M_step_60 ?_
    refine lv_topi (fun v60 e60 => ?_)
    obtain rfl : v60 = -1 := by rw [e60]; exact X.cg.trans (by rw [hC]; rfl)
    refine mp_active C V fl_M_33 d_M_step_63 (fun H locs V => ?_)
    refine lv_aload_n C.x C.b d_M_step_66 rfl (lv_at hl 0 rfl) ?_
    refine lv_aload_n C.x C.b d_M_step_67 rfl (lv_at hl 0 rfl) ?_
    refine mg_active C V fl_M_33 d_M_step_68 ?_
    refine lv_topi (fun v68 e68 => ?_)
    obtain rfl : v68 = -1 := by rw [e68]
    refine lv_if_lt (tgt := 86) C.x C.b d_M_step_71 (by decide) (fun c71 => ?_) (fun c71 => ?_)
    · refine lv_iconst (v := 0) C.x C.b d_M_step_86 (by decide) ?_
      refine mp_here C V fl_M_89 d_M_step_87 (fun H locs V => ?_)
      refine lv_aload_n C.x C.b d_M_step_90 rfl (lv_at hl 0 rfl) ?_
      refine lv_iconst (v := 0) C.x C.b d_M_step_91 (by decide) ?_
      refine mp_wanted C V fl_M_48 (by decide) d_M_step_92 (fun H locs V => ?_)
      refine lv_aload_n C.x C.b d_M_step_95 rfl (lv_at hl 0 rfl) ?_
      refine mg_active C V fl_M_33 d_M_step_96 ?_
      refine lv_topi (fun v96 e96 => ?_)
      exact g_iret C _ V (by rw [← hF]; have hz := rm_swap1 X hw hA (by unfold sw_h; rw [hC]); refine ⟨?_, by rw [hC] at hz; exact hz⟩; rw [e96, sw_w hw]; show _ = eN (aC a); rw [hC]; rfl) d_M_step_99
    · exact absurd (by decide) c71
set_option maxHeartbeats 200000 in
set_option maxRecDepth 20000 in
theorem tl_M_step11 {pg : Program} {ev : Env} {st : State} {md : MethodId} {args : Array Value} {bl : List Frame} {mt : Method} {cd : Code} {A : Nat → Prop} {F : AS} (X : RM w a) (I : Inv a) (P : Prs a) (hw : aW a = true) (hF : a_swap a = F) (o : Nat) (hA : aA a = some o) (d : Nat) (hC : aC a = some d)  (C : gC pg st md args mt cd b_M_step 2 y_M_step.cls (some .int) D (ty3 cI cZ cJ) A) : ∀ (H : Heap) (locs : List Loc) (ls : Array Slot), gV D A st ((MW h cI cZ cJ) w) H locs → lv_has ls 2 [(0, .ref (h 0))] → W pg lx ev ({ frames := 3, cells := 0, slots := 0, locals := 66 } : Room) st md args bl mt cd H locs 0 0 (MQ bl (va_Qi (fun x u' => x = eN (aA F) ∧ RM u' F) (fun u t => gB D (ty3 cI cZ cJ) A ((MW h cI cZ cJ) u) t) A) args st 0 0 A) (F0 md 38 ls []) := by
  intro H locs ls V hl
  have ho := (I.act hA).1
  have hd := (P d (by unfold a_pres; rw [if_pos hw, hC])).1
  refine lv_aload_n C.x C.b d_M_step_38 rfl (lv_at hl 0 rfl) ?_
  refine mg_active C V fl_M_33 d_M_step_39 ?_
  refine lv_topi (fun v39 e39 => ?_)
  obtain rfl : v39 = nI o := by rw [e39]; exact X.ac.trans (by rw [hA]; rfl)
  refine lv_if_lt (tgt := 58) C.x C.b d_M_step_42 (by decide) (fun c42 => ?_) (fun c42 => ?_)
  · exact absurd c42 (nI_pos (by omega))
  · refine lv_aload_n C.x C.b d_M_step_45 rfl (lv_at hl 0 rfl) ?_
    refine mg_place C V fl_M_17 d_M_step_46 ?_
    refine lv_aload_n C.x C.b d_M_step_49 rfl (lv_at hl 0 rfl) ?_
    refine mg_active C V fl_M_33 d_M_step_50 ?_
    refine lv_topi (fun v50 e50 => ?_)
    obtain rfl : v50 = nI o := by rw [e50]; exact X.ac.trans (by rw [hA]; rfl)
    refine lv_aload_n C.x C.b d_M_step_53 rfl (lv_at hl 0 rfl) ?_
    refine mg_here C V fl_M_89 d_M_step_54 ?_
    refine lv_topi (fun v54 e54 => ?_)
    obtain rfl : v54 = aH a := by rw [e54]; exact X.he
    refine ms_place (o) C V rfl ho d_M_step_57 (fun H locs V => ?_)
    refine lv_aload_n C.x C.b d_M_step_58 rfl (lv_at hl 0 rfl) ?_
    refine lv_aload_n C.x C.b d_M_step_59 rfl (lv_at hl 0 rfl) ?_
    refine mg_change C V fl_M_37 d_M_step_60 ?_
    refine lv_topi (fun v60 e60 => ?_)
    obtain rfl : v60 = nI d := by rw [e60]; exact X.cg.trans (by rw [hC]; rfl)
    refine mp_active C V fl_M_33 d_M_step_63 (fun H locs V => ?_)
    refine lv_aload_n C.x C.b d_M_step_66 rfl (lv_at hl 0 rfl) ?_
    refine lv_aload_n C.x C.b d_M_step_67 rfl (lv_at hl 0 rfl) ?_
    refine mg_active C V fl_M_33 d_M_step_68 ?_
    refine lv_topi (fun v68 e68 => ?_)
    obtain rfl : v68 = nI d := by rw [e68]
    refine lv_if_lt (tgt := 86) C.x C.b d_M_step_71 (by decide) (fun c71 => ?_) (fun c71 => ?_)
    · exact absurd c71 (nI_pos (by omega))
    · refine lv_aload_n C.x C.b d_M_step_74 rfl (lv_at hl 0 rfl) ?_
      refine mg_place C V fl_M_17 d_M_step_75 ?_
      refine lv_aload_n C.x C.b d_M_step_78 rfl (lv_at hl 0 rfl) ?_
      refine mg_active C V fl_M_33 d_M_step_79 ?_
      refine lv_topi (fun v79 e79 => ?_)
      obtain rfl : v79 = nI d := by rw [e79]
      refine ma_place (d) C V rfl hd d_M_step_82 ?_
      refine lv_topi (fun v82 e82 => ?_)
      refine lv_goto (tgt := 87) C.x C.b d_M_step_83 (by decide) ?_
      refine mp_here C V fl_M_89 d_M_step_87 (fun H locs V => ?_)
      refine lv_aload_n C.x C.b d_M_step_90 rfl (lv_at hl 0 rfl) ?_
      refine lv_iconst (v := 0) C.x C.b d_M_step_91 (by decide) ?_
      refine mp_wanted C V fl_M_48 (by decide) d_M_step_92 (fun H locs V => ?_)
      refine lv_aload_n C.x C.b d_M_step_95 rfl (lv_at hl 0 rfl) ?_
      refine mg_active C V fl_M_33 d_M_step_96 ?_
      refine lv_topi (fun v96 e96 => ?_)
      exact g_iret C _ V (by rw [← hF]; have hz := rm_swap1 (v := v82) X hw hA (by unfold sw_h; rw [hC]; dsimp only; rw [lay_s hA, e82]; show upd (mL w) o (aH a) d = va_up (aL a) o (aH a) d; by_cases e : d = o; subst e; rw [ud_s, up_s]; rw [ud_n e, up_n _ _ e]; exact X.pl hd); refine ⟨?_, by rw [hC] at hz; exact hz⟩; rw [e96, sw_w hw]; show _ = eN (aC a); rw [hC]; rfl) d_M_step_99
set_option maxHeartbeats 200000 in
set_option maxRecDepth 20000 in
theorem lp_M_step {pg : Program} {ev : Env} {st : State} {md : MethodId} {args : Array Value} {bl : List Frame} {mt : Method} {cd : Code} {A : Nat → Prop} {F : AS} (Ps : List Nat) (B0 : Nat) (h40 : Ps.length ≤ 40) (hB0 : B0 + Ps.length < 2 ^ 49) (C : gC pg st md args mt cd b_M_step 2 y_M_step.cls (some .int) D (ty3 cI cZ cJ) A) : ∀ (l : List Nat) (k : Nat) (a : AS) (w : MS), RM w a → Inv a → Prs a → aO a = Ps → k ≤ Ps.length → Ps.drop k = l → Td a (B0 + k) → a_swap (a_done (a_sigs a l)) = F → ∀ (H : Heap) (locs : List Loc) (ls : Array Slot), gV D A st ((MW h cI cZ cJ) w) H locs → lv_has ls 2 [(0, .ref (h 0)), (1, .int (nI k))] → W pg lx ev ({ frames := 3, cells := 0, slots := 0, locals := 66 } : Room) st md args bl mt cd H locs 0 0 (MQ bl (va_Qi (fun x u' => x = eN (aA F) ∧ RM u' F) (fun u t => gB D (ty3 cI cZ cJ) A ((MW h cI cZ cJ) u) t) A) args st 0 0 A) (F0 md 2 ls []) := by
  intro l
  induction l with
  | nil =>
    intro k a w X I P hO hk hd hB hF H locs ls V hl
    have hkl : k = Ps.length := by have := congrArg List.length hd; rw [List.length_drop] at this; simp at this; omega
    refine lv_iload_n C.x C.b d_M_step_2 rfl (lv_at hl 1 rfl) ?_
    refine lv_aload_n C.x C.b d_M_step_3 rfl (lv_at hl 0 rfl) ?_
    refine mg_posts C V fl_M_86 d_M_step_4 ?_
    refine lv_topi (fun v4 e4 => ?_)
    obtain rfl : v4 = nI (aO a).length := by rw [e4]; exact X.ln
    refine lv_icmp_ge (tgt := 26) C.x C.b d_M_step_7 (by decide) (fun c7 => ?_) (fun c7 => ?_)
    · refine lv_aload_n C.x C.b d_M_step_26 rfl (lv_at hl 0 rfl) ?_
      refine lv_iconst (v := 0) C.x C.b d_M_step_27 (by decide) ?_
      refine mp_posts C V fl_M_86 d_M_step_28 (fun H locs V => ?_)
      have X := rm_done X
      have I : Inv (a_done a) := inv_done I
      have P : Prs (a_done a) := P
      have hF : a_swap (a_done a) = F := hF
      refine lv_aload_n C.x C.b d_M_step_31 rfl (lv_at hl 0 rfl) ?_
      refine mg_wanted C V fl_M_48 d_M_step_32 ?_
      refine lv_topi (fun v32 e32 => ?_)
      refine lv_if_eq (tgt := 95) C.x C.b d_M_step_35 (by decide) (fun c35 => ?_) (fun c35 => ?_)
      · have hw : ¬ aW (a_done a) = true := fun z => by rw [e32, X.wa, if_pos z] at c35; exact absurd c35 (by decide)
        refine lv_aload_n C.x C.b d_M_step_95 rfl (lv_at hl 0 rfl) ?_
        refine mg_active C V fl_M_33 d_M_step_96 ?_
        refine lv_topi (fun v96 e96 => ?_)
        exact g_iret C _ V (by rw [← hF, sw_n hw]; exact ⟨by rw [e96]; exact X.ac, X⟩) d_M_step_99
      · have hw : aW (a_done a) = true := Classical.byContradiction (fun z => c35 (by rw [e32]; exact X.wa.trans (if_neg z)))
        cases hA : aA (a_done a) with
        | none =>
          cases hC : aC (a_done a) with
          | none => exact tl_M_step00 X I P hw hF hA hC C H locs ls V (lv_sub hl [0] rfl)
          | some d => exact tl_M_step01 X I P hw hF hA d hC C H locs ls V (lv_sub hl [0] rfl)
        | some o =>
          cases hC : aC (a_done a) with
          | none => exact tl_M_step10 X I P hw hF o hA hC C H locs ls V (lv_sub hl [0] rfl)
          | some d => exact tl_M_step11 X I P hw hF o hA d hC C H locs ls V (lv_sub hl [0] rfl)
    · exact absurd (by rw [hO, hkl]; exact Int32.le_refl _) c7
  | cons s l ih =>
    intro k a w X I P hO hk hd hB hF H locs ls V hl
    have hkl : k < Ps.length := by have := congrArg List.length hd; rw [List.length_drop] at this; simp at this; omega
    have hks : Ps[k]? = some s := by have := congrArg (fun z => z[0]?) hd; simpa using this
    have hs : s < 16 := I.pst s (by rw [hO]; exact List.mem_of_getElem? hks)
    refine lv_iload_n C.x C.b d_M_step_2 rfl (lv_at hl 1 rfl) ?_
    refine lv_aload_n C.x C.b d_M_step_3 rfl (lv_at hl 0 rfl) ?_
    refine mg_posts C V fl_M_86 d_M_step_4 ?_
    refine lv_topi (fun v4 e4 => ?_)
    obtain rfl : v4 = nI (aO a).length := by rw [e4]; exact X.ln
    refine lv_icmp_ge (tgt := 26) C.x C.b d_M_step_7 (by decide) (fun c7 => ?_) (fun c7 => ?_)
    · exact absurd c7 (by rw [hO]; exact nI_ge hkl (by omega))
    · refine lv_aload_n C.x C.b d_M_step_10 rfl (lv_at hl 0 rfl) ?_
      refine lv_aload_n C.x C.b d_M_step_11 rfl (lv_at hl 0 rfl) ?_
      refine mg_posted C V fl_M_30 d_M_step_12 ?_
      refine lv_iload_n C.x C.b d_M_step_15 rfl (lv_at hl 1 rfl) ?_
      refine ma_posted (k) C V rfl (by omega) d_M_step_16 ?_
      refine lv_topi (fun v16 e16 => ?_)
      obtain rfl : v16 = nI s := by rw [e16, X.ps (by rw [hO]; exact hks)]
      refine g_vV (q0 := 0) (As := [.int (nI s)]) (rest := []) C V cs_M_83 (c_M_give X I P (B0 + k) hB (by omega) s hs) rfl rfl (by decide) rfl hl.1 rfl (Nat.le_of_ble_eq_true rfl) d_M_step_17 (fun u17 H locs w17 V => ?_)
      have hI := inv_sig I P hs
      obtain ⟨v20, e20⟩ : ∃ y : Int32, y = nI k + 1 := ⟨_, rfl⟩
      refine lv_iinc (v := v20) (lv' := [(1, .int v20), (0, .ref (h 0))]) C.x C.b d_M_step_20 hl (k := 1) rfl (by rw [e20]; rfl) (by decide) rfl (fun ls hl => ?_)
      refine lv_goto (tgt := 2) C.x C.b d_M_step_23 (by decide) ?_
      exact ih (k + 1) (a_sig a s) u17 w17 hI.1 hI.2 (by rw [sig_O, hO]) hkl (by have := congrArg (fun z => z.drop 1) hd; simpa using this) (td_sig hB) hF H locs ls V (lv_sub (by rw [e20, nI_1] at hl; exact hl) [1, 0] rfl)
set_option maxHeartbeats 200000 in
set_option maxRecDepth 20000 in
theorem c_M_step (X : RM w a) (I : Inv a) (P : Prs a) (B : Nat) (T : Td a B) (hB : B < 2 ^ 48)  : gMi lx D (ty3 cI cZ cJ) (MW h cI cZ cJ) y_M_step b_M_step 2 (some .int) ({ frames := 3, cells := 0, slots := 0, locals := 66 } : Room) 0 0 [.ref (h 0)] ((MW h cI cZ cJ) w) (fun r u' => r = (o_step a).1 ∧ RM u' (o_step a).2) := by
  refine gMi.of (by decide) (Nat.le_of_ble_eq_true rfl) (fun pg ev st md bl mt cd A ls C hmn hl V => ?_)
  have hl : lv_has ls 2 [(0, .ref (h 0))] := hl
  refine lv_iconst (v := 0) C.x C.b d_M_step_0 (by decide) ?_
  refine lv_istore_n (lv' := [(1, .int 0), (0, .ref (h 0))]) C.x C.b d_M_step_1 rfl hl (by decide) rfl (fun ls hl => ?_)
  exact lp_M_step (aO a) B I.len (by have := I.len; omega) C (aO a) 0 a w X I P rfl (Nat.zero_le _) rfl T rfl _ _ ls V (lv_sub hl [1, 0] rfl)
end
end
section
section
variable {p : Program} {l : Launch} {e : Env} {R : Room} {s : State} {m : MethodId} {args : Array Value} {below : List Frame} {meth : Method} {c : Code} {H : Heap} {locs : List Loc} {cells slots : Nat} {Q : State → Prop}
variable {cc : ByteArray} {nL : Nat} {own : String} {ret : Option FieldType} {D : va_G} {tys : List (ClassId × FieldType)} {A : Nat → Prop} {pc : Nat} {ls : Array Slot} {rest st0 : List Value} {ws : va_W} {cI cZ cJ : ClassId}
theorem g_obj {idx a : Nat} (C : gC p s m args meth c cc nL own ret D tys A) (hl : Cond.methodLink own idx objectInit ∈ w_all) (hls : ls.size = nL) (hfr : 1 ≤ R.frames) (hlo : 2 * 0 + (rest.map fun v => v.category).sum + 12 ≤ R.locals) (hdg : decode cc pc = .ok (.invokespecial idx, 3)) (kk : W p l e R s m args below meth c H locs cells slots Q (F0 m (pc + 3) ls rest)) : W p l e R s m args below meth c H locs cells slots Q (F0 m pc ls (.ref a :: rest)) :=
  W.objInit C.x C.b C.ow (C.ts _ hl) (C.ts _ im_O_init) (C.ts _ cd_O_init) rfl (by rw [C.ml]; exact hls) rfl hdg hfr hlo kk
theorem g_new {Cn : String} {T : u_T} {N ci idx : Nat} (C : gC p s m args meth c cc nL own ret D tys A) (V : gV D A s ws H locs) (hin : ∀ w ∈ u_ws Cn T N, w ∈ w_all) (ty : Nat → FieldType) (hty : ∀ k, k < N → parseFieldDescriptor (T k).2.2.1 = some (ty k)) (hcl : Cond.classLink own idx Cn ∈ w_all) (hinst : Cond.instantiable Cn N ∈ w_all) (hini : Cond.initialized Cn ∈ w_all) (hc : cls[ci]? = some (Cn, T, N)) {fs : List Value} (hfs : ∀ j, j < N → defaultValue (ty j) = vp_V fs j) (hcells : cells + 1 ≤ R.cells) (hslots : slots + N ≤ R.slots) (hdg : decode cc pc = .ok (.new idx, 3))
    (kk : ∀ (q : Nat) (H : Heap), gV D A s (ws ++ [(q, .inr (ci, fs))]) H locs → W p l e R s m args below meth c H locs (cells + 1) (slots + N) Q (F0 m (pc + 3) ls (.ref q :: rest))) : W p l e R s m args below meth c H locs cells slots Q (F0 m pc ls rest) :=
  va_new C.x C.b C.ts hin ty hty C.ow (C.ts _ hcl) (C.ts _ hinst) (C.ts _ hini) C.K V.1 V.2.1 V.2.2 C.hA hc hfs hcells hslots hdg (fun q H1 a b c => kk q H1 ⟨a, b, c⟩)
theorem g_newI (N : Nat) {n : Int32} (C : gC p s m args meth c cc nL own ret D (ty3 cI cZ cJ) A) (V : gV D A s ws H locs) (hn : ¬ n < 0) (hN : n.toNatClampNeg = N) (hb : N * componentBytes .int ≤ 536870912) (hcells : cells + 1 ≤ R.cells) (hslots : slots + N ≤ R.slots) (hdg : decode cc pc = .ok (.newarray .int, 2))
    (kk : ∀ (q : Nat) (H : Heap), gV D A s (ws ++ [(q, .inl (cI, (N, .inl (fun _ => 0))))]) H locs → W p l e R s m args below meth c H locs (cells + 1) (slots + N) Q (F0 m (pc + 2) ls (.ref q :: rest))) : W p l e R s m args below meth c H locs cells slots Q (F0 m pc ls (.int n :: rest)) := by
  refine va_newa (atype := .int) (ty := .int) (a0 := (N, .inl (fun _ => 0))) C.x C.b (C.ts _ ac_int) rfl C.K V.1 V.2.1 V.2.2 C.hA (fun _ => rfl) hn hN hb hcells hslots hdg (fun q cA H1 hK hP hD hS => ?_)
  have e : cA = cI := by
    have h1 : s.vm.findClass ("[" ++ (FieldType.int).toString) = some cA := (hK.2 3 (cA, .int) rfl).2
    have h2 : s.vm.findClass ("[" ++ (FieldType.int).toString) = some cI := (C.K.2 0 (cI, .int) rfl).2
    exact Option.some.inj (h1.symm.trans h2)
  rw [e] at hP hD
  exact kk q H1 ⟨hP, hD, hS⟩
theorem g_newZ (N : Nat) {n : Int32} (C : gC p s m args meth c cc nL own ret D (ty3 cI cZ cJ) A) (V : gV D A s ws H locs) (hn : ¬ n < 0) (hN : n.toNatClampNeg = N) (hb : N * componentBytes .boolean ≤ 536870912) (hcells : cells + 1 ≤ R.cells) (hslots : slots + N ≤ R.slots) (hdg : decode cc pc = .ok (.newarray .boolean, 2))
    (kk : ∀ (q : Nat) (H : Heap), gV D A s (ws ++ [(q, .inl (cZ, (N, .inl (fun _ => 0))))]) H locs → W p l e R s m args below meth c H locs (cells + 1) (slots + N) Q (F0 m (pc + 2) ls (.ref q :: rest))) : W p l e R s m args below meth c H locs cells slots Q (F0 m pc ls (.int n :: rest)) := by
  refine va_newa (atype := .boolean) (ty := .boolean) (a0 := (N, .inl (fun _ => 0))) C.x C.b (C.ts _ ac_boolean) rfl C.K V.1 V.2.1 V.2.2 C.hA (fun _ => rfl) hn hN hb hcells hslots hdg (fun q cA H1 hK hP hD hS => ?_)
  have e : cA = cZ := by
    have h1 : s.vm.findClass ("[" ++ (FieldType.boolean).toString) = some cA := (hK.2 3 (cA, .boolean) rfl).2
    have h2 : s.vm.findClass ("[" ++ (FieldType.boolean).toString) = some cZ := (C.K.2 1 (cZ, .boolean) rfl).2
    exact Option.some.inj (h1.symm.trans h2)
  rw [e] at hP hD
  exact kk q H1 ⟨hP, hD, hS⟩
theorem g_newJ (N : Nat) {n : Int32} (C : gC p s m args meth c cc nL own ret D (ty3 cI cZ cJ) A) (V : gV D A s ws H locs) (hn : ¬ n < 0) (hN : n.toNatClampNeg = N) (hb : N * componentBytes .long ≤ 536870912) (hcells : cells + 1 ≤ R.cells) (hslots : slots + N ≤ R.slots) (hdg : decode cc pc = .ok (.newarray .long, 2))
    (kk : ∀ (q : Nat) (H : Heap), gV D A s (ws ++ [(q, .inl (cJ, (N, .inr (.inl (fun _ => 0)))))]) H locs → W p l e R s m args below meth c H locs (cells + 1) (slots + N) Q (F0 m (pc + 2) ls (.ref q :: rest))) : W p l e R s m args below meth c H locs cells slots Q (F0 m pc ls (.int n :: rest)) := by
  refine va_newa (atype := .long) (ty := .long) (a0 := (N, .inr (.inl (fun _ => 0)))) C.x C.b (C.ts _ ac_long) rfl C.K V.1 V.2.1 V.2.2 C.hA (fun _ => rfl) hn hN hb hcells hslots hdg (fun q cA H1 hK hP hD hS => ?_)
  have e : cA = cJ := by
    have h1 : s.vm.findClass ("[" ++ (FieldType.long).toString) = some cA := (hK.2 3 (cA, .long) rfl).2
    have h2 : s.vm.findClass ("[" ++ (FieldType.long).toString) = some cJ := (C.K.2 2 (cJ, .long) rfl).2
    exact Option.some.inj (h1.symm.trans h2)
  rw [e] at hP hD
  exact kk q H1 ⟨hP, hD, hS⟩
theorem g_vI {S : Type} {Wd : S → va_W} {post : S → Prop} {y : MethodName} {b : ByteArray} {mL n idx a mc ms : Nat} {rm : Room} {As : List Value} {wc wr : va_W} (isC isR : List Nat) (C : gC p s m args meth c cc nL own ret D tys A) (V : gV D A s ws H locs) (hC : isC.map (fun i => ws[i]?) = wc.map some) (hnC : va_nd isC = true) (hR : isR.map (fun i => ws[i]?) = wr.map some) (hn : va_nd isR = true) (hdis : ∀ i ∈ isR, i ∉ isC) (cs : csI own idx y b mL n) (hM : gMv l D tys Wd y b mL rm mc ms (.ref a :: As) wc post)
    (hRm : rm.cells = mc ∧ rm.slots = ms ∧ rm.frames + 1 ≤ R.frames ∧ 8 + (mL + 11) + rm.locals ≤ R.locals ∧ cells + mc ≤ R.cells ∧ slots + ms ≤ R.slots) (hlen : As.length = n) (hls : ls.size = nL) (hst : st0 = As.reverse ++ .ref a :: rest) (hrm : (rest.map fun v => v.category).sum ≤ 8) (hdg : decode cc pc = .ok (.invokespecial idx, 3))
    (kk : ∀ (u : S) (H : Heap) (locs : List Loc), post u → gV D A s (wr ++ Wd u) H locs → W p l e R s m args below meth c H locs (cells + mc) (slots + ms) Q (F0 m (pc + 3) ls rest)) : W p l e R s m args below meth c H locs cells slots Q (F0 m pc ls st0) :=
  g_backv isC isR C V hC hR hn hdis (va_runI (As := As) (rest := rest) (Ts := w_all) ⟨C.x, C.b, C.ml, C.ow, C.ts⟩ (hM H.size) (cwI n C.ts cs.1 rfl hRm.1 hRm.2.1 (C.ts _ cs.2.1) (C.ts _ cs.2.2.1) (C.ts _ cs.2.2.2.1) cs.2.2.2.2.1 cs.2.2.2.2.2 ⟨hRm.2.2.1, hRm.2.2.2.1⟩) ⟨gI.blind, gI.start C (V.sub isC hnC hC).1 (V.sub isC hnC hC).2.1⟩ rfl hlen hls hst (lv_room hrm) hdg ⟨hRm.2.2.2.2.1, hRm.2.2.2.2.2⟩) kk
theorem g_vIN {S : Type} {Wd : S → va_W} {post : S → Prop} {y : MethodName} {b : ByteArray} {mL n idx a mc ms : Nat} {host : String} {rm : Room} {As : List Value} {wc wr : va_W} (isC isR : List Nat) (C : gC p s m args meth c cc nL own ret D tys A) (V : gV D A s ws H locs) (hC : isC.map (fun i => ws[i]?) = wc.map some) (hnC : va_nd isC = true) (hR : isR.map (fun i => ws[i]?) = wr.map some) (hn : va_nd isR = true) (hdis : ∀ i ∈ isR, i ∉ isC) (hnest : va_Nw (.methodLinkNest own idx y host) s) (hini : Cond.initialized y.cls ∈ w_all) (him : Cond.instanceMethod y ∈ w_all) (hcd : Cond.code y b mL none ∈ w_all) (hy : y.name = "<init>") (hd : y.cls ≠ "java/lang/invoke/MethodHandle" ∧ y.cls ≠ "java/lang/invoke/VarHandle" ∧ (parseMethodDescriptor y.desc).map (fun d => d.parameters.length) = some n) (hM : gMv l D tys Wd y b mL rm mc ms (.ref a :: As) wc post)
    (hRm : rm.cells = mc ∧ rm.slots = ms ∧ rm.frames + 1 ≤ R.frames ∧ 8 + (mL + 11) + rm.locals ≤ R.locals ∧ cells + mc ≤ R.cells ∧ slots + ms ≤ R.slots) (hlen : As.length = n) (hls : ls.size = nL) (hst : st0 = As.reverse ++ .ref a :: rest) (hrm : (rest.map fun v => v.category).sum ≤ 8) (hdg : decode cc pc = .ok (.invokespecial idx, 3))
    (kk : ∀ (u : S) (H : Heap) (locs : List Loc), post u → gV D A s (wr ++ Wd u) H locs → W p l e R s m args below meth c H locs (cells + mc) (slots + ms) Q (F0 m (pc + 3) ls rest)) : W p l e R s m args below meth c H locs cells slots Q (F0 m pc ls st0) :=
  g_backv isC isR C V hC hR hn hdis (va_runIN (As := As) (rest := rest) (Ts := w_all) ⟨C.x, C.b, C.ml, C.ow, C.ts⟩ (hM H.size) ⟨va_cnB n C.ts (wa_code hcd) rfl hRm.1 hRm.2.1 hnest (C.ts _ hini) hd ⟨hRm.2.2.1, hRm.2.2.2.1⟩, hy, C.ts _ him⟩ ⟨gI.blind, gI.start C (V.sub isC hnC hC).1 (V.sub isC hnC hC).2.1⟩ rfl hlen hls hst (lv_room hrm) hdg ⟨hRm.2.2.2.2.1, hRm.2.2.2.2.2⟩) kk
end
theorem cs_X_18 : csI R_X 18 y_S_init b_S_init 3 2 := ⟨wa_code cd_S_init, ini_S, ml_X_18, im_S_init, rfl, by decide +kernel⟩
theorem cs_W_9 : csI R_W 9 y_X_init b_X_init 2 0 := ⟨wa_code cd_X_init, ini_X, ml_W_9, im_X_init, rfl, by decide +kernel⟩
theorem cs_W_12 : csI R_W 12 y_M_init b_M_init 1 0 := ⟨wa_code cd_M_init, ini_M, ml_W_12, im_M_init, rfl, by decide +kernel⟩
section
variable {lx : Launch} {D : va_G} {h : Nat → Nat} {cI cZ cJ : ClassId}
set_option maxHeartbeats 400000 in
set_option maxRecDepth 20000 in
theorem c_L_init {ws : va_W} (a : Nat) : gMv lx D (ty3 cI cZ cJ) (fun _ : Unit => ws) y_L_init b_L_init 1 ({ frames := 1, cells := 0, slots := 0, locals := 20 } : Room) 0 0 [.ref a] ws (fun _ => True) := by
  refine gMv.of (by decide) (Nat.le_of_ble_eq_true rfl) (fun pg ev st md bl mt cd A ls C hmn hl V => ?_)
  have hl : lv_has ls 1 [(0, .ref a)] := hl
  refine lv_aload_n C.x C.b d_L_init_0 rfl (lv_at hl 0 rfl) ?_
  refine g_obj C ml_L_1 hl.1 (by decide) (by decide) d_L_init_1 ?_
  exact g_vret C () V trivial d_L_init_4
set_option maxHeartbeats 400000 in
set_option maxRecDepth 20000 in
theorem c_P_init (a : Nat) : gMv lx D (ty3 cI cZ cJ) (fun z : Nat × Nat => [(a, .inr (1, [.ref z.1, .ref z.2])), (z.1, .inl (cI, 256, .inl (fun _ => 0))), (z.2, .inl (cI, 8, .inl (fun _ => 0)))]) y_P_init b_P_init 1 ({ frames := 2, cells := 2, slots := 264, locals := 40 } : Room) 2 264 [.ref a] [(a, .inr (1, [.null, .null]))] (fun _ => True) := by
  refine gMv.of (by decide) (Nat.le_of_ble_eq_true rfl) (fun pg ev st md bl mt cd A ls C hmn hl V => ?_)
  have hl : lv_has ls 1 [(0, .ref a)] := hl
  refine lv_aload_n C.x C.b d_P_init_0 rfl (lv_at hl 0 rfl) ?_
  refine g_vIN (As := []) (rest := []) [0] [] (wc := [(a, .inr (1, [.null, .null]))]) (wr := []) C V rfl rfl rfl rfl (by decide) C.N.2.2.2.2.2.2 ini_L im_L_init cd_L_init rfl (by decide +kernel) (c_L_init a) (by decide) rfl hl.1 rfl (Nat.le_of_ble_eq_true rfl) d_P_init_1 (fun _ H locs _ V => ?_)
  have V : gV D A st [(a, .inr (1, [.null, .null]))] H locs := V
  refine lv_aload_n C.x C.b d_P_init_4 rfl (lv_at hl 0 rfl) ?_
  refine lv_sipush (v := 256) C.x C.b d_P_init_5 (by decide) ?_
  refine g_newI 256 C V (by decide) (by decide) (by decide) (by decide) (by decide) d_P_init_8 (fun q1 H V => ?_)
  refine g_putF C hmn V i_P t_P t_P_ok n_P 0 rfl rfl 0 (by decide) rfl fl_P_9 rfl rfl rfl (Nat.le_of_ble_eq_true rfl) (ws' := [(a, .inr (1, [.ref q1, .null])), (q1, .inl (cI, 256, .inl (fun _ => 0)))]) rfl d_P_init_10 (fun H locs V => ?_)
  refine lv_aload_n C.x C.b d_P_init_13 rfl (lv_at hl 0 rfl) ?_
  refine lv_bipush (v := 8) C.x C.b d_P_init_14 (by decide) ?_
  refine g_newI 8 C V (by decide) (by decide) (by decide) (by decide) (by decide) d_P_init_16 (fun q2 H V => ?_)
  refine g_putF C hmn V i_P t_P t_P_ok n_P 0 rfl rfl 1 (by decide) rfl fl_P_15 rfl rfl rfl (Nat.le_of_ble_eq_true rfl) (ws' := [(a, .inr (1, [.ref q1, .ref q2])), (q1, .inl (cI, 256, .inl (fun _ => 0))), (q2, .inl (cI, 8, .inl (fun _ => 0)))]) rfl d_P_init_18 (fun H locs V => ?_)
  exact g_vret C (q1, q2) V trivial d_P_init_21
set_option maxHeartbeats 400000 in
set_option maxRecDepth 20000 in
theorem c_S_init (b a : Nat) : gMv lx D (ty3 cI cZ cJ) (fun z : Nat => [(b, .inr (2, [.ref a, .int 0, .int 0, .int 0, .ref z, .int 0, .int 0])), (z, .inl (cI, 40, .inl (fun _ => 0)))]) y_S_init b_S_init 3 ({ frames := 1, cells := 1, slots := 40, locals := 20 } : Room) 1 40 [.ref b, .ref a, .int 40] [(b, .inr (2, [.null, .int 0, .int 0, .int 0, .null, .int 0, .int 0]))] (fun _ => True) := by
  refine gMv.of (by decide) (Nat.le_of_ble_eq_true rfl) (fun pg ev st md bl mt cd A ls C hmn hl V => ?_)
  have hl : lv_has ls 3 [(0, .ref b), (1, .ref a), (2, .int 40)] := hl
  refine lv_aload_n C.x C.b d_S_init_0 rfl (lv_at hl 0 rfl) ?_
  refine g_obj C ml_S_3 hl.1 (by decide) (by decide) d_S_init_1 ?_
  refine lv_aload_n C.x C.b d_S_init_4 rfl (lv_at hl 0 rfl) ?_
  refine lv_aload_n C.x C.b d_S_init_5 rfl (lv_at hl 1 rfl) ?_
  refine g_putF C hmn V i_S t_S t_S_ok n_S 0 rfl rfl 0 (by decide) rfl fl_S_9 rfl rfl rfl (Nat.le_of_ble_eq_true rfl) (ws' := [(b, .inr (2, [.ref a, .int 0, .int 0, .int 0, .null, .int 0, .int 0]))]) rfl d_S_init_6 (fun H locs V => ?_)
  refine lv_aload_n C.x C.b d_S_init_9 rfl (lv_at hl 0 rfl) ?_
  refine lv_iload_n C.x C.b d_S_init_10 rfl (lv_at hl 2 rfl) ?_
  refine g_newI 40 C V (by decide) (by decide) (by decide) (by decide) (by decide) d_S_init_11 (fun q1 H V => ?_)
  refine g_putF C hmn V i_S t_S t_S_ok n_S 0 rfl rfl 4 (by decide) rfl fl_S_15 rfl rfl rfl (Nat.le_of_ble_eq_true rfl) (ws' := [(b, .inr (2, [.ref a, .int 0, .int 0, .int 0, .ref q1, .int 0, .int 0])), (q1, .inl (cI, 40, .inl (fun _ => 0)))]) rfl d_S_init_13 (fun H locs V => ?_)
  exact g_vret C q1 V trivial d_S_init_16
set_option maxHeartbeats 200000 in
set_option maxRecDepth 20000 in
theorem c_S_begin {u : XS} (x : Int32) : gMv lx D (ty3 cI cZ cJ) (XW h cI cZ) y_S_begin b_S_begin 2 ({ frames := 0, cells := 0, slots := 0, locals := 0 } : Room) 0 0 [.ref (h 2), .int x] ((XW h cI cZ) u) (fun u' => u' = xH' (xN' (xQ' (xW' (xS' u x) 0) 0) 0) 0) := by
  refine gMv.of (by decide) (Nat.le_of_ble_eq_true rfl) (fun pg ev st md bl mt cd A ls C hmn hl V => ?_)
  have hl : lv_has ls 2 [(0, .ref (h 2)), (1, .int x)] := hl
  refine lv_aload_n C.x C.b d_S_begin_0 rfl (lv_at hl 0 rfl) ?_
  refine lv_iload_n C.x C.b d_S_begin_1 rfl (lv_at hl 1 rfl) ?_
  refine xp_scheduler C V fl_S_19 d_S_begin_2 (fun H locs V => ?_)
  refine lv_aload_n C.x C.b d_S_begin_5 rfl (lv_at hl 0 rfl) ?_
  refine lv_iconst (v := 0) C.x C.b d_S_begin_6 (by decide) ?_
  refine xp_wanted C V fl_S_23 (by decide) d_S_begin_7 (fun H locs V => ?_)
  refine lv_aload_n C.x C.b d_S_begin_10 rfl (lv_at hl 0 rfl) ?_
  refine lv_iconst (v := 0) C.x C.b d_S_begin_11 (by decide) ?_
  refine xp_wp C V fl_S_27 d_S_begin_12 (fun H locs V => ?_)
  refine lv_aload_n C.x C.b d_S_begin_15 rfl (lv_at hl 0 rfl) ?_
  refine lv_iconst (v := 0) C.x C.b d_S_begin_16 (by decide) ?_
  refine xp_count C V fl_S_30 d_S_begin_17 (fun H locs V => ?_)
  refine lv_aload_n C.x C.b d_S_begin_20 rfl (lv_at hl 0 rfl) ?_
  refine lv_iconst (v := 0) C.x C.b d_S_begin_21 (by decide) ?_
  refine xp_here C V fl_S_33 d_S_begin_22 (fun H locs V => ?_)
  exact g_vret C _ V rfl d_S_begin_25

/-- seven or eight addresses as a function -/
def mkh (a b c d e f g i : Nat) : Nat → Nat
  | 0 => a
  | 1 => b
  | 2 => c
  | 3 => d
  | 4 => e
  | 5 => f
  | 6 => g
  | _ => i
def a_0 : AS := (fun _ => [], fun _ => 0, fun _ => 0, 0, fun _ => false, fun _ => 0, fun _ => 0, fun _ => 0, [], none, 0, false, none)
def m_0 : MS := (fun _ => 0, fun _ => 0, fun _ => 0, fun _ => 0, fun _ => 0, fun _ => 0, fun _ => 0, 0, 0, -1, 0, 0, -1)
theorem rm_0 : RM m_0 a_0 := ⟨fun _ _ => rfl, fun _ _ => rfl, fun _ _ => rfl, fun _ _ => rfl, fun _ _ => rfl, fun _ _ => rfl, (fun i s h => by have h : ([] : List Nat)[i]? = some s := h; simp at h), rfl, rfl, rfl, rfl, rfl, rfl⟩
set_option maxHeartbeats 400000 in
set_option maxRecDepth 20000 in
theorem c_M_init (a : Nat) : gMv lx D (ty3 cI cZ cJ) (fun z : (Nat → Nat) × MS => MW z.1 cI cZ cJ z.2) y_M_init b_M_init 1 ({ frames := 1, cells := 7, slots := 216, locals := 20 } : Room) 7 216 [.ref a] [(a, .inr (3, [.null, .null, .null, .null, .null, .long 0, .null, .int 0, .null, .int 0, .int 0, .int 0, .int 0]))] (fun z => z.1 0 = a ∧ RM z.2 a_0) := by
  refine gMv.of (by decide) (Nat.le_of_ble_eq_true rfl) (fun pg ev st md bl mt cd A ls C hmn hl V => ?_)
  have hl : lv_has ls 1 [(0, .ref a)] := hl
  refine lv_aload_n C.x C.b d_M_init_0 rfl (lv_at hl 0 rfl) ?_
  refine g_obj C ml_M_1 hl.1 (by decide) (by decide) d_M_init_1 ?_
  refine lv_aload_n C.x C.b d_M_init_4 rfl (lv_at hl 0 rfl) ?_
  refine lv_bipush (v := 32) C.x C.b d_M_init_5 (by decide) ?_
  refine g_newZ 32 C V (by decide) (by decide) (by decide) (by decide) (by decide) d_M_init_7 (fun q1 H V => ?_)
  refine g_putF C hmn V i_M t_M t_M_ok n_M 0 rfl rfl 0 (by decide) rfl fl_M_7 rfl rfl rfl (Nat.le_of_ble_eq_true rfl) (ws' := [(a, .inr (3, [.ref q1, .null, .null, .null, .null, .long 0, .null, .int 0, .null, .int 0, .int 0, .int 0, .int 0])), (q1, .inl (cZ, 32, .inl (fun _ => 0)))]) rfl d_M_init_9 (fun H locs V => ?_)
  refine lv_aload_n C.x C.b d_M_init_12 rfl (lv_at hl 0 rfl) ?_
  refine lv_bipush (v := 32) C.x C.b d_M_init_13 (by decide) ?_
  refine g_newI 32 C V (by decide) (by decide) (by decide) (by decide) (by decide) d_M_init_15 (fun q2 H V => ?_)
  refine g_putF C hmn V i_M t_M t_M_ok n_M 0 rfl rfl 1 (by decide) rfl fl_M_13 rfl rfl rfl (Nat.le_of_ble_eq_true rfl) (ws' := [(a, .inr (3, [.ref q1, .ref q2, .null, .null, .null, .long 0, .null, .int 0, .null, .int 0, .int 0, .int 0, .int 0])), (q1, .inl (cZ, 32, .inl (fun _ => 0))), (q2, .inl (cI, 32, .inl (fun _ => 0)))]) rfl d_M_init_17 (fun H locs V => ?_)
  refine lv_aload_n C.x C.b d_M_init_20 rfl (lv_at hl 0 rfl) ?_
  refine lv_bipush (v := 32) C.x C.b d_M_init_21 (by decide) ?_
  refine g_newI 32 C V (by decide) (by decide) (by decide) (by decide) (by decide) d_M_init_23 (fun q3 H V => ?_)
  refine g_putF C hmn V i_M t_M t_M_ok n_M 0 rfl rfl 2 (by decide) rfl fl_M_17 rfl rfl rfl (Nat.le_of_ble_eq_true rfl) (ws' := [(a, .inr (3, [.ref q1, .ref q2, .ref q3, .null, .null, .long 0, .null, .int 0, .null, .int 0, .int 0, .int 0, .int 0])), (q1, .inl (cZ, 32, .inl (fun _ => 0))), (q2, .inl (cI, 32, .inl (fun _ => 0))), (q3, .inl (cI, 32, .inl (fun _ => 0)))]) rfl d_M_init_25 (fun H locs V => ?_)
  refine lv_aload_n C.x C.b d_M_init_28 rfl (lv_at hl 0 rfl) ?_
  refine lv_bipush (v := 32) C.x C.b d_M_init_29 (by decide) ?_
  refine g_newI 32 C V (by decide) (by decide) (by decide) (by decide) (by decide) d_M_init_31 (fun q4 H V => ?_)
  refine g_putF C hmn V i_M t_M t_M_ok n_M 0 rfl rfl 3 (by decide) rfl fl_M_20 rfl rfl rfl (Nat.le_of_ble_eq_true rfl) (ws' := [(a, .inr (3, [.ref q1, .ref q2, .ref q3, .ref q4, .null, .long 0, .null, .int 0, .null, .int 0, .int 0, .int 0, .int 0])), (q1, .inl (cZ, 32, .inl (fun _ => 0))), (q2, .inl (cI, 32, .inl (fun _ => 0))), (q3, .inl (cI, 32, .inl (fun _ => 0))), (q4, .inl (cI, 32, .inl (fun _ => 0)))]) rfl d_M_init_33 (fun H locs V => ?_)
  refine lv_aload_n C.x C.b d_M_init_36 rfl (lv_at hl 0 rfl) ?_
  refine lv_bipush (v := 32) C.x C.b d_M_init_37 (by decide) ?_
  refine g_newJ 32 C V (by decide) (by decide) (by decide) (by decide) (by decide) d_M_init_39 (fun q5 H V => ?_)
  refine g_putF C hmn V i_M t_M t_M_ok n_M 0 rfl rfl 4 (by decide) rfl fl_M_23 rfl rfl rfl (Nat.le_of_ble_eq_true rfl) (ws' := [(a, .inr (3, [.ref q1, .ref q2, .ref q3, .ref q4, .ref q5, .long 0, .null, .int 0, .null, .int 0, .int 0, .int 0, .int 0])), (q1, .inl (cZ, 32, .inl (fun _ => 0))), (q2, .inl (cI, 32, .inl (fun _ => 0))), (q3, .inl (cI, 32, .inl (fun _ => 0))), (q4, .inl (cI, 32, .inl (fun _ => 0))), (q5, .inl (cJ, 32, .inr (.inl (fun _ => 0))))]) rfl d_M_init_41 (fun H locs V => ?_)
  refine lv_aload_n C.x C.b d_M_init_44 rfl (lv_at hl 0 rfl) ?_
  refine lv_bipush (v := 16) C.x C.b d_M_init_45 (by decide) ?_
  refine g_newI 16 C V (by decide) (by decide) (by decide) (by decide) (by decide) d_M_init_47 (fun q6 H V => ?_)
  refine g_putF C hmn V i_M t_M t_M_ok n_M 0 rfl rfl 6 (by decide) rfl fl_M_27 rfl rfl rfl (Nat.le_of_ble_eq_true rfl) (ws' := [(a, .inr (3, [.ref q1, .ref q2, .ref q3, .ref q4, .ref q5, .long 0, .ref q6, .int 0, .null, .int 0, .int 0, .int 0, .int 0])), (q1, .inl (cZ, 32, .inl (fun _ => 0))), (q2, .inl (cI, 32, .inl (fun _ => 0))), (q3, .inl (cI, 32, .inl (fun _ => 0))), (q4, .inl (cI, 32, .inl (fun _ => 0))), (q5, .inl (cJ, 32, .inr (.inl (fun _ => 0)))), (q6, .inl (cI, 16, .inl (fun _ => 0)))]) rfl d_M_init_49 (fun H locs V => ?_)
  refine lv_aload_n C.x C.b d_M_init_52 rfl (lv_at hl 0 rfl) ?_
  refine lv_bipush (v := 40) C.x C.b d_M_init_53 (by decide) ?_
  refine g_newI 40 C V (by decide) (by decide) (by decide) (by decide) (by decide) d_M_init_55 (fun q7 H V => ?_)
  refine g_putF C hmn V i_M t_M t_M_ok n_M 0 rfl rfl 8 (by decide) rfl fl_M_30 rfl rfl rfl (Nat.le_of_ble_eq_true rfl) (ws' := [(a, .inr (3, [.ref q1, .ref q2, .ref q3, .ref q4, .ref q5, .long 0, .ref q6, .int 0, .ref q7, .int 0, .int 0, .int 0, .int 0])), (q1, .inl (cZ, 32, .inl (fun _ => 0))), (q2, .inl (cI, 32, .inl (fun _ => 0))), (q3, .inl (cI, 32, .inl (fun _ => 0))), (q4, .inl (cI, 32, .inl (fun _ => 0))), (q5, .inl (cJ, 32, .inr (.inl (fun _ => 0)))), (q6, .inl (cI, 16, .inl (fun _ => 0))), (q7, .inl (cI, 40, .inl (fun _ => 0)))]) rfl d_M_init_57 (fun H locs V => ?_)
  refine lv_aload_n C.x C.b d_M_init_60 rfl (lv_at hl 0 rfl) ?_
  refine lv_iconst (v := -1) C.x C.b d_M_init_61 (by decide) ?_
  refine g_put C V i_M t_M t_M_ok n_M 0 rfl rfl 9 (by decide) rfl fl_M_33 rfl rfl rfl (Nat.le_of_ble_eq_true rfl) (ws' := [(a, .inr (3, [.ref q1, .ref q2, .ref q3, .ref q4, .ref q5, .long 0, .ref q6, .int 0, .ref q7, .int (-1), .int 0, .int 0, .int 0])), (q1, .inl (cZ, 32, .inl (fun _ => 0))), (q2, .inl (cI, 32, .inl (fun _ => 0))), (q3, .inl (cI, 32, .inl (fun _ => 0))), (q4, .inl (cI, 32, .inl (fun _ => 0))), (q5, .inl (cJ, 32, .inr (.inl (fun _ => 0)))), (q6, .inl (cI, 16, .inl (fun _ => 0))), (q7, .inl (cI, 40, .inl (fun _ => 0)))]) rfl d_M_init_62 (fun H locs V => ?_)
  refine lv_aload_n C.x C.b d_M_init_65 rfl (lv_at hl 0 rfl) ?_
  refine lv_iconst (v := -1) C.x C.b d_M_init_66 (by decide) ?_
  refine g_put C V i_M t_M t_M_ok n_M 0 rfl rfl 12 (by decide) rfl fl_M_37 rfl rfl rfl (Nat.le_of_ble_eq_true rfl) (ws' := [(a, .inr (3, [.ref q1, .ref q2, .ref q3, .ref q4, .ref q5, .long 0, .ref q6, .int 0, .ref q7, .int (-1), .int 0, .int 0, .int (-1)])), (q1, .inl (cZ, 32, .inl (fun _ => 0))), (q2, .inl (cI, 32, .inl (fun _ => 0))), (q3, .inl (cI, 32, .inl (fun _ => 0))), (q4, .inl (cI, 32, .inl (fun _ => 0))), (q5, .inl (cJ, 32, .inr (.inl (fun _ => 0)))), (q6, .inl (cI, 16, .inl (fun _ => 0))), (q7, .inl (cI, 40, .inl (fun _ => 0)))]) rfl d_M_init_67 (fun H locs V => ?_)
  exact g_vret C (mkh a q1 q2 q3 q4 q5 q6 q7, m_0) V ⟨rfl, rm_0⟩ d_M_init_70
/-- the cells as the first loop fills them, the rows as the second does -/
def g_1 : Nat → Nat → Int32
  | 0 => fun _ => 0
  | k + 1 => upd (g_1 k) (4 * (33 + k) + 2) 1
def r_1 : Nat → Nat → Int32
  | 0 => fun _ => 0
  | k + 1 => upd (r_1 k) k (nI (98 + 2 * k))
def x_1 (k : Nat) : XS := (g_1 k, fun _ => 0, fun _ => 0, fun _ => 0, 0, 0, 0, 0, 0)
def x_2 (k : Nat) : XS := (g_1 16, r_1 k, fun _ => 0, fun _ => 0, 0, 0, 0, 0, 0)
theorem g_1_s : ∀ k s, s < k → g_1 k (4 * (33 + s) + 2) = 1
  | k + 1, s, h => by
    show upd (g_1 k) _ _ _ = _
    by_cases e : s = k
    · subst e; exact ud_s
    · rw [ud_n (by omega)]; exact g_1_s k s (by omega)
theorem g_1_n : ∀ k j, (∀ s, s < k → j ≠ 4 * (33 + s) + 2) → g_1 k j = 0
  | 0, _, _ => rfl
  | k + 1, j, h => by
    show upd (g_1 k) _ _ _ = _
    rw [ud_n (h k (Nat.lt_succ_self k))]
    exact g_1_n k j (fun s hs => h s (by omega))
theorem r_1_s : ∀ k j, j < k → r_1 k j = nI (98 + 2 * j)
  | k + 1, j, h => by
    show upd (r_1 k) _ _ _ = _
    by_cases e : j = k
    · subst e; exact ud_s
    · rw [ud_n e]; exact r_1_s k j (by omega)
theorem rx_0 : RX (xH' (xN' (xQ' (xW' (xS' (xC' (x_2 8) (upd (g_1 16) 228 120)) 114) 0) 0) 0) 0) a_0 := by
  refine ⟨⟨fun p hp => ?_, (fun p hp hm => by cases hm), fun p hp => ?_, fun r hv => ?_, fun s hs => ?_, (ud_s : upd (g_1 16) 228 120 228 = 120), ?_⟩, fun j hj => r_1_s 8 j hj, rfl, fun p hp => rfl, rfl, (fun i s h => by have h : ([] : List Nat)[i]? = some s := h; simp at h), rfl, rfl, rfl⟩
  · show upd (g_1 16) 228 120 _ = 0
    rw [ud_n (by omega)]; exact g_1_n 16 _ (fun s hs => by omega)
  · show upd (g_1 16) 228 120 _ = 0
    rw [ud_n (by omega)]; exact g_1_n 16 _ (fun s hs => by omega)
  · have kb := kR_b hv
    refine ⟨?_, ?_, trivial⟩
    · show upd (g_1 16) 228 120 _ = 0
      rw [ud_n (by omega)]; exact g_1_n 16 _ (fun s hs => by omega)
    · show upd (g_1 16) 228 120 _ = 0
      rw [ud_n (by omega)]; exact g_1_n 16 _ (fun s hs => by omega)
  · show upd (g_1 16) 228 120 _ = 1
    rw [ud_n (by omega)]; exact g_1_s 16 s hs
  · show upd (g_1 16) 228 120 229 = 0
    rw [ud_n (by omega)]; exact g_1_n 16 _ (fun s hs => by omega)
set_option maxHeartbeats 400000 in
set_option maxRecDepth 20000 in
theorem x_init3 {pg : Program} {ev : Env} {st : State} {md : MethodId} {args : Array Value} {bl : List Frame} {mt : Method} {cd : Code} {A : Nat → Prop} (a : Nat) (ha : h 0 = a) (x : Int32) (C : gC pg st md args mt cd b_X_init 2 y_X_init.cls none D (ty3 cI cZ cJ) A) : ∀ (H : Heap) (locs : List Loc) (ls : Array Slot), gV D A st (XW h cI cZ (x_2 8)) H locs → lv_has ls 2 [(0, .ref a), (1, .int x)] → W pg lx ev ({ frames := 3, cells := 6, slots := 345, locals := 60 } : Room) st md args bl mt cd H locs 6 345 (MQ bl (va_Qv (fun z : (Nat → Nat) × XS => z.1 0 = a ∧ RX z.2 a_0) (fun z t => gB D (ty3 cI cZ cJ) A ((fun z : (Nat → Nat) × XS => XW z.1 cI cZ z.2) z) t) A) args st 6 345 A) (F0 md 99 ls []) := by
  intro H locs ls V hl
  subst ha
  refine lv_aload_n C.x C.b d_X_init_99 rfl (lv_at hl 0 rfl) ?_
  refine xg_plain C V fl_X_10 d_X_init_100 ?_
  refine lv_bipush (v := 114) C.x C.b d_X_init_103 (by decide) ?_
  refine lv_iconst (v := 0) C.x C.b d_X_init_105 (by decide) ?_
  refine lv_bipush (v := 120) C.x C.b d_X_init_106 (by decide) ?_
  refine g_vV (q0 := 1) (As := [.int 114, .int 0, .int 120]) (rest := []) C V cs_X_29 (c_P_put 57 0 120 (by omega) (by omega)) rfl rfl (by decide) rfl hl.1 rfl (Nat.le_of_ble_eq_true rfl) d_X_init_108 (fun u108 H locs w108 V => ?_)
  subst w108
  refine lv_aload_n C.x C.b d_X_init_111 rfl (lv_at hl 0 rfl) ?_
  refine xg_sched C V fl_X_21 d_X_init_112 ?_
  refine lv_bipush (v := 114) C.x C.b d_X_init_115 (by decide) ?_
  refine g_vV (q0 := 2) (As := [.int 114]) (rest := []) C V cs_X_33 (c_S_begin 114) rfl rfl (by decide) rfl hl.1 rfl (Nat.le_of_ble_eq_true rfl) d_X_init_117 (fun u117 H locs w117 V => ?_)
  subst w117
  exact g_vret (Wd := fun z : (Nat → Nat) × XS => XW z.1 cI cZ z.2) C (h, _) V ⟨rfl, rx_0⟩ d_X_init_120
set_option maxHeartbeats 400000 in
set_option maxRecDepth 20000 in
theorem x_init2 {pg : Program} {ev : Env} {st : State} {md : MethodId} {args : Array Value} {bl : List Frame} {mt : Method} {cd : Code} {A : Nat → Prop} (a : Nat) (ha : h 0 = a) (C : gC pg st md args mt cd b_X_init 2 y_X_init.cls none D (ty3 cI cZ cJ) A) : ∀ (n k : Nat), k + n = 8 → ∀ (H : Heap) (locs : List Loc) (ls : Array Slot), gV D A st (XW h cI cZ (x_2 k)) H locs → lv_has ls 2 [(0, .ref a), (1, .int (nI k))] → W pg lx ev ({ frames := 3, cells := 6, slots := 345, locals := 60 } : Room) st md args bl mt cd H locs 6 345 (MQ bl (va_Qv (fun z : (Nat → Nat) × XS => z.1 0 = a ∧ RX z.2 a_0) (fun z t => gB D (ty3 cI cZ cJ) A ((fun z : (Nat → Nat) × XS => XW z.1 cI cZ z.2) z) t) A) args st 6 345 A) (F0 md 71 ls []) := by
  intro n
  induction n with
  | zero =>
    intro k hk H locs ls V hl
    subst ha
    obtain rfl : k = 8 := by omega
    refine lv_iload_n C.x C.b d_X_init_71 rfl (lv_at hl 1 rfl) ?_
    refine lv_bipush (v := 8) C.x C.b d_X_init_72 (by decide) ?_
    refine lv_icmp_ge (tgt := 99) C.x C.b d_X_init_74 (by decide) (fun c74 => ?_) (fun c74 => ?_)
    · exact x_init3 _ rfl _ C H locs ls V (lv_sub hl [0, 1] rfl)
    · exact absurd (Int32.le_refl _) c74
  | succ n ih =>
    intro k hk H locs ls V hl
    subst ha
    refine lv_iload_n C.x C.b d_X_init_71 rfl (lv_at hl 1 rfl) ?_
    refine lv_bipush (v := 8) C.x C.b d_X_init_72 (by decide) ?_
    refine lv_icmp_ge (tgt := 99) C.x C.b d_X_init_74 (by decide) (fun c74 => ?_) (fun c74 => ?_)
    · exact absurd c74 (nI_ge (b := 8) (by omega) (by decide))
    · refine lv_aload_n C.x C.b d_X_init_77 rfl (lv_at hl 0 rfl) ?_
      refine xg_plain C V fl_X_10 d_X_init_78 ?_
      refine lv_bipush (v := 120) C.x C.b d_X_init_81 (by decide) ?_
      refine lv_iload_n C.x C.b d_X_init_83 rfl (lv_at hl 1 rfl) ?_
      refine lv_bipush (v := 98) C.x C.b d_X_init_84 (by decide) ?_
      refine lv_iconst (v := 2) C.x C.b d_X_init_86 (by decide) ?_
      refine lv_iload_n C.x C.b d_X_init_87 rfl (lv_at hl 1 rfl) ?_
      refine lv_imul C.x C.b d_X_init_88 ?_
      refine lv_topi (fun v88 e88 => ?_)
      refine lv_iadd C.x C.b d_X_init_89 ?_
      refine lv_topi (fun v89 e89 => ?_)
      obtain rfl : v89 = nI (98 + 2 * k) := by rw [e89, e88, show (98 : Int32) = nI 98 from rfl, show (2 : Int32) = nI 2 from rfl, pk_mul, nI_add]
      refine g_vV (q0 := 1) (As := [.int 120, .int (nI k), .int (nI (98 + 2 * k))]) (rest := []) C V cs_X_29 (c_P_putT k (nI (98 + 2 * k)) (by omega)) rfl rfl (by decide) rfl hl.1 rfl (Nat.le_of_ble_eq_true rfl) d_X_init_90 (fun u90 H locs w90 V => ?_)
      have V : gV D A st (XW h cI cZ (x_2 (k + 1))) H locs := by subst w90; exact V
      obtain ⟨v93, e93⟩ : ∃ y : Int32, y = nI k + 1 := ⟨_, rfl⟩
      refine lv_iinc (v := v93) (lv' := [(1, .int v93), (0, .ref (h 0))]) C.x C.b d_X_init_93 hl (k := 1) rfl (by rw [e93]; rfl) (by decide) rfl (fun ls hl => ?_)
      refine lv_goto (tgt := 71) C.x C.b d_X_init_96 (by decide) ?_
      exact ih (k + 1) (by omega) H locs ls V (lv_sub (by rw [e93, nI_1] at hl; exact hl) [1, 0] rfl)
set_option maxHeartbeats 400000 in
set_option maxRecDepth 20000 in
theorem x_init0 {pg : Program} {ev : Env} {st : State} {md : MethodId} {args : Array Value} {bl : List Frame} {mt : Method} {cd : Code} {A : Nat → Prop} (a : Nat) (ha : h 0 = a) (C : gC pg st md args mt cd b_X_init 2 y_X_init.cls none D (ty3 cI cZ cJ) A) : ∀ (n k : Nat), k + n = 16 → ∀ (H : Heap) (locs : List Loc) (ls : Array Slot), gV D A st (XW h cI cZ (x_1 k)) H locs → lv_has ls 2 [(0, .ref a), (1, .int (nI k))] → W pg lx ev ({ frames := 3, cells := 6, slots := 345, locals := 60 } : Room) st md args bl mt cd H locs 6 345 (MQ bl (va_Qv (fun z : (Nat → Nat) × XS => z.1 0 = a ∧ RX z.2 a_0) (fun z t => gB D (ty3 cI cZ cJ) A ((fun z : (Nat → Nat) × XS => XW z.1 cI cZ z.2) z) t) A) args st 6 345 A) (F0 md 42 ls []) := by
  intro n
  induction n with
  | zero =>
    intro k hk H locs ls V hl
    subst ha
    obtain rfl : k = 16 := by omega
    refine lv_iload_n C.x C.b d_X_init_42 rfl (lv_at hl 1 rfl) ?_
    refine lv_bipush (v := 16) C.x C.b d_X_init_43 (by decide) ?_
    refine lv_icmp_ge (tgt := 69) C.x C.b d_X_init_45 (by decide) (fun c45 => ?_) (fun c45 => ?_)
    · refine lv_iconst (v := 0) C.x C.b d_X_init_69 (by decide) ?_
      refine lv_istore_n (lv' := [(1, .int 0), (0, .ref (h 0))]) C.x C.b d_X_init_70 rfl hl (by decide) rfl (fun ls hl => ?_)
      exact x_init2 _ rfl C 8 0 (by omega) H locs ls V (lv_sub hl [1, 0] rfl)
    · exact absurd (Int32.le_refl _) c45
  | succ n ih =>
    intro k hk H locs ls V hl
    subst ha
    refine lv_iload_n C.x C.b d_X_init_42 rfl (lv_at hl 1 rfl) ?_
    refine lv_bipush (v := 16) C.x C.b d_X_init_43 (by decide) ?_
    refine lv_icmp_ge (tgt := 69) C.x C.b d_X_init_45 (by decide) (fun c45 => ?_) (fun c45 => ?_)
    · exact absurd c45 (nI_ge (b := 16) (by omega) (by decide))
    · refine lv_aload_n C.x C.b d_X_init_48 rfl (lv_at hl 0 rfl) ?_
      refine xg_plain C V fl_X_10 d_X_init_49 ?_
      refine lv_bipush (v := 66) C.x C.b d_X_init_52 (by decide) ?_
      refine lv_iconst (v := 2) C.x C.b d_X_init_54 (by decide) ?_
      refine lv_iload_n C.x C.b d_X_init_55 rfl (lv_at hl 1 rfl) ?_
      refine lv_imul C.x C.b d_X_init_56 ?_
      refine lv_topi (fun v56 e56 => ?_)
      refine lv_iadd C.x C.b d_X_init_57 ?_
      refine lv_topi (fun v57 e57 => ?_)
      obtain rfl : v57 = nI (2 * (33 + k)) := by rw [e57, e56, show (66 : Int32) = nI 66 from rfl, show (2 : Int32) = nI 2 from rfl, pk_mul, nI_add]; congr 1; omega
      refine lv_iconst (v := 2) C.x C.b d_X_init_58 (by decide) ?_
      refine lv_iconst (v := 1) C.x C.b d_X_init_59 (by decide) ?_
      refine g_vV (q0 := 1) (As := [.int (nI (2 * (33 + k))), .int 2, .int 1]) (rest := []) C V cs_X_29 (c_P_put (33 + k) 2 1 (by omega) (by omega)) rfl rfl (by decide) rfl hl.1 rfl (Nat.le_of_ble_eq_true rfl) d_X_init_60 (fun u60 H locs w60 V => ?_)
      have V : gV D A st (XW h cI cZ (x_1 (k + 1))) H locs := by subst w60; exact V
      obtain ⟨v63, e63⟩ : ∃ y : Int32, y = nI k + 1 := ⟨_, rfl⟩
      refine lv_iinc (v := v63) (lv' := [(1, .int v63), (0, .ref (h 0))]) C.x C.b d_X_init_63 hl (k := 1) rfl (by rw [e63]; rfl) (by decide) rfl (fun ls hl => ?_)
      refine lv_goto (tgt := 42) C.x C.b d_X_init_66 (by decide) ?_
      exact ih (k + 1) (by omega) H locs ls V (lv_sub (by rw [e63, nI_1] at hl; exact hl) [1, 0] rfl)
set_option maxHeartbeats 400000 in
set_option maxRecDepth 20000 in
theorem x_init1 {pg : Program} {ev : Env} {st : State} {md : MethodId} {args : Array Value} {bl : List Frame} {mt : Method} {cd : Code} {A : Nat → Prop} (a : Nat) (ha : h 0 = a) (C : gC pg st md args mt cd b_X_init 2 y_X_init.cls none D (ty3 cI cZ cJ) A) : ∀ (H : Heap) (locs : List Loc) (ls : Array Slot), gV D A st (XW h cI cZ (x_1 0)) H locs → lv_has ls 2 [(0, .ref a)] → W pg lx ev ({ frames := 3, cells := 6, slots := 345, locals := 60 } : Room) st md args bl mt cd H locs 6 345 (MQ bl (va_Qv (fun z : (Nat → Nat) × XS => z.1 0 = a ∧ RX z.2 a_0) (fun z t => gB D (ty3 cI cZ cJ) A ((fun z : (Nat → Nat) × XS => XW z.1 cI cZ z.2) z) t) A) args st 6 345 A) (F0 md 40 ls []) := by
  intro H locs ls V hl
  subst ha
  refine lv_iconst (v := 0) C.x C.b d_X_init_40 (by decide) ?_
  refine lv_istore_n (lv' := [(1, .int 0), (0, .ref (h 0))]) C.x C.b d_X_init_41 rfl hl (by decide) rfl (fun ls hl => ?_)
  exact x_init0 _ rfl C 16 0 (by omega) H locs ls V (lv_sub hl [1, 0] rfl)
set_option maxHeartbeats 400000 in
set_option maxRecDepth 20000 in
theorem c_X_init (a : Nat) : gMv lx D (ty3 cI cZ cJ) (fun z : (Nat → Nat) × XS => XW z.1 cI cZ z.2) y_X_init b_X_init 2 ({ frames := 3, cells := 6, slots := 345, locals := 60 } : Room) 6 345 [.ref a] [(a, .inr (0, [.null, .null, .null]))] (fun z => z.1 0 = a ∧ RX z.2 a_0) := by
  refine gMv.of (by decide) (Nat.le_of_ble_eq_true rfl) (fun pg ev st md bl mt cd A ls C hmn hl V => ?_)
  have hl : lv_has ls 2 [(0, .ref a)] := hl
  refine lv_aload_n C.x C.b d_X_init_0 rfl (lv_at hl 0 rfl) ?_
  refine g_obj C ml_X_1 hl.1 (by decide) (by decide) d_X_init_1 ?_
  refine lv_aload_n C.x C.b d_X_init_4 rfl (lv_at hl 0 rfl) ?_
  refine g_new (ci := 1) (fs := [.null, .null]) C V i_P t_P t_P_ok cl_X_7 ins_P ini_P rfl (fun j hj => by rcases (show j = 0 ∨ j = 1 by omega) with rfl | rfl <;> rfl) (by decide) (by decide) d_X_init_5 (fun q1 H V => ?_)
  refine lv_dup C.x C.b d_X_init_8 rfl ?_
  refine g_vIN (As := []) (rest := [.ref q1, .ref a]) [1] [0] (wc := [(q1, .inr (1, [.null, .null]))]) (wr := [(a, .inr (0, [.null, .null, .null]))]) C V rfl rfl rfl rfl (by decide) C.N.2.2.2.2.2.1 ini_P im_P_init cd_P_init rfl (by decide +kernel) (c_P_init q1) (by decide) rfl hl.1 rfl (Nat.le_of_ble_eq_true rfl) d_X_init_9 (fun z H locs _ V => ?_)
  obtain ⟨q4, q5⟩ := z
  refine g_putF C hmn V i_X t_X t_X_ok n_X 0 rfl rfl 0 (by decide) rfl fl_X_10 rfl rfl rfl (Nat.le_of_ble_eq_true rfl) (ws' := [(a, .inr (0, [.ref q1, .null, .null])), (q1, .inr (1, [.ref q4, .ref q5])), (q4, .inl (cI, 256, .inl (fun _ => 0))), (q5, .inl (cI, 8, .inl (fun _ => 0)))]) rfl d_X_init_12 (fun H locs V => ?_)
  refine lv_aload_n C.x C.b d_X_init_15 rfl (lv_at hl 0 rfl) ?_
  refine g_new (ci := 2) (fs := [.null, .int 0, .int 0, .int 0, .null, .int 0, .int 0]) C V i_S t_S t_S_ok cl_X_16 ins_S ini_S rfl (fun j hj => by rcases (show j = 0 ∨ j = 1 ∨ j = 2 ∨ j = 3 ∨ j = 4 ∨ j = 5 ∨ j = 6 by omega) with rfl | rfl | rfl | rfl | rfl | rfl | rfl <;> rfl) (by decide) (by decide) d_X_init_16 (fun q2 H V => ?_)
  refine lv_dup C.x C.b d_X_init_19 rfl ?_
  refine lv_aload_n C.x C.b d_X_init_20 rfl (lv_at hl 0 rfl) ?_
  refine g_get (v := .ref q1) C V i_X 0 rfl rfl 0 (by decide) rfl fl_X_10 rfl d_X_init_21 ?_
  refine lv_bipush (v := 40) C.x C.b d_X_init_24 (by decide) ?_
  refine g_vI (As := [.ref q1, .int 40]) (rest := [.ref q2, .ref a]) [4] [0, 1, 2, 3] (wc := [(q2, .inr (2, [.null, .int 0, .int 0, .int 0, .null, .int 0, .int 0]))]) (wr := [(a, .inr (0, [.ref q1, .null, .null])), (q1, .inr (1, [.ref q4, .ref q5])), (q4, .inl (cI, 256, .inl (fun _ => 0))), (q5, .inl (cI, 8, .inl (fun _ => 0)))]) C V rfl rfl rfl rfl (by decide) cs_X_18 (c_S_init q2 q1) (by decide) rfl hl.1 rfl (Nat.le_of_ble_eq_true rfl) d_X_init_26 (fun q6 H locs _ V => ?_)
  refine g_putF C hmn V i_X t_X t_X_ok n_X 0 rfl rfl 1 (by decide) rfl fl_X_21 rfl rfl rfl (Nat.le_of_ble_eq_true rfl) (ws' := [(a, .inr (0, [.ref q1, .ref q2, .null])), (q1, .inr (1, [.ref q4, .ref q5])), (q4, .inl (cI, 256, .inl (fun _ => 0))), (q5, .inl (cI, 8, .inl (fun _ => 0))), (q2, .inr (2, [.ref q1, .int 0, .int 0, .int 0, .ref q6, .int 0, .int 0])), (q6, .inl (cI, 40, .inl (fun _ => 0)))]) rfl d_X_init_29 (fun H locs V => ?_)
  refine lv_aload_n C.x C.b d_X_init_32 rfl (lv_at hl 0 rfl) ?_
  refine lv_bipush (v := 32) C.x C.b d_X_init_33 (by decide) ?_
  refine g_newZ 32 C V (by decide) (by decide) (by decide) (by decide) (by decide) d_X_init_35 (fun q3 H V => ?_)
  refine g_putF C hmn V i_X t_X t_X_ok n_X 0 rfl rfl 2 (by decide) rfl fl_X_25 rfl rfl rfl (Nat.le_of_ble_eq_true rfl) (ws' := [(a, .inr (0, [.ref q1, .ref q2, .ref q3])), (q1, .inr (1, [.ref q4, .ref q5])), (q4, .inl (cI, 256, .inl (fun _ => 0))), (q5, .inl (cI, 8, .inl (fun _ => 0))), (q2, .inr (2, [.ref q1, .int 0, .int 0, .int 0, .ref q6, .int 0, .int 0])), (q6, .inl (cI, 40, .inl (fun _ => 0))), (q3, .inl (cZ, 32, .inl (fun _ => 0)))]) rfl d_X_init_37 (fun H locs V => ?_)
  have V : gV D A st (XW (mkh a q1 q2 q3 q4 q5 q6 0) cI cZ (x_1 0)) H locs := V.sub [0, 1, 4, 6, 2, 3, 5] rfl rfl
  exact x_init1 (h := mkh a q1 q2 q3 q4 q5 q6 0) a rfl C H locs ls V hl
end
end
section
/-! every operation keeps the invariants; the clock and the extras grow by at most 41 -/
def OK (a : AS) (B : Nat) : Prop := Inv a ∧ Prs a ∧ Td a B
section
variable {a : AS} {B : Nat}
theorem OK.up {B' : Nat} (h : OK a B) (hb : B ≤ B') : OK a B' := ⟨h.1, h.2.1, td_up h.2.2 hb⟩
theorem ok_0 : OK a_0 0 := by
  refine ⟨⟨fun p _ => Or.inl rfl, fun r p hv => ?_, fun r _ => List.Pairwise.nil, fun p _ h => absurd rfl h, (fun p _ h => by cases h), (fun p h => by cases h), Nat.zero_le _, (fun s h => by cases h)⟩, (fun p h => by cases h), ⟨Nat.le_refl _, fun _ => Nat.le_refl _⟩, fun _ => Nat.le_refl _⟩
  constructor
  · intro h; cases h
  · intro h; exact absurd h.2.symm hv.pos
theorem pOf_s {x : Int32} {p : Nat} (h : pOf x = some p) : p < 32 := by
  rcases pOf_c x with ⟨q, hq, -, e⟩ | ⟨-, e⟩
  · rw [h] at e; cases e; exact hq
  · rw [h] at e; cases e
theorem sOf_s {x : Int32} {p : Nat} (h : sOf x = some p) : p < 16 := by
  rcases sOf_c x with ⟨q, hq, -, e, -⟩ | ⟨-, e⟩
  · rw [h] at e; cases e; exact hq
  · rw [h] at e; cases e
theorem qOf_s {x : Int32} {p : Nat} (h : qOf x = some p) : 1 ≤ p ∧ p ≤ 8 := by
  rcases qOf_c x with ⟨q, h1, h2, -, e, -⟩ | ⟨-, e⟩
  · rw [h] at e; cases e; exact ⟨h1, h2⟩
  · rw [h] at e; cases e
theorem mOf_s {x : Int32} {p : Nat} (h : mOf a x = some p) : p < 32 ∧ aM a p = true := by
  rcases mOf_c a x with ⟨q, hq, -, hm, e⟩ | e
  · rw [h] at e; cases e; exact ⟨hq, hm⟩
  · rw [h] at e; cases e
theorem ok_make (h : OK a B) (x y z : Int32) : OK (o_make a x y z).2 (B + 41) := by
  unfold o_make
  cases ep : pOf x with
  | none => exact h.up (by omega)
  | some p =>
    cases eq : qOf y with
    | none => exact h.up (by omega)
    | some n =>
      dsimp only
      split
      · exact h.up (by omega)
      · next hm =>
        have hp := pOf_s ep
        have hn := qOf_s eq
        obtain ⟨I, P, T⟩ := h
        have up : ∀ q, aM a q = true → va_up (aM a) p true q = true := fun q hq => by
          by_cases e : q = p
          · subst e; exact up_s _ _ _
          · rw [up_n _ _ e]; exact hq
        refine ⟨⟨I.1, I.2.1, I.2.2.1, fun q hq hr => ⟨I.tim hq hr, up q (I.mad hq hr)⟩, fun q hq hmq => ?_, fun q hq => ⟨(I.act hq).1, up q (I.act hq).2⟩, I.len, I.pst⟩, fun q hq => ⟨(P q hq).1, up q (P q hq).2.1, (P q hq).2.2⟩, td_up (a := a_mk a p n z) T (by omega)⟩
        show 1 ≤ va_up (aP a) p n q ∧ va_up (aP a) p n q ≤ 8
        by_cases e : q = p
        · subst e; rw [up_s]; exact hn
        · have hmq : va_up (aM a) p true q = true := hmq
          rw [up_n _ _ e] at hmq ⊢
          exact I.pri hq hmq
theorem ok_wake (h : OK a B) {p : Nat} (hp : p < 32) (hm : aM a p = true) (hr : aR a p = 0) (hn : a_pres a ≠ some p) : OK (a_wake a p) (B + 1) :=
  ⟨(inv_wake h.1 h.2.1 hp hm hr hn).1, (inv_wake h.1 h.2.1 hp hm hr hn).2, td_wake h.2.2⟩
theorem ok_aside (I : Inv a) (T : Td a B) : OK (a_aside a) B := ⟨(inv_aside I).1, (inv_aside I).2, td_aside T⟩
theorem ok_resume (h : OK a B) (x : Int32) : OK (o_resume a x).2 (B + 41) := by
  unfold o_resume
  cases em : mOf a x with
  | none => exact h.up (by omega)
  | some p =>
    have hm := mOf_s em
    dsimp only
    split
    · next hc => exact (ok_wake h hm.1 hm.2 hc.1 hc.2.1).up (by omega)
    · exact h.up (by omega)
theorem ok_suspend (h : OK a B) : OK (o_suspend a).2 (B + 41) := by
  unfold o_suspend
  cases a_pres a with
  | none => exact h.up (by omega)
  | some p => exact (ok_aside h.1 h.2.2).up (by omega)
theorem ok_end (h : OK a B) : OK (o_end a).2 (B + 41) := by
  unfold o_end
  cases ho : a_pres a with
  | none => exact h.up (by omega)
  | some p =>
    obtain ⟨I, P, T⟩ := h
    have hq := P p ho
    have b := ok_aside I T
    dsimp only
    have hr : aR (a_aside a) p = 0 := by
      unfold a_aside
      cases a_top (aQ a) 8 with
      | none => exact hq.2.2
      | some q =>
        show va_up (aR a) q 0 p = 0
        by_cases e : p = q
        · subst e; exact up_s _ _ _
        · rw [up_n _ _ e]; exact hq.2.2
    have hpr : a_pres (a_aside a) ≠ some p := by
      rcases top_spec (aQ a) 8 with ⟨q, r, l, h1, h2, h3, h4, -⟩ | ⟨h1, -⟩
      · rw [as_some h1]
        intro z
        have z : some q = some p := z
        cases z
        have hd := I.hd (Or.inl ⟨h2, h3⟩) h4
        rw [hq.2.2] at hd
        omega
      · rw [as_none h1]
        intro z
        cases (show (none : Option Nat) = some p from z)
    have key : ∀ c : AS, aQ c = aQ (a_aside a) → aR c = aR (a_aside a) → aT c = aT (a_aside a) → aN c = aN (a_aside a) → aM c = va_up (aM (a_aside a)) p false → aP c = aP (a_aside a) → aE c = aE (a_aside a) → aO c = aO (a_aside a) → (∀ q, aA c = some q → q ≠ p ∧ aA (a_aside a) = some q) → a_pres c = a_pres (a_aside a) → OK c B := by
      intro c e1 e2 e3 e4 e5 e6 e7 e8 e9 e10
      obtain ⟨Ib, Pb, Tb⟩ := b
      have mk : ∀ q, q ≠ p → aM (a_aside a) q = true → aM c q = true := fun q hne hm => by rw [e5, up_n _ _ hne]; exact hm
      refine ⟨⟨?_, ?_, ?_, fun q hq hrq => ?_, fun q hq hm => ?_, fun q hqa => ?_, ?_, ?_⟩, fun q hqp => ?_, ⟨?_, ?_⟩, ?_⟩
      · rw [e2]; exact Ib.1
      · rw [e1, e2]; exact Ib.2.1
      · rw [e1, e3]; exact Ib.2.2.1
      · rw [e2] at hrq
        rw [e3, e4]
        exact ⟨Ib.tim hq hrq, mk q (fun z => hrq (by rw [z, hr])) (Ib.mad hq hrq)⟩
      · rw [e6]
        rw [e5] at hm
        by_cases e : q = p
        · subst e; rw [up_s] at hm; cases hm
        · rw [up_n _ _ e] at hm; exact Ib.pri hq hm
      · have := e9 q hqa
        exact ⟨(Ib.act this.2).1, mk q this.1 (Ib.act this.2).2⟩
      · rw [e8]; exact Ib.len
      · rw [e8]; exact Ib.pst
      · rw [e10] at hqp
        have := Pb q hqp
        exact ⟨this.1, mk q (fun z => hpr (by rw [hqp, z])) this.2.1, by rw [e2]; exact this.2.2⟩
      · rw [e4]; exact Tb.1.1
      · rw [e7]; exact Tb.1.2
      · rw [e3]; exact Tb.2
    refine (OK.up (B := B) ?_ (by omega))
    unfold a_forget
    by_cases hA : aA (a_aside a) = some p
    · rw [if_pos hA]
      refine key _ rfl rfl rfl rfl rfl rfl rfl rfl (fun q hq => by cases (show (none : Option Nat) = some q from hq)) ?_
      have hw : aW (a_aside a) = true := by unfold a_aside; cases a_top (aQ a) 8 <;> rfl
      unfold a_pres
      show (if aW (a_aside a) = true then aC (a_aside a) else none) = if aW (a_aside a) = true then aC (a_aside a) else aA (a_aside a)
      rw [if_pos hw, if_pos hw]
    · rw [if_neg hA]
      exact key _ rfl rfl rfl rfl rfl rfl rfl rfl (fun q hq => ⟨fun z => hA (by rw [← z]; exact hq), hq⟩) rfl
theorem ok_await (h : OK a B) (x : Int32) : OK (o_await a x).2 (B + 41) := by
  unfold o_await
  cases es : sOf x with
  | none => exact h.up (by omega)
  | some s =>
    have hs := sOf_s es
    dsimp only
    unfold a_await
    cases ho : a_pres a with
    | none => exact h.up (by omega)
    | some p =>
      obtain ⟨I, P, T⟩ := h
      have hq := P p ho
      dsimp only
      split
      · refine OK.up (B := B) ⟨inv_ext I _ _, P, ⟨T.1.1, fun t => ?_⟩, T.2⟩ (by omega)
        show va_up (aE a) s (aE a s - 1) t ≤ B
        by_cases e : t = s
        · subst e; rw [up_s]; have := T.1.2 t; omega
        · rw [up_n _ _ e]; exact T.1.2 t
      · exact (ok_aside (inv_enq I hq.1 hq.2.1 hq.2.2 (Or.inr ⟨by omega, by omega⟩)) (td_enq T)).up (by omega)
theorem ok_sig (h : OK a B) {s : Nat} (hs : s < 16) : OK (a_sig a s) (B + 1) := ⟨(inv_sig h.1 h.2.1 hs).1, (inv_sig h.1 h.2.1 hs).2, td_sig h.2.2⟩
theorem ok_signal (h : OK a B) (x : Int32) : OK (o_signal a x).2 (B + 41) := by
  unfold o_signal
  cases es : sOf x with
  | none => exact h.up (by omega)
  | some s => exact (ok_sig h (sOf_s es)).up (by omega)
theorem ok_post (h : OK a B) (x : Int32) : OK (o_post a x).2 (B + 41) := by
  unfold o_post
  cases es : sOf x with
  | none => exact h.up (by omega)
  | some s =>
    dsimp only
    unfold a_post
    split
    · exact h.up (by omega)
    · next hl =>
      obtain ⟨I, P, T⟩ := h
      refine OK.up (B := B) ⟨⟨I.1, I.2.1, I.2.2.1, I.2.2.2.1, I.2.2.2.2.1, I.2.2.2.2.2.1, ?_, fun t ht => ?_⟩, P, T⟩ (by omega)
      · show (aO a ++ [s]).length ≤ 40
        have := I.len
        rw [List.length_append]
        simp
        omega
      · have ht : t ∈ aO a ++ [s] := ht
        rcases List.mem_append.mp ht with z | z
        · exact I.pst t z
        · rw [List.mem_singleton.mp z]; exact sOf_s es
theorem ok_sigs : ∀ (l : List Nat) (a : AS) (B : Nat), OK a B → (∀ s ∈ l, s < 16) → OK (a_sigs a l) (B + l.length)
  | [], a, B, h, _ => h
  | s :: l, a, B, h, hl => by
    have := ok_sigs l (a_sig a s) (B + 1) (ok_sig h (hl s List.mem_cons_self)) (fun t ht => hl t (List.mem_cons_of_mem _ ht))
    refine OK.up (a := a_sigs (a_sig a s) l) this ?_
    rw [List.length_cons]; omega
theorem ok_step (h : OK a B) : OK (o_step a).2 (B + 41) := by
  have hi := inv_step h.1 h.2.1
  have hs := ok_sigs (aO a) a B h h.1.pst
  have hl := h.1.len
  refine ⟨hi.1, hi.2, ?_⟩
  have hd : Td (a_done (a_sigs a (aO a))) (B + (aO a).length) := hs.2.2
  have hw : Td (a_swap (a_done (a_sigs a (aO a)))) (B + (aO a).length) := by
    unfold a_swap
    split
    · exact hd
    · exact hd
  exact td_up (a := (o_step a).2) hw (by omega)
theorem ok_work (h : OK a B) (x : Int32) : OK (o_work a x).2 (B + 41) := by
  unfold o_work
  split
  · exact OK.up (a := a_here a (aH a + x)) (B := B) h (by omega)
  · exact h.up (by omega)
theorem ok_take (h : OK a B) (x : Int32) : OK (o_take a x).2 (B + 41) := by
  unfold o_take
  cases em : mOf a x with
  | none => exact h.up (by omega)
  | some p =>
    have hm := mOf_s em
    dsimp only
    split
    · exact h.up (by omega)
    · next hr => exact OK.up (a := a_rem a p) (B := B) ⟨inv_rem h.1 hm.1 hr, prs_rem h.2.1, h.2.2⟩ (by omega)
theorem ok_rate (h : OK a B) (x y : Int32) : OK (o_rate a x y).2 (B + 41) := by
  unfold o_rate
  cases em : mOf a x with
  | none => exact h.up (by omega)
  | some p =>
    cases eq : qOf y with
    | none => exact h.up (by omega)
    | some n =>
      obtain ⟨I, P, T⟩ := h
      refine OK.up (a := a_prio a p n) (B := B) ⟨⟨I.1, I.2.1, I.2.2.1, I.2.2.2.1, fun q hq hm => ?_, I.2.2.2.2.2.1, I.len, I.pst⟩, P, T⟩ (by omega)
      show 1 ≤ va_up (aP a) p n q ∧ va_up (aP a) p n q ≤ 8
      by_cases e : q = p
      · subst e; rw [up_s]; exact qOf_s eq
      · rw [up_n _ _ e]; exact I.pri hq hm
theorem ok_yield (h : OK a B) : OK (a_yield a).2 (B + 41) := by
  unfold a_yield
  cases ho : a_pres a with
  | none => exact h.up (by omega)
  | some p =>
    obtain ⟨I, P, T⟩ := h
    have hq := P p ho
    dsimp only
    split
    · exact OK.up (B := B) ⟨I, P, T⟩ (by omega)
    · exact (ok_aside (inv_enq I hq.1 hq.2.1 hq.2.2 (Or.inl (I.pri hq.1 hq.2.1))) (td_enq T)).up (by omega)
end
end
section
/-! THE CLAIM OUT OF ONE WALK OF THE LAW'S BODY. Your part is whole_start (and what it stands on); all else here is the same for every law, but numbers. -/
def R_law : String := "ProcessRoomLaw"
def lw_P (b : Addr) (xs : List Int32) (args : Array Value) (s : State) : Prop := args = #[.ref b] ∧ s.IntsAt b xs ∧ xs.length ≤ 2048 ∧ (Jvm.Cond.and given_1 narrow_1).before args s = true
def lw_Q (_ : Array Value) (s : State) (o : Outcome) (t : State) : Prop := o = .returned (some (.int 1)) ∧ Framed s o t [] 600000 7302250
def lw_Z (below : List Frame) (a : Array Value) (s : State) : State → Prop := fun t => ∃ o, t.status = .running ∧ Ended t below o ∧ lw_Q a s o t
/-- the law's own end, with 1 on the stack, nothing written that was there before, its room as the claim has it -/
theorem lw_ret {p : Program} {l : Launch} {e : Env} {s : State} {m : MethodId} {below : List Frame} {meth : Method} {c : Code} {b : Nat} (hx : p.tables.exec = Jvm.exec) (hb : c.code = code) (hr : meth.sig.returnType = ret) (hlocks : meth.locks = false) {pc : Nat} {H : Heap} {ls : Array Slot} (hdg : decode code pc = .ok (.ireturn, 1)) : W p l e room_1 s m #[Value.ref b] below meth c H [] 600000 7302250 (lw_Z below #[Value.ref b] s) (F0 m pc ls [.int 1]) := by
  intro T hT X
  obtain ⟨fs, hret, hrun, hended, hW, hframe⟩ := X.leave (v := some (.int 1)) (hlocks := hlocks) (fun h => by rw [hr] at h; cases h)
  have hmeth' : T.vm.method? m = some meth := X.method'
  refine ⟨T.setFrames fs, ?_, .returned (some (.int 1)), hrun, hended, rfl, ⟨_, rfl⟩, hW, hframe⟩
  jvm_step X.here [X.here.top, hx, hb, hdg, hmeth', hr, ret, narrow_b1]
  (try refine ⟨rfl, ?_⟩); (try refine ⟨rfl, ?_⟩)
  first | (intro acts; rw [hret _ acts rfl rfl rfl]) | rw [hret _ _ rfl rfl rfl]
  exact Steps.refl _
/-- what holds at the law's entry: the machine, the code, the tables' words (any of lw_tbl by 'hts w (by decide +kernel)'), the script of L ints xs at the cell b, what the Statement gives of the start (any of its parts by flat_of_before) -/
def lw_At (p : Program) (s : State) (m : MethodId) (meth : Method) (c : Code) (b L : Nat) (xs : Nat → Int32) : Prop :=
  p.tables.exec = Jvm.exec ∧ c.code = code ∧ meth.sig.returnType = ret ∧ c.maxLocals = 4 ∧ s.vm.findClass R_law = some m.cls ∧ (∀ w ∈ lw_tbl, w.before #[Value.ref b] s = true) ∧ va_X b L xs s s.heap ∧ b < s.heap.size ∧ meth.locks = false ∧ (Jvm.Cond.and given_1 narrow_1).before #[Value.ref b] s = true
theorem d_W_law_0 : decode code 0 = .ok (.new 7, 3) := by decide +kernel
theorem d_W_law_3 : decode code 3 = .ok (.dup, 1) := by decide +kernel
theorem d_W_law_4 : decode code 4 = .ok (.invokespecial 9, 3) := by decide +kernel
theorem d_W_law_7 : decode code 7 = .ok (.astore_n 1, 1) := by decide +kernel
theorem d_W_law_8 : decode code 8 = .ok (.new 10, 3) := by decide +kernel
theorem d_W_law_11 : decode code 11 = .ok (.dup, 1) := by decide +kernel
theorem d_W_law_12 : decode code 12 = .ok (.invokespecial 12, 3) := by decide +kernel
theorem d_W_law_15 : decode code 15 = .ok (.astore_n 2, 1) := by decide +kernel
theorem d_W_law_16 : decode code 16 = .ok (.iconst 0, 1) := by decide +kernel
theorem d_W_law_17 : decode code 17 = .ok (.istore_n 3, 1) := by decide +kernel
theorem d_W_law_18 : decode code 18 = .ok (.iload_n 3, 1) := by decide +kernel
theorem d_W_law_19 : decode code 19 = .ok (.aload_n 0, 1) := by decide +kernel
theorem d_W_law_20 : decode code 20 = .ok (.arraylength, 1) := by decide +kernel
theorem d_W_law_21 : decode code 21 = .ok (.iconst 4, 1) := by decide +kernel
theorem d_W_law_22 : decode code 22 = .ok (.isub, 1) := by decide +kernel
theorem d_W_law_23 : decode code 23 = .ok (.if_icmp .gt 585, 3) := by decide +kernel
theorem d_W_law_26 : decode code 26 = .ok (.aload_n 0, 1) := by decide +kernel
theorem d_W_law_27 : decode code 27 = .ok (.iload_n 3, 1) := by decide +kernel
theorem d_W_law_28 : decode code 28 = .ok (.iaload, 1) := by decide +kernel
theorem d_W_law_29 : decode code 29 = .ok (.bipush 31, 2) := by decide +kernel
theorem d_W_law_31 : decode code 31 = .ok (.iand, 1) := by decide +kernel
theorem d_W_law_32 : decode code 32 = .ok (.tableswitch 570 0 21 #[104, 147, 170, 183, 196, 219, 242, 265, 278, 301, 324, 357, 370, 383, 396, 409, 422, 445, 468, 491, 524, 547], 104) := by decide +kernel
theorem d_W_law_136 : decode code 136 = .ok (.aload_n 1, 1) := by decide +kernel
theorem d_W_law_137 : decode code 137 = .ok (.aload_n 0, 1) := by decide +kernel
theorem d_W_law_138 : decode code 138 = .ok (.iload_n 3, 1) := by decide +kernel
theorem d_W_law_139 : decode code 139 = .ok (.iconst 1, 1) := by decide +kernel
theorem d_W_law_140 : decode code 140 = .ok (.iadd, 1) := by decide +kernel
theorem d_W_law_141 : decode code 141 = .ok (.iaload, 1) := by decide +kernel
theorem d_W_law_142 : decode code 142 = .ok (.aload_n 0, 1) := by decide +kernel
theorem d_W_law_143 : decode code 143 = .ok (.iload_n 3, 1) := by decide +kernel
theorem d_W_law_144 : decode code 144 = .ok (.iconst 2, 1) := by decide +kernel
theorem d_W_law_145 : decode code 145 = .ok (.iadd, 1) := by decide +kernel
theorem d_W_law_146 : decode code 146 = .ok (.iaload, 1) := by decide +kernel
theorem d_W_law_147 : decode code 147 = .ok (.aload_n 0, 1) := by decide +kernel
theorem d_W_law_148 : decode code 148 = .ok (.iload_n 3, 1) := by decide +kernel
theorem d_W_law_149 : decode code 149 = .ok (.iconst 3, 1) := by decide +kernel
theorem d_W_law_150 : decode code 150 = .ok (.iadd, 1) := by decide +kernel
theorem d_W_law_151 : decode code 151 = .ok (.iaload, 1) := by decide +kernel
theorem d_W_law_152 : decode code 152 = .ok (.invokevirtual 13, 3) := by decide +kernel
theorem d_W_law_155 : decode code 155 = .ok (.aload_n 2, 1) := by decide +kernel
theorem d_W_law_156 : decode code 156 = .ok (.aload_n 0, 1) := by decide +kernel
theorem d_W_law_157 : decode code 157 = .ok (.iload_n 3, 1) := by decide +kernel
theorem d_W_law_158 : decode code 158 = .ok (.iconst 1, 1) := by decide +kernel
theorem d_W_law_159 : decode code 159 = .ok (.iadd, 1) := by decide +kernel
theorem d_W_law_160 : decode code 160 = .ok (.iaload, 1) := by decide +kernel
theorem d_W_law_161 : decode code 161 = .ok (.aload_n 0, 1) := by decide +kernel
theorem d_W_law_162 : decode code 162 = .ok (.iload_n 3, 1) := by decide +kernel
theorem d_W_law_163 : decode code 163 = .ok (.iconst 2, 1) := by decide +kernel
theorem d_W_law_164 : decode code 164 = .ok (.iadd, 1) := by decide +kernel
theorem d_W_law_165 : decode code 165 = .ok (.iaload, 1) := by decide +kernel
theorem d_W_law_166 : decode code 166 = .ok (.aload_n 0, 1) := by decide +kernel
theorem d_W_law_167 : decode code 167 = .ok (.iload_n 3, 1) := by decide +kernel
theorem d_W_law_168 : decode code 168 = .ok (.iconst 3, 1) := by decide +kernel
theorem d_W_law_169 : decode code 169 = .ok (.iadd, 1) := by decide +kernel
theorem d_W_law_170 : decode code 170 = .ok (.iaload, 1) := by decide +kernel
theorem d_W_law_171 : decode code 171 = .ok (.invokevirtual 17, 3) := by decide +kernel
theorem d_W_law_174 : decode code 174 = .ok (.if_icmp .eq 428, 3) := by decide +kernel
theorem d_W_law_177 : decode code 177 = .ok (.iconst 0, 1) := by decide +kernel
theorem d_W_law_178 : decode code 178 = .ok (.ireturn, 1) := by decide +kernel
theorem d_W_law_179 : decode code 179 = .ok (.aload_n 1, 1) := by decide +kernel
theorem d_W_law_180 : decode code 180 = .ok (.aload_n 0, 1) := by decide +kernel
theorem d_W_law_181 : decode code 181 = .ok (.iload_n 3, 1) := by decide +kernel
theorem d_W_law_182 : decode code 182 = .ok (.iconst 1, 1) := by decide +kernel
theorem d_W_law_183 : decode code 183 = .ok (.iadd, 1) := by decide +kernel
theorem d_W_law_184 : decode code 184 = .ok (.iaload, 1) := by decide +kernel
theorem d_W_law_185 : decode code 185 = .ok (.invokevirtual 18, 3) := by decide +kernel
theorem d_W_law_188 : decode code 188 = .ok (.aload_n 2, 1) := by decide +kernel
theorem d_W_law_189 : decode code 189 = .ok (.aload_n 0, 1) := by decide +kernel
theorem d_W_law_190 : decode code 190 = .ok (.iload_n 3, 1) := by decide +kernel
theorem d_W_law_191 : decode code 191 = .ok (.iconst 1, 1) := by decide +kernel
theorem d_W_law_192 : decode code 192 = .ok (.iadd, 1) := by decide +kernel
theorem d_W_law_193 : decode code 193 = .ok (.iaload, 1) := by decide +kernel
theorem d_W_law_194 : decode code 194 = .ok (.invokevirtual 22, 3) := by decide +kernel
theorem d_W_law_197 : decode code 197 = .ok (.if_icmp .eq 405, 3) := by decide +kernel
theorem d_W_law_200 : decode code 200 = .ok (.iconst 0, 1) := by decide +kernel
theorem d_W_law_201 : decode code 201 = .ok (.ireturn, 1) := by decide +kernel
theorem d_W_law_202 : decode code 202 = .ok (.aload_n 1, 1) := by decide +kernel
theorem d_W_law_203 : decode code 203 = .ok (.invokevirtual 23, 3) := by decide +kernel
theorem d_W_law_206 : decode code 206 = .ok (.aload_n 2, 1) := by decide +kernel
theorem d_W_law_207 : decode code 207 = .ok (.invokevirtual 27, 3) := by decide +kernel
theorem d_W_law_210 : decode code 210 = .ok (.if_icmp .eq 392, 3) := by decide +kernel
theorem d_W_law_213 : decode code 213 = .ok (.iconst 0, 1) := by decide +kernel
theorem d_W_law_214 : decode code 214 = .ok (.ireturn, 1) := by decide +kernel
theorem d_W_law_215 : decode code 215 = .ok (.aload_n 1, 1) := by decide +kernel
theorem d_W_law_216 : decode code 216 = .ok (.invokevirtual 28, 3) := by decide +kernel
theorem d_W_law_219 : decode code 219 = .ok (.aload_n 2, 1) := by decide +kernel
theorem d_W_law_220 : decode code 220 = .ok (.invokevirtual 31, 3) := by decide +kernel
theorem d_W_law_223 : decode code 223 = .ok (.if_icmp .eq 379, 3) := by decide +kernel
theorem d_W_law_226 : decode code 226 = .ok (.iconst 0, 1) := by decide +kernel
theorem d_W_law_227 : decode code 227 = .ok (.ireturn, 1) := by decide +kernel
theorem d_W_law_228 : decode code 228 = .ok (.aload_n 1, 1) := by decide +kernel
theorem d_W_law_229 : decode code 229 = .ok (.aload_n 0, 1) := by decide +kernel
theorem d_W_law_230 : decode code 230 = .ok (.iload_n 3, 1) := by decide +kernel
theorem d_W_law_231 : decode code 231 = .ok (.iconst 1, 1) := by decide +kernel
theorem d_W_law_232 : decode code 232 = .ok (.iadd, 1) := by decide +kernel
theorem d_W_law_233 : decode code 233 = .ok (.iaload, 1) := by decide +kernel
theorem d_W_law_234 : decode code 234 = .ok (.invokevirtual 32, 3) := by decide +kernel
theorem d_W_law_237 : decode code 237 = .ok (.aload_n 2, 1) := by decide +kernel
theorem d_W_law_238 : decode code 238 = .ok (.aload_n 0, 1) := by decide +kernel
theorem d_W_law_239 : decode code 239 = .ok (.iload_n 3, 1) := by decide +kernel
theorem d_W_law_240 : decode code 240 = .ok (.iconst 1, 1) := by decide +kernel
theorem d_W_law_241 : decode code 241 = .ok (.iadd, 1) := by decide +kernel
theorem d_W_law_242 : decode code 242 = .ok (.iaload, 1) := by decide +kernel
theorem d_W_law_243 : decode code 243 = .ok (.invokevirtual 36, 3) := by decide +kernel
theorem d_W_law_246 : decode code 246 = .ok (.if_icmp .eq 356, 3) := by decide +kernel
theorem d_W_law_249 : decode code 249 = .ok (.iconst 0, 1) := by decide +kernel
theorem d_W_law_250 : decode code 250 = .ok (.ireturn, 1) := by decide +kernel
theorem d_W_law_251 : decode code 251 = .ok (.aload_n 1, 1) := by decide +kernel
theorem d_W_law_252 : decode code 252 = .ok (.aload_n 0, 1) := by decide +kernel
theorem d_W_law_253 : decode code 253 = .ok (.iload_n 3, 1) := by decide +kernel
theorem d_W_law_254 : decode code 254 = .ok (.iconst 1, 1) := by decide +kernel
theorem d_W_law_255 : decode code 255 = .ok (.iadd, 1) := by decide +kernel
theorem d_W_law_256 : decode code 256 = .ok (.iaload, 1) := by decide +kernel
theorem d_W_law_257 : decode code 257 = .ok (.invokevirtual 37, 3) := by decide +kernel
theorem d_W_law_260 : decode code 260 = .ok (.aload_n 2, 1) := by decide +kernel
theorem d_W_law_261 : decode code 261 = .ok (.aload_n 0, 1) := by decide +kernel
theorem d_W_law_262 : decode code 262 = .ok (.iload_n 3, 1) := by decide +kernel
theorem d_W_law_263 : decode code 263 = .ok (.iconst 1, 1) := by decide +kernel
theorem d_W_law_264 : decode code 264 = .ok (.iadd, 1) := by decide +kernel
theorem d_W_law_265 : decode code 265 = .ok (.iaload, 1) := by decide +kernel
theorem d_W_law_266 : decode code 266 = .ok (.invokevirtual 40, 3) := by decide +kernel
theorem d_W_law_269 : decode code 269 = .ok (.if_icmp .eq 333, 3) := by decide +kernel
theorem d_W_law_272 : decode code 272 = .ok (.iconst 0, 1) := by decide +kernel
theorem d_W_law_273 : decode code 273 = .ok (.ireturn, 1) := by decide +kernel
theorem d_W_law_274 : decode code 274 = .ok (.aload_n 1, 1) := by decide +kernel
theorem d_W_law_275 : decode code 275 = .ok (.aload_n 0, 1) := by decide +kernel
theorem d_W_law_276 : decode code 276 = .ok (.iload_n 3, 1) := by decide +kernel
theorem d_W_law_277 : decode code 277 = .ok (.iconst 1, 1) := by decide +kernel
theorem d_W_law_278 : decode code 278 = .ok (.iadd, 1) := by decide +kernel
theorem d_W_law_279 : decode code 279 = .ok (.iaload, 1) := by decide +kernel
theorem d_W_law_280 : decode code 280 = .ok (.invokevirtual 41, 3) := by decide +kernel
theorem d_W_law_283 : decode code 283 = .ok (.aload_n 2, 1) := by decide +kernel
theorem d_W_law_284 : decode code 284 = .ok (.aload_n 0, 1) := by decide +kernel
theorem d_W_law_285 : decode code 285 = .ok (.iload_n 3, 1) := by decide +kernel
theorem d_W_law_286 : decode code 286 = .ok (.iconst 1, 1) := by decide +kernel
theorem d_W_law_287 : decode code 287 = .ok (.iadd, 1) := by decide +kernel
theorem d_W_law_288 : decode code 288 = .ok (.iaload, 1) := by decide +kernel
theorem d_W_law_289 : decode code 289 = .ok (.invokevirtual 44, 3) := by decide +kernel
theorem d_W_law_292 : decode code 292 = .ok (.if_icmp .eq 310, 3) := by decide +kernel
theorem d_W_law_295 : decode code 295 = .ok (.iconst 0, 1) := by decide +kernel
theorem d_W_law_296 : decode code 296 = .ok (.ireturn, 1) := by decide +kernel
theorem d_W_law_297 : decode code 297 = .ok (.aload_n 1, 1) := by decide +kernel
theorem d_W_law_298 : decode code 298 = .ok (.invokevirtual 45, 3) := by decide +kernel
theorem d_W_law_301 : decode code 301 = .ok (.aload_n 2, 1) := by decide +kernel
theorem d_W_law_302 : decode code 302 = .ok (.invokevirtual 48, 3) := by decide +kernel
theorem d_W_law_305 : decode code 305 = .ok (.if_icmp .eq 297, 3) := by decide +kernel
theorem d_W_law_308 : decode code 308 = .ok (.iconst 0, 1) := by decide +kernel
theorem d_W_law_309 : decode code 309 = .ok (.ireturn, 1) := by decide +kernel
theorem d_W_law_310 : decode code 310 = .ok (.aload_n 1, 1) := by decide +kernel
theorem d_W_law_311 : decode code 311 = .ok (.aload_n 0, 1) := by decide +kernel
theorem d_W_law_312 : decode code 312 = .ok (.iload_n 3, 1) := by decide +kernel
theorem d_W_law_313 : decode code 313 = .ok (.iconst 1, 1) := by decide +kernel
theorem d_W_law_314 : decode code 314 = .ok (.iadd, 1) := by decide +kernel
theorem d_W_law_315 : decode code 315 = .ok (.iaload, 1) := by decide +kernel
theorem d_W_law_316 : decode code 316 = .ok (.invokevirtual 49, 3) := by decide +kernel
theorem d_W_law_319 : decode code 319 = .ok (.aload_n 2, 1) := by decide +kernel
theorem d_W_law_320 : decode code 320 = .ok (.aload_n 0, 1) := by decide +kernel
theorem d_W_law_321 : decode code 321 = .ok (.iload_n 3, 1) := by decide +kernel
theorem d_W_law_322 : decode code 322 = .ok (.iconst 1, 1) := by decide +kernel
theorem d_W_law_323 : decode code 323 = .ok (.iadd, 1) := by decide +kernel
theorem d_W_law_324 : decode code 324 = .ok (.iaload, 1) := by decide +kernel
theorem d_W_law_325 : decode code 325 = .ok (.invokevirtual 52, 3) := by decide +kernel
theorem d_W_law_328 : decode code 328 = .ok (.if_icmp .eq 274, 3) := by decide +kernel
theorem d_W_law_331 : decode code 331 = .ok (.iconst 0, 1) := by decide +kernel
theorem d_W_law_332 : decode code 332 = .ok (.ireturn, 1) := by decide +kernel
theorem d_W_law_333 : decode code 333 = .ok (.aload_n 1, 1) := by decide +kernel
theorem d_W_law_334 : decode code 334 = .ok (.aload_n 0, 1) := by decide +kernel
theorem d_W_law_335 : decode code 335 = .ok (.iload_n 3, 1) := by decide +kernel
theorem d_W_law_336 : decode code 336 = .ok (.iconst 1, 1) := by decide +kernel
theorem d_W_law_337 : decode code 337 = .ok (.iadd, 1) := by decide +kernel
theorem d_W_law_338 : decode code 338 = .ok (.iaload, 1) := by decide +kernel
theorem d_W_law_339 : decode code 339 = .ok (.invokevirtual 53, 3) := by decide +kernel
theorem d_W_law_342 : decode code 342 = .ok (.aload_n 2, 1) := by decide +kernel
theorem d_W_law_343 : decode code 343 = .ok (.aload_n 0, 1) := by decide +kernel
theorem d_W_law_344 : decode code 344 = .ok (.iload_n 3, 1) := by decide +kernel
theorem d_W_law_345 : decode code 345 = .ok (.iconst 1, 1) := by decide +kernel
theorem d_W_law_346 : decode code 346 = .ok (.iadd, 1) := by decide +kernel
theorem d_W_law_347 : decode code 347 = .ok (.iaload, 1) := by decide +kernel
theorem d_W_law_348 : decode code 348 = .ok (.invokevirtual 56, 3) := by decide +kernel
theorem d_W_law_351 : decode code 351 = .ok (.if_icmp .eq 251, 3) := by decide +kernel
theorem d_W_law_354 : decode code 354 = .ok (.iconst 0, 1) := by decide +kernel
theorem d_W_law_355 : decode code 355 = .ok (.ireturn, 1) := by decide +kernel
theorem d_W_law_356 : decode code 356 = .ok (.aload_n 1, 1) := by decide +kernel
theorem d_W_law_357 : decode code 357 = .ok (.aload_n 0, 1) := by decide +kernel
theorem d_W_law_358 : decode code 358 = .ok (.iload_n 3, 1) := by decide +kernel
theorem d_W_law_359 : decode code 359 = .ok (.iconst 1, 1) := by decide +kernel
theorem d_W_law_360 : decode code 360 = .ok (.iadd, 1) := by decide +kernel
theorem d_W_law_361 : decode code 361 = .ok (.iaload, 1) := by decide +kernel
theorem d_W_law_362 : decode code 362 = .ok (.aload_n 0, 1) := by decide +kernel
theorem d_W_law_363 : decode code 363 = .ok (.iload_n 3, 1) := by decide +kernel
theorem d_W_law_364 : decode code 364 = .ok (.iconst 2, 1) := by decide +kernel
theorem d_W_law_365 : decode code 365 = .ok (.iadd, 1) := by decide +kernel
theorem d_W_law_366 : decode code 366 = .ok (.iaload, 1) := by decide +kernel
theorem d_W_law_367 : decode code 367 = .ok (.invokevirtual 57, 3) := by decide +kernel
theorem d_W_law_370 : decode code 370 = .ok (.aload_n 2, 1) := by decide +kernel
theorem d_W_law_371 : decode code 371 = .ok (.aload_n 0, 1) := by decide +kernel
theorem d_W_law_372 : decode code 372 = .ok (.iload_n 3, 1) := by decide +kernel
theorem d_W_law_373 : decode code 373 = .ok (.iconst 1, 1) := by decide +kernel
theorem d_W_law_374 : decode code 374 = .ok (.iadd, 1) := by decide +kernel
theorem d_W_law_375 : decode code 375 = .ok (.iaload, 1) := by decide +kernel
theorem d_W_law_376 : decode code 376 = .ok (.aload_n 0, 1) := by decide +kernel
theorem d_W_law_377 : decode code 377 = .ok (.iload_n 3, 1) := by decide +kernel
theorem d_W_law_378 : decode code 378 = .ok (.iconst 2, 1) := by decide +kernel
theorem d_W_law_379 : decode code 379 = .ok (.iadd, 1) := by decide +kernel
theorem d_W_law_380 : decode code 380 = .ok (.iaload, 1) := by decide +kernel
theorem d_W_law_381 : decode code 381 = .ok (.invokevirtual 61, 3) := by decide +kernel
theorem d_W_law_384 : decode code 384 = .ok (.if_icmp .eq 218, 3) := by decide +kernel
theorem d_W_law_387 : decode code 387 = .ok (.iconst 0, 1) := by decide +kernel
theorem d_W_law_388 : decode code 388 = .ok (.ireturn, 1) := by decide +kernel
theorem d_W_law_389 : decode code 389 = .ok (.aload_n 1, 1) := by decide +kernel
theorem d_W_law_390 : decode code 390 = .ok (.invokevirtual 62, 3) := by decide +kernel
theorem d_W_law_393 : decode code 393 = .ok (.aload_n 2, 1) := by decide +kernel
theorem d_W_law_394 : decode code 394 = .ok (.invokevirtual 66, 3) := by decide +kernel
theorem d_W_law_397 : decode code 397 = .ok (.if_icmp .eq 205, 3) := by decide +kernel
theorem d_W_law_400 : decode code 400 = .ok (.iconst 0, 1) := by decide +kernel
theorem d_W_law_401 : decode code 401 = .ok (.ireturn, 1) := by decide +kernel
theorem d_W_law_402 : decode code 402 = .ok (.aload_n 1, 1) := by decide +kernel
theorem d_W_law_403 : decode code 403 = .ok (.invokevirtual 67, 3) := by decide +kernel
theorem d_W_law_406 : decode code 406 = .ok (.aload_n 2, 1) := by decide +kernel
theorem d_W_law_407 : decode code 407 = .ok (.invokevirtual 70, 3) := by decide +kernel
theorem d_W_law_410 : decode code 410 = .ok (.if_icmp .eq 192, 3) := by decide +kernel
theorem d_W_law_413 : decode code 413 = .ok (.iconst 0, 1) := by decide +kernel
theorem d_W_law_414 : decode code 414 = .ok (.ireturn, 1) := by decide +kernel
theorem d_W_law_415 : decode code 415 = .ok (.aload_n 1, 1) := by decide +kernel
theorem d_W_law_416 : decode code 416 = .ok (.invokevirtual 71, 3) := by decide +kernel
theorem d_W_law_419 : decode code 419 = .ok (.aload_n 2, 1) := by decide +kernel
theorem d_W_law_420 : decode code 420 = .ok (.invokevirtual 74, 3) := by decide +kernel
theorem d_W_law_423 : decode code 423 = .ok (.if_icmp .eq 179, 3) := by decide +kernel
theorem d_W_law_426 : decode code 426 = .ok (.iconst 0, 1) := by decide +kernel
theorem d_W_law_427 : decode code 427 = .ok (.ireturn, 1) := by decide +kernel
theorem d_W_law_428 : decode code 428 = .ok (.aload_n 1, 1) := by decide +kernel
theorem d_W_law_429 : decode code 429 = .ok (.invokevirtual 75, 3) := by decide +kernel
theorem d_W_law_432 : decode code 432 = .ok (.aload_n 2, 1) := by decide +kernel
theorem d_W_law_433 : decode code 433 = .ok (.invokevirtual 78, 3) := by decide +kernel
theorem d_W_law_436 : decode code 436 = .ok (.if_icmp .eq 166, 3) := by decide +kernel
theorem d_W_law_439 : decode code 439 = .ok (.iconst 0, 1) := by decide +kernel
theorem d_W_law_440 : decode code 440 = .ok (.ireturn, 1) := by decide +kernel
theorem d_W_law_441 : decode code 441 = .ok (.aload_n 1, 1) := by decide +kernel
theorem d_W_law_442 : decode code 442 = .ok (.invokevirtual 79, 3) := by decide +kernel
theorem d_W_law_445 : decode code 445 = .ok (.aload_n 2, 1) := by decide +kernel
theorem d_W_law_446 : decode code 446 = .ok (.invokevirtual 82, 3) := by decide +kernel
theorem d_W_law_449 : decode code 449 = .ok (.if_icmp .eq 153, 3) := by decide +kernel
theorem d_W_law_452 : decode code 452 = .ok (.iconst 0, 1) := by decide +kernel
theorem d_W_law_453 : decode code 453 = .ok (.ireturn, 1) := by decide +kernel
theorem d_W_law_454 : decode code 454 = .ok (.aload_n 1, 1) := by decide +kernel
theorem d_W_law_455 : decode code 455 = .ok (.aload_n 0, 1) := by decide +kernel
theorem d_W_law_456 : decode code 456 = .ok (.iload_n 3, 1) := by decide +kernel
theorem d_W_law_457 : decode code 457 = .ok (.iconst 1, 1) := by decide +kernel
theorem d_W_law_458 : decode code 458 = .ok (.iadd, 1) := by decide +kernel
theorem d_W_law_459 : decode code 459 = .ok (.iaload, 1) := by decide +kernel
theorem d_W_law_460 : decode code 460 = .ok (.invokevirtual 83, 3) := by decide +kernel
theorem d_W_law_463 : decode code 463 = .ok (.aload_n 2, 1) := by decide +kernel
theorem d_W_law_464 : decode code 464 = .ok (.aload_n 0, 1) := by decide +kernel
theorem d_W_law_465 : decode code 465 = .ok (.iload_n 3, 1) := by decide +kernel
theorem d_W_law_466 : decode code 466 = .ok (.iconst 1, 1) := by decide +kernel
theorem d_W_law_467 : decode code 467 = .ok (.iadd, 1) := by decide +kernel
theorem d_W_law_468 : decode code 468 = .ok (.iaload, 1) := by decide +kernel
theorem d_W_law_469 : decode code 469 = .ok (.invokevirtual 86, 3) := by decide +kernel
theorem d_W_law_472 : decode code 472 = .ok (.if_icmp .eq 130, 3) := by decide +kernel
theorem d_W_law_475 : decode code 475 = .ok (.iconst 0, 1) := by decide +kernel
theorem d_W_law_476 : decode code 476 = .ok (.ireturn, 1) := by decide +kernel
theorem d_W_law_477 : decode code 477 = .ok (.aload_n 1, 1) := by decide +kernel
theorem d_W_law_478 : decode code 478 = .ok (.aload_n 0, 1) := by decide +kernel
theorem d_W_law_479 : decode code 479 = .ok (.iload_n 3, 1) := by decide +kernel
theorem d_W_law_480 : decode code 480 = .ok (.iconst 1, 1) := by decide +kernel
theorem d_W_law_481 : decode code 481 = .ok (.iadd, 1) := by decide +kernel
theorem d_W_law_482 : decode code 482 = .ok (.iaload, 1) := by decide +kernel
theorem d_W_law_483 : decode code 483 = .ok (.invokevirtual 87, 3) := by decide +kernel
theorem d_W_law_486 : decode code 486 = .ok (.aload_n 2, 1) := by decide +kernel
theorem d_W_law_487 : decode code 487 = .ok (.aload_n 0, 1) := by decide +kernel
theorem d_W_law_488 : decode code 488 = .ok (.iload_n 3, 1) := by decide +kernel
theorem d_W_law_489 : decode code 489 = .ok (.iconst 1, 1) := by decide +kernel
theorem d_W_law_490 : decode code 490 = .ok (.iadd, 1) := by decide +kernel
theorem d_W_law_491 : decode code 491 = .ok (.iaload, 1) := by decide +kernel
theorem d_W_law_492 : decode code 492 = .ok (.invokevirtual 90, 3) := by decide +kernel
theorem d_W_law_495 : decode code 495 = .ok (.if_icmp .eq 107, 3) := by decide +kernel
theorem d_W_law_498 : decode code 498 = .ok (.iconst 0, 1) := by decide +kernel
theorem d_W_law_499 : decode code 499 = .ok (.ireturn, 1) := by decide +kernel
theorem d_W_law_500 : decode code 500 = .ok (.aload_n 1, 1) := by decide +kernel
theorem d_W_law_501 : decode code 501 = .ok (.aload_n 0, 1) := by decide +kernel
theorem d_W_law_502 : decode code 502 = .ok (.iload_n 3, 1) := by decide +kernel
theorem d_W_law_503 : decode code 503 = .ok (.iconst 1, 1) := by decide +kernel
theorem d_W_law_504 : decode code 504 = .ok (.iadd, 1) := by decide +kernel
theorem d_W_law_505 : decode code 505 = .ok (.iaload, 1) := by decide +kernel
theorem d_W_law_506 : decode code 506 = .ok (.invokevirtual 91, 3) := by decide +kernel
theorem d_W_law_509 : decode code 509 = .ok (.aload_n 2, 1) := by decide +kernel
theorem d_W_law_510 : decode code 510 = .ok (.aload_n 0, 1) := by decide +kernel
theorem d_W_law_511 : decode code 511 = .ok (.iload_n 3, 1) := by decide +kernel
theorem d_W_law_512 : decode code 512 = .ok (.iconst 1, 1) := by decide +kernel
theorem d_W_law_513 : decode code 513 = .ok (.iadd, 1) := by decide +kernel
theorem d_W_law_514 : decode code 514 = .ok (.iaload, 1) := by decide +kernel
theorem d_W_law_515 : decode code 515 = .ok (.invokevirtual 94, 3) := by decide +kernel
theorem d_W_law_518 : decode code 518 = .ok (.if_icmp .eq 84, 3) := by decide +kernel
theorem d_W_law_521 : decode code 521 = .ok (.iconst 0, 1) := by decide +kernel
theorem d_W_law_522 : decode code 522 = .ok (.ireturn, 1) := by decide +kernel
theorem d_W_law_523 : decode code 523 = .ok (.aload_n 1, 1) := by decide +kernel
theorem d_W_law_524 : decode code 524 = .ok (.aload_n 0, 1) := by decide +kernel
theorem d_W_law_525 : decode code 525 = .ok (.iload_n 3, 1) := by decide +kernel
theorem d_W_law_526 : decode code 526 = .ok (.iconst 1, 1) := by decide +kernel
theorem d_W_law_527 : decode code 527 = .ok (.iadd, 1) := by decide +kernel
theorem d_W_law_528 : decode code 528 = .ok (.iaload, 1) := by decide +kernel
theorem d_W_law_529 : decode code 529 = .ok (.aload_n 0, 1) := by decide +kernel
theorem d_W_law_530 : decode code 530 = .ok (.iload_n 3, 1) := by decide +kernel
theorem d_W_law_531 : decode code 531 = .ok (.iconst 2, 1) := by decide +kernel
theorem d_W_law_532 : decode code 532 = .ok (.iadd, 1) := by decide +kernel
theorem d_W_law_533 : decode code 533 = .ok (.iaload, 1) := by decide +kernel
theorem d_W_law_534 : decode code 534 = .ok (.invokevirtual 95, 3) := by decide +kernel
theorem d_W_law_537 : decode code 537 = .ok (.aload_n 2, 1) := by decide +kernel
theorem d_W_law_538 : decode code 538 = .ok (.aload_n 0, 1) := by decide +kernel
theorem d_W_law_539 : decode code 539 = .ok (.iload_n 3, 1) := by decide +kernel
theorem d_W_law_540 : decode code 540 = .ok (.iconst 1, 1) := by decide +kernel
theorem d_W_law_541 : decode code 541 = .ok (.iadd, 1) := by decide +kernel
theorem d_W_law_542 : decode code 542 = .ok (.iaload, 1) := by decide +kernel
theorem d_W_law_543 : decode code 543 = .ok (.aload_n 0, 1) := by decide +kernel
theorem d_W_law_544 : decode code 544 = .ok (.iload_n 3, 1) := by decide +kernel
theorem d_W_law_545 : decode code 545 = .ok (.iconst 2, 1) := by decide +kernel
theorem d_W_law_546 : decode code 546 = .ok (.iadd, 1) := by decide +kernel
theorem d_W_law_547 : decode code 547 = .ok (.iaload, 1) := by decide +kernel
theorem d_W_law_548 : decode code 548 = .ok (.invokevirtual 98, 3) := by decide +kernel
theorem d_W_law_551 : decode code 551 = .ok (.if_icmp .eq 51, 3) := by decide +kernel
theorem d_W_law_554 : decode code 554 = .ok (.iconst 0, 1) := by decide +kernel
theorem d_W_law_555 : decode code 555 = .ok (.ireturn, 1) := by decide +kernel
theorem d_W_law_556 : decode code 556 = .ok (.aload_n 1, 1) := by decide +kernel
theorem d_W_law_557 : decode code 557 = .ok (.aload_n 0, 1) := by decide +kernel
theorem d_W_law_558 : decode code 558 = .ok (.iload_n 3, 1) := by decide +kernel
theorem d_W_law_559 : decode code 559 = .ok (.iconst 1, 1) := by decide +kernel
theorem d_W_law_560 : decode code 560 = .ok (.iadd, 1) := by decide +kernel
theorem d_W_law_561 : decode code 561 = .ok (.iaload, 1) := by decide +kernel
theorem d_W_law_562 : decode code 562 = .ok (.invokevirtual 99, 3) := by decide +kernel
theorem d_W_law_565 : decode code 565 = .ok (.aload_n 2, 1) := by decide +kernel
theorem d_W_law_566 : decode code 566 = .ok (.aload_n 0, 1) := by decide +kernel
theorem d_W_law_567 : decode code 567 = .ok (.iload_n 3, 1) := by decide +kernel
theorem d_W_law_568 : decode code 568 = .ok (.iconst 1, 1) := by decide +kernel
theorem d_W_law_569 : decode code 569 = .ok (.iadd, 1) := by decide +kernel
theorem d_W_law_570 : decode code 570 = .ok (.iaload, 1) := by decide +kernel
theorem d_W_law_571 : decode code 571 = .ok (.invokevirtual 102, 3) := by decide +kernel
theorem d_W_law_574 : decode code 574 = .ok (.if_icmp .eq 28, 3) := by decide +kernel
theorem d_W_law_577 : decode code 577 = .ok (.iconst 0, 1) := by decide +kernel
theorem d_W_law_578 : decode code 578 = .ok (.ireturn, 1) := by decide +kernel
theorem d_W_law_579 : decode code 579 = .ok (.aload_n 1, 1) := by decide +kernel
theorem d_W_law_580 : decode code 580 = .ok (.aload_n 0, 1) := by decide +kernel
theorem d_W_law_581 : decode code 581 = .ok (.iload_n 3, 1) := by decide +kernel
theorem d_W_law_582 : decode code 582 = .ok (.iconst 1, 1) := by decide +kernel
theorem d_W_law_583 : decode code 583 = .ok (.iadd, 1) := by decide +kernel
theorem d_W_law_584 : decode code 584 = .ok (.iaload, 1) := by decide +kernel
theorem d_W_law_585 : decode code 585 = .ok (.invokevirtual 103, 3) := by decide +kernel
theorem d_W_law_588 : decode code 588 = .ok (.aload_n 2, 1) := by decide +kernel
theorem d_W_law_589 : decode code 589 = .ok (.aload_n 0, 1) := by decide +kernel
theorem d_W_law_590 : decode code 590 = .ok (.iload_n 3, 1) := by decide +kernel
theorem d_W_law_591 : decode code 591 = .ok (.iconst 1, 1) := by decide +kernel
theorem d_W_law_592 : decode code 592 = .ok (.iadd, 1) := by decide +kernel
theorem d_W_law_593 : decode code 593 = .ok (.iaload, 1) := by decide +kernel
theorem d_W_law_594 : decode code 594 = .ok (.invokevirtual 106, 3) := by decide +kernel
theorem d_W_law_597 : decode code 597 = .ok (.if_icmp .eq 5, 3) := by decide +kernel
theorem d_W_law_600 : decode code 600 = .ok (.iconst 0, 1) := by decide +kernel
theorem d_W_law_601 : decode code 601 = .ok (.ireturn, 1) := by decide +kernel
theorem d_W_law_602 : decode code 602 = .ok (.iinc 3 4, 3) := by decide +kernel
theorem d_W_law_605 : decode code 605 = .ok (.goto (-587), 3) := by decide +kernel
theorem d_W_law_608 : decode code 608 = .ok (.iconst 1, 1) := by decide +kernel
theorem d_W_law_609 : decode code 609 = .ok (.ireturn, 1) := by decide +kernel
end
section
section
variable {p : Program} {l : Launch} {e : Env} {R : Room} {s : State} {m : MethodId} {args : Array Value} {below : List Frame} {meth : Method} {c : Code} {H : Heap} {locs : List Loc} {cells slots : Nat} {Q : State → Prop}
variable {cc : ByteArray} {nL : Nat} {own : String} {ret0 : Option FieldType} {D : va_G} {A : Nat → Prop} {pc : Nat} {ls : Array Slot} {rest st0 : List Value} {ws : va_W} {cI cZ cJ : ClassId} {h k : Nat → Nat} {u : XS} {w : MS}
theorem g_iVs {S : Type} {Wd : S → va_W} {post : Int32 → S → Prop} {y : MethodName} {b : ByteArray} {mL n idx a ci q0 : Nat} {ret' : Option FieldType} {rm : Room} {As : List Value} {Cn : String} {T : u_T} {N : Nat} {fs : List Value} {wc wr : va_W} {tys : List (ClassId × FieldType)} (isC isR : List Nat) (C : gC p s m args meth c cc nL own ret0 D tys A) (V : gV D A s ws H locs) (hC : isC.map (fun i => ws[i]?) = wc.map some) (hnC : va_nd isC = true) (hR : isR.map (fun i => ws[i]?) = wr.map some) (hn : va_nd isR = true) (hdis : ∀ i ∈ isR, i ∉ isC) (cs : csV own idx Cn y b mL ret' n) (hM : gMi l D tys Wd y b mL ret' rm 0 0 (.ref a :: As) wc post) (he : wc[q0]? = some (a, .inr (ci, fs))) (hc : cls[ci]? = some (Cn, T, N))
    (hRm : rm.cells = 0 ∧ rm.slots = 0 ∧ rm.frames + 1 ≤ R.frames ∧ 8 + (mL + 11) + rm.locals ≤ R.locals ∧ cells ≤ R.cells ∧ slots ≤ R.slots) (hlen : As.length = n) (hls : ls.size = nL) (hst : st0 = As.reverse ++ .ref a :: rest) (hrm : (rest.map fun v => v.category).sum ≤ 8) (hdg : decode cc pc = .ok (.invokevirtual idx, 3))
    (kk : ∀ (r : Int32) (u : S) (H : Heap) (locs : List Loc), post r u → gV D A s (wr ++ Wd u) H locs → W p l e R s m args below meth c H locs cells slots Q (F0 m (pc + 3) ls (.int r :: rest))) : W p l e R s m args below meth c H locs cells slots Q (F0 m pc ls st0) :=
  g_backi isC isR C V hC hR hn hdis (va_runV (As := As) (rest := rest) (Ts := w_all) ⟨C.x, C.b, C.ml, C.ow, C.ts⟩ (hM H.size) (cwV n C.ts cs.1 rfl hRm.1 hRm.2.1 cs.2 ⟨hRm.2.2.1, hRm.2.2.2.1⟩) ⟨gI.blind, va_recv C.K (V.sub isC hnC hC).1 hc he, gI.start C (V.sub isC hnC hC).1 (V.sub isC hnC hC).2.1⟩ rfl hlen hls hst (lv_room hrm) hdg ⟨hRm.2.2.2.2.1, hRm.2.2.2.2.2⟩) kk
theorem lw_iX {post : Int32 → XS → Prop} {y : MethodName} {b : ByteArray} {mL n idx : Nat} {ret' : Option FieldType} {rm : Room} {As : List Value} (C : gC p s m args meth c cc nL own ret0 D (ty3 cI cZ cJ) A) (V : gV D A s (XW h cI cZ u ++ MW k cI cZ cJ w) H locs) (cs : csV own idx R_X y b mL ret' n) (hM : gMi l D (ty3 cI cZ cJ) (XW h cI cZ) y b mL ret' rm 0 0 (.ref (h 0) :: As) (XW h cI cZ u) post)
    (hRm : rm.cells = 0 ∧ rm.slots = 0 ∧ rm.frames + 1 ≤ R.frames ∧ 8 + (mL + 11) + rm.locals ≤ R.locals ∧ cells ≤ R.cells ∧ slots ≤ R.slots) (hlen : As.length = n) (hls : ls.size = nL) (hst : st0 = As.reverse ++ .ref (h 0) :: rest) (hrm : (rest.map fun v => v.category).sum ≤ 8) (hdg : decode cc pc = .ok (.invokevirtual idx, 3))
    (kk : ∀ (r : Int32) (u : XS) (H : Heap) (locs : List Loc), post r u → gV D A s (MW k cI cZ cJ w ++ XW h cI cZ u) H locs → W p l e R s m args below meth c H locs cells slots Q (F0 m (pc + 3) ls (.int r :: rest))) : W p l e R s m args below meth c H locs cells slots Q (F0 m pc ls st0) :=
  g_iVs (q0 := 0) [0, 1, 2, 3, 4, 5, 6] [7, 8, 9, 10, 11, 12, 13, 14] C V rfl rfl rfl rfl (by decide) cs hM rfl rfl hRm hlen hls hst hrm hdg kk
theorem lw_iM {post : Int32 → MS → Prop} {y : MethodName} {b : ByteArray} {mL n idx : Nat} {ret' : Option FieldType} {rm : Room} {As : List Value} (C : gC p s m args meth c cc nL own ret0 D (ty3 cI cZ cJ) A) (V : gV D A s (MW k cI cZ cJ w ++ XW h cI cZ u) H locs) (cs : csV own idx R_M y b mL ret' n) (hM : gMi l D (ty3 cI cZ cJ) (MW k cI cZ cJ) y b mL ret' rm 0 0 (.ref (k 0) :: As) (MW k cI cZ cJ w) post)
    (hRm : rm.cells = 0 ∧ rm.slots = 0 ∧ rm.frames + 1 ≤ R.frames ∧ 8 + (mL + 11) + rm.locals ≤ R.locals ∧ cells ≤ R.cells ∧ slots ≤ R.slots) (hlen : As.length = n) (hls : ls.size = nL) (hst : st0 = As.reverse ++ .ref (k 0) :: rest) (hrm : (rest.map fun v => v.category).sum ≤ 8) (hdg : decode cc pc = .ok (.invokevirtual idx, 3))
    (kk : ∀ (r : Int32) (w : MS) (H : Heap) (locs : List Loc), post r w → gV D A s (XW h cI cZ u ++ MW k cI cZ cJ w) H locs → W p l e R s m args below meth c H locs cells slots Q (F0 m (pc + 3) ls (.int r :: rest))) : W p l e R s m args below meth c H locs cells slots Q (F0 m pc ls st0) :=
  g_iVs (q0 := 0) [0, 1, 2, 3, 4, 5, 6, 7] [8, 9, 10, 11, 12, 13, 14] C V rfl rfl rfl rfl (by decide) cs hM rfl rfl hRm hlen hls hst hrm hdg kk
theorem lw_ld {x : Int32} {b L : Nat} {xs : Nat → Int32} (j : Nat) (C : gC p s m args meth c cc nL own ret0 D (ty3 cI cZ cJ) A) (hX : va_X b L xs s s.heap) (hbl : b < s.heap.size) (hbA : ¬ A b) (hL : L ≤ 2048) (V : gV D A s ws H locs) (hi : x = nI j) (hj : j < L) (hdg : decode cc pc = .ok (.iaload, 1)) (kk : W p l e R s m args below meth c H locs cells slots Q (F0 m (pc + 1) ls (.int (xs j) :: rest))) : W p l e R s m args below meth c H locs cells slots Q (F0 m pc ls (.int x :: .ref b :: rest)) := by
  subst hi
  exact va_sld C.x C.b hX hbl hbA V.2.2 (vp_in_nI hj (by omega)) hdg (by rw [nI_clamp (by omega)]; exact kk)
end
section
variable {lx : Launch} {D : va_G} {h : Nat → Nat} {cI cZ cJ : ClassId}
set_option maxHeartbeats 400000 in
set_option maxRecDepth 20000 in
theorem law_c0 {pg : Program} {ev : Env} {st : State} {md : MethodId} {bl : List Frame} {mt : Method} {cd : Code} {A : Nat → Prop} {Q : State → Prop} {b L i : Nat} {xs : Nat → Int32} {k : Nat → Nat} (C : gC pg st md #[Value.ref b] mt cd code 4 R_W ret D (ty3 cI cZ cJ) A) (hX : va_X b L xs st st.heap) (hbl : b < st.heap.size) (hbA : ¬ A b) (hL : L ≤ 2048) (hi : i + 4 ≤ L) {a : AS} {u : XS} {w : MS} {B : Nat} (X : RX u a) (Y : RM w a) (I : Inv a) (P : Prs a) (T : Td a B) (hB : B < 2 ^ 18) (K : ∀ (a2 : AS) (u2 : XS) (w2 : MS), RX u2 a2 → RM w2 a2 → OK a2 (B + 41) → ∀ (H : Heap) (locs : List Loc) (ls : Array Slot), gV D A st (XW h cI cZ u2 ++ MW k cI cZ cJ w2) H locs → lv_has ls 4 [(0, .ref b), (1, .ref (h 0)), (2, .ref (k 0)), (3, .int (nI i))] → W pg lx ev room_1 st md #[Value.ref b] bl mt cd H locs 15 577 Q (F0 md 602 ls [])) : ∀ (H : Heap) (locs : List Loc) (ls : Array Slot), gV D A st (XW h cI cZ u ++ MW k cI cZ cJ w) H locs → lv_has ls 4 [(0, .ref b), (1, .ref (h 0)), (2, .ref (k 0)), (3, .int (nI i))] → W pg lx ev room_1 st md #[Value.ref b] bl mt cd H locs 15 577 Q (F0 md 136 ls []) := by
  intro H locs ls V hl
  have hE : ∀ s, aE a s < 2 ^ 20 := fun s => by have := T.1.2 s; omega
  refine lv_aload_n C.x C.b d_W_law_136 rfl (lv_at hl 1 rfl) ?_
  refine lv_aload_n C.x C.b d_W_law_137 rfl (lv_at hl 0 rfl) ?_
  refine lv_iload_n C.x C.b d_W_law_138 rfl (lv_at hl 3 rfl) ?_
  refine lv_iconst (v := 1) C.x C.b d_W_law_139 (by decide) ?_
  refine lv_iadd C.x C.b d_W_law_140 ?_
  refine lw_ld (i + 1) C hX hbl hbA hL V (by rw [show (1 : Int32) = nI 1 from rfl, nI_add]) (by omega) d_W_law_141 ?_
  refine lv_aload_n C.x C.b d_W_law_142 rfl (lv_at hl 0 rfl) ?_
  refine lv_iload_n C.x C.b d_W_law_143 rfl (lv_at hl 3 rfl) ?_
  refine lv_iconst (v := 2) C.x C.b d_W_law_144 (by decide) ?_
  refine lv_iadd C.x C.b d_W_law_145 ?_
  refine lw_ld (i + 2) C hX hbl hbA hL V (by rw [show (2 : Int32) = nI 2 from rfl, nI_add]) (by omega) d_W_law_146 ?_
  refine lv_aload_n C.x C.b d_W_law_147 rfl (lv_at hl 0 rfl) ?_
  refine lv_iload_n C.x C.b d_W_law_148 rfl (lv_at hl 3 rfl) ?_
  refine lv_iconst (v := 3) C.x C.b d_W_law_149 (by decide) ?_
  refine lv_iadd C.x C.b d_W_law_150 ?_
  refine lw_ld (i + 3) C hX hbl hbA hL V (by rw [show (3 : Int32) = nI 3 from rfl, nI_add]) (by omega) d_W_law_151 ?_
  refine lw_iX (As := [.int (xs (i + 1)), .int (xs (i + 2)), .int (xs (i + 3))]) (rest := []) C V cs_W_13 (c_X_make X I (xs (i + 1)) (xs (i + 2)) (xs (i + 3))) (by decide) rfl hl.1 rfl (Nat.le_of_ble_eq_true rfl) d_W_law_152 (fun r0 u0 H locs w0 V => ?_)
  refine lv_aload_n C.x C.b d_W_law_155 rfl (lv_at hl 2 rfl) ?_
  refine lv_aload_n C.x C.b d_W_law_156 rfl (lv_at hl 0 rfl) ?_
  refine lv_iload_n C.x C.b d_W_law_157 rfl (lv_at hl 3 rfl) ?_
  refine lv_iconst (v := 1) C.x C.b d_W_law_158 (by decide) ?_
  refine lv_iadd C.x C.b d_W_law_159 ?_
  refine lw_ld (i + 1) C hX hbl hbA hL V (by rw [show (1 : Int32) = nI 1 from rfl, nI_add]) (by omega) d_W_law_160 ?_
  refine lv_aload_n C.x C.b d_W_law_161 rfl (lv_at hl 0 rfl) ?_
  refine lv_iload_n C.x C.b d_W_law_162 rfl (lv_at hl 3 rfl) ?_
  refine lv_iconst (v := 2) C.x C.b d_W_law_163 (by decide) ?_
  refine lv_iadd C.x C.b d_W_law_164 ?_
  refine lw_ld (i + 2) C hX hbl hbA hL V (by rw [show (2 : Int32) = nI 2 from rfl, nI_add]) (by omega) d_W_law_165 ?_
  refine lv_aload_n C.x C.b d_W_law_166 rfl (lv_at hl 0 rfl) ?_
  refine lv_iload_n C.x C.b d_W_law_167 rfl (lv_at hl 3 rfl) ?_
  refine lv_iconst (v := 3) C.x C.b d_W_law_168 (by decide) ?_
  refine lv_iadd C.x C.b d_W_law_169 ?_
  refine lw_ld (i + 3) C hX hbl hbA hL V (by rw [show (3 : Int32) = nI 3 from rfl, nI_add]) (by omega) d_W_law_170 ?_
  refine lw_iM (As := [.int (xs (i + 1)), .int (xs (i + 2)), .int (xs (i + 3))]) (rest := [.int r0]) C V cs_W_17 (c_M_make Y I (xs (i + 1)) (xs (i + 2)) (xs (i + 3))) (by decide) rfl hl.1 rfl (Nat.le_of_ble_eq_true rfl) d_W_law_171 (fun r1 u1 H locs w1 V => ?_)
  refine lv_icmp_eq (tgt := 602) C.x C.b d_W_law_174 (by decide) (fun c9 => ?_) (fun c9 => ?_)
  · exact K _ _ _ w0.2 w1.2 (ok_make ⟨I, P, T⟩ (xs (i + 1)) (xs (i + 2)) (xs (i + 3))) H locs ls V hl
  · exact absurd (w0.1.trans w1.1.symm) c9
set_option maxHeartbeats 400000 in
set_option maxRecDepth 20000 in
theorem law_c1 {pg : Program} {ev : Env} {st : State} {md : MethodId} {bl : List Frame} {mt : Method} {cd : Code} {A : Nat → Prop} {Q : State → Prop} {b L i : Nat} {xs : Nat → Int32} {k : Nat → Nat} (C : gC pg st md #[Value.ref b] mt cd code 4 R_W ret D (ty3 cI cZ cJ) A) (hX : va_X b L xs st st.heap) (hbl : b < st.heap.size) (hbA : ¬ A b) (hL : L ≤ 2048) (hi : i + 4 ≤ L) {a : AS} {u : XS} {w : MS} {B : Nat} (X : RX u a) (Y : RM w a) (I : Inv a) (P : Prs a) (T : Td a B) (hB : B < 2 ^ 18) (K : ∀ (a2 : AS) (u2 : XS) (w2 : MS), RX u2 a2 → RM w2 a2 → OK a2 (B + 41) → ∀ (H : Heap) (locs : List Loc) (ls : Array Slot), gV D A st (XW h cI cZ u2 ++ MW k cI cZ cJ w2) H locs → lv_has ls 4 [(0, .ref b), (1, .ref (h 0)), (2, .ref (k 0)), (3, .int (nI i))] → W pg lx ev room_1 st md #[Value.ref b] bl mt cd H locs 15 577 Q (F0 md 602 ls [])) : ∀ (H : Heap) (locs : List Loc) (ls : Array Slot), gV D A st (XW h cI cZ u ++ MW k cI cZ cJ w) H locs → lv_has ls 4 [(0, .ref b), (1, .ref (h 0)), (2, .ref (k 0)), (3, .int (nI i))] → W pg lx ev room_1 st md #[Value.ref b] bl mt cd H locs 15 577 Q (F0 md 179 ls []) := by
  intro H locs ls V hl
  have hE : ∀ s, aE a s < 2 ^ 20 := fun s => by have := T.1.2 s; omega
  refine lv_aload_n C.x C.b d_W_law_179 rfl (lv_at hl 1 rfl) ?_
  refine lv_aload_n C.x C.b d_W_law_180 rfl (lv_at hl 0 rfl) ?_
  refine lv_iload_n C.x C.b d_W_law_181 rfl (lv_at hl 3 rfl) ?_
  refine lv_iconst (v := 1) C.x C.b d_W_law_182 (by decide) ?_
  refine lv_iadd C.x C.b d_W_law_183 ?_
  refine lw_ld (i + 1) C hX hbl hbA hL V (by rw [show (1 : Int32) = nI 1 from rfl, nI_add]) (by omega) d_W_law_184 ?_
  refine lw_iX (As := [.int (xs (i + 1))]) (rest := []) C V cs_W_18 (c_X_resume X I P (xs (i + 1))) (by decide) rfl hl.1 rfl (Nat.le_of_ble_eq_true rfl) d_W_law_185 (fun r0 u0 H locs w0 V => ?_)
  refine lv_aload_n C.x C.b d_W_law_188 rfl (lv_at hl 2 rfl) ?_
  refine lv_aload_n C.x C.b d_W_law_189 rfl (lv_at hl 0 rfl) ?_
  refine lv_iload_n C.x C.b d_W_law_190 rfl (lv_at hl 3 rfl) ?_
  refine lv_iconst (v := 1) C.x C.b d_W_law_191 (by decide) ?_
  refine lv_iadd C.x C.b d_W_law_192 ?_
  refine lw_ld (i + 1) C hX hbl hbA hL V (by rw [show (1 : Int32) = nI 1 from rfl, nI_add]) (by omega) d_W_law_193 ?_
  refine lw_iM (As := [.int (xs (i + 1))]) (rest := [.int r0]) C V cs_W_22 (c_M_resume Y I P (xs (i + 1))) (by decide) rfl hl.1 rfl (Nat.le_of_ble_eq_true rfl) d_W_law_194 (fun r1 u1 H locs w1 V => ?_)
  refine lv_icmp_eq (tgt := 602) C.x C.b d_W_law_197 (by decide) (fun c9 => ?_) (fun c9 => ?_)
  · exact K _ _ _ w0.2 w1.2 (ok_resume ⟨I, P, T⟩ (xs (i + 1))) H locs ls V hl
  · exact absurd (w0.1.trans w1.1.symm) c9
set_option maxHeartbeats 400000 in
set_option maxRecDepth 20000 in
theorem law_c2 {pg : Program} {ev : Env} {st : State} {md : MethodId} {bl : List Frame} {mt : Method} {cd : Code} {A : Nat → Prop} {Q : State → Prop} {b L i : Nat} {xs : Nat → Int32} {k : Nat → Nat} (C : gC pg st md #[Value.ref b] mt cd code 4 R_W ret D (ty3 cI cZ cJ) A) (hX : va_X b L xs st st.heap) (hbl : b < st.heap.size) (hbA : ¬ A b) (hL : L ≤ 2048) (hi : i + 4 ≤ L) {a : AS} {u : XS} {w : MS} {B : Nat} (X : RX u a) (Y : RM w a) (I : Inv a) (P : Prs a) (T : Td a B) (hB : B < 2 ^ 18) (K : ∀ (a2 : AS) (u2 : XS) (w2 : MS), RX u2 a2 → RM w2 a2 → OK a2 (B + 41) → ∀ (H : Heap) (locs : List Loc) (ls : Array Slot), gV D A st (XW h cI cZ u2 ++ MW k cI cZ cJ w2) H locs → lv_has ls 4 [(0, .ref b), (1, .ref (h 0)), (2, .ref (k 0)), (3, .int (nI i))] → W pg lx ev room_1 st md #[Value.ref b] bl mt cd H locs 15 577 Q (F0 md 602 ls [])) : ∀ (H : Heap) (locs : List Loc) (ls : Array Slot), gV D A st (XW h cI cZ u ++ MW k cI cZ cJ w) H locs → lv_has ls 4 [(0, .ref b), (1, .ref (h 0)), (2, .ref (k 0)), (3, .int (nI i))] → W pg lx ev room_1 st md #[Value.ref b] bl mt cd H locs 15 577 Q (F0 md 202 ls []) := by
  intro H locs ls V hl
  have hE : ∀ s, aE a s < 2 ^ 20 := fun s => by have := T.1.2 s; omega
  refine lv_aload_n C.x C.b d_W_law_202 rfl (lv_at hl 1 rfl) ?_
  refine lw_iX (As := []) (rest := []) C V cs_W_23 (c_X_suspend X I P ) (by decide) rfl hl.1 rfl (Nat.le_of_ble_eq_true rfl) d_W_law_203 (fun r0 u0 H locs w0 V => ?_)
  refine lv_aload_n C.x C.b d_W_law_206 rfl (lv_at hl 2 rfl) ?_
  refine lw_iM (As := []) (rest := [.int r0]) C V cs_W_27 (c_M_suspend Y I P B T (by omega) ) (by decide) rfl hl.1 rfl (Nat.le_of_ble_eq_true rfl) d_W_law_207 (fun r1 u1 H locs w1 V => ?_)
  refine lv_icmp_eq (tgt := 602) C.x C.b d_W_law_210 (by decide) (fun c9 => ?_) (fun c9 => ?_)
  · exact K _ _ _ w0.2 w1.2 (ok_suspend ⟨I, P, T⟩ ) H locs ls V hl
  · exact absurd (w0.1.trans w1.1.symm) c9
set_option maxHeartbeats 400000 in
set_option maxRecDepth 20000 in
theorem law_c3 {pg : Program} {ev : Env} {st : State} {md : MethodId} {bl : List Frame} {mt : Method} {cd : Code} {A : Nat → Prop} {Q : State → Prop} {b L i : Nat} {xs : Nat → Int32} {k : Nat → Nat} (C : gC pg st md #[Value.ref b] mt cd code 4 R_W ret D (ty3 cI cZ cJ) A) (hX : va_X b L xs st st.heap) (hbl : b < st.heap.size) (hbA : ¬ A b) (hL : L ≤ 2048) (hi : i + 4 ≤ L) {a : AS} {u : XS} {w : MS} {B : Nat} (X : RX u a) (Y : RM w a) (I : Inv a) (P : Prs a) (T : Td a B) (hB : B < 2 ^ 18) (K : ∀ (a2 : AS) (u2 : XS) (w2 : MS), RX u2 a2 → RM w2 a2 → OK a2 (B + 41) → ∀ (H : Heap) (locs : List Loc) (ls : Array Slot), gV D A st (XW h cI cZ u2 ++ MW k cI cZ cJ w2) H locs → lv_has ls 4 [(0, .ref b), (1, .ref (h 0)), (2, .ref (k 0)), (3, .int (nI i))] → W pg lx ev room_1 st md #[Value.ref b] bl mt cd H locs 15 577 Q (F0 md 602 ls [])) : ∀ (H : Heap) (locs : List Loc) (ls : Array Slot), gV D A st (XW h cI cZ u ++ MW k cI cZ cJ w) H locs → lv_has ls 4 [(0, .ref b), (1, .ref (h 0)), (2, .ref (k 0)), (3, .int (nI i))] → W pg lx ev room_1 st md #[Value.ref b] bl mt cd H locs 15 577 Q (F0 md 215 ls []) := by
  intro H locs ls V hl
  have hE : ∀ s, aE a s < 2 ^ 20 := fun s => by have := T.1.2 s; omega
  refine lv_aload_n C.x C.b d_W_law_215 rfl (lv_at hl 1 rfl) ?_
  refine lw_iX (As := []) (rest := []) C V cs_W_28 (c_X_end X I P ) (by decide) rfl hl.1 rfl (Nat.le_of_ble_eq_true rfl) d_W_law_216 (fun r0 u0 H locs w0 V => ?_)
  refine lv_aload_n C.x C.b d_W_law_219 rfl (lv_at hl 2 rfl) ?_
  refine lw_iM (As := []) (rest := [.int r0]) C V cs_W_31 (c_M_end Y I P B T (by omega) ) (by decide) rfl hl.1 rfl (Nat.le_of_ble_eq_true rfl) d_W_law_220 (fun r1 u1 H locs w1 V => ?_)
  refine lv_icmp_eq (tgt := 602) C.x C.b d_W_law_223 (by decide) (fun c9 => ?_) (fun c9 => ?_)
  · exact K _ _ _ w0.2 w1.2 (ok_end ⟨I, P, T⟩ ) H locs ls V hl
  · exact absurd (w0.1.trans w1.1.symm) c9
set_option maxHeartbeats 400000 in
set_option maxRecDepth 20000 in
theorem law_c4 {pg : Program} {ev : Env} {st : State} {md : MethodId} {bl : List Frame} {mt : Method} {cd : Code} {A : Nat → Prop} {Q : State → Prop} {b L i : Nat} {xs : Nat → Int32} {k : Nat → Nat} (C : gC pg st md #[Value.ref b] mt cd code 4 R_W ret D (ty3 cI cZ cJ) A) (hX : va_X b L xs st st.heap) (hbl : b < st.heap.size) (hbA : ¬ A b) (hL : L ≤ 2048) (hi : i + 4 ≤ L) {a : AS} {u : XS} {w : MS} {B : Nat} (X : RX u a) (Y : RM w a) (I : Inv a) (P : Prs a) (T : Td a B) (hB : B < 2 ^ 18) (K : ∀ (a2 : AS) (u2 : XS) (w2 : MS), RX u2 a2 → RM w2 a2 → OK a2 (B + 41) → ∀ (H : Heap) (locs : List Loc) (ls : Array Slot), gV D A st (XW h cI cZ u2 ++ MW k cI cZ cJ w2) H locs → lv_has ls 4 [(0, .ref b), (1, .ref (h 0)), (2, .ref (k 0)), (3, .int (nI i))] → W pg lx ev room_1 st md #[Value.ref b] bl mt cd H locs 15 577 Q (F0 md 602 ls [])) : ∀ (H : Heap) (locs : List Loc) (ls : Array Slot), gV D A st (XW h cI cZ u ++ MW k cI cZ cJ w) H locs → lv_has ls 4 [(0, .ref b), (1, .ref (h 0)), (2, .ref (k 0)), (3, .int (nI i))] → W pg lx ev room_1 st md #[Value.ref b] bl mt cd H locs 15 577 Q (F0 md 228 ls []) := by
  intro H locs ls V hl
  have hE : ∀ s, aE a s < 2 ^ 20 := fun s => by have := T.1.2 s; omega
  refine lv_aload_n C.x C.b d_W_law_228 rfl (lv_at hl 1 rfl) ?_
  refine lv_aload_n C.x C.b d_W_law_229 rfl (lv_at hl 0 rfl) ?_
  refine lv_iload_n C.x C.b d_W_law_230 rfl (lv_at hl 3 rfl) ?_
  refine lv_iconst (v := 1) C.x C.b d_W_law_231 (by decide) ?_
  refine lv_iadd C.x C.b d_W_law_232 ?_
  refine lw_ld (i + 1) C hX hbl hbA hL V (by rw [show (1 : Int32) = nI 1 from rfl, nI_add]) (by omega) d_W_law_233 ?_
  refine lw_iX (As := [.int (xs (i + 1))]) (rest := []) C V cs_W_32 (c_X_await X I P hE (xs (i + 1))) (by decide) rfl hl.1 rfl (Nat.le_of_ble_eq_true rfl) d_W_law_234 (fun r0 u0 H locs w0 V => ?_)
  refine lv_aload_n C.x C.b d_W_law_237 rfl (lv_at hl 2 rfl) ?_
  refine lv_aload_n C.x C.b d_W_law_238 rfl (lv_at hl 0 rfl) ?_
  refine lv_iload_n C.x C.b d_W_law_239 rfl (lv_at hl 3 rfl) ?_
  refine lv_iconst (v := 1) C.x C.b d_W_law_240 (by decide) ?_
  refine lv_iadd C.x C.b d_W_law_241 ?_
  refine lw_ld (i + 1) C hX hbl hbA hL V (by rw [show (1 : Int32) = nI 1 from rfl, nI_add]) (by omega) d_W_law_242 ?_
  refine lw_iM (As := [.int (xs (i + 1))]) (rest := [.int r0]) C V cs_W_36 (c_M_await Y I P B T (by omega) hE (xs (i + 1))) (by decide) rfl hl.1 rfl (Nat.le_of_ble_eq_true rfl) d_W_law_243 (fun r1 u1 H locs w1 V => ?_)
  refine lv_icmp_eq (tgt := 602) C.x C.b d_W_law_246 (by decide) (fun c9 => ?_) (fun c9 => ?_)
  · exact K _ _ _ w0.2 w1.2 (ok_await ⟨I, P, T⟩ (xs (i + 1))) H locs ls V hl
  · exact absurd (w0.1.trans w1.1.symm) c9
set_option maxHeartbeats 400000 in
set_option maxRecDepth 20000 in
theorem law_c5 {pg : Program} {ev : Env} {st : State} {md : MethodId} {bl : List Frame} {mt : Method} {cd : Code} {A : Nat → Prop} {Q : State → Prop} {b L i : Nat} {xs : Nat → Int32} {k : Nat → Nat} (C : gC pg st md #[Value.ref b] mt cd code 4 R_W ret D (ty3 cI cZ cJ) A) (hX : va_X b L xs st st.heap) (hbl : b < st.heap.size) (hbA : ¬ A b) (hL : L ≤ 2048) (hi : i + 4 ≤ L) {a : AS} {u : XS} {w : MS} {B : Nat} (X : RX u a) (Y : RM w a) (I : Inv a) (P : Prs a) (T : Td a B) (hB : B < 2 ^ 18) (K : ∀ (a2 : AS) (u2 : XS) (w2 : MS), RX u2 a2 → RM w2 a2 → OK a2 (B + 41) → ∀ (H : Heap) (locs : List Loc) (ls : Array Slot), gV D A st (XW h cI cZ u2 ++ MW k cI cZ cJ w2) H locs → lv_has ls 4 [(0, .ref b), (1, .ref (h 0)), (2, .ref (k 0)), (3, .int (nI i))] → W pg lx ev room_1 st md #[Value.ref b] bl mt cd H locs 15 577 Q (F0 md 602 ls [])) : ∀ (H : Heap) (locs : List Loc) (ls : Array Slot), gV D A st (XW h cI cZ u ++ MW k cI cZ cJ w) H locs → lv_has ls 4 [(0, .ref b), (1, .ref (h 0)), (2, .ref (k 0)), (3, .int (nI i))] → W pg lx ev room_1 st md #[Value.ref b] bl mt cd H locs 15 577 Q (F0 md 251 ls []) := by
  intro H locs ls V hl
  have hE : ∀ s, aE a s < 2 ^ 20 := fun s => by have := T.1.2 s; omega
  refine lv_aload_n C.x C.b d_W_law_251 rfl (lv_at hl 1 rfl) ?_
  refine lv_aload_n C.x C.b d_W_law_252 rfl (lv_at hl 0 rfl) ?_
  refine lv_iload_n C.x C.b d_W_law_253 rfl (lv_at hl 3 rfl) ?_
  refine lv_iconst (v := 1) C.x C.b d_W_law_254 (by decide) ?_
  refine lv_iadd C.x C.b d_W_law_255 ?_
  refine lw_ld (i + 1) C hX hbl hbA hL V (by rw [show (1 : Int32) = nI 1 from rfl, nI_add]) (by omega) d_W_law_256 ?_
  refine lw_iX (As := [.int (xs (i + 1))]) (rest := []) C V cs_W_37 (c_X_signal X I P hE (xs (i + 1))) (by decide) rfl hl.1 rfl (Nat.le_of_ble_eq_true rfl) d_W_law_257 (fun r0 u0 H locs w0 V => ?_)
  refine lv_aload_n C.x C.b d_W_law_260 rfl (lv_at hl 2 rfl) ?_
  refine lv_aload_n C.x C.b d_W_law_261 rfl (lv_at hl 0 rfl) ?_
  refine lv_iload_n C.x C.b d_W_law_262 rfl (lv_at hl 3 rfl) ?_
  refine lv_iconst (v := 1) C.x C.b d_W_law_263 (by decide) ?_
  refine lv_iadd C.x C.b d_W_law_264 ?_
  refine lw_ld (i + 1) C hX hbl hbA hL V (by rw [show (1 : Int32) = nI 1 from rfl, nI_add]) (by omega) d_W_law_265 ?_
  refine lw_iM (As := [.int (xs (i + 1))]) (rest := [.int r0]) C V cs_W_40 (c_M_signal Y I P B T (by omega) (xs (i + 1))) (by decide) rfl hl.1 rfl (Nat.le_of_ble_eq_true rfl) d_W_law_266 (fun r1 u1 H locs w1 V => ?_)
  refine lv_icmp_eq (tgt := 602) C.x C.b d_W_law_269 (by decide) (fun c9 => ?_) (fun c9 => ?_)
  · exact K _ _ _ w0.2 w1.2 (ok_signal ⟨I, P, T⟩ (xs (i + 1))) H locs ls V hl
  · exact absurd (w0.1.trans w1.1.symm) c9
set_option maxHeartbeats 400000 in
set_option maxRecDepth 20000 in
theorem law_c6 {pg : Program} {ev : Env} {st : State} {md : MethodId} {bl : List Frame} {mt : Method} {cd : Code} {A : Nat → Prop} {Q : State → Prop} {b L i : Nat} {xs : Nat → Int32} {k : Nat → Nat} (C : gC pg st md #[Value.ref b] mt cd code 4 R_W ret D (ty3 cI cZ cJ) A) (hX : va_X b L xs st st.heap) (hbl : b < st.heap.size) (hbA : ¬ A b) (hL : L ≤ 2048) (hi : i + 4 ≤ L) {a : AS} {u : XS} {w : MS} {B : Nat} (X : RX u a) (Y : RM w a) (I : Inv a) (P : Prs a) (T : Td a B) (hB : B < 2 ^ 18) (K : ∀ (a2 : AS) (u2 : XS) (w2 : MS), RX u2 a2 → RM w2 a2 → OK a2 (B + 41) → ∀ (H : Heap) (locs : List Loc) (ls : Array Slot), gV D A st (XW h cI cZ u2 ++ MW k cI cZ cJ w2) H locs → lv_has ls 4 [(0, .ref b), (1, .ref (h 0)), (2, .ref (k 0)), (3, .int (nI i))] → W pg lx ev room_1 st md #[Value.ref b] bl mt cd H locs 15 577 Q (F0 md 602 ls [])) : ∀ (H : Heap) (locs : List Loc) (ls : Array Slot), gV D A st (XW h cI cZ u ++ MW k cI cZ cJ w) H locs → lv_has ls 4 [(0, .ref b), (1, .ref (h 0)), (2, .ref (k 0)), (3, .int (nI i))] → W pg lx ev room_1 st md #[Value.ref b] bl mt cd H locs 15 577 Q (F0 md 274 ls []) := by
  intro H locs ls V hl
  have hE : ∀ s, aE a s < 2 ^ 20 := fun s => by have := T.1.2 s; omega
  refine lv_aload_n C.x C.b d_W_law_274 rfl (lv_at hl 1 rfl) ?_
  refine lv_aload_n C.x C.b d_W_law_275 rfl (lv_at hl 0 rfl) ?_
  refine lv_iload_n C.x C.b d_W_law_276 rfl (lv_at hl 3 rfl) ?_
  refine lv_iconst (v := 1) C.x C.b d_W_law_277 (by decide) ?_
  refine lv_iadd C.x C.b d_W_law_278 ?_
  refine lw_ld (i + 1) C hX hbl hbA hL V (by rw [show (1 : Int32) = nI 1 from rfl, nI_add]) (by omega) d_W_law_279 ?_
  refine lw_iX (As := [.int (xs (i + 1))]) (rest := []) C V cs_W_41 (c_X_post X I (xs (i + 1))) (by decide) rfl hl.1 rfl (Nat.le_of_ble_eq_true rfl) d_W_law_280 (fun r0 u0 H locs w0 V => ?_)
  refine lv_aload_n C.x C.b d_W_law_283 rfl (lv_at hl 2 rfl) ?_
  refine lv_aload_n C.x C.b d_W_law_284 rfl (lv_at hl 0 rfl) ?_
  refine lv_iload_n C.x C.b d_W_law_285 rfl (lv_at hl 3 rfl) ?_
  refine lv_iconst (v := 1) C.x C.b d_W_law_286 (by decide) ?_
  refine lv_iadd C.x C.b d_W_law_287 ?_
  refine lw_ld (i + 1) C hX hbl hbA hL V (by rw [show (1 : Int32) = nI 1 from rfl, nI_add]) (by omega) d_W_law_288 ?_
  refine lw_iM (As := [.int (xs (i + 1))]) (rest := [.int r0]) C V cs_W_44 (c_M_post Y I (xs (i + 1))) (by decide) rfl hl.1 rfl (Nat.le_of_ble_eq_true rfl) d_W_law_289 (fun r1 u1 H locs w1 V => ?_)
  refine lv_icmp_eq (tgt := 602) C.x C.b d_W_law_292 (by decide) (fun c9 => ?_) (fun c9 => ?_)
  · exact K _ _ _ w0.2 w1.2 (ok_post ⟨I, P, T⟩ (xs (i + 1))) H locs ls V hl
  · exact absurd (w0.1.trans w1.1.symm) c9
set_option maxHeartbeats 400000 in
set_option maxRecDepth 20000 in
theorem law_c7 {pg : Program} {ev : Env} {st : State} {md : MethodId} {bl : List Frame} {mt : Method} {cd : Code} {A : Nat → Prop} {Q : State → Prop} {b L i : Nat} {xs : Nat → Int32} {k : Nat → Nat} (C : gC pg st md #[Value.ref b] mt cd code 4 R_W ret D (ty3 cI cZ cJ) A) (hX : va_X b L xs st st.heap) (hbl : b < st.heap.size) (hbA : ¬ A b) (hL : L ≤ 2048) (hi : i + 4 ≤ L) {a : AS} {u : XS} {w : MS} {B : Nat} (X : RX u a) (Y : RM w a) (I : Inv a) (P : Prs a) (T : Td a B) (hB : B < 2 ^ 18) (K : ∀ (a2 : AS) (u2 : XS) (w2 : MS), RX u2 a2 → RM w2 a2 → OK a2 (B + 41) → ∀ (H : Heap) (locs : List Loc) (ls : Array Slot), gV D A st (XW h cI cZ u2 ++ MW k cI cZ cJ w2) H locs → lv_has ls 4 [(0, .ref b), (1, .ref (h 0)), (2, .ref (k 0)), (3, .int (nI i))] → W pg lx ev room_1 st md #[Value.ref b] bl mt cd H locs 15 577 Q (F0 md 602 ls [])) : ∀ (H : Heap) (locs : List Loc) (ls : Array Slot), gV D A st (XW h cI cZ u ++ MW k cI cZ cJ w) H locs → lv_has ls 4 [(0, .ref b), (1, .ref (h 0)), (2, .ref (k 0)), (3, .int (nI i))] → W pg lx ev room_1 st md #[Value.ref b] bl mt cd H locs 15 577 Q (F0 md 297 ls []) := by
  intro H locs ls V hl
  have hE : ∀ s, aE a s < 2 ^ 20 := fun s => by have := T.1.2 s; omega
  refine lv_aload_n C.x C.b d_W_law_297 rfl (lv_at hl 1 rfl) ?_
  refine lw_iX (As := []) (rest := []) C V cs_W_45 (c_X_step X I P B T.1 (by omega)) (by decide) rfl hl.1 rfl (Nat.le_of_ble_eq_true rfl) d_W_law_298 (fun r0 u0 H locs w0 V => ?_)
  refine lv_aload_n C.x C.b d_W_law_301 rfl (lv_at hl 2 rfl) ?_
  refine lw_iM (As := []) (rest := [.int r0]) C V cs_W_48 (c_M_step Y I P B T (by omega) ) (by decide) rfl hl.1 rfl (Nat.le_of_ble_eq_true rfl) d_W_law_302 (fun r1 u1 H locs w1 V => ?_)
  refine lv_icmp_eq (tgt := 602) C.x C.b d_W_law_305 (by decide) (fun c9 => ?_) (fun c9 => ?_)
  · exact K _ _ _ w0.2 w1.2 (ok_step ⟨I, P, T⟩ ) H locs ls V hl
  · exact absurd (w0.1.trans w1.1.symm) c9
set_option maxHeartbeats 400000 in
set_option maxRecDepth 20000 in
theorem law_c8 {pg : Program} {ev : Env} {st : State} {md : MethodId} {bl : List Frame} {mt : Method} {cd : Code} {A : Nat → Prop} {Q : State → Prop} {b L i : Nat} {xs : Nat → Int32} {k : Nat → Nat} (C : gC pg st md #[Value.ref b] mt cd code 4 R_W ret D (ty3 cI cZ cJ) A) (hX : va_X b L xs st st.heap) (hbl : b < st.heap.size) (hbA : ¬ A b) (hL : L ≤ 2048) (hi : i + 4 ≤ L) {a : AS} {u : XS} {w : MS} {B : Nat} (X : RX u a) (Y : RM w a) (I : Inv a) (P : Prs a) (T : Td a B) (hB : B < 2 ^ 18) (K : ∀ (a2 : AS) (u2 : XS) (w2 : MS), RX u2 a2 → RM w2 a2 → OK a2 (B + 41) → ∀ (H : Heap) (locs : List Loc) (ls : Array Slot), gV D A st (XW h cI cZ u2 ++ MW k cI cZ cJ w2) H locs → lv_has ls 4 [(0, .ref b), (1, .ref (h 0)), (2, .ref (k 0)), (3, .int (nI i))] → W pg lx ev room_1 st md #[Value.ref b] bl mt cd H locs 15 577 Q (F0 md 602 ls [])) : ∀ (H : Heap) (locs : List Loc) (ls : Array Slot), gV D A st (XW h cI cZ u ++ MW k cI cZ cJ w) H locs → lv_has ls 4 [(0, .ref b), (1, .ref (h 0)), (2, .ref (k 0)), (3, .int (nI i))] → W pg lx ev room_1 st md #[Value.ref b] bl mt cd H locs 15 577 Q (F0 md 310 ls []) := by
  intro H locs ls V hl
  have hE : ∀ s, aE a s < 2 ^ 20 := fun s => by have := T.1.2 s; omega
  refine lv_aload_n C.x C.b d_W_law_310 rfl (lv_at hl 1 rfl) ?_
  refine lv_aload_n C.x C.b d_W_law_311 rfl (lv_at hl 0 rfl) ?_
  refine lv_iload_n C.x C.b d_W_law_312 rfl (lv_at hl 3 rfl) ?_
  refine lv_iconst (v := 1) C.x C.b d_W_law_313 (by decide) ?_
  refine lv_iadd C.x C.b d_W_law_314 ?_
  refine lw_ld (i + 1) C hX hbl hbA hL V (by rw [show (1 : Int32) = nI 1 from rfl, nI_add]) (by omega) d_W_law_315 ?_
  refine lw_iX (As := [.int (xs (i + 1))]) (rest := []) C V cs_W_49 (c_X_work X I (xs (i + 1))) (by decide) rfl hl.1 rfl (Nat.le_of_ble_eq_true rfl) d_W_law_316 (fun r0 u0 H locs w0 V => ?_)
  refine lv_aload_n C.x C.b d_W_law_319 rfl (lv_at hl 2 rfl) ?_
  refine lv_aload_n C.x C.b d_W_law_320 rfl (lv_at hl 0 rfl) ?_
  refine lv_iload_n C.x C.b d_W_law_321 rfl (lv_at hl 3 rfl) ?_
  refine lv_iconst (v := 1) C.x C.b d_W_law_322 (by decide) ?_
  refine lv_iadd C.x C.b d_W_law_323 ?_
  refine lw_ld (i + 1) C hX hbl hbA hL V (by rw [show (1 : Int32) = nI 1 from rfl, nI_add]) (by omega) d_W_law_324 ?_
  refine lw_iM (As := [.int (xs (i + 1))]) (rest := [.int r0]) C V cs_W_52 (c_M_work Y I (xs (i + 1))) (by decide) rfl hl.1 rfl (Nat.le_of_ble_eq_true rfl) d_W_law_325 (fun r1 u1 H locs w1 V => ?_)
  refine lv_icmp_eq (tgt := 602) C.x C.b d_W_law_328 (by decide) (fun c9 => ?_) (fun c9 => ?_)
  · exact K _ _ _ w0.2 w1.2 (ok_work ⟨I, P, T⟩ (xs (i + 1))) H locs ls V hl
  · exact absurd (w0.1.trans w1.1.symm) c9
set_option maxHeartbeats 400000 in
set_option maxRecDepth 20000 in
theorem law_c9 {pg : Program} {ev : Env} {st : State} {md : MethodId} {bl : List Frame} {mt : Method} {cd : Code} {A : Nat → Prop} {Q : State → Prop} {b L i : Nat} {xs : Nat → Int32} {k : Nat → Nat} (C : gC pg st md #[Value.ref b] mt cd code 4 R_W ret D (ty3 cI cZ cJ) A) (hX : va_X b L xs st st.heap) (hbl : b < st.heap.size) (hbA : ¬ A b) (hL : L ≤ 2048) (hi : i + 4 ≤ L) {a : AS} {u : XS} {w : MS} {B : Nat} (X : RX u a) (Y : RM w a) (I : Inv a) (P : Prs a) (T : Td a B) (hB : B < 2 ^ 18) (K : ∀ (a2 : AS) (u2 : XS) (w2 : MS), RX u2 a2 → RM w2 a2 → OK a2 (B + 41) → ∀ (H : Heap) (locs : List Loc) (ls : Array Slot), gV D A st (XW h cI cZ u2 ++ MW k cI cZ cJ w2) H locs → lv_has ls 4 [(0, .ref b), (1, .ref (h 0)), (2, .ref (k 0)), (3, .int (nI i))] → W pg lx ev room_1 st md #[Value.ref b] bl mt cd H locs 15 577 Q (F0 md 602 ls [])) : ∀ (H : Heap) (locs : List Loc) (ls : Array Slot), gV D A st (XW h cI cZ u ++ MW k cI cZ cJ w) H locs → lv_has ls 4 [(0, .ref b), (1, .ref (h 0)), (2, .ref (k 0)), (3, .int (nI i))] → W pg lx ev room_1 st md #[Value.ref b] bl mt cd H locs 15 577 Q (F0 md 333 ls []) := by
  intro H locs ls V hl
  have hE : ∀ s, aE a s < 2 ^ 20 := fun s => by have := T.1.2 s; omega
  refine lv_aload_n C.x C.b d_W_law_333 rfl (lv_at hl 1 rfl) ?_
  refine lv_aload_n C.x C.b d_W_law_334 rfl (lv_at hl 0 rfl) ?_
  refine lv_iload_n C.x C.b d_W_law_335 rfl (lv_at hl 3 rfl) ?_
  refine lv_iconst (v := 1) C.x C.b d_W_law_336 (by decide) ?_
  refine lv_iadd C.x C.b d_W_law_337 ?_
  refine lw_ld (i + 1) C hX hbl hbA hL V (by rw [show (1 : Int32) = nI 1 from rfl, nI_add]) (by omega) d_W_law_338 ?_
  refine lw_iX (As := [.int (xs (i + 1))]) (rest := []) C V cs_W_53 (c_X_take X I (xs (i + 1))) (by decide) rfl hl.1 rfl (Nat.le_of_ble_eq_true rfl) d_W_law_339 (fun r0 u0 H locs w0 V => ?_)
  refine lv_aload_n C.x C.b d_W_law_342 rfl (lv_at hl 2 rfl) ?_
  refine lv_aload_n C.x C.b d_W_law_343 rfl (lv_at hl 0 rfl) ?_
  refine lv_iload_n C.x C.b d_W_law_344 rfl (lv_at hl 3 rfl) ?_
  refine lv_iconst (v := 1) C.x C.b d_W_law_345 (by decide) ?_
  refine lv_iadd C.x C.b d_W_law_346 ?_
  refine lw_ld (i + 1) C hX hbl hbA hL V (by rw [show (1 : Int32) = nI 1 from rfl, nI_add]) (by omega) d_W_law_347 ?_
  refine lw_iM (As := [.int (xs (i + 1))]) (rest := [.int r0]) C V cs_W_56 (c_M_take Y I (xs (i + 1))) (by decide) rfl hl.1 rfl (Nat.le_of_ble_eq_true rfl) d_W_law_348 (fun r1 u1 H locs w1 V => ?_)
  refine lv_icmp_eq (tgt := 602) C.x C.b d_W_law_351 (by decide) (fun c9 => ?_) (fun c9 => ?_)
  · exact K _ _ _ w0.2 w1.2 (ok_take ⟨I, P, T⟩ (xs (i + 1))) H locs ls V hl
  · exact absurd (w0.1.trans w1.1.symm) c9
set_option maxHeartbeats 400000 in
set_option maxRecDepth 20000 in
theorem law_c10 {pg : Program} {ev : Env} {st : State} {md : MethodId} {bl : List Frame} {mt : Method} {cd : Code} {A : Nat → Prop} {Q : State → Prop} {b L i : Nat} {xs : Nat → Int32} {k : Nat → Nat} (C : gC pg st md #[Value.ref b] mt cd code 4 R_W ret D (ty3 cI cZ cJ) A) (hX : va_X b L xs st st.heap) (hbl : b < st.heap.size) (hbA : ¬ A b) (hL : L ≤ 2048) (hi : i + 4 ≤ L) {a : AS} {u : XS} {w : MS} {B : Nat} (X : RX u a) (Y : RM w a) (I : Inv a) (P : Prs a) (T : Td a B) (hB : B < 2 ^ 18) (K : ∀ (a2 : AS) (u2 : XS) (w2 : MS), RX u2 a2 → RM w2 a2 → OK a2 (B + 41) → ∀ (H : Heap) (locs : List Loc) (ls : Array Slot), gV D A st (XW h cI cZ u2 ++ MW k cI cZ cJ w2) H locs → lv_has ls 4 [(0, .ref b), (1, .ref (h 0)), (2, .ref (k 0)), (3, .int (nI i))] → W pg lx ev room_1 st md #[Value.ref b] bl mt cd H locs 15 577 Q (F0 md 602 ls [])) : ∀ (H : Heap) (locs : List Loc) (ls : Array Slot), gV D A st (XW h cI cZ u ++ MW k cI cZ cJ w) H locs → lv_has ls 4 [(0, .ref b), (1, .ref (h 0)), (2, .ref (k 0)), (3, .int (nI i))] → W pg lx ev room_1 st md #[Value.ref b] bl mt cd H locs 15 577 Q (F0 md 356 ls []) := by
  intro H locs ls V hl
  have hE : ∀ s, aE a s < 2 ^ 20 := fun s => by have := T.1.2 s; omega
  refine lv_aload_n C.x C.b d_W_law_356 rfl (lv_at hl 1 rfl) ?_
  refine lv_aload_n C.x C.b d_W_law_357 rfl (lv_at hl 0 rfl) ?_
  refine lv_iload_n C.x C.b d_W_law_358 rfl (lv_at hl 3 rfl) ?_
  refine lv_iconst (v := 1) C.x C.b d_W_law_359 (by decide) ?_
  refine lv_iadd C.x C.b d_W_law_360 ?_
  refine lw_ld (i + 1) C hX hbl hbA hL V (by rw [show (1 : Int32) = nI 1 from rfl, nI_add]) (by omega) d_W_law_361 ?_
  refine lv_aload_n C.x C.b d_W_law_362 rfl (lv_at hl 0 rfl) ?_
  refine lv_iload_n C.x C.b d_W_law_363 rfl (lv_at hl 3 rfl) ?_
  refine lv_iconst (v := 2) C.x C.b d_W_law_364 (by decide) ?_
  refine lv_iadd C.x C.b d_W_law_365 ?_
  refine lw_ld (i + 2) C hX hbl hbA hL V (by rw [show (2 : Int32) = nI 2 from rfl, nI_add]) (by omega) d_W_law_366 ?_
  refine lw_iX (As := [.int (xs (i + 1)), .int (xs (i + 2))]) (rest := []) C V cs_W_57 (c_X_rate X I (xs (i + 1)) (xs (i + 2))) (by decide) rfl hl.1 rfl (Nat.le_of_ble_eq_true rfl) d_W_law_367 (fun r0 u0 H locs w0 V => ?_)
  refine lv_aload_n C.x C.b d_W_law_370 rfl (lv_at hl 2 rfl) ?_
  refine lv_aload_n C.x C.b d_W_law_371 rfl (lv_at hl 0 rfl) ?_
  refine lv_iload_n C.x C.b d_W_law_372 rfl (lv_at hl 3 rfl) ?_
  refine lv_iconst (v := 1) C.x C.b d_W_law_373 (by decide) ?_
  refine lv_iadd C.x C.b d_W_law_374 ?_
  refine lw_ld (i + 1) C hX hbl hbA hL V (by rw [show (1 : Int32) = nI 1 from rfl, nI_add]) (by omega) d_W_law_375 ?_
  refine lv_aload_n C.x C.b d_W_law_376 rfl (lv_at hl 0 rfl) ?_
  refine lv_iload_n C.x C.b d_W_law_377 rfl (lv_at hl 3 rfl) ?_
  refine lv_iconst (v := 2) C.x C.b d_W_law_378 (by decide) ?_
  refine lv_iadd C.x C.b d_W_law_379 ?_
  refine lw_ld (i + 2) C hX hbl hbA hL V (by rw [show (2 : Int32) = nI 2 from rfl, nI_add]) (by omega) d_W_law_380 ?_
  refine lw_iM (As := [.int (xs (i + 1)), .int (xs (i + 2))]) (rest := [.int r0]) C V cs_W_61 (c_M_rate Y I (xs (i + 1)) (xs (i + 2))) (by decide) rfl hl.1 rfl (Nat.le_of_ble_eq_true rfl) d_W_law_381 (fun r1 u1 H locs w1 V => ?_)
  refine lv_icmp_eq (tgt := 602) C.x C.b d_W_law_384 (by decide) (fun c9 => ?_) (fun c9 => ?_)
  · exact K _ _ _ w0.2 w1.2 (ok_rate ⟨I, P, T⟩ (xs (i + 1)) (xs (i + 2))) H locs ls V hl
  · exact absurd (w0.1.trans w1.1.symm) c9
set_option maxHeartbeats 400000 in
set_option maxRecDepth 20000 in
theorem law_c11 {pg : Program} {ev : Env} {st : State} {md : MethodId} {bl : List Frame} {mt : Method} {cd : Code} {A : Nat → Prop} {Q : State → Prop} {b L i : Nat} {xs : Nat → Int32} {k : Nat → Nat} (C : gC pg st md #[Value.ref b] mt cd code 4 R_W ret D (ty3 cI cZ cJ) A) (hX : va_X b L xs st st.heap) (hbl : b < st.heap.size) (hbA : ¬ A b) (hL : L ≤ 2048) (hi : i + 4 ≤ L) {a : AS} {u : XS} {w : MS} {B : Nat} (X : RX u a) (Y : RM w a) (I : Inv a) (P : Prs a) (T : Td a B) (hB : B < 2 ^ 18) (K : ∀ (a2 : AS) (u2 : XS) (w2 : MS), RX u2 a2 → RM w2 a2 → OK a2 (B + 41) → ∀ (H : Heap) (locs : List Loc) (ls : Array Slot), gV D A st (XW h cI cZ u2 ++ MW k cI cZ cJ w2) H locs → lv_has ls 4 [(0, .ref b), (1, .ref (h 0)), (2, .ref (k 0)), (3, .int (nI i))] → W pg lx ev room_1 st md #[Value.ref b] bl mt cd H locs 15 577 Q (F0 md 602 ls [])) : ∀ (H : Heap) (locs : List Loc) (ls : Array Slot), gV D A st (XW h cI cZ u ++ MW k cI cZ cJ w) H locs → lv_has ls 4 [(0, .ref b), (1, .ref (h 0)), (2, .ref (k 0)), (3, .int (nI i))] → W pg lx ev room_1 st md #[Value.ref b] bl mt cd H locs 15 577 Q (F0 md 389 ls []) := by
  intro H locs ls V hl
  have hE : ∀ s, aE a s < 2 ^ 20 := fun s => by have := T.1.2 s; omega
  refine lv_aload_n C.x C.b d_W_law_389 rfl (lv_at hl 1 rfl) ?_
  refine lw_iX (As := []) (rest := []) C V cs_W_62 (c_X_yield X I P ) (by decide) rfl hl.1 rfl (Nat.le_of_ble_eq_true rfl) d_W_law_390 (fun r0 u0 H locs w0 V => ?_)
  refine lv_aload_n C.x C.b d_W_law_393 rfl (lv_at hl 2 rfl) ?_
  refine lw_iM (As := []) (rest := [.int r0]) C V cs_W_66 (c_M_yield Y I P B T (by omega) ) (by decide) rfl hl.1 rfl (Nat.le_of_ble_eq_true rfl) d_W_law_394 (fun r1 u1 H locs w1 V => ?_)
  refine lv_icmp_eq (tgt := 602) C.x C.b d_W_law_397 (by decide) (fun c9 => ?_) (fun c9 => ?_)
  · exact K _ _ _ w0.2 w1.2 (ok_yield ⟨I, P, T⟩ ) H locs ls V hl
  · exact absurd (w0.1.trans w1.1.symm) c9
set_option maxHeartbeats 400000 in
set_option maxRecDepth 20000 in
theorem law_c12 {pg : Program} {ev : Env} {st : State} {md : MethodId} {bl : List Frame} {mt : Method} {cd : Code} {A : Nat → Prop} {Q : State → Prop} {b L i : Nat} {xs : Nat → Int32} {k : Nat → Nat} (C : gC pg st md #[Value.ref b] mt cd code 4 R_W ret D (ty3 cI cZ cJ) A) (hX : va_X b L xs st st.heap) (hbl : b < st.heap.size) (hbA : ¬ A b) (hL : L ≤ 2048) (hi : i + 4 ≤ L) {a : AS} {u : XS} {w : MS} {B : Nat} (X : RX u a) (Y : RM w a) (I : Inv a) (P : Prs a) (T : Td a B) (hB : B < 2 ^ 18) (K : ∀ (a2 : AS) (u2 : XS) (w2 : MS), RX u2 a2 → RM w2 a2 → OK a2 (B + 41) → ∀ (H : Heap) (locs : List Loc) (ls : Array Slot), gV D A st (XW h cI cZ u2 ++ MW k cI cZ cJ w2) H locs → lv_has ls 4 [(0, .ref b), (1, .ref (h 0)), (2, .ref (k 0)), (3, .int (nI i))] → W pg lx ev room_1 st md #[Value.ref b] bl mt cd H locs 15 577 Q (F0 md 602 ls [])) : ∀ (H : Heap) (locs : List Loc) (ls : Array Slot), gV D A st (XW h cI cZ u ++ MW k cI cZ cJ w) H locs → lv_has ls 4 [(0, .ref b), (1, .ref (h 0)), (2, .ref (k 0)), (3, .int (nI i))] → W pg lx ev room_1 st md #[Value.ref b] bl mt cd H locs 15 577 Q (F0 md 402 ls []) := by
  intro H locs ls V hl
  have hE : ∀ s, aE a s < 2 ^ 20 := fun s => by have := T.1.2 s; omega
  refine lv_aload_n C.x C.b d_W_law_402 rfl (lv_at hl 1 rfl) ?_
  refine lw_iX (As := []) (rest := []) C V cs_W_67 (c_X_active X I ) (by decide) rfl hl.1 rfl (Nat.le_of_ble_eq_true rfl) d_W_law_403 (fun r0 u0 H locs w0 V => ?_)
  refine lv_aload_n C.x C.b d_W_law_406 rfl (lv_at hl 2 rfl) ?_
  refine lw_iM (As := []) (rest := [.int r0]) C V cs_W_70 (c_M_active Y I ) (by decide) rfl hl.1 rfl (Nat.le_of_ble_eq_true rfl) d_W_law_407 (fun r1 u1 H locs w1 V => ?_)
  refine lv_icmp_eq (tgt := 602) C.x C.b d_W_law_410 (by decide) (fun c9 => ?_) (fun c9 => ?_)
  · obtain ⟨rfl, -⟩ := w0
    obtain ⟨rfl, -⟩ := w1
    exact K a u w X Y (OK.up (B := B) ⟨I, P, T⟩ (by omega)) H locs ls V hl
  · exact absurd (w0.2.trans w1.2.symm) c9
set_option maxHeartbeats 400000 in
set_option maxRecDepth 20000 in
theorem law_c13 {pg : Program} {ev : Env} {st : State} {md : MethodId} {bl : List Frame} {mt : Method} {cd : Code} {A : Nat → Prop} {Q : State → Prop} {b L i : Nat} {xs : Nat → Int32} {k : Nat → Nat} (C : gC pg st md #[Value.ref b] mt cd code 4 R_W ret D (ty3 cI cZ cJ) A) (hX : va_X b L xs st st.heap) (hbl : b < st.heap.size) (hbA : ¬ A b) (hL : L ≤ 2048) (hi : i + 4 ≤ L) {a : AS} {u : XS} {w : MS} {B : Nat} (X : RX u a) (Y : RM w a) (I : Inv a) (P : Prs a) (T : Td a B) (hB : B < 2 ^ 18) (K : ∀ (a2 : AS) (u2 : XS) (w2 : MS), RX u2 a2 → RM w2 a2 → OK a2 (B + 41) → ∀ (H : Heap) (locs : List Loc) (ls : Array Slot), gV D A st (XW h cI cZ u2 ++ MW k cI cZ cJ w2) H locs → lv_has ls 4 [(0, .ref b), (1, .ref (h 0)), (2, .ref (k 0)), (3, .int (nI i))] → W pg lx ev room_1 st md #[Value.ref b] bl mt cd H locs 15 577 Q (F0 md 602 ls [])) : ∀ (H : Heap) (locs : List Loc) (ls : Array Slot), gV D A st (XW h cI cZ u ++ MW k cI cZ cJ w) H locs → lv_has ls 4 [(0, .ref b), (1, .ref (h 0)), (2, .ref (k 0)), (3, .int (nI i))] → W pg lx ev room_1 st md #[Value.ref b] bl mt cd H locs 15 577 Q (F0 md 415 ls []) := by
  intro H locs ls V hl
  have hE : ∀ s, aE a s < 2 ^ 20 := fun s => by have := T.1.2 s; omega
  refine lv_aload_n C.x C.b d_W_law_415 rfl (lv_at hl 1 rfl) ?_
  refine lw_iX (As := []) (rest := []) C V cs_W_71 (c_X_present X I P ) (by decide) rfl hl.1 rfl (Nat.le_of_ble_eq_true rfl) d_W_law_416 (fun r0 u0 H locs w0 V => ?_)
  refine lv_aload_n C.x C.b d_W_law_419 rfl (lv_at hl 2 rfl) ?_
  refine lw_iM (As := []) (rest := [.int r0]) C V cs_W_74 (c_M_present Y I ) (by decide) rfl hl.1 rfl (Nat.le_of_ble_eq_true rfl) d_W_law_420 (fun r1 u1 H locs w1 V => ?_)
  refine lv_icmp_eq (tgt := 602) C.x C.b d_W_law_423 (by decide) (fun c9 => ?_) (fun c9 => ?_)
  · obtain ⟨rfl, -⟩ := w0
    obtain ⟨rfl, -⟩ := w1
    exact K a u w X Y (OK.up (B := B) ⟨I, P, T⟩ (by omega)) H locs ls V hl
  · exact absurd (w0.2.trans w1.2.symm) c9
set_option maxHeartbeats 400000 in
set_option maxRecDepth 20000 in
theorem law_c14 {pg : Program} {ev : Env} {st : State} {md : MethodId} {bl : List Frame} {mt : Method} {cd : Code} {A : Nat → Prop} {Q : State → Prop} {b L i : Nat} {xs : Nat → Int32} {k : Nat → Nat} (C : gC pg st md #[Value.ref b] mt cd code 4 R_W ret D (ty3 cI cZ cJ) A) (hX : va_X b L xs st st.heap) (hbl : b < st.heap.size) (hbA : ¬ A b) (hL : L ≤ 2048) (hi : i + 4 ≤ L) {a : AS} {u : XS} {w : MS} {B : Nat} (X : RX u a) (Y : RM w a) (I : Inv a) (P : Prs a) (T : Td a B) (hB : B < 2 ^ 18) (K : ∀ (a2 : AS) (u2 : XS) (w2 : MS), RX u2 a2 → RM w2 a2 → OK a2 (B + 41) → ∀ (H : Heap) (locs : List Loc) (ls : Array Slot), gV D A st (XW h cI cZ u2 ++ MW k cI cZ cJ w2) H locs → lv_has ls 4 [(0, .ref b), (1, .ref (h 0)), (2, .ref (k 0)), (3, .int (nI i))] → W pg lx ev room_1 st md #[Value.ref b] bl mt cd H locs 15 577 Q (F0 md 602 ls [])) : ∀ (H : Heap) (locs : List Loc) (ls : Array Slot), gV D A st (XW h cI cZ u ++ MW k cI cZ cJ w) H locs → lv_has ls 4 [(0, .ref b), (1, .ref (h 0)), (2, .ref (k 0)), (3, .int (nI i))] → W pg lx ev room_1 st md #[Value.ref b] bl mt cd H locs 15 577 Q (F0 md 428 ls []) := by
  intro H locs ls V hl
  have hE : ∀ s, aE a s < 2 ^ 20 := fun s => by have := T.1.2 s; omega
  refine lv_aload_n C.x C.b d_W_law_428 rfl (lv_at hl 1 rfl) ?_
  refine lw_iX (As := []) (rest := []) C V cs_W_75 (c_X_wanted X I ) (by decide) rfl hl.1 rfl (Nat.le_of_ble_eq_true rfl) d_W_law_429 (fun r0 u0 H locs w0 V => ?_)
  refine lv_aload_n C.x C.b d_W_law_432 rfl (lv_at hl 2 rfl) ?_
  refine lw_iM (As := []) (rest := [.int r0]) C V cs_W_78 (c_M_wanted Y I ) (by decide) rfl hl.1 rfl (Nat.le_of_ble_eq_true rfl) d_W_law_433 (fun r1 u1 H locs w1 V => ?_)
  refine lv_icmp_eq (tgt := 602) C.x C.b d_W_law_436 (by decide) (fun c9 => ?_) (fun c9 => ?_)
  · obtain ⟨rfl, -⟩ := w0
    obtain ⟨rfl, -⟩ := w1
    exact K a u w X Y (OK.up (B := B) ⟨I, P, T⟩ (by omega)) H locs ls V hl
  · exact absurd (w0.2.trans w1.2.symm) c9
set_option maxHeartbeats 400000 in
set_option maxRecDepth 20000 in
theorem law_c15 {pg : Program} {ev : Env} {st : State} {md : MethodId} {bl : List Frame} {mt : Method} {cd : Code} {A : Nat → Prop} {Q : State → Prop} {b L i : Nat} {xs : Nat → Int32} {k : Nat → Nat} (C : gC pg st md #[Value.ref b] mt cd code 4 R_W ret D (ty3 cI cZ cJ) A) (hX : va_X b L xs st st.heap) (hbl : b < st.heap.size) (hbA : ¬ A b) (hL : L ≤ 2048) (hi : i + 4 ≤ L) {a : AS} {u : XS} {w : MS} {B : Nat} (X : RX u a) (Y : RM w a) (I : Inv a) (P : Prs a) (T : Td a B) (hB : B < 2 ^ 18) (K : ∀ (a2 : AS) (u2 : XS) (w2 : MS), RX u2 a2 → RM w2 a2 → OK a2 (B + 41) → ∀ (H : Heap) (locs : List Loc) (ls : Array Slot), gV D A st (XW h cI cZ u2 ++ MW k cI cZ cJ w2) H locs → lv_has ls 4 [(0, .ref b), (1, .ref (h 0)), (2, .ref (k 0)), (3, .int (nI i))] → W pg lx ev room_1 st md #[Value.ref b] bl mt cd H locs 15 577 Q (F0 md 602 ls [])) : ∀ (H : Heap) (locs : List Loc) (ls : Array Slot), gV D A st (XW h cI cZ u ++ MW k cI cZ cJ w) H locs → lv_has ls 4 [(0, .ref b), (1, .ref (h 0)), (2, .ref (k 0)), (3, .int (nI i))] → W pg lx ev room_1 st md #[Value.ref b] bl mt cd H locs 15 577 Q (F0 md 441 ls []) := by
  intro H locs ls V hl
  have hE : ∀ s, aE a s < 2 ^ 20 := fun s => by have := T.1.2 s; omega
  refine lv_aload_n C.x C.b d_W_law_441 rfl (lv_at hl 1 rfl) ?_
  refine lw_iX (As := []) (rest := []) C V cs_W_79 (c_X_here X I ) (by decide) rfl hl.1 rfl (Nat.le_of_ble_eq_true rfl) d_W_law_442 (fun r0 u0 H locs w0 V => ?_)
  refine lv_aload_n C.x C.b d_W_law_445 rfl (lv_at hl 2 rfl) ?_
  refine lw_iM (As := []) (rest := [.int r0]) C V cs_W_82 (c_M_here Y I ) (by decide) rfl hl.1 rfl (Nat.le_of_ble_eq_true rfl) d_W_law_446 (fun r1 u1 H locs w1 V => ?_)
  refine lv_icmp_eq (tgt := 602) C.x C.b d_W_law_449 (by decide) (fun c9 => ?_) (fun c9 => ?_)
  · obtain ⟨rfl, -⟩ := w0
    obtain ⟨rfl, -⟩ := w1
    exact K a u w X Y (OK.up (B := B) ⟨I, P, T⟩ (by omega)) H locs ls V hl
  · exact absurd (w0.2.trans w1.2.symm) c9
set_option maxHeartbeats 400000 in
set_option maxRecDepth 20000 in
theorem law_c16 {pg : Program} {ev : Env} {st : State} {md : MethodId} {bl : List Frame} {mt : Method} {cd : Code} {A : Nat → Prop} {Q : State → Prop} {b L i : Nat} {xs : Nat → Int32} {k : Nat → Nat} (C : gC pg st md #[Value.ref b] mt cd code 4 R_W ret D (ty3 cI cZ cJ) A) (hX : va_X b L xs st st.heap) (hbl : b < st.heap.size) (hbA : ¬ A b) (hL : L ≤ 2048) (hi : i + 4 ≤ L) {a : AS} {u : XS} {w : MS} {B : Nat} (X : RX u a) (Y : RM w a) (I : Inv a) (P : Prs a) (T : Td a B) (hB : B < 2 ^ 18) (K : ∀ (a2 : AS) (u2 : XS) (w2 : MS), RX u2 a2 → RM w2 a2 → OK a2 (B + 41) → ∀ (H : Heap) (locs : List Loc) (ls : Array Slot), gV D A st (XW h cI cZ u2 ++ MW k cI cZ cJ w2) H locs → lv_has ls 4 [(0, .ref b), (1, .ref (h 0)), (2, .ref (k 0)), (3, .int (nI i))] → W pg lx ev room_1 st md #[Value.ref b] bl mt cd H locs 15 577 Q (F0 md 602 ls [])) : ∀ (H : Heap) (locs : List Loc) (ls : Array Slot), gV D A st (XW h cI cZ u ++ MW k cI cZ cJ w) H locs → lv_has ls 4 [(0, .ref b), (1, .ref (h 0)), (2, .ref (k 0)), (3, .int (nI i))] → W pg lx ev room_1 st md #[Value.ref b] bl mt cd H locs 15 577 Q (F0 md 454 ls []) := by
  intro H locs ls V hl
  have hE : ∀ s, aE a s < 2 ^ 20 := fun s => by have := T.1.2 s; omega
  refine lv_aload_n C.x C.b d_W_law_454 rfl (lv_at hl 1 rfl) ?_
  refine lv_aload_n C.x C.b d_W_law_455 rfl (lv_at hl 0 rfl) ?_
  refine lv_iload_n C.x C.b d_W_law_456 rfl (lv_at hl 3 rfl) ?_
  refine lv_iconst (v := 1) C.x C.b d_W_law_457 (by decide) ?_
  refine lv_iadd C.x C.b d_W_law_458 ?_
  refine lw_ld (i + 1) C hX hbl hbA hL V (by rw [show (1 : Int32) = nI 1 from rfl, nI_add]) (by omega) d_W_law_459 ?_
  refine lw_iX (As := [.int (xs (i + 1))]) (rest := []) C V cs_W_83 (c_X_place X I (xs (i + 1))) (by decide) rfl hl.1 rfl (Nat.le_of_ble_eq_true rfl) d_W_law_460 (fun r0 u0 H locs w0 V => ?_)
  refine lv_aload_n C.x C.b d_W_law_463 rfl (lv_at hl 2 rfl) ?_
  refine lv_aload_n C.x C.b d_W_law_464 rfl (lv_at hl 0 rfl) ?_
  refine lv_iload_n C.x C.b d_W_law_465 rfl (lv_at hl 3 rfl) ?_
  refine lv_iconst (v := 1) C.x C.b d_W_law_466 (by decide) ?_
  refine lv_iadd C.x C.b d_W_law_467 ?_
  refine lw_ld (i + 1) C hX hbl hbA hL V (by rw [show (1 : Int32) = nI 1 from rfl, nI_add]) (by omega) d_W_law_468 ?_
  refine lw_iM (As := [.int (xs (i + 1))]) (rest := [.int r0]) C V cs_W_86 (c_M_place Y I (xs (i + 1))) (by decide) rfl hl.1 rfl (Nat.le_of_ble_eq_true rfl) d_W_law_469 (fun r1 u1 H locs w1 V => ?_)
  refine lv_icmp_eq (tgt := 602) C.x C.b d_W_law_472 (by decide) (fun c9 => ?_) (fun c9 => ?_)
  · obtain ⟨rfl, -⟩ := w0
    obtain ⟨rfl, -⟩ := w1
    exact K a u w X Y (OK.up (B := B) ⟨I, P, T⟩ (by omega)) H locs ls V hl
  · exact absurd (w0.2.trans w1.2.symm) c9
set_option maxHeartbeats 400000 in
set_option maxRecDepth 20000 in
theorem law_c17 {pg : Program} {ev : Env} {st : State} {md : MethodId} {bl : List Frame} {mt : Method} {cd : Code} {A : Nat → Prop} {Q : State → Prop} {b L i : Nat} {xs : Nat → Int32} {k : Nat → Nat} (C : gC pg st md #[Value.ref b] mt cd code 4 R_W ret D (ty3 cI cZ cJ) A) (hX : va_X b L xs st st.heap) (hbl : b < st.heap.size) (hbA : ¬ A b) (hL : L ≤ 2048) (hi : i + 4 ≤ L) {a : AS} {u : XS} {w : MS} {B : Nat} (X : RX u a) (Y : RM w a) (I : Inv a) (P : Prs a) (T : Td a B) (hB : B < 2 ^ 18) (K : ∀ (a2 : AS) (u2 : XS) (w2 : MS), RX u2 a2 → RM w2 a2 → OK a2 (B + 41) → ∀ (H : Heap) (locs : List Loc) (ls : Array Slot), gV D A st (XW h cI cZ u2 ++ MW k cI cZ cJ w2) H locs → lv_has ls 4 [(0, .ref b), (1, .ref (h 0)), (2, .ref (k 0)), (3, .int (nI i))] → W pg lx ev room_1 st md #[Value.ref b] bl mt cd H locs 15 577 Q (F0 md 602 ls [])) : ∀ (H : Heap) (locs : List Loc) (ls : Array Slot), gV D A st (XW h cI cZ u ++ MW k cI cZ cJ w) H locs → lv_has ls 4 [(0, .ref b), (1, .ref (h 0)), (2, .ref (k 0)), (3, .int (nI i))] → W pg lx ev room_1 st md #[Value.ref b] bl mt cd H locs 15 577 Q (F0 md 477 ls []) := by
  intro H locs ls V hl
  have hE : ∀ s, aE a s < 2 ^ 20 := fun s => by have := T.1.2 s; omega
  refine lv_aload_n C.x C.b d_W_law_477 rfl (lv_at hl 1 rfl) ?_
  refine lv_aload_n C.x C.b d_W_law_478 rfl (lv_at hl 0 rfl) ?_
  refine lv_iload_n C.x C.b d_W_law_479 rfl (lv_at hl 3 rfl) ?_
  refine lv_iconst (v := 1) C.x C.b d_W_law_480 (by decide) ?_
  refine lv_iadd C.x C.b d_W_law_481 ?_
  refine lw_ld (i + 1) C hX hbl hbA hL V (by rw [show (1 : Int32) = nI 1 from rfl, nI_add]) (by omega) d_W_law_482 ?_
  refine lw_iX (As := [.int (xs (i + 1))]) (rest := []) C V cs_W_87 (c_X_priority X I (xs (i + 1))) (by decide) rfl hl.1 rfl (Nat.le_of_ble_eq_true rfl) d_W_law_483 (fun r0 u0 H locs w0 V => ?_)
  refine lv_aload_n C.x C.b d_W_law_486 rfl (lv_at hl 2 rfl) ?_
  refine lv_aload_n C.x C.b d_W_law_487 rfl (lv_at hl 0 rfl) ?_
  refine lv_iload_n C.x C.b d_W_law_488 rfl (lv_at hl 3 rfl) ?_
  refine lv_iconst (v := 1) C.x C.b d_W_law_489 (by decide) ?_
  refine lv_iadd C.x C.b d_W_law_490 ?_
  refine lw_ld (i + 1) C hX hbl hbA hL V (by rw [show (1 : Int32) = nI 1 from rfl, nI_add]) (by omega) d_W_law_491 ?_
  refine lw_iM (As := [.int (xs (i + 1))]) (rest := [.int r0]) C V cs_W_90 (c_M_priority Y I (xs (i + 1))) (by decide) rfl hl.1 rfl (Nat.le_of_ble_eq_true rfl) d_W_law_492 (fun r1 u1 H locs w1 V => ?_)
  refine lv_icmp_eq (tgt := 602) C.x C.b d_W_law_495 (by decide) (fun c9 => ?_) (fun c9 => ?_)
  · obtain ⟨rfl, -⟩ := w0
    obtain ⟨rfl, -⟩ := w1
    exact K a u w X Y (OK.up (B := B) ⟨I, P, T⟩ (by omega)) H locs ls V hl
  · exact absurd (w0.2.trans w1.2.symm) c9
set_option maxHeartbeats 400000 in
set_option maxRecDepth 20000 in
theorem law_c18 {pg : Program} {ev : Env} {st : State} {md : MethodId} {bl : List Frame} {mt : Method} {cd : Code} {A : Nat → Prop} {Q : State → Prop} {b L i : Nat} {xs : Nat → Int32} {k : Nat → Nat} (C : gC pg st md #[Value.ref b] mt cd code 4 R_W ret D (ty3 cI cZ cJ) A) (hX : va_X b L xs st st.heap) (hbl : b < st.heap.size) (hbA : ¬ A b) (hL : L ≤ 2048) (hi : i + 4 ≤ L) {a : AS} {u : XS} {w : MS} {B : Nat} (X : RX u a) (Y : RM w a) (I : Inv a) (P : Prs a) (T : Td a B) (hB : B < 2 ^ 18) (K : ∀ (a2 : AS) (u2 : XS) (w2 : MS), RX u2 a2 → RM w2 a2 → OK a2 (B + 41) → ∀ (H : Heap) (locs : List Loc) (ls : Array Slot), gV D A st (XW h cI cZ u2 ++ MW k cI cZ cJ w2) H locs → lv_has ls 4 [(0, .ref b), (1, .ref (h 0)), (2, .ref (k 0)), (3, .int (nI i))] → W pg lx ev room_1 st md #[Value.ref b] bl mt cd H locs 15 577 Q (F0 md 602 ls [])) : ∀ (H : Heap) (locs : List Loc) (ls : Array Slot), gV D A st (XW h cI cZ u ++ MW k cI cZ cJ w) H locs → lv_has ls 4 [(0, .ref b), (1, .ref (h 0)), (2, .ref (k 0)), (3, .int (nI i))] → W pg lx ev room_1 st md #[Value.ref b] bl mt cd H locs 15 577 Q (F0 md 500 ls []) := by
  intro H locs ls V hl
  have hE : ∀ s, aE a s < 2 ^ 20 := fun s => by have := T.1.2 s; omega
  refine lv_aload_n C.x C.b d_W_law_500 rfl (lv_at hl 1 rfl) ?_
  refine lv_aload_n C.x C.b d_W_law_501 rfl (lv_at hl 0 rfl) ?_
  refine lv_iload_n C.x C.b d_W_law_502 rfl (lv_at hl 3 rfl) ?_
  refine lv_iconst (v := 1) C.x C.b d_W_law_503 (by decide) ?_
  refine lv_iadd C.x C.b d_W_law_504 ?_
  refine lw_ld (i + 1) C hX hbl hbA hL V (by rw [show (1 : Int32) = nI 1 from rfl, nI_add]) (by omega) d_W_law_505 ?_
  refine lw_iX (As := [.int (xs (i + 1))]) (rest := []) C V cs_W_91 (c_X_row X I (xs (i + 1))) (by decide) rfl hl.1 rfl (Nat.le_of_ble_eq_true rfl) d_W_law_506 (fun r0 u0 H locs w0 V => ?_)
  refine lv_aload_n C.x C.b d_W_law_509 rfl (lv_at hl 2 rfl) ?_
  refine lv_aload_n C.x C.b d_W_law_510 rfl (lv_at hl 0 rfl) ?_
  refine lv_iload_n C.x C.b d_W_law_511 rfl (lv_at hl 3 rfl) ?_
  refine lv_iconst (v := 1) C.x C.b d_W_law_512 (by decide) ?_
  refine lv_iadd C.x C.b d_W_law_513 ?_
  refine lw_ld (i + 1) C hX hbl hbA hL V (by rw [show (1 : Int32) = nI 1 from rfl, nI_add]) (by omega) d_W_law_514 ?_
  refine lw_iM (As := [.int (xs (i + 1))]) (rest := [.int r0]) C V cs_W_94 (c_M_row Y I (xs (i + 1))) (by decide) rfl hl.1 rfl (Nat.le_of_ble_eq_true rfl) d_W_law_515 (fun r1 u1 H locs w1 V => ?_)
  refine lv_icmp_eq (tgt := 602) C.x C.b d_W_law_518 (by decide) (fun c9 => ?_) (fun c9 => ?_)
  · obtain ⟨rfl, -⟩ := w0
    obtain ⟨rfl, -⟩ := w1
    exact K a u w X Y (OK.up (B := B) ⟨I, P, T⟩ (by omega)) H locs ls V hl
  · exact absurd (w0.2.trans w1.2.symm) c9
set_option maxHeartbeats 400000 in
set_option maxRecDepth 20000 in
theorem law_c19 {pg : Program} {ev : Env} {st : State} {md : MethodId} {bl : List Frame} {mt : Method} {cd : Code} {A : Nat → Prop} {Q : State → Prop} {b L i : Nat} {xs : Nat → Int32} {k : Nat → Nat} (C : gC pg st md #[Value.ref b] mt cd code 4 R_W ret D (ty3 cI cZ cJ) A) (hX : va_X b L xs st st.heap) (hbl : b < st.heap.size) (hbA : ¬ A b) (hL : L ≤ 2048) (hi : i + 4 ≤ L) {a : AS} {u : XS} {w : MS} {B : Nat} (X : RX u a) (Y : RM w a) (I : Inv a) (P : Prs a) (T : Td a B) (hB : B < 2 ^ 18) (K : ∀ (a2 : AS) (u2 : XS) (w2 : MS), RX u2 a2 → RM w2 a2 → OK a2 (B + 41) → ∀ (H : Heap) (locs : List Loc) (ls : Array Slot), gV D A st (XW h cI cZ u2 ++ MW k cI cZ cJ w2) H locs → lv_has ls 4 [(0, .ref b), (1, .ref (h 0)), (2, .ref (k 0)), (3, .int (nI i))] → W pg lx ev room_1 st md #[Value.ref b] bl mt cd H locs 15 577 Q (F0 md 602 ls [])) : ∀ (H : Heap) (locs : List Loc) (ls : Array Slot), gV D A st (XW h cI cZ u ++ MW k cI cZ cJ w) H locs → lv_has ls 4 [(0, .ref b), (1, .ref (h 0)), (2, .ref (k 0)), (3, .int (nI i))] → W pg lx ev room_1 st md #[Value.ref b] bl mt cd H locs 15 577 Q (F0 md 523 ls []) := by
  intro H locs ls V hl
  have hE : ∀ s, aE a s < 2 ^ 20 := fun s => by have := T.1.2 s; omega
  refine lv_aload_n C.x C.b d_W_law_523 rfl (lv_at hl 1 rfl) ?_
  refine lv_aload_n C.x C.b d_W_law_524 rfl (lv_at hl 0 rfl) ?_
  refine lv_iload_n C.x C.b d_W_law_525 rfl (lv_at hl 3 rfl) ?_
  refine lv_iconst (v := 1) C.x C.b d_W_law_526 (by decide) ?_
  refine lv_iadd C.x C.b d_W_law_527 ?_
  refine lw_ld (i + 1) C hX hbl hbA hL V (by rw [show (1 : Int32) = nI 1 from rfl, nI_add]) (by omega) d_W_law_528 ?_
  refine lv_aload_n C.x C.b d_W_law_529 rfl (lv_at hl 0 rfl) ?_
  refine lv_iload_n C.x C.b d_W_law_530 rfl (lv_at hl 3 rfl) ?_
  refine lv_iconst (v := 2) C.x C.b d_W_law_531 (by decide) ?_
  refine lv_iadd C.x C.b d_W_law_532 ?_
  refine lw_ld (i + 2) C hX hbl hbA hL V (by rw [show (2 : Int32) = nI 2 from rfl, nI_add]) (by omega) d_W_law_533 ?_
  refine lw_iX (As := [.int (xs (i + 1)), .int (xs (i + 2))]) (rest := []) C V cs_W_95 (c_X_at X I (xs (i + 1)) (xs (i + 2))) (by decide) rfl hl.1 rfl (Nat.le_of_ble_eq_true rfl) d_W_law_534 (fun r0 u0 H locs w0 V => ?_)
  refine lv_aload_n C.x C.b d_W_law_537 rfl (lv_at hl 2 rfl) ?_
  refine lv_aload_n C.x C.b d_W_law_538 rfl (lv_at hl 0 rfl) ?_
  refine lv_iload_n C.x C.b d_W_law_539 rfl (lv_at hl 3 rfl) ?_
  refine lv_iconst (v := 1) C.x C.b d_W_law_540 (by decide) ?_
  refine lv_iadd C.x C.b d_W_law_541 ?_
  refine lw_ld (i + 1) C hX hbl hbA hL V (by rw [show (1 : Int32) = nI 1 from rfl, nI_add]) (by omega) d_W_law_542 ?_
  refine lv_aload_n C.x C.b d_W_law_543 rfl (lv_at hl 0 rfl) ?_
  refine lv_iload_n C.x C.b d_W_law_544 rfl (lv_at hl 3 rfl) ?_
  refine lv_iconst (v := 2) C.x C.b d_W_law_545 (by decide) ?_
  refine lv_iadd C.x C.b d_W_law_546 ?_
  refine lw_ld (i + 2) C hX hbl hbA hL V (by rw [show (2 : Int32) = nI 2 from rfl, nI_add]) (by omega) d_W_law_547 ?_
  refine lw_iM (As := [.int (xs (i + 1)), .int (xs (i + 2))]) (rest := [.int r0]) C V cs_W_98 (c_M_at Y I B T (by omega) (xs (i + 1)) (xs (i + 2))) (by decide) rfl hl.1 rfl (Nat.le_of_ble_eq_true rfl) d_W_law_548 (fun r1 u1 H locs w1 V => ?_)
  refine lv_icmp_eq (tgt := 602) C.x C.b d_W_law_551 (by decide) (fun c9 => ?_) (fun c9 => ?_)
  · obtain ⟨rfl, -⟩ := w0
    obtain ⟨rfl, -⟩ := w1
    exact K a u w X Y (OK.up (B := B) ⟨I, P, T⟩ (by omega)) H locs ls V hl
  · exact absurd (w0.2.trans w1.2.symm) c9
set_option maxHeartbeats 400000 in
set_option maxRecDepth 20000 in
theorem law_c20 {pg : Program} {ev : Env} {st : State} {md : MethodId} {bl : List Frame} {mt : Method} {cd : Code} {A : Nat → Prop} {Q : State → Prop} {b L i : Nat} {xs : Nat → Int32} {k : Nat → Nat} (C : gC pg st md #[Value.ref b] mt cd code 4 R_W ret D (ty3 cI cZ cJ) A) (hX : va_X b L xs st st.heap) (hbl : b < st.heap.size) (hbA : ¬ A b) (hL : L ≤ 2048) (hi : i + 4 ≤ L) {a : AS} {u : XS} {w : MS} {B : Nat} (X : RX u a) (Y : RM w a) (I : Inv a) (P : Prs a) (T : Td a B) (hB : B < 2 ^ 18) (K : ∀ (a2 : AS) (u2 : XS) (w2 : MS), RX u2 a2 → RM w2 a2 → OK a2 (B + 41) → ∀ (H : Heap) (locs : List Loc) (ls : Array Slot), gV D A st (XW h cI cZ u2 ++ MW k cI cZ cJ w2) H locs → lv_has ls 4 [(0, .ref b), (1, .ref (h 0)), (2, .ref (k 0)), (3, .int (nI i))] → W pg lx ev room_1 st md #[Value.ref b] bl mt cd H locs 15 577 Q (F0 md 602 ls [])) : ∀ (H : Heap) (locs : List Loc) (ls : Array Slot), gV D A st (XW h cI cZ u ++ MW k cI cZ cJ w) H locs → lv_has ls 4 [(0, .ref b), (1, .ref (h 0)), (2, .ref (k 0)), (3, .int (nI i))] → W pg lx ev room_1 st md #[Value.ref b] bl mt cd H locs 15 577 Q (F0 md 556 ls []) := by
  intro H locs ls V hl
  have hE : ∀ s, aE a s < 2 ^ 20 := fun s => by have := T.1.2 s; omega
  refine lv_aload_n C.x C.b d_W_law_556 rfl (lv_at hl 1 rfl) ?_
  refine lv_aload_n C.x C.b d_W_law_557 rfl (lv_at hl 0 rfl) ?_
  refine lv_iload_n C.x C.b d_W_law_558 rfl (lv_at hl 3 rfl) ?_
  refine lv_iconst (v := 1) C.x C.b d_W_law_559 (by decide) ?_
  refine lv_iadd C.x C.b d_W_law_560 ?_
  refine lw_ld (i + 1) C hX hbl hbA hL V (by rw [show (1 : Int32) = nI 1 from rfl, nI_add]) (by omega) d_W_law_561 ?_
  refine lw_iX (As := [.int (xs (i + 1))]) (rest := []) C V cs_W_99 (c_X_extra X I hE (xs (i + 1))) (by decide) rfl hl.1 rfl (Nat.le_of_ble_eq_true rfl) d_W_law_562 (fun r0 u0 H locs w0 V => ?_)
  refine lv_aload_n C.x C.b d_W_law_565 rfl (lv_at hl 2 rfl) ?_
  refine lv_aload_n C.x C.b d_W_law_566 rfl (lv_at hl 0 rfl) ?_
  refine lv_iload_n C.x C.b d_W_law_567 rfl (lv_at hl 3 rfl) ?_
  refine lv_iconst (v := 1) C.x C.b d_W_law_568 (by decide) ?_
  refine lv_iadd C.x C.b d_W_law_569 ?_
  refine lw_ld (i + 1) C hX hbl hbA hL V (by rw [show (1 : Int32) = nI 1 from rfl, nI_add]) (by omega) d_W_law_570 ?_
  refine lw_iM (As := [.int (xs (i + 1))]) (rest := [.int r0]) C V cs_W_102 (c_M_extra Y I (xs (i + 1))) (by decide) rfl hl.1 rfl (Nat.le_of_ble_eq_true rfl) d_W_law_571 (fun r1 u1 H locs w1 V => ?_)
  refine lv_icmp_eq (tgt := 602) C.x C.b d_W_law_574 (by decide) (fun c9 => ?_) (fun c9 => ?_)
  · obtain ⟨rfl, -⟩ := w0
    obtain ⟨rfl, -⟩ := w1
    exact K a u w X Y (OK.up (B := B) ⟨I, P, T⟩ (by omega)) H locs ls V hl
  · exact absurd (w0.2.trans w1.2.symm) c9
set_option maxHeartbeats 400000 in
set_option maxRecDepth 20000 in
theorem law_c21 {pg : Program} {ev : Env} {st : State} {md : MethodId} {bl : List Frame} {mt : Method} {cd : Code} {A : Nat → Prop} {Q : State → Prop} {b L i : Nat} {xs : Nat → Int32} {k : Nat → Nat} (C : gC pg st md #[Value.ref b] mt cd code 4 R_W ret D (ty3 cI cZ cJ) A) (hX : va_X b L xs st st.heap) (hbl : b < st.heap.size) (hbA : ¬ A b) (hL : L ≤ 2048) (hi : i + 4 ≤ L) {a : AS} {u : XS} {w : MS} {B : Nat} (X : RX u a) (Y : RM w a) (I : Inv a) (P : Prs a) (T : Td a B) (hB : B < 2 ^ 18) (K : ∀ (a2 : AS) (u2 : XS) (w2 : MS), RX u2 a2 → RM w2 a2 → OK a2 (B + 41) → ∀ (H : Heap) (locs : List Loc) (ls : Array Slot), gV D A st (XW h cI cZ u2 ++ MW k cI cZ cJ w2) H locs → lv_has ls 4 [(0, .ref b), (1, .ref (h 0)), (2, .ref (k 0)), (3, .int (nI i))] → W pg lx ev room_1 st md #[Value.ref b] bl mt cd H locs 15 577 Q (F0 md 602 ls [])) : ∀ (H : Heap) (locs : List Loc) (ls : Array Slot), gV D A st (XW h cI cZ u ++ MW k cI cZ cJ w) H locs → lv_has ls 4 [(0, .ref b), (1, .ref (h 0)), (2, .ref (k 0)), (3, .int (nI i))] → W pg lx ev room_1 st md #[Value.ref b] bl mt cd H locs 15 577 Q (F0 md 579 ls []) := by
  intro H locs ls V hl
  have hE : ∀ s, aE a s < 2 ^ 20 := fun s => by have := T.1.2 s; omega
  refine lv_aload_n C.x C.b d_W_law_579 rfl (lv_at hl 1 rfl) ?_
  refine lv_aload_n C.x C.b d_W_law_580 rfl (lv_at hl 0 rfl) ?_
  refine lv_iload_n C.x C.b d_W_law_581 rfl (lv_at hl 3 rfl) ?_
  refine lv_iconst (v := 1) C.x C.b d_W_law_582 (by decide) ?_
  refine lv_iadd C.x C.b d_W_law_583 ?_
  refine lw_ld (i + 1) C hX hbl hbA hL V (by rw [show (1 : Int32) = nI 1 from rfl, nI_add]) (by omega) d_W_law_584 ?_
  refine lw_iX (As := [.int (xs (i + 1))]) (rest := []) C V cs_W_103 (c_X_posted X I (xs (i + 1))) (by decide) rfl hl.1 rfl (Nat.le_of_ble_eq_true rfl) d_W_law_585 (fun r0 u0 H locs w0 V => ?_)
  refine lv_aload_n C.x C.b d_W_law_588 rfl (lv_at hl 2 rfl) ?_
  refine lv_aload_n C.x C.b d_W_law_589 rfl (lv_at hl 0 rfl) ?_
  refine lv_iload_n C.x C.b d_W_law_590 rfl (lv_at hl 3 rfl) ?_
  refine lv_iconst (v := 1) C.x C.b d_W_law_591 (by decide) ?_
  refine lv_iadd C.x C.b d_W_law_592 ?_
  refine lw_ld (i + 1) C hX hbl hbA hL V (by rw [show (1 : Int32) = nI 1 from rfl, nI_add]) (by omega) d_W_law_593 ?_
  refine lw_iM (As := [.int (xs (i + 1))]) (rest := [.int r0]) C V cs_W_106 (c_M_posted Y I (xs (i + 1))) (by decide) rfl hl.1 rfl (Nat.le_of_ble_eq_true rfl) d_W_law_594 (fun r1 u1 H locs w1 V => ?_)
  refine lv_icmp_eq (tgt := 602) C.x C.b d_W_law_597 (by decide) (fun c9 => ?_) (fun c9 => ?_)
  · obtain ⟨rfl, -⟩ := w0
    obtain ⟨rfl, -⟩ := w1
    exact K a u w X Y (OK.up (B := B) ⟨I, P, T⟩ (by omega)) H locs ls V hl
  · exact absurd (w0.2.trans w1.2.symm) c9
set_option maxHeartbeats 400000 in
set_option maxRecDepth 20000 in
theorem law_loop {pg : Program} {ev : Env} {st : State} {md : MethodId} {bl : List Frame} {mt : Method} {cd : Code} {b L : Nat} {xs : Nat → Int32} {k : Nat → Nat} (C : gC pg st md #[Value.ref b] mt cd code 4 R_W ret D (ty3 cI cZ cJ) (fun q : Nat => st.heap.size ≤ q)) (hX : va_X b L xs st st.heap) (hbl : b < st.heap.size) (hL : L ≤ 2048) :
    ∀ (n i : Nat) (a : AS) (u : XS) (w : MS) (B : Nat), L < i + 4 * n → i ≤ L → B + 41 * n ≤ 2 ^ 17 → RX u a → RM w a → OK a B → ∀ (H : Heap) (locs : List Loc) (ls : Array Slot), gV D (fun q : Nat => st.heap.size ≤ q) st (XW h cI cZ u ++ MW k cI cZ cJ w) H locs → lv_has ls 4 [(0, .ref b), (1, .ref (h 0)), (2, .ref (k 0)), (3, .int (nI i))] → W pg lx ev room_1 st md #[Value.ref b] bl mt cd H locs 15 577 (lw_Z bl #[Value.ref b] st) (F0 md 18 ls []) := by
  have hbA : ¬ (fun q : Nat => st.heap.size ≤ q) b := Nat.not_le.mpr hbl
  intro n
  induction n with
  | zero => intro i a u w B h1 h2; omega
  | succ n ih =>
    intro i a u w B h1 h2 hBn X Y O H locs ls V hl
    refine lv_iload_n C.x C.b d_W_law_18 rfl (lv_at hl 3 rfl) ?_
    refine lv_aload_n C.x C.b d_W_law_19 rfl (lv_at hl 0 rfl) ?_
    refine va_slen C.x C.b hX hbl hbA V.2.2 d_W_law_20 ?_
    refine lv_iconst (v := 4) C.x C.b d_W_law_21 (by decide) ?_
    refine lv_isub C.x C.b d_W_law_22 ?_
    refine lv_icmp_gt (tgt := 608) C.x C.b d_W_law_23 (by decide) (fun c23 => ?_) (fun c23 => ?_)
    · refine lv_iconst (v := 1) C.x C.b d_W_law_608 (by decide) ?_
      refine va_forget (fun q hq => V.2.2.2.2 q hq) ?_
      refine W.widen (k := 600000) (n := 7302250) (Nat.le_of_ble_eq_true rfl) (Nat.le_of_ble_eq_true rfl) ?_
      exact lw_ret C.x C.b C.r C.lk d_W_law_609
    · have hi : i + 4 ≤ L := by
        refine Nat.le_of_not_lt (fun z => c23 ?_)
        rw [Int32.lt_iff_toInt_lt, show Int32.ofNat L - 4 = nI L - nI 4 from rfl, pk_sub_toInt (by omega) (by decide), nI_toInt (by omega)]
        omega
      have K : ∀ (a2 : AS) (u2 : XS) (w2 : MS), RX u2 a2 → RM w2 a2 → OK a2 (B + 41) → ∀ (H : Heap) (locs : List Loc) (ls : Array Slot), gV D (fun q : Nat => st.heap.size ≤ q) st (XW h cI cZ u2 ++ MW k cI cZ cJ w2) H locs → lv_has ls 4 [(0, .ref b), (1, .ref (h 0)), (2, .ref (k 0)), (3, .int (nI i))] → W pg lx ev room_1 st md #[Value.ref b] bl mt cd H locs 15 577 (lw_Z bl #[Value.ref b] st) (F0 md 602 ls []) := by
        intro a2 u2 w2 X2 Y2 O2 H locs ls V hl
        refine lv_iinc (v := nI (i + 4)) (lv' := [(3, .int (nI (i + 4))), (0, .ref b), (1, .ref (h 0)), (2, .ref (k 0))]) C.x C.b d_W_law_602 hl (k := 3) rfl (by rw [← nI_add]; rfl) (by decide) rfl (fun ls hl => ?_)
        refine lv_goto (tgt := 18) C.x C.b d_W_law_605 (by decide) ?_
        exact ih (i + 4) a2 u2 w2 (B + 41) (by omega) (by omega) (by omega) X2 Y2 O2 H locs ls V (lv_sub hl [1, 2, 3, 0] rfl)
      obtain ⟨I, P, T⟩ := id O
      refine lv_aload_n C.x C.b d_W_law_26 rfl (lv_at hl 0 rfl) ?_
      refine lv_iload_n C.x C.b d_W_law_27 rfl (lv_at hl 3 rfl) ?_
      refine lw_ld i C hX hbl hbA hL V rfl (by omega) d_W_law_28 ?_
      refine lv_bipush (v := 31) C.x C.b d_W_law_29 (by decide) ?_
      refine lv_iand C.x C.b d_W_law_31 ?_
      obtain ⟨j, hj, ej⟩ := pk_andE (xs i) (m := 31) 5 (by decide)
      rw [ej]
      by_cases hj2 : j < 22
      · rcases (by omega : j = 0 ∨ j = 1 ∨ j = 2 ∨ j = 3 ∨ j = 4 ∨ j = 5 ∨ j = 6 ∨ j = 7 ∨ j = 8 ∨ j = 9 ∨ j = 10 ∨ j = 11 ∨ j = 12 ∨ j = 13 ∨ j = 14 ∨ j = 15 ∨ j = 16 ∨ j = 17 ∨ j = 18 ∨ j = 19 ∨ j = 20 ∨ j = 21) with rfl | rfl | rfl | rfl | rfl | rfl | rfl | rfl | rfl | rfl | rfl | rfl | rfl | rfl | rfl | rfl | rfl | rfl | rfl | rfl | rfl | rfl
        · refine lv_tableIn (off := 104) (tgt := 136) C.x C.b d_W_law_32 (by decide) (by decide) (by decide) (by decide) ?_
          exact law_c0 C hX hbl hbA hL hi X Y I P T (by omega) K H locs ls V hl
        · refine lv_tableIn (off := 147) (tgt := 179) C.x C.b d_W_law_32 (by decide) (by decide) (by decide) (by decide) ?_
          exact law_c1 C hX hbl hbA hL hi X Y I P T (by omega) K H locs ls V hl
        · refine lv_tableIn (off := 170) (tgt := 202) C.x C.b d_W_law_32 (by decide) (by decide) (by decide) (by decide) ?_
          exact law_c2 C hX hbl hbA hL hi X Y I P T (by omega) K H locs ls V hl
        · refine lv_tableIn (off := 183) (tgt := 215) C.x C.b d_W_law_32 (by decide) (by decide) (by decide) (by decide) ?_
          exact law_c3 C hX hbl hbA hL hi X Y I P T (by omega) K H locs ls V hl
        · refine lv_tableIn (off := 196) (tgt := 228) C.x C.b d_W_law_32 (by decide) (by decide) (by decide) (by decide) ?_
          exact law_c4 C hX hbl hbA hL hi X Y I P T (by omega) K H locs ls V hl
        · refine lv_tableIn (off := 219) (tgt := 251) C.x C.b d_W_law_32 (by decide) (by decide) (by decide) (by decide) ?_
          exact law_c5 C hX hbl hbA hL hi X Y I P T (by omega) K H locs ls V hl
        · refine lv_tableIn (off := 242) (tgt := 274) C.x C.b d_W_law_32 (by decide) (by decide) (by decide) (by decide) ?_
          exact law_c6 C hX hbl hbA hL hi X Y I P T (by omega) K H locs ls V hl
        · refine lv_tableIn (off := 265) (tgt := 297) C.x C.b d_W_law_32 (by decide) (by decide) (by decide) (by decide) ?_
          exact law_c7 C hX hbl hbA hL hi X Y I P T (by omega) K H locs ls V hl
        · refine lv_tableIn (off := 278) (tgt := 310) C.x C.b d_W_law_32 (by decide) (by decide) (by decide) (by decide) ?_
          exact law_c8 C hX hbl hbA hL hi X Y I P T (by omega) K H locs ls V hl
        · refine lv_tableIn (off := 301) (tgt := 333) C.x C.b d_W_law_32 (by decide) (by decide) (by decide) (by decide) ?_
          exact law_c9 C hX hbl hbA hL hi X Y I P T (by omega) K H locs ls V hl
        · refine lv_tableIn (off := 324) (tgt := 356) C.x C.b d_W_law_32 (by decide) (by decide) (by decide) (by decide) ?_
          exact law_c10 C hX hbl hbA hL hi X Y I P T (by omega) K H locs ls V hl
        · refine lv_tableIn (off := 357) (tgt := 389) C.x C.b d_W_law_32 (by decide) (by decide) (by decide) (by decide) ?_
          exact law_c11 C hX hbl hbA hL hi X Y I P T (by omega) K H locs ls V hl
        · refine lv_tableIn (off := 370) (tgt := 402) C.x C.b d_W_law_32 (by decide) (by decide) (by decide) (by decide) ?_
          exact law_c12 C hX hbl hbA hL hi X Y I P T (by omega) K H locs ls V hl
        · refine lv_tableIn (off := 383) (tgt := 415) C.x C.b d_W_law_32 (by decide) (by decide) (by decide) (by decide) ?_
          exact law_c13 C hX hbl hbA hL hi X Y I P T (by omega) K H locs ls V hl
        · refine lv_tableIn (off := 396) (tgt := 428) C.x C.b d_W_law_32 (by decide) (by decide) (by decide) (by decide) ?_
          exact law_c14 C hX hbl hbA hL hi X Y I P T (by omega) K H locs ls V hl
        · refine lv_tableIn (off := 409) (tgt := 441) C.x C.b d_W_law_32 (by decide) (by decide) (by decide) (by decide) ?_
          exact law_c15 C hX hbl hbA hL hi X Y I P T (by omega) K H locs ls V hl
        · refine lv_tableIn (off := 422) (tgt := 454) C.x C.b d_W_law_32 (by decide) (by decide) (by decide) (by decide) ?_
          exact law_c16 C hX hbl hbA hL hi X Y I P T (by omega) K H locs ls V hl
        · refine lv_tableIn (off := 445) (tgt := 477) C.x C.b d_W_law_32 (by decide) (by decide) (by decide) (by decide) ?_
          exact law_c17 C hX hbl hbA hL hi X Y I P T (by omega) K H locs ls V hl
        · refine lv_tableIn (off := 468) (tgt := 500) C.x C.b d_W_law_32 (by decide) (by decide) (by decide) (by decide) ?_
          exact law_c18 C hX hbl hbA hL hi X Y I P T (by omega) K H locs ls V hl
        · refine lv_tableIn (off := 491) (tgt := 523) C.x C.b d_W_law_32 (by decide) (by decide) (by decide) (by decide) ?_
          exact law_c19 C hX hbl hbA hL hi X Y I P T (by omega) K H locs ls V hl
        · refine lv_tableIn (off := 524) (tgt := 556) C.x C.b d_W_law_32 (by decide) (by decide) (by decide) (by decide) ?_
          exact law_c20 C hX hbl hbA hL hi X Y I P T (by omega) K H locs ls V hl
        · refine lv_tableIn (off := 547) (tgt := 579) C.x C.b d_W_law_32 (by decide) (by decide) (by decide) (by decide) ?_
          exact law_c21 C hX hbl hbA hL hi X Y I P T (by omega) K H locs ls V hl
      · refine lv_tableOut (tgt := 602) C.x C.b d_W_law_32 (Or.inr (by rw [nI_toInt (by omega)]; omega)) (by decide) ?_
        exact K a u w X Y (O.up (by omega)) H locs ls V hl
end
end
section
set_option maxHeartbeats 1000000 in
set_option maxRecDepth 100000 in
/-- THE LAW, from its entry -/
theorem whole_start {p : Program} {e : Env} {s : State} {m : MethodId} {below : List Frame} {meth : Method} {c : Code} (l : Launch) {b L : Nat} {xs : Nat → Int32} (hL : L ≤ 2048) (C0 : lw_At p s m meth c b L xs) : W p l e room_1 s m #[Value.ref b] below meth c s.heap [] 0 0 (lw_Z below #[Value.ref b] s) (entryFrame m ([Value.ref b] : List Value).toArray 4) := by
  obtain ⟨hx, hb, hr, hml, hown, hts, hX, hbl, hlocks, hgv⟩ := id C0
  have ht : ∀ w ∈ w_all, w.before #[Value.ref b] s = true := fun w hw => hts w (wa_sub hw)
  obtain ⟨c0, iS0, hKn0⟩ := u_known (C := R_X) (T := F_X) (N := 3) (n := 3) ht i_X (ht _ ins_X)
  obtain ⟨c1, iS1, hKn1⟩ := u_known (C := R_P) (T := F_P) (N := 2) (n := 2) ht i_P (ht _ ins_P)
  obtain ⟨c2, iS2, hKn2⟩ := u_known (C := R_S) (T := F_S) (N := 7) (n := 7) ht i_S (ht _ ins_S)
  obtain ⟨c3, iS3, hKn3⟩ := u_known (C := R_M) (T := F_M) (N := 13) (n := 13) ht i_M (ht _ ins_M)
  obtain ⟨dC, dI, hKc⟩ : ∃ (dC : Nat → ClassId) (dI : Nat → Nat → Nat), ∀ (k : Nat) (q : vw_C), cls[k]? = some q → u_Kn s q.1 q.2.1 q.2.2 (dC k) (dI k) := by
    refine ⟨fun k => if k = 0 then c0 else if k = 1 then c1 else if k = 2 then c2 else c3, fun k => if k = 0 then iS0 else if k = 1 then iS1 else if k = 2 then iS2 else iS3, ?_⟩
    intro k q hq
    match k, hq with
    | 0, hq => cases hq; exact hKn0
    | 1, hq => cases hq; exact hKn1
    | 2, hq => cases hq; exact hKn2
    | 3, hq => cases hq; exact hKn3
    | k + 4, hq => simp [cls] at hq
  obtain ⟨cI, kI, pI, hI1, hI2, hI3⟩ := Cond.arrayClass_spec (ht _ ac_int)
  obtain ⟨cZ, kZ, pZ, hZ1, hZ2, hZ3⟩ := Cond.arrayClass_spec (ht _ ac_boolean)
  obtain ⟨cJ, kJ, pJ, hJ1, hJ2, hJ3⟩ := Cond.arrayClass_spec (ht _ ac_long)
  have hK : va_K (dC, dI) cls (ty3 cI cZ cJ) s := by
    refine ⟨hKc, fun k q h => ?_⟩
    match k, h with
    | 0, h => cases h; exact ⟨fun n z => ⟨fun k h => (by cases h), kI, hI2, pI, hI3⟩, hI1⟩
    | 1, h => cases h; exact ⟨fun n z => ⟨fun k h => (by cases h), kZ, hZ2, pZ, hZ3⟩, hZ1⟩
    | 2, h => cases h; exact ⟨fun n z => ⟨fun k h => (by cases h), kJ, hJ2, pJ, hJ3⟩, hJ1⟩
    | k + 3, h => simp at h
  have hN : dN s := ⟨va_Nw.of rfl (hts _ de_get), va_Nw.of rfl (hts _ de_put), va_Nw.of rfl (hts _ de_number), va_Nw.of rfl (hts _ de_row), va_Nw.of rfl (hts _ de_process), va_Nw.of rfl (hts _ mln_X_9), va_Nw.of rfl (hts _ mln_P_3)⟩
  have C : gC p s m #[Value.ref b] meth c code 4 R_W ret (dC, dI) (ty3 cI cZ cJ) (fun q : Nat => s.heap.size ≤ q) := ⟨hx, hb, hml, hown, ht, hK, fun _ h => h, hN, hr, hlocks⟩
  have V : gV (dC, dI) (fun q : Nat => s.heap.size ≤ q) s [] s.heap [] := ⟨fun k q h => by simp at h, ⟨fun i j p q h => by simp at h, fun k q h => by simp at h⟩, va_S.rf⟩
  have hl := lv_entry ([.ref b]) (n := 4) (Nat.le_of_ble_eq_true rfl)
  rw [lg_entry_eq]
  generalize (lg_sl ([.ref b]) ++ List.replicate (4 - (lg_sl ([.ref b])).length) Slot.unset).toArray = ls at hl ⊢
  have hl : lv_has ls 4 [(0, .ref b)] := hl
  refine g_new (ci := 0) (fs := [.null, .null, .null]) C V i_X t_X t_X_ok cl_W_7 ins_X ini_X rfl (fun j hj => by rcases (show j = 0 ∨ j = 1 ∨ j = 2 by omega) with rfl | rfl | rfl <;> rfl) (by decide) (by decide) d_W_law_0 (fun q0 H V => ?_)
  refine lv_dup C.x C.b d_W_law_3 rfl ?_
  refine g_vI (As := []) (rest := [.ref q0]) [0] [] (wc := [(q0, .inr (0, [.null, .null, .null]))]) (wr := []) C V rfl rfl rfl rfl (by decide) cs_W_9 (c_X_init q0) (by decide) rfl hl.1 rfl (Nat.le_of_ble_eq_true rfl) d_W_law_4 (fun z H locs hz V2 => ?_)
  obtain ⟨h, u⟩ := z
  obtain ⟨hz0, X⟩ := hz
  obtain rfl : q0 = h 0 := hz0.symm
  have V : gV (dC, dI) (fun q : Nat => s.heap.size ≤ q) s (XW h cI cZ u) H locs := V2
  refine lv_astore_n (lv' := [(1, .ref (h 0)), (0, .ref b)]) C.x C.b d_W_law_7 rfl hl (by decide) rfl (fun ls hl => ?_)
  refine g_new (ci := 3) (fs := [.null, .null, .null, .null, .null, .long 0, .null, .int 0, .null, .int 0, .int 0, .int 0, .int 0]) C V i_M t_M t_M_ok cl_W_10 ins_M ini_M rfl (fun j hj => by rcases (show j = 0 ∨ j = 1 ∨ j = 2 ∨ j = 3 ∨ j = 4 ∨ j = 5 ∨ j = 6 ∨ j = 7 ∨ j = 8 ∨ j = 9 ∨ j = 10 ∨ j = 11 ∨ j = 12 by omega) with rfl | rfl | rfl | rfl | rfl | rfl | rfl | rfl | rfl | rfl | rfl | rfl | rfl <;> rfl) (by decide) (by decide) d_W_law_8 (fun q1 H V => ?_)
  refine lv_dup C.x C.b d_W_law_11 rfl ?_
  refine g_vI (As := []) (rest := [.ref q1]) [7] [0, 1, 2, 3, 4, 5, 6] (wc := [(q1, .inr (3, [.null, .null, .null, .null, .null, .long 0, .null, .int 0, .null, .int 0, .int 0, .int 0, .int 0]))]) (wr := XW h cI cZ u) C V rfl rfl rfl rfl (by decide) cs_W_12 (c_M_init q1) (by decide) rfl hl.1 rfl (Nat.le_of_ble_eq_true rfl) d_W_law_12 (fun z H locs hz V3 => ?_)
  obtain ⟨k, w⟩ := z
  obtain ⟨hz1, Y⟩ := hz
  obtain rfl : q1 = k 0 := hz1.symm
  have V : gV (dC, dI) (fun q : Nat => s.heap.size ≤ q) s (XW h cI cZ u ++ MW k cI cZ cJ w) H locs := V3
  refine lv_astore_n (lv' := [(2, .ref (k 0)), (1, .ref (h 0)), (0, .ref b)]) C.x C.b d_W_law_15 rfl hl (by decide) rfl (fun ls hl => ?_)
  refine lv_iconst (v := 0) C.x C.b d_W_law_16 (by decide) ?_
  refine lv_istore_n (lv' := [(3, .int 0), (2, .ref (k 0)), (1, .ref (h 0)), (0, .ref b)]) C.x C.b d_W_law_17 rfl hl (by decide) rfl (fun ls hl => ?_)
  exact law_loop C hX hbl hL (L / 4 + 1) 0 a_0 u w 0 (by omega) (Nat.zero_le _) (by omega) X Y ok_0 H locs ls V (lv_sub hl [3, 2, 1, 0] rfl)
set_option maxHeartbeats 4000000 in
theorem lw_walk (l : Launch) (b : Addr) (xs : List Int32) : MetFree l x (headSpec (Jvm.Cond.code x code maxLocals ret :: tables_1) room_1) (lw_P b xs) (fun _ _ _ _ _ => True) lw_Q := by
  refine MetFree.of_bodyS (code := code) (maxLocals := maxLocals) (ret := ret) (by decide) ?_ ?_
  · intro args s m h hn
    obtain ⟨meth, c, h1, h2, h3, h4, h5, h6, -, -⟩ := Cond.code_spec hn (atoms_spec (ws := Jvm.Cond.code x code maxLocals ret :: tables_1) h _ List.mem_cons_self)
    exact ⟨meth, c, h1, h2, h3, h4, h5, h6⟩
  · intro p e s m args below meth c s₁ B hml0 hP _
    obtain ⟨rfl, hx, hbd, hgv⟩ := hP
    obtain ⟨scr, harrAt, hlist, hof, hsmall⟩ := hx
    obtain ⟨hcb, hkn, -, -⟩ := State.arrayAt?_spec harrAt
    have hown : s.vm.findClass R_law = some m.cls := findClass_of_methodNamed B.named
    have hts0 : ∀ c ∈ (Jvm.Cond.code x code maxLocals ret :: tables_1), c.before #[Value.ref b] s = true := atoms_spec (ws := Jvm.Cond.code x code maxLocals ret :: tables_1) B.pre
    have hts : ∀ w ∈ lw_tbl, w.before #[Value.ref b] s = true := k2_hts_sels lw_privs (fun w hw => hts0 w (List.mem_cons_of_mem _ hw)) lw_privs_ok
    have hml : c.maxLocals = 4 := B.maxLocals_eq (hts0 _ List.mem_cons_self)
    have X₀ : Stand p l e room_1 s m #[Value.ref b] below meth c s₁ [] 0 0 := Stand.of_body B
    have hh0 : s₁.heap = s.heap := by rw [B.state]; rfl
    have hsz : scr.slots.size = xs.length := by rw [← Array.length_toList, hlist, List.length_map]
    have hval : ∀ j : Nat, j < xs.length → scr.slots[j]? = some (.int (xs.getD j 0)) := fun j hj => by
      rw [← Array.getElem?_toList, hlist]
      simp [hj]
    have hbl : b < s.heap.size := (Array.getElem?_eq_some_iff.mp hcb).1
    have hX : va_X b xs.length (fun j => xs.getD j 0) s s.heap := ⟨scr, hcb, hof, hkn, hsz, hval⟩
    have K : W p l e room_1 s m #[Value.ref b] below meth c s₁.heap [] 0 0 (lw_Z below #[Value.ref b] s) (entryFrame m ([Value.ref b] : List Value).toArray 4) := by
      rw [hh0]
      exact whole_start l hbd ⟨B.exec, B.bytes, B.returns, hml, hown, hts, hX, hbl, B.notSynchronized, hgv⟩
    obtain ⟨t, a1, o, b1, b2, b3⟩ := K s₁ rfl X₀
    exact ⟨t, o, a1, b1, b2, b3⟩
theorem lw_pre_spec {args : Array Value} {s : State} (h : (Jvm.Cond.and given_1 narrow_1).before args s = true) (hr : rest_1_c.before args s = true) : ∃ (b : Addr) (xs : List Int32), lw_P b xs args s := by
  have hs := flat_of_before _ h
  have hq := flat_of_before _ hr
  have hc : (Cond.count 1).before args s = true := hs _ (by decide +kernel)
  have harr : (Cond.arrayOf (.arg 0) .int).before args s = true := hs _ (by decide +kernel)
  have hle : (Cond.le (.length (.arg 0)) (.int 2048)).before args s = true := hs _ (by decide +kernel)
  have hlen : (Cond.isInt (.length (.arg 0))).before args s = true := hq _ (by decide +kernel)
  have hall : (Cond.all (.arg 0) (.isInt (.elem (.arg 0) (.index 0)))).before args s = true := hq _ (by decide +kernel)
  obtain ⟨b, xs, hb, hx⟩ := State.ints_of_pre rfl harr hlen hall
  have hsm : xs.length < 2 ^ 31 := hx.choose_spec.2.2.2
  have hev : (Term.length (.arg 0)).eval args s none [] s = some (.int xs.length.toInt32) := hx.length_eval hb
  have hv := Cond.le_ints hev (show (Term.int 2048).eval args s none [] s = some (.int 2048) from rfl)
  have hd : xs.length.toInt32 ≤ 2048 := by
    simpa [Cond.before, Cond.holds, hv] using hle
  have hN : xs.length ≤ 2048 := (Int32.ofNat_le_ofNat hsm (by decide)).mp (show Int32.ofNat xs.length ≤ Int32.ofNat 2048 from hd)
  exact ⟨b, xs, Cond.one_arg hc (show args[0]? = some (.ref b) from hb), hx, hN, h⟩
theorem lw_comes (l : Launch) : Comes l x (Jvm.Cond.code x code maxLocals ret :: tables_1) room_1 (fun tb e args s => Calls_1 tb e args s ∧ rest_1 tb e args s ∧ Pre_1 tb e args s)
    (fun _ _ args s o t => lw_Q args s o t) := by
  intro p e ha hc hk s m args below hf hfit hheap happ hpre
  obtain ⟨b, xs, hP⟩ := lw_pre_spec hpre.2.2 hpre.2.1
  obtain ⟨k, o, h1, h2, h3, hQ⟩ := lw_walk l b xs p e ha hc hk s m args below hf ((Spec.applies_iff_loose hf).mp happ).1 hP trivial
  exact ⟨k, o, h1, h2, h3, hQ⟩
theorem lw_frame {s t : State} {o : Outcome} {args : Array Value} (h : Framed s o t [] 600000 7302250) :
    Framed s o t (fieldLocs frame_1_writes args s ++ arrayLocs frame_1_arrays args s ++ staticLocs frame_1_statics s) 600000 7302250 := h
theorem lw_limb (L : Cond) (hL : ∀ (args : Array Value) (s t : State), L.after args s (.returned (some (.int 1))) t = true) :
    ArmFor flags0 classFile x code maxLocals ret World_1 tables_1 room_1 Calls_1 rest_1 Pre_1
      (fun tb e a s o t => postC L tb e a s o t ∧ Framed s o t (fieldLocs frame_1_writes a s ++ arrayLocs frame_1_arrays a s ++ staticLocs frame_1_statics s) 600000 7302250) := by
  intro l _ _ _ p e ha hc hk s m args below hf hfit hheap happ hpre
  obtain ⟨k, o, h1, h2, h3, rfl, hF⟩ := lw_comes l p e ha hc hk s m args below hf hfit hheap happ hpre
  exact ⟨k, _, h1, h2, h3, hL args s _, lw_frame hF⟩
theorem i_vc : Claimed_1_1 ∧ Claimed_1_2 := ⟨lw_limb limb_1_1 (fun args s t => by simp [limb_1_1, Cond.after, Cond.holds, Cond.value]), lw_limb limb_1_2 (fun args s t => Cond.after_iff.mpr (by
  first | (rw [show limb_1_2 = Cond.eq .result (.int 1) from rfl, Cond.eq_ints (x := 1) (y := 1) rfl rfl]; simp; done) | (simp [limb_1_2, Cond.value, Term.eval]; done)))⟩
end
