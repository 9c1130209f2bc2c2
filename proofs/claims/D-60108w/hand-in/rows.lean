section
-- ===== PART A: goes FIRST, ahead of the names: the tables' words, and 'selects' of the private methods out of them =====
/-- a private method of a class that the tables say can be made, by its rows of tables_1 -/
def lw_okq (q : MethodName × Nat) : Prop := (q.1.cls ≠ "java/lang/invoke/MethodHandle" ∧ q.1.cls ≠ "java/lang/invoke/VarHandle") ∧ Cond.instantiable q.1.cls q.2 ∈ tables_1 ∧ Cond.privateMethod q.1 ∈ tables_1 ∧ Cond.instanceMethod q.1 ∈ tables_1
theorem lw_p0 : lw_okq (⟨"ThreadHeap", "bad", "(II)Z"⟩, 14) := ⟨⟨by decide +kernel, by decide +kernel⟩, List.mem_of_getElem? (i := 4) (by decide +kernel), List.mem_of_getElem? (i := 60) (by decide +kernel), List.mem_of_getElem? (i := 61) (by decide +kernel)⟩
theorem lw_p1 : lw_okq (⟨"ThreadHeap", "answer", "(I)V"⟩, 14) := ⟨⟨by decide +kernel, by decide +kernel⟩, List.mem_of_getElem? (i := 4) (by decide +kernel), List.mem_of_getElem? (i := 64) (by decide +kernel), List.mem_of_getElem? (i := 65) (by decide +kernel)⟩
theorem lw_p2 : lw_okq (⟨"ThreadHeap", "reach", "(I)V"⟩, 14) := ⟨⟨by decide +kernel, by decide +kernel⟩, List.mem_of_getElem? (i := 4) (by decide +kernel), List.mem_of_getElem? (i := 68) (by decide +kernel), List.mem_of_getElem? (i := 69) (by decide +kernel)⟩
theorem lw_p3 : lw_okq (⟨"ThreadHeap", "freeCell", "()I"⟩, 14) := ⟨⟨by decide +kernel, by decide +kernel⟩, List.mem_of_getElem? (i := 4) (by decide +kernel), List.mem_of_getElem? (i := 72) (by decide +kernel), List.mem_of_getElem? (i := 73) (by decide +kernel)⟩
theorem lw_p4 : lw_okq (⟨"ThreadHeap", "collectAll", "()V"⟩, 14) := ⟨⟨by decide +kernel, by decide +kernel⟩, List.mem_of_getElem? (i := 4) (by decide +kernel), List.mem_of_getElem? (i := 76) (by decide +kernel), List.mem_of_getElem? (i := 77) (by decide +kernel)⟩
theorem lw_p5 : lw_okq (⟨"ThreadHeap", "drive", "()V"⟩, 14) := ⟨⟨by decide +kernel, by decide +kernel⟩, List.mem_of_getElem? (i := 4) (by decide +kernel), List.mem_of_getElem? (i := 80) (by decide +kernel), List.mem_of_getElem? (i := 81) (by decide +kernel)⟩
theorem lw_p6 : lw_okq (⟨"ThreadHeap", "step", "()V"⟩, 14) := ⟨⟨by decide +kernel, by decide +kernel⟩, List.mem_of_getElem? (i := 4) (by decide +kernel), List.mem_of_getElem? (i := 84) (by decide +kernel), List.mem_of_getElem? (i := 85) (by decide +kernel)⟩
theorem lw_p7 : lw_okq (⟨"ThreadHeap", "signalStep", "()V"⟩, 14) := ⟨⟨by decide +kernel, by decide +kernel⟩, List.mem_of_getElem? (i := 4) (by decide +kernel), List.mem_of_getElem? (i := 88) (by decide +kernel), List.mem_of_getElem? (i := 89) (by decide +kernel)⟩
theorem lw_p8 : lw_okq (⟨"ThreadHeap", "traceStep", "()V"⟩, 14) := ⟨⟨by decide +kernel, by decide +kernel⟩, List.mem_of_getElem? (i := 4) (by decide +kernel), List.mem_of_getElem? (i := 92) (by decide +kernel), List.mem_of_getElem? (i := 93) (by decide +kernel)⟩
theorem lw_p9 : lw_okq (⟨"ThreadHeap", "sweepStep", "()V"⟩, 14) := ⟨⟨by decide +kernel, by decide +kernel⟩, List.mem_of_getElem? (i := 4) (by decide +kernel), List.mem_of_getElem? (i := 96) (by decide +kernel), List.mem_of_getElem? (i := 97) (by decide +kernel)⟩
theorem lw_p10 : lw_okq (⟨"ThreadHeap", "badBit", "(I)Z"⟩, 14) := ⟨⟨by decide +kernel, by decide +kernel⟩, List.mem_of_getElem? (i := 4) (by decide +kernel), List.mem_of_getElem? (i := 112) (by decide +kernel), List.mem_of_getElem? (i := 113) (by decide +kernel)⟩
theorem lw_p11 : lw_okq (⟨"ThreadHeap", "watch", "(III)V"⟩, 14) := ⟨⟨by decide +kernel, by decide +kernel⟩, List.mem_of_getElem? (i := 4) (by decide +kernel), List.mem_of_getElem? (i := 120) (by decide +kernel), List.mem_of_getElem? (i := 121) (by decide +kernel)⟩
theorem lw_p12 : lw_okq (⟨"ThreadHeap", "tagOf", "(I)I"⟩, 14) := ⟨⟨by decide +kernel, by decide +kernel⟩, List.mem_of_getElem? (i := 4) (by decide +kernel), List.mem_of_getElem? (i := 148) (by decide +kernel), List.mem_of_getElem? (i := 149) (by decide +kernel)⟩
theorem lw_p13 : lw_okq (⟨"ThreadHeapModel", "isRegister", "(II)Z"⟩, 7) := ⟨⟨by decide +kernel, by decide +kernel⟩, List.mem_of_getElem? (i := 179) (by decide +kernel), List.mem_of_getElem? (i := 212) (by decide +kernel), List.mem_of_getElem? (i := 213) (by decide +kernel)⟩
theorem lw_p14 : lw_okq (⟨"ThreadHeapModel", "reachRoots", "()V"⟩, 7) := ⟨⟨by decide +kernel, by decide +kernel⟩, List.mem_of_getElem? (i := 179) (by decide +kernel), List.mem_of_getElem? (i := 220) (by decide +kernel), List.mem_of_getElem? (i := 221) (by decide +kernel)⟩
theorem lw_p15 : lw_okq (⟨"ThreadHeapModel", "reachFields", "()Z"⟩, 7) := ⟨⟨by decide +kernel, by decide +kernel⟩, List.mem_of_getElem? (i := 179) (by decide +kernel), List.mem_of_getElem? (i := 224) (by decide +kernel), List.mem_of_getElem? (i := 225) (by decide +kernel)⟩
def lw_privs_1 : List (MethodName × Nat) := [(⟨"ThreadHeap", "bad", "(II)Z"⟩, 14), (⟨"ThreadHeap", "answer", "(I)V"⟩, 14), (⟨"ThreadHeap", "reach", "(I)V"⟩, 14), (⟨"ThreadHeap", "freeCell", "()I"⟩, 14), (⟨"ThreadHeap", "collectAll", "()V"⟩, 14), (⟨"ThreadHeap", "drive", "()V"⟩, 14), (⟨"ThreadHeap", "step", "()V"⟩, 14), (⟨"ThreadHeap", "signalStep", "()V"⟩, 14), (⟨"ThreadHeap", "traceStep", "()V"⟩, 14), (⟨"ThreadHeap", "sweepStep", "()V"⟩, 14), (⟨"ThreadHeap", "badBit", "(I)Z"⟩, 14), (⟨"ThreadHeap", "watch", "(III)V"⟩, 14), (⟨"ThreadHeap", "tagOf", "(I)I"⟩, 14), (⟨"ThreadHeapModel", "isRegister", "(II)Z"⟩, 7), (⟨"ThreadHeapModel", "reachRoots", "()V"⟩, 7), (⟨"ThreadHeapModel", "reachFields", "()Z"⟩, 7)]
theorem lw_r1 : ∀ q ∈ lw_privs_1, lw_okq q := List.forall_mem_cons.mpr ⟨lw_p0, List.forall_mem_cons.mpr ⟨lw_p1, List.forall_mem_cons.mpr ⟨lw_p2, List.forall_mem_cons.mpr ⟨lw_p3, List.forall_mem_cons.mpr ⟨lw_p4, List.forall_mem_cons.mpr ⟨lw_p5, List.forall_mem_cons.mpr ⟨lw_p6, List.forall_mem_cons.mpr ⟨lw_p7, List.forall_mem_cons.mpr ⟨lw_p8, List.forall_mem_cons.mpr ⟨lw_p9, List.forall_mem_cons.mpr ⟨lw_p10, List.forall_mem_cons.mpr ⟨lw_p11, List.forall_mem_cons.mpr ⟨lw_p12, List.forall_mem_cons.mpr ⟨lw_p13, List.forall_mem_cons.mpr ⟨lw_p14, List.forall_mem_cons.mpr ⟨lw_p15, fun _ h => absurd h List.not_mem_nil⟩⟩⟩⟩⟩⟩⟩⟩⟩⟩⟩⟩⟩⟩⟩⟩
theorem lw_p16 : lw_okq (⟨"ThreadHeapModel", "isBit", "(I)Z"⟩, 7) := ⟨⟨by decide +kernel, by decide +kernel⟩, List.mem_of_getElem? (i := 179) (by decide +kernel), List.mem_of_getElem? (i := 240) (by decide +kernel), List.mem_of_getElem? (i := 241) (by decide +kernel)⟩
def lw_privs_2 : List (MethodName × Nat) := [(⟨"ThreadHeapModel", "isBit", "(I)Z"⟩, 7)]
theorem lw_r2 : ∀ q ∈ lw_privs_2, lw_okq q := List.forall_mem_cons.mpr ⟨lw_p16, fun _ h => absurd h List.not_mem_nil⟩
def lw_privs : List (MethodName × Nat) := lw_privs_1 ++ (lw_privs_2)
def lw_tbl : List Cond := k2_sels lw_privs ++ tables_1
theorem lw_privs_ok : ∀ q ∈ lw_privs, lw_okq q := by
  show ∀ q ∈ lw_privs_1 ++ (lw_privs_2), lw_okq q
  exact List.forall_mem_append.mpr ⟨lw_r1, lw_r2⟩
end
section
-- names: printed by names.py out of the tables and the listing
def R_TH : String := "ThreadHeap"
def F_TH : u_T := fun k => match k with
  | 0 => ("ThreadHeap", "cells", "I", true)
  | 1 => ("ThreadHeap", "colour", "[I", true)
  | 2 => ("ThreadHeap", "link0", "[I", true)
  | 3 => ("ThreadHeap", "link1", "[I", true)
  | 4 => ("ThreadHeap", "value", "[I", true)
  | 5 => ("ThreadHeap", "tag", "[I", true)
  | 6 => ("ThreadHeap", "reg", "[I", true)
  | 7 => ("ThreadHeap", "global", "[I", true)
  | 8 => ("ThreadHeap", "status", "[I", true)
  | 9 => ("ThreadHeap", "answered", "I", false)
  | 10 => ("ThreadHeap", "phase", "I", false)
  | 11 => ("ThreadHeap", "black", "I", false)
  | 12 => ("ThreadHeap", "sweepAt", "I", false)
  | _ => ("ThreadHeap", "count", "I", false)
def t_TH : Nat → FieldType := fun k => match k with
  | 0 => .int
  | 1 => .array .int
  | 2 => .array .int
  | 3 => .array .int
  | 4 => .array .int
  | 5 => .array .int
  | 6 => .array .int
  | 7 => .array .int
  | 8 => .array .int
  | 9 => .int
  | 10 => .int
  | 11 => .int
  | 12 => .int
  | _ => .int
def R_MD : String := "ThreadHeapModel"
def F_MD : u_T := fun k => match k with
  | 0 => ("ThreadHeapModel", "field", "[I", true)
  | 1 => ("ThreadHeapModel", "numbers", "[I", true)
  | 2 => ("ThreadHeapModel", "reached", "[Z", true)
  | 3 => ("ThreadHeapModel", "registers", "[I", true)
  | 4 => ("ThreadHeapModel", "globals", "[I", true)
  | 5 => ("ThreadHeapModel", "made", "I", false)
  | _ => ("ThreadHeapModel", "room", "I", false)
def t_MD : Nat → FieldType := fun k => match k with
  | 0 => .array .int
  | 1 => .array .int
  | 2 => .array .boolean
  | 3 => .array .int
  | 4 => .array .int
  | 5 => .int
  | _ => .int
def R_LW : String := "ThreadHeapLaw"
abbrev classes : List vw_C := [(R_TH, F_TH, 14), (R_MD, F_MD, 7)]
abbrev b_TH_init : ByteArray := prog_1_method_1_code
def y_TH_init : MethodName := ⟨R_TH, "<init>", "(I)V"⟩
abbrev b_TH_make : ByteArray := prog_1_method_14_code
def y_TH_make : MethodName := ⟨R_TH, "make", "(III)I"⟩
abbrev b_TH_bad : ByteArray := prog_1_method_12_code
def y_TH_bad : MethodName := ⟨R_TH, "bad", "(II)Z"⟩
abbrev b_TH_answer : ByteArray := prog_1_method_3_code
def y_TH_answer : MethodName := ⟨R_TH, "answer", "(I)V"⟩
abbrev b_TH_reach : ByteArray := prog_1_method_2_code
def y_TH_reach : MethodName := ⟨R_TH, "reach", "(I)V"⟩
abbrev b_TH_freeCell : ByteArray := prog_1_method_11_code
def y_TH_freeCell : MethodName := ⟨R_TH, "freeCell", "()I"⟩
abbrev b_TH_collectAll : ByteArray := prog_1_method_10_code
def y_TH_collectAll : MethodName := ⟨R_TH, "collectAll", "()V"⟩
abbrev b_TH_drive : ByteArray := prog_1_method_9_code
def y_TH_drive : MethodName := ⟨R_TH, "drive", "()V"⟩
abbrev b_TH_step : ByteArray := prog_1_method_5_code
def y_TH_step : MethodName := ⟨R_TH, "step", "()V"⟩
abbrev b_TH_signalStep : ByteArray := prog_1_method_6_code
def y_TH_signalStep : MethodName := ⟨R_TH, "signalStep", "()V"⟩
abbrev b_TH_traceStep : ByteArray := prog_1_method_7_code
def y_TH_traceStep : MethodName := ⟨R_TH, "traceStep", "()V"⟩
abbrev b_TH_sweepStep : ByteArray := prog_1_method_8_code
def y_TH_sweepStep : MethodName := ⟨R_TH, "sweepStep", "()V"⟩
abbrev b_TH_copy : ByteArray := prog_1_method_15_code
def y_TH_copy : MethodName := ⟨R_TH, "copy", "(III)I"⟩
abbrev b_TH_drop : ByteArray := prog_1_method_16_code
def y_TH_drop : MethodName := ⟨R_TH, "drop", "(II)I"⟩
abbrev b_TH_load : ByteArray := prog_1_method_17_code
def y_TH_load : MethodName := ⟨R_TH, "load", "(IIII)I"⟩
abbrev b_TH_badBit : ByteArray := prog_1_method_13_code
def y_TH_badBit : MethodName := ⟨R_TH, "badBit", "(I)Z"⟩
abbrev b_TH_store : ByteArray := prog_1_method_18_code
def y_TH_store : MethodName := ⟨R_TH, "store", "(IIII)I"⟩
abbrev b_TH_watch : ByteArray := prog_1_method_4_code
def y_TH_watch : MethodName := ⟨R_TH, "watch", "(III)V"⟩
abbrev b_TH_put : ByteArray := prog_1_method_19_code
def y_TH_put : MethodName := ⟨R_TH, "put", "(III)I"⟩
abbrev b_TH_get : ByteArray := prog_1_method_20_code
def y_TH_get : MethodName := ⟨R_TH, "get", "(III)I"⟩
abbrev b_TH_swap : ByteArray := prog_1_method_21_code
def y_TH_swap : MethodName := ⟨R_TH, "swap", "(IIII)I"⟩
abbrev b_TH_setNumber : ByteArray := prog_1_method_22_code
def y_TH_setNumber : MethodName := ⟨R_TH, "setNumber", "(III)I"⟩
abbrev b_TH_number : ByteArray := prog_1_method_23_code
def y_TH_number : MethodName := ⟨R_TH, "number", "(II)I"⟩
abbrev b_TH_serial : ByteArray := prog_1_method_25_code
def y_TH_serial : MethodName := ⟨R_TH, "serial", "(II)I"⟩
abbrev b_TH_tagOf : ByteArray := prog_1_method_24_code
def y_TH_tagOf : MethodName := ⟨R_TH, "tagOf", "(I)I"⟩
abbrev b_TH_serialIn : ByteArray := prog_1_method_26_code
def y_TH_serialIn : MethodName := ⟨R_TH, "serialIn", "(III)I"⟩
abbrev b_TH_serialOf : ByteArray := prog_1_method_27_code
def y_TH_serialOf : MethodName := ⟨R_TH, "serialOf", "(I)I"⟩
abbrev b_TH_made : ByteArray := prog_1_method_28_code
def y_TH_made : MethodName := ⟨R_TH, "made", "()I"⟩
abbrev b_TH_live : ByteArray := prog_1_method_29_code
def y_TH_live : MethodName := ⟨R_TH, "live", "()I"⟩
abbrev b_TH_rest : ByteArray := prog_1_method_30_code
def y_TH_rest : MethodName := ⟨R_TH, "rest", "(I)V"⟩
abbrev b_TH_pause : ByteArray := prog_1_method_31_code
def y_TH_pause : MethodName := ⟨R_TH, "pause", "(I)I"⟩
abbrev b_LW_cell : ByteArray := method_2_code
def y_LW_cell : MethodName := ⟨R_LW, "cell", "([II)I"⟩
abbrev b_MD_init : ByteArray := prog_3_method_1_code
def y_MD_init : MethodName := ⟨R_MD, "<init>", "(I)V"⟩
abbrev b_MD_make : ByteArray := prog_3_method_6_code
def y_MD_make : MethodName := ⟨R_MD, "make", "(III)I"⟩
abbrev b_MD_isRegister : ByteArray := prog_3_method_2_code
def y_MD_isRegister : MethodName := ⟨R_MD, "isRegister", "(II)Z"⟩
abbrev b_MD_live : ByteArray := prog_3_method_20_code
def y_MD_live : MethodName := ⟨R_MD, "live", "()I"⟩
abbrev b_MD_reachRoots : ByteArray := prog_3_method_4_code
def y_MD_reachRoots : MethodName := ⟨R_MD, "reachRoots", "()V"⟩
abbrev b_MD_reachFields : ByteArray := prog_3_method_5_code
def y_MD_reachFields : MethodName := ⟨R_MD, "reachFields", "()Z"⟩
abbrev b_MD_copy : ByteArray := prog_3_method_7_code
def y_MD_copy : MethodName := ⟨R_MD, "copy", "(III)I"⟩
abbrev b_MD_drop : ByteArray := prog_3_method_8_code
def y_MD_drop : MethodName := ⟨R_MD, "drop", "(II)I"⟩
abbrev b_MD_load : ByteArray := prog_3_method_9_code
def y_MD_load : MethodName := ⟨R_MD, "load", "(IIII)I"⟩
abbrev b_MD_isBit : ByteArray := prog_3_method_3_code
def y_MD_isBit : MethodName := ⟨R_MD, "isBit", "(I)Z"⟩
abbrev b_MD_store : ByteArray := prog_3_method_10_code
def y_MD_store : MethodName := ⟨R_MD, "store", "(IIII)I"⟩
abbrev b_MD_put : ByteArray := prog_3_method_11_code
def y_MD_put : MethodName := ⟨R_MD, "put", "(III)I"⟩
abbrev b_MD_get : ByteArray := prog_3_method_12_code
def y_MD_get : MethodName := ⟨R_MD, "get", "(III)I"⟩
abbrev b_MD_swap : ByteArray := prog_3_method_13_code
def y_MD_swap : MethodName := ⟨R_MD, "swap", "(IIII)I"⟩
abbrev b_MD_setNumber : ByteArray := prog_3_method_14_code
def y_MD_setNumber : MethodName := ⟨R_MD, "setNumber", "(III)I"⟩
abbrev b_MD_number : ByteArray := prog_3_method_15_code
def y_MD_number : MethodName := ⟨R_MD, "number", "(II)I"⟩
abbrev b_MD_serial : ByteArray := prog_3_method_16_code
def y_MD_serial : MethodName := ⟨R_MD, "serial", "(II)I"⟩
abbrev b_MD_serialIn : ByteArray := prog_3_method_17_code
def y_MD_serialIn : MethodName := ⟨R_MD, "serialIn", "(III)I"⟩
abbrev b_MD_serialOf : ByteArray := prog_3_method_18_code
def y_MD_serialOf : MethodName := ⟨R_MD, "serialOf", "(I)I"⟩
abbrev b_MD_made : ByteArray := prog_3_method_19_code
def y_MD_made : MethodName := ⟨R_MD, "made", "()I"⟩
abbrev b_MD_rest : ByteArray := prog_3_method_21_code
def y_MD_rest : MethodName := ⟨R_MD, "rest", "(I)V"⟩
abbrev b_MD_pause : ByteArray := prog_3_method_22_code
def y_MD_pause : MethodName := ⟨R_MD, "pause", "(I)I"⟩
def lw_tb : List Cond := lw_tbl.filter goodWord
theorem gw_in {w : Cond} (h : w ∈ lw_tbl) (g : goodWord w = true) : w ∈ lw_tb := List.mem_filter.mpr ⟨h, g⟩
theorem kn_LW : Cond.initialized R_LW ∈ lw_tb := gw_in (List.mem_append_right _ (List.mem_append_left _ (List.mem_of_getElem? (i := 0) rfl))) rfl
theorem kn_TH : Cond.initialized R_TH ∈ lw_tb := gw_in (List.mem_append_right _ (List.mem_append_left _ (List.mem_of_getElem? (i := 1) rfl))) rfl
theorem kn_MD : Cond.initialized R_MD ∈ lw_tb := gw_in (List.mem_append_right _ (List.mem_append_left _ (List.mem_of_getElem? (i := 2) rfl))) rfl
theorem kk_LW_7 : Cond.classLink R_LW 7 R_TH ∈ lw_tb := gw_in (List.mem_append_right _ (List.mem_append_left _ (List.mem_of_getElem? (i := 3) rfl))) rfl
theorem kx_TH : Cond.instantiable R_TH 14 ∈ lw_tb := gw_in (List.mem_append_right _ (List.mem_append_left _ (List.mem_of_getElem? (i := 4) rfl))) rfl
theorem kl_LW_15 : Cond.methodLink R_LW 15 y_TH_init ∈ lw_tb := gw_in (List.mem_append_right _ (List.mem_append_left _ (List.mem_of_getElem? (i := 5) rfl))) rfl
theorem ki_TH_init : Cond.instanceMethod y_TH_init ∈ lw_tb := gw_in (List.mem_append_right _ (List.mem_append_left _ (List.mem_of_getElem? (i := 6) rfl))) rfl
theorem kc_TH_init : Cond.code y_TH_init b_TH_init 4 none ∈ lw_tb := gw_in (List.mem_append_right _ (List.mem_append_left _ (List.mem_of_getElem? (i := 7) rfl))) rfl
theorem kl_TH_1 : Cond.methodLink R_TH 1 objectInit ∈ lw_tb := gw_in (List.mem_append_right _ (List.mem_append_left _ (List.mem_of_getElem? (i := 8) rfl))) rfl
theorem ki_OB_init : Cond.instanceMethod objectInit ∈ lw_tb := gw_in (List.mem_append_right _ (List.mem_append_left _ (List.mem_of_getElem? (i := 9) rfl))) rfl
theorem kc_OB_init : Cond.code objectInit ⟨#[0xb1]⟩ 1 none ∈ lw_tb := gw_in (List.mem_append_right _ (List.mem_append_left _ (List.mem_of_getElem? (i := 10) rfl))) rfl
theorem kf_TH_34 : Cond.fieldLink R_TH 34 R_TH "cells" "I" ∈ lw_tb := gw_in (List.mem_append_right _ (List.mem_append_left _ (List.mem_of_getElem? (i := 11) rfl))) rfl
theorem kf_TH_7 : Cond.fieldLink R_TH 7 R_TH "colour" "[I" ∈ lw_tb := gw_in (List.mem_append_right _ (List.mem_append_left _ (List.mem_of_getElem? (i := 12) rfl))) rfl
theorem kf_TH_13 : Cond.fieldLink R_TH 13 R_TH "link0" "[I" ∈ lw_tb := gw_in (List.mem_append_right _ (List.mem_append_left _ (List.mem_of_getElem? (i := 13) rfl))) rfl
theorem kf_TH_16 : Cond.fieldLink R_TH 16 R_TH "link1" "[I" ∈ lw_tb := gw_in (List.mem_append_right _ (List.mem_append_left _ (List.mem_of_getElem? (i := 14) rfl))) rfl
theorem kf_TH_19 : Cond.fieldLink R_TH 19 R_TH "value" "[I" ∈ lw_tb := gw_in (List.mem_append_right _ (List.mem_append_left _ (List.mem_of_getElem? (i := 15) rfl))) rfl
theorem kf_TH_22 : Cond.fieldLink R_TH 22 R_TH "tag" "[I" ∈ lw_tb := gw_in (List.mem_append_right _ (List.mem_append_left _ (List.mem_of_getElem? (i := 16) rfl))) rfl
theorem kf_TH_25 : Cond.fieldLink R_TH 25 R_TH "reg" "[I" ∈ lw_tb := gw_in (List.mem_append_right _ (List.mem_append_left _ (List.mem_of_getElem? (i := 17) rfl))) rfl
theorem kf_TH_28 : Cond.fieldLink R_TH 28 R_TH "global" "[I" ∈ lw_tb := gw_in (List.mem_append_right _ (List.mem_append_left _ (List.mem_of_getElem? (i := 18) rfl))) rfl
theorem kf_TH_31 : Cond.fieldLink R_TH 31 R_TH "status" "[I" ∈ lw_tb := gw_in (List.mem_append_right _ (List.mem_append_left _ (List.mem_of_getElem? (i := 19) rfl))) rfl
theorem kf_TH_44 : Cond.fieldLink R_TH 44 R_TH "answered" "I" ∈ lw_tb := gw_in (List.mem_append_right _ (List.mem_append_left _ (List.mem_of_getElem? (i := 20) rfl))) rfl
theorem kf_TH_41 : Cond.fieldLink R_TH 41 R_TH "phase" "I" ∈ lw_tb := gw_in (List.mem_append_right _ (List.mem_append_left _ (List.mem_of_getElem? (i := 21) rfl))) rfl
theorem kf_TH_38 : Cond.fieldLink R_TH 38 R_TH "black" "I" ∈ lw_tb := gw_in (List.mem_append_right _ (List.mem_append_left _ (List.mem_of_getElem? (i := 22) rfl))) rfl
theorem kf_TH_60 : Cond.fieldLink R_TH 60 R_TH "sweepAt" "I" ∈ lw_tb := gw_in (List.mem_append_right _ (List.mem_append_left _ (List.mem_of_getElem? (i := 23) rfl))) rfl
theorem kf_TH_83 : Cond.fieldLink R_TH 83 R_TH "count" "I" ∈ lw_tb := gw_in (List.mem_append_right _ (List.mem_append_left _ (List.mem_of_getElem? (i := 24) rfl))) rfl
theorem ka_int : Cond.arrayClass .int ∈ lw_tb := gw_in (List.mem_append_right _ (List.mem_append_left _ (List.mem_of_getElem? (i := 54) rfl))) rfl
theorem kl_LW_21 : Cond.methodLink R_LW 21 y_TH_make ∈ lw_tb := gw_in (List.mem_append_right _ (List.mem_append_left _ (List.mem_of_getElem? (i := 55) rfl))) rfl
theorem ki_TH_make : Cond.instanceMethod y_TH_make ∈ lw_tb := gw_in (List.mem_append_right _ (List.mem_append_left _ (List.mem_of_getElem? (i := 56) rfl))) rfl
theorem ks_TH_make : Cond.selects R_TH y_TH_make y_TH_make ∈ lw_tb := gw_in (List.mem_append_right _ (List.mem_append_left _ (List.mem_of_getElem? (i := 57) rfl))) rfl
theorem kc_TH_make : Cond.code y_TH_make b_TH_make 5 (some .int) ∈ lw_tb := gw_in (List.mem_append_right _ (List.mem_append_left _ (List.mem_of_getElem? (i := 58) rfl))) rfl
theorem kl_TH_72 : Cond.methodLink R_TH 72 y_TH_bad ∈ lw_tb := gw_in (List.mem_append_right _ (List.mem_append_left _ (List.mem_of_getElem? (i := 59) rfl))) rfl
theorem ki_TH_bad : Cond.instanceMethod y_TH_bad ∈ lw_tb := gw_in (List.mem_append_right _ (List.mem_append_left _ (List.mem_of_getElem? (i := 61) rfl))) rfl
theorem kc_TH_bad : Cond.code y_TH_bad b_TH_bad 3 (some .boolean) ∈ lw_tb := gw_in (List.mem_append_right _ (List.mem_append_left _ (List.mem_of_getElem? (i := 62) rfl))) rfl
theorem kl_TH_63 : Cond.methodLink R_TH 63 y_TH_answer ∈ lw_tb := gw_in (List.mem_append_right _ (List.mem_append_left _ (List.mem_of_getElem? (i := 63) rfl))) rfl
theorem ki_TH_answer : Cond.instanceMethod y_TH_answer ∈ lw_tb := gw_in (List.mem_append_right _ (List.mem_append_left _ (List.mem_of_getElem? (i := 65) rfl))) rfl
theorem kc_TH_answer : Cond.code y_TH_answer b_TH_answer 3 none ∈ lw_tb := gw_in (List.mem_append_right _ (List.mem_append_left _ (List.mem_of_getElem? (i := 66) rfl))) rfl
theorem kl_TH_47 : Cond.methodLink R_TH 47 y_TH_reach ∈ lw_tb := gw_in (List.mem_append_right _ (List.mem_append_left _ (List.mem_of_getElem? (i := 67) rfl))) rfl
theorem ki_TH_reach : Cond.instanceMethod y_TH_reach ∈ lw_tb := gw_in (List.mem_append_right _ (List.mem_append_left _ (List.mem_of_getElem? (i := 69) rfl))) rfl
theorem kc_TH_reach : Cond.code y_TH_reach b_TH_reach 2 none ∈ lw_tb := gw_in (List.mem_append_right _ (List.mem_append_left _ (List.mem_of_getElem? (i := 70) rfl))) rfl
theorem kl_TH_76 : Cond.methodLink R_TH 76 y_TH_freeCell ∈ lw_tb := gw_in (List.mem_append_right _ (List.mem_append_left _ (List.mem_of_getElem? (i := 71) rfl))) rfl
theorem ki_TH_freeCell : Cond.instanceMethod y_TH_freeCell ∈ lw_tb := gw_in (List.mem_append_right _ (List.mem_append_left _ (List.mem_of_getElem? (i := 73) rfl))) rfl
theorem kc_TH_freeCell : Cond.code y_TH_freeCell b_TH_freeCell 2 (some .int) ∈ lw_tb := gw_in (List.mem_append_right _ (List.mem_append_left _ (List.mem_of_getElem? (i := 74) rfl))) rfl
theorem kl_TH_80 : Cond.methodLink R_TH 80 y_TH_collectAll ∈ lw_tb := gw_in (List.mem_append_right _ (List.mem_append_left _ (List.mem_of_getElem? (i := 75) rfl))) rfl
theorem ki_TH_collectAll : Cond.instanceMethod y_TH_collectAll ∈ lw_tb := gw_in (List.mem_append_right _ (List.mem_append_left _ (List.mem_of_getElem? (i := 77) rfl))) rfl
theorem kc_TH_collectAll : Cond.code y_TH_collectAll b_TH_collectAll 2 none ∈ lw_tb := gw_in (List.mem_append_right _ (List.mem_append_left _ (List.mem_of_getElem? (i := 78) rfl))) rfl
theorem kl_TH_69 : Cond.methodLink R_TH 69 y_TH_drive ∈ lw_tb := gw_in (List.mem_append_right _ (List.mem_append_left _ (List.mem_of_getElem? (i := 79) rfl))) rfl
theorem ki_TH_drive : Cond.instanceMethod y_TH_drive ∈ lw_tb := gw_in (List.mem_append_right _ (List.mem_append_left _ (List.mem_of_getElem? (i := 81) rfl))) rfl
theorem kc_TH_drive : Cond.code y_TH_drive b_TH_drive 1 none ∈ lw_tb := gw_in (List.mem_append_right _ (List.mem_append_left _ (List.mem_of_getElem? (i := 82) rfl))) rfl
theorem kl_TH_66 : Cond.methodLink R_TH 66 y_TH_step ∈ lw_tb := gw_in (List.mem_append_right _ (List.mem_append_left _ (List.mem_of_getElem? (i := 83) rfl))) rfl
theorem ki_TH_step : Cond.instanceMethod y_TH_step ∈ lw_tb := gw_in (List.mem_append_right _ (List.mem_append_left _ (List.mem_of_getElem? (i := 85) rfl))) rfl
theorem kc_TH_step : Cond.code y_TH_step b_TH_step 1 none ∈ lw_tb := gw_in (List.mem_append_right _ (List.mem_append_left _ (List.mem_of_getElem? (i := 86) rfl))) rfl
theorem kl_TH_51 : Cond.methodLink R_TH 51 y_TH_signalStep ∈ lw_tb := gw_in (List.mem_append_right _ (List.mem_append_left _ (List.mem_of_getElem? (i := 87) rfl))) rfl
theorem ki_TH_signalStep : Cond.instanceMethod y_TH_signalStep ∈ lw_tb := gw_in (List.mem_append_right _ (List.mem_append_left _ (List.mem_of_getElem? (i := 89) rfl))) rfl
theorem kc_TH_signalStep : Cond.code y_TH_signalStep b_TH_signalStep 1 none ∈ lw_tb := gw_in (List.mem_append_right _ (List.mem_append_left _ (List.mem_of_getElem? (i := 90) rfl))) rfl
theorem kl_TH_54 : Cond.methodLink R_TH 54 y_TH_traceStep ∈ lw_tb := gw_in (List.mem_append_right _ (List.mem_append_left _ (List.mem_of_getElem? (i := 91) rfl))) rfl
theorem ki_TH_traceStep : Cond.instanceMethod y_TH_traceStep ∈ lw_tb := gw_in (List.mem_append_right _ (List.mem_append_left _ (List.mem_of_getElem? (i := 93) rfl))) rfl
theorem kc_TH_traceStep : Cond.code y_TH_traceStep b_TH_traceStep 3 none ∈ lw_tb := gw_in (List.mem_append_right _ (List.mem_append_left _ (List.mem_of_getElem? (i := 94) rfl))) rfl
theorem kl_TH_57 : Cond.methodLink R_TH 57 y_TH_sweepStep ∈ lw_tb := gw_in (List.mem_append_right _ (List.mem_append_left _ (List.mem_of_getElem? (i := 95) rfl))) rfl
theorem ki_TH_sweepStep : Cond.instanceMethod y_TH_sweepStep ∈ lw_tb := gw_in (List.mem_append_right _ (List.mem_append_left _ (List.mem_of_getElem? (i := 97) rfl))) rfl
theorem kc_TH_sweepStep : Cond.code y_TH_sweepStep b_TH_sweepStep 1 none ∈ lw_tb := gw_in (List.mem_append_right _ (List.mem_append_left _ (List.mem_of_getElem? (i := 98) rfl))) rfl
theorem kl_LW_26 : Cond.methodLink R_LW 26 y_TH_copy ∈ lw_tb := gw_in (List.mem_append_right _ (List.mem_append_left _ (List.mem_of_getElem? (i := 99) rfl))) rfl
theorem ki_TH_copy : Cond.instanceMethod y_TH_copy ∈ lw_tb := gw_in (List.mem_append_right _ (List.mem_append_left _ (List.mem_of_getElem? (i := 100) rfl))) rfl
theorem ks_TH_copy : Cond.selects R_TH y_TH_copy y_TH_copy ∈ lw_tb := gw_in (List.mem_append_right _ (List.mem_append_left _ (List.mem_of_getElem? (i := 101) rfl))) rfl
theorem kc_TH_copy : Cond.code y_TH_copy b_TH_copy 4 (some .int) ∈ lw_tb := gw_in (List.mem_append_right _ (List.mem_append_left _ (List.mem_of_getElem? (i := 102) rfl))) rfl
theorem kl_LW_30 : Cond.methodLink R_LW 30 y_TH_drop ∈ lw_tb := gw_in (List.mem_append_right _ (List.mem_append_left _ (List.mem_of_getElem? (i := 103) rfl))) rfl
theorem ki_TH_drop : Cond.instanceMethod y_TH_drop ∈ lw_tb := gw_in (List.mem_append_right _ (List.mem_append_left _ (List.mem_of_getElem? (i := 104) rfl))) rfl
theorem ks_TH_drop : Cond.selects R_TH y_TH_drop y_TH_drop ∈ lw_tb := gw_in (List.mem_append_right _ (List.mem_append_left _ (List.mem_of_getElem? (i := 105) rfl))) rfl
theorem kc_TH_drop : Cond.code y_TH_drop b_TH_drop 3 (some .int) ∈ lw_tb := gw_in (List.mem_append_right _ (List.mem_append_left _ (List.mem_of_getElem? (i := 106) rfl))) rfl
theorem kl_LW_35 : Cond.methodLink R_LW 35 y_TH_load ∈ lw_tb := gw_in (List.mem_append_right _ (List.mem_append_left _ (List.mem_of_getElem? (i := 107) rfl))) rfl
theorem ki_TH_load : Cond.instanceMethod y_TH_load ∈ lw_tb := gw_in (List.mem_append_right _ (List.mem_append_left _ (List.mem_of_getElem? (i := 108) rfl))) rfl
theorem ks_TH_load : Cond.selects R_TH y_TH_load y_TH_load ∈ lw_tb := gw_in (List.mem_append_right _ (List.mem_append_left _ (List.mem_of_getElem? (i := 109) rfl))) rfl
theorem kc_TH_load : Cond.code y_TH_load b_TH_load 6 (some .int) ∈ lw_tb := gw_in (List.mem_append_right _ (List.mem_append_left _ (List.mem_of_getElem? (i := 110) rfl))) rfl
theorem kl_TH_86 : Cond.methodLink R_TH 86 y_TH_badBit ∈ lw_tb := gw_in (List.mem_append_right _ (List.mem_append_left _ (List.mem_of_getElem? (i := 111) rfl))) rfl
theorem ki_TH_badBit : Cond.instanceMethod y_TH_badBit ∈ lw_tb := gw_in (List.mem_append_right _ (List.mem_append_left _ (List.mem_of_getElem? (i := 113) rfl))) rfl
theorem kc_TH_badBit : Cond.code y_TH_badBit b_TH_badBit 2 (some .boolean) ∈ lw_tb := gw_in (List.mem_append_right _ (List.mem_append_left _ (List.mem_of_getElem? (i := 114) rfl))) rfl
theorem kl_LW_40 : Cond.methodLink R_LW 40 y_TH_store ∈ lw_tb := gw_in (List.mem_append_right _ (List.mem_append_left _ (List.mem_of_getElem? (i := 115) rfl))) rfl
theorem ki_TH_store : Cond.instanceMethod y_TH_store ∈ lw_tb := gw_in (List.mem_append_right _ (List.mem_append_left _ (List.mem_of_getElem? (i := 116) rfl))) rfl
theorem ks_TH_store : Cond.selects R_TH y_TH_store y_TH_store ∈ lw_tb := gw_in (List.mem_append_right _ (List.mem_append_left _ (List.mem_of_getElem? (i := 117) rfl))) rfl
theorem kc_TH_store : Cond.code y_TH_store b_TH_store 7 (some .int) ∈ lw_tb := gw_in (List.mem_append_right _ (List.mem_append_left _ (List.mem_of_getElem? (i := 118) rfl))) rfl
theorem kl_TH_90 : Cond.methodLink R_TH 90 y_TH_watch ∈ lw_tb := gw_in (List.mem_append_right _ (List.mem_append_left _ (List.mem_of_getElem? (i := 119) rfl))) rfl
theorem ki_TH_watch : Cond.instanceMethod y_TH_watch ∈ lw_tb := gw_in (List.mem_append_right _ (List.mem_append_left _ (List.mem_of_getElem? (i := 121) rfl))) rfl
theorem kc_TH_watch : Cond.code y_TH_watch b_TH_watch 4 none ∈ lw_tb := gw_in (List.mem_append_right _ (List.mem_append_left _ (List.mem_of_getElem? (i := 122) rfl))) rfl
theorem kl_LW_44 : Cond.methodLink R_LW 44 y_TH_put ∈ lw_tb := gw_in (List.mem_append_right _ (List.mem_append_left _ (List.mem_of_getElem? (i := 123) rfl))) rfl
theorem ki_TH_put : Cond.instanceMethod y_TH_put ∈ lw_tb := gw_in (List.mem_append_right _ (List.mem_append_left _ (List.mem_of_getElem? (i := 124) rfl))) rfl
theorem ks_TH_put : Cond.selects R_TH y_TH_put y_TH_put ∈ lw_tb := gw_in (List.mem_append_right _ (List.mem_append_left _ (List.mem_of_getElem? (i := 125) rfl))) rfl
theorem kc_TH_put : Cond.code y_TH_put b_TH_put 5 (some .int) ∈ lw_tb := gw_in (List.mem_append_right _ (List.mem_append_left _ (List.mem_of_getElem? (i := 126) rfl))) rfl
theorem kl_LW_48 : Cond.methodLink R_LW 48 y_TH_get ∈ lw_tb := gw_in (List.mem_append_right _ (List.mem_append_left _ (List.mem_of_getElem? (i := 127) rfl))) rfl
theorem ki_TH_get : Cond.instanceMethod y_TH_get ∈ lw_tb := gw_in (List.mem_append_right _ (List.mem_append_left _ (List.mem_of_getElem? (i := 128) rfl))) rfl
theorem ks_TH_get : Cond.selects R_TH y_TH_get y_TH_get ∈ lw_tb := gw_in (List.mem_append_right _ (List.mem_append_left _ (List.mem_of_getElem? (i := 129) rfl))) rfl
theorem kc_TH_get : Cond.code y_TH_get b_TH_get 4 (some .int) ∈ lw_tb := gw_in (List.mem_append_right _ (List.mem_append_left _ (List.mem_of_getElem? (i := 130) rfl))) rfl
theorem kl_LW_52 : Cond.methodLink R_LW 52 y_TH_swap ∈ lw_tb := gw_in (List.mem_append_right _ (List.mem_append_left _ (List.mem_of_getElem? (i := 131) rfl))) rfl
theorem ki_TH_swap : Cond.instanceMethod y_TH_swap ∈ lw_tb := gw_in (List.mem_append_right _ (List.mem_append_left _ (List.mem_of_getElem? (i := 132) rfl))) rfl
theorem ks_TH_swap : Cond.selects R_TH y_TH_swap y_TH_swap ∈ lw_tb := gw_in (List.mem_append_right _ (List.mem_append_left _ (List.mem_of_getElem? (i := 133) rfl))) rfl
theorem kc_TH_swap : Cond.code y_TH_swap b_TH_swap 6 (some .int) ∈ lw_tb := gw_in (List.mem_append_right _ (List.mem_append_left _ (List.mem_of_getElem? (i := 134) rfl))) rfl
theorem kl_LW_56 : Cond.methodLink R_LW 56 y_TH_setNumber ∈ lw_tb := gw_in (List.mem_append_right _ (List.mem_append_left _ (List.mem_of_getElem? (i := 135) rfl))) rfl
theorem ki_TH_setNumber : Cond.instanceMethod y_TH_setNumber ∈ lw_tb := gw_in (List.mem_append_right _ (List.mem_append_left _ (List.mem_of_getElem? (i := 136) rfl))) rfl
theorem ks_TH_setNumber : Cond.selects R_TH y_TH_setNumber y_TH_setNumber ∈ lw_tb := gw_in (List.mem_append_right _ (List.mem_append_left _ (List.mem_of_getElem? (i := 137) rfl))) rfl
theorem kc_TH_setNumber : Cond.code y_TH_setNumber b_TH_setNumber 5 (some .int) ∈ lw_tb := gw_in (List.mem_append_right _ (List.mem_append_left _ (List.mem_of_getElem? (i := 138) rfl))) rfl
theorem kl_LW_60 : Cond.methodLink R_LW 60 y_TH_number ∈ lw_tb := gw_in (List.mem_append_right _ (List.mem_append_left _ (List.mem_of_getElem? (i := 139) rfl))) rfl
theorem ki_TH_number : Cond.instanceMethod y_TH_number ∈ lw_tb := gw_in (List.mem_append_right _ (List.mem_append_left _ (List.mem_of_getElem? (i := 140) rfl))) rfl
theorem ks_TH_number : Cond.selects R_TH y_TH_number y_TH_number ∈ lw_tb := gw_in (List.mem_append_right _ (List.mem_append_left _ (List.mem_of_getElem? (i := 141) rfl))) rfl
theorem kc_TH_number : Cond.code y_TH_number b_TH_number 4 (some .int) ∈ lw_tb := gw_in (List.mem_append_right _ (List.mem_append_left _ (List.mem_of_getElem? (i := 142) rfl))) rfl
theorem kl_LW_64 : Cond.methodLink R_LW 64 y_TH_serial ∈ lw_tb := gw_in (List.mem_append_right _ (List.mem_append_left _ (List.mem_of_getElem? (i := 143) rfl))) rfl
theorem ki_TH_serial : Cond.instanceMethod y_TH_serial ∈ lw_tb := gw_in (List.mem_append_right _ (List.mem_append_left _ (List.mem_of_getElem? (i := 144) rfl))) rfl
theorem ks_TH_serial : Cond.selects R_TH y_TH_serial y_TH_serial ∈ lw_tb := gw_in (List.mem_append_right _ (List.mem_append_left _ (List.mem_of_getElem? (i := 145) rfl))) rfl
theorem kc_TH_serial : Cond.code y_TH_serial b_TH_serial 3 (some .int) ∈ lw_tb := gw_in (List.mem_append_right _ (List.mem_append_left _ (List.mem_of_getElem? (i := 146) rfl))) rfl
theorem kl_TH_94 : Cond.methodLink R_TH 94 y_TH_tagOf ∈ lw_tb := gw_in (List.mem_append_right _ (List.mem_append_left _ (List.mem_of_getElem? (i := 147) rfl))) rfl
theorem ki_TH_tagOf : Cond.instanceMethod y_TH_tagOf ∈ lw_tb := gw_in (List.mem_append_right _ (List.mem_append_left _ (List.mem_of_getElem? (i := 149) rfl))) rfl
theorem kc_TH_tagOf : Cond.code y_TH_tagOf b_TH_tagOf 2 (some .int) ∈ lw_tb := gw_in (List.mem_append_right _ (List.mem_append_left _ (List.mem_of_getElem? (i := 150) rfl))) rfl
theorem kl_LW_68 : Cond.methodLink R_LW 68 y_TH_serialIn ∈ lw_tb := gw_in (List.mem_append_right _ (List.mem_append_left _ (List.mem_of_getElem? (i := 151) rfl))) rfl
theorem ki_TH_serialIn : Cond.instanceMethod y_TH_serialIn ∈ lw_tb := gw_in (List.mem_append_right _ (List.mem_append_left _ (List.mem_of_getElem? (i := 152) rfl))) rfl
theorem ks_TH_serialIn : Cond.selects R_TH y_TH_serialIn y_TH_serialIn ∈ lw_tb := gw_in (List.mem_append_right _ (List.mem_append_left _ (List.mem_of_getElem? (i := 153) rfl))) rfl
theorem kc_TH_serialIn : Cond.code y_TH_serialIn b_TH_serialIn 5 (some .int) ∈ lw_tb := gw_in (List.mem_append_right _ (List.mem_append_left _ (List.mem_of_getElem? (i := 154) rfl))) rfl
theorem kl_LW_72 : Cond.methodLink R_LW 72 y_TH_serialOf ∈ lw_tb := gw_in (List.mem_append_right _ (List.mem_append_left _ (List.mem_of_getElem? (i := 155) rfl))) rfl
theorem ki_TH_serialOf : Cond.instanceMethod y_TH_serialOf ∈ lw_tb := gw_in (List.mem_append_right _ (List.mem_append_left _ (List.mem_of_getElem? (i := 156) rfl))) rfl
theorem ks_TH_serialOf : Cond.selects R_TH y_TH_serialOf y_TH_serialOf ∈ lw_tb := gw_in (List.mem_append_right _ (List.mem_append_left _ (List.mem_of_getElem? (i := 157) rfl))) rfl
theorem kc_TH_serialOf : Cond.code y_TH_serialOf b_TH_serialOf 2 (some .int) ∈ lw_tb := gw_in (List.mem_append_right _ (List.mem_append_left _ (List.mem_of_getElem? (i := 158) rfl))) rfl
theorem kl_LW_77 : Cond.methodLink R_LW 77 y_TH_made ∈ lw_tb := gw_in (List.mem_append_right _ (List.mem_append_left _ (List.mem_of_getElem? (i := 159) rfl))) rfl
theorem ki_TH_made : Cond.instanceMethod y_TH_made ∈ lw_tb := gw_in (List.mem_append_right _ (List.mem_append_left _ (List.mem_of_getElem? (i := 160) rfl))) rfl
theorem ks_TH_made : Cond.selects R_TH y_TH_made y_TH_made ∈ lw_tb := gw_in (List.mem_append_right _ (List.mem_append_left _ (List.mem_of_getElem? (i := 161) rfl))) rfl
theorem kc_TH_made : Cond.code y_TH_made b_TH_made 1 (some .int) ∈ lw_tb := gw_in (List.mem_append_right _ (List.mem_append_left _ (List.mem_of_getElem? (i := 162) rfl))) rfl
theorem kl_LW_82 : Cond.methodLink R_LW 82 y_TH_live ∈ lw_tb := gw_in (List.mem_append_right _ (List.mem_append_left _ (List.mem_of_getElem? (i := 163) rfl))) rfl
theorem ki_TH_live : Cond.instanceMethod y_TH_live ∈ lw_tb := gw_in (List.mem_append_right _ (List.mem_append_left _ (List.mem_of_getElem? (i := 164) rfl))) rfl
theorem ks_TH_live : Cond.selects R_TH y_TH_live y_TH_live ∈ lw_tb := gw_in (List.mem_append_right _ (List.mem_append_left _ (List.mem_of_getElem? (i := 165) rfl))) rfl
theorem kc_TH_live : Cond.code y_TH_live b_TH_live 3 (some .int) ∈ lw_tb := gw_in (List.mem_append_right _ (List.mem_append_left _ (List.mem_of_getElem? (i := 166) rfl))) rfl
theorem kl_LW_86 : Cond.methodLink R_LW 86 y_TH_rest ∈ lw_tb := gw_in (List.mem_append_right _ (List.mem_append_left _ (List.mem_of_getElem? (i := 167) rfl))) rfl
theorem ki_TH_rest : Cond.instanceMethod y_TH_rest ∈ lw_tb := gw_in (List.mem_append_right _ (List.mem_append_left _ (List.mem_of_getElem? (i := 168) rfl))) rfl
theorem ks_TH_rest : Cond.selects R_TH y_TH_rest y_TH_rest ∈ lw_tb := gw_in (List.mem_append_right _ (List.mem_append_left _ (List.mem_of_getElem? (i := 169) rfl))) rfl
theorem kc_TH_rest : Cond.code y_TH_rest b_TH_rest 4 none ∈ lw_tb := gw_in (List.mem_append_right _ (List.mem_append_left _ (List.mem_of_getElem? (i := 170) rfl))) rfl
theorem kl_LW_90 : Cond.methodLink R_LW 90 y_TH_pause ∈ lw_tb := gw_in (List.mem_append_right _ (List.mem_append_left _ (List.mem_of_getElem? (i := 171) rfl))) rfl
theorem ki_TH_pause : Cond.instanceMethod y_TH_pause ∈ lw_tb := gw_in (List.mem_append_right _ (List.mem_append_left _ (List.mem_of_getElem? (i := 172) rfl))) rfl
theorem ks_TH_pause : Cond.selects R_TH y_TH_pause y_TH_pause ∈ lw_tb := gw_in (List.mem_append_right _ (List.mem_append_left _ (List.mem_of_getElem? (i := 173) rfl))) rfl
theorem kc_TH_pause : Cond.code y_TH_pause b_TH_pause 2 (some .int) ∈ lw_tb := gw_in (List.mem_append_right _ (List.mem_append_left _ (List.mem_of_getElem? (i := 174) rfl))) rfl
theorem kl_LW_9 : Cond.methodLink R_LW 9 y_LW_cell ∈ lw_tb := gw_in (List.mem_append_right _ (List.mem_append_left _ (List.mem_of_getElem? (i := 175) rfl))) rfl
theorem kt_LW_cell : Cond.static y_LW_cell ∈ lw_tb := gw_in (List.mem_append_right _ (List.mem_append_left _ (List.mem_of_getElem? (i := 176) rfl))) rfl
theorem kc_LW_cell : Cond.code y_LW_cell b_LW_cell 2 (some .int) ∈ lw_tb := gw_in (List.mem_append_right _ (List.mem_append_left _ (List.mem_of_getElem? (i := 177) rfl))) rfl
theorem kk_LW_18 : Cond.classLink R_LW 18 R_MD ∈ lw_tb := gw_in (List.mem_append_right _ (List.mem_append_left _ (List.mem_of_getElem? (i := 178) rfl))) rfl
theorem kx_MD : Cond.instantiable R_MD 7 ∈ lw_tb := gw_in (List.mem_append_right _ (List.mem_append_left _ (List.mem_of_getElem? (i := 179) rfl))) rfl
theorem kl_LW_20 : Cond.methodLink R_LW 20 y_MD_init ∈ lw_tb := gw_in (List.mem_append_right _ (List.mem_append_left _ (List.mem_of_getElem? (i := 180) rfl))) rfl
theorem ki_MD_init : Cond.instanceMethod y_MD_init ∈ lw_tb := gw_in (List.mem_append_right _ (List.mem_append_left _ (List.mem_of_getElem? (i := 181) rfl))) rfl
theorem kc_MD_init : Cond.code y_MD_init b_MD_init 2 none ∈ lw_tb := gw_in (List.mem_append_right _ (List.mem_append_left _ (List.mem_of_getElem? (i := 182) rfl))) rfl
theorem kl_MD_1 : Cond.methodLink R_MD 1 objectInit ∈ lw_tb := gw_in (List.mem_append_right _ (List.mem_append_left _ (List.mem_of_getElem? (i := 183) rfl))) rfl
theorem kf_MD_7 : Cond.fieldLink R_MD 7 R_MD "field" "[I" ∈ lw_tb := gw_in (List.mem_append_right _ (List.mem_append_left _ (List.mem_of_getElem? (i := 184) rfl))) rfl
theorem kf_MD_13 : Cond.fieldLink R_MD 13 R_MD "numbers" "[I" ∈ lw_tb := gw_in (List.mem_append_right _ (List.mem_append_left _ (List.mem_of_getElem? (i := 185) rfl))) rfl
theorem kf_MD_16 : Cond.fieldLink R_MD 16 R_MD "reached" "[Z" ∈ lw_tb := gw_in (List.mem_append_right _ (List.mem_append_left _ (List.mem_of_getElem? (i := 186) rfl))) rfl
theorem kf_MD_20 : Cond.fieldLink R_MD 20 R_MD "registers" "[I" ∈ lw_tb := gw_in (List.mem_append_right _ (List.mem_append_left _ (List.mem_of_getElem? (i := 187) rfl))) rfl
theorem kf_MD_23 : Cond.fieldLink R_MD 23 R_MD "globals" "[I" ∈ lw_tb := gw_in (List.mem_append_right _ (List.mem_append_left _ (List.mem_of_getElem? (i := 188) rfl))) rfl
theorem kf_MD_30 : Cond.fieldLink R_MD 30 R_MD "made" "I" ∈ lw_tb := gw_in (List.mem_append_right _ (List.mem_append_left _ (List.mem_of_getElem? (i := 189) rfl))) rfl
theorem kf_MD_26 : Cond.fieldLink R_MD 26 R_MD "room" "I" ∈ lw_tb := gw_in (List.mem_append_right _ (List.mem_append_left _ (List.mem_of_getElem? (i := 190) rfl))) rfl
theorem ka_boolean : Cond.arrayClass .boolean ∈ lw_tb := gw_in (List.mem_append_right _ (List.mem_append_left _ (List.mem_of_getElem? (i := 206) rfl))) rfl
theorem kl_LW_25 : Cond.methodLink R_LW 25 y_MD_make ∈ lw_tb := gw_in (List.mem_append_right _ (List.mem_append_left _ (List.mem_of_getElem? (i := 207) rfl))) rfl
theorem ki_MD_make : Cond.instanceMethod y_MD_make ∈ lw_tb := gw_in (List.mem_append_right _ (List.mem_append_left _ (List.mem_of_getElem? (i := 208) rfl))) rfl
theorem ks_MD_make : Cond.selects R_MD y_MD_make y_MD_make ∈ lw_tb := gw_in (List.mem_append_right _ (List.mem_append_left _ (List.mem_of_getElem? (i := 209) rfl))) rfl
theorem kc_MD_make : Cond.code y_MD_make b_MD_make 4 (some .int) ∈ lw_tb := gw_in (List.mem_append_right _ (List.mem_append_left _ (List.mem_of_getElem? (i := 210) rfl))) rfl
theorem kl_MD_33 : Cond.methodLink R_MD 33 y_MD_isRegister ∈ lw_tb := gw_in (List.mem_append_right _ (List.mem_append_left _ (List.mem_of_getElem? (i := 211) rfl))) rfl
theorem ki_MD_isRegister : Cond.instanceMethod y_MD_isRegister ∈ lw_tb := gw_in (List.mem_append_right _ (List.mem_append_left _ (List.mem_of_getElem? (i := 213) rfl))) rfl
theorem kc_MD_isRegister : Cond.code y_MD_isRegister b_MD_isRegister 3 (some .boolean) ∈ lw_tb := gw_in (List.mem_append_right _ (List.mem_append_left _ (List.mem_of_getElem? (i := 214) rfl))) rfl
theorem kl_MD_37 : Cond.methodLink R_MD 37 y_MD_live ∈ lw_tb := gw_in (List.mem_append_right _ (List.mem_append_left _ (List.mem_of_getElem? (i := 215) rfl))) rfl
theorem ki_MD_live : Cond.instanceMethod y_MD_live ∈ lw_tb := gw_in (List.mem_append_right _ (List.mem_append_left _ (List.mem_of_getElem? (i := 216) rfl))) rfl
theorem ks_MD_live : Cond.selects R_MD y_MD_live y_MD_live ∈ lw_tb := gw_in (List.mem_append_right _ (List.mem_append_left _ (List.mem_of_getElem? (i := 217) rfl))) rfl
theorem kc_MD_live : Cond.code y_MD_live b_MD_live 4 (some .int) ∈ lw_tb := gw_in (List.mem_append_right _ (List.mem_append_left _ (List.mem_of_getElem? (i := 218) rfl))) rfl
theorem kl_MD_45 : Cond.methodLink R_MD 45 y_MD_reachRoots ∈ lw_tb := gw_in (List.mem_append_right _ (List.mem_append_left _ (List.mem_of_getElem? (i := 219) rfl))) rfl
theorem ki_MD_reachRoots : Cond.instanceMethod y_MD_reachRoots ∈ lw_tb := gw_in (List.mem_append_right _ (List.mem_append_left _ (List.mem_of_getElem? (i := 221) rfl))) rfl
theorem kc_MD_reachRoots : Cond.code y_MD_reachRoots b_MD_reachRoots 2 none ∈ lw_tb := gw_in (List.mem_append_right _ (List.mem_append_left _ (List.mem_of_getElem? (i := 222) rfl))) rfl
theorem kl_MD_48 : Cond.methodLink R_MD 48 y_MD_reachFields ∈ lw_tb := gw_in (List.mem_append_right _ (List.mem_append_left _ (List.mem_of_getElem? (i := 223) rfl))) rfl
theorem ki_MD_reachFields : Cond.instanceMethod y_MD_reachFields ∈ lw_tb := gw_in (List.mem_append_right _ (List.mem_append_left _ (List.mem_of_getElem? (i := 225) rfl))) rfl
theorem kc_MD_reachFields : Cond.code y_MD_reachFields b_MD_reachFields 5 (some .boolean) ∈ lw_tb := gw_in (List.mem_append_right _ (List.mem_append_left _ (List.mem_of_getElem? (i := 226) rfl))) rfl
theorem kl_LW_29 : Cond.methodLink R_LW 29 y_MD_copy ∈ lw_tb := gw_in (List.mem_append_right _ (List.mem_append_left _ (List.mem_of_getElem? (i := 227) rfl))) rfl
theorem ki_MD_copy : Cond.instanceMethod y_MD_copy ∈ lw_tb := gw_in (List.mem_append_right _ (List.mem_append_left _ (List.mem_of_getElem? (i := 228) rfl))) rfl
theorem ks_MD_copy : Cond.selects R_MD y_MD_copy y_MD_copy ∈ lw_tb := gw_in (List.mem_append_right _ (List.mem_append_left _ (List.mem_of_getElem? (i := 229) rfl))) rfl
theorem kc_MD_copy : Cond.code y_MD_copy b_MD_copy 4 (some .int) ∈ lw_tb := gw_in (List.mem_append_right _ (List.mem_append_left _ (List.mem_of_getElem? (i := 230) rfl))) rfl
theorem kl_LW_34 : Cond.methodLink R_LW 34 y_MD_drop ∈ lw_tb := gw_in (List.mem_append_right _ (List.mem_append_left _ (List.mem_of_getElem? (i := 231) rfl))) rfl
theorem ki_MD_drop : Cond.instanceMethod y_MD_drop ∈ lw_tb := gw_in (List.mem_append_right _ (List.mem_append_left _ (List.mem_of_getElem? (i := 232) rfl))) rfl
theorem ks_MD_drop : Cond.selects R_MD y_MD_drop y_MD_drop ∈ lw_tb := gw_in (List.mem_append_right _ (List.mem_append_left _ (List.mem_of_getElem? (i := 233) rfl))) rfl
theorem kc_MD_drop : Cond.code y_MD_drop b_MD_drop 3 (some .int) ∈ lw_tb := gw_in (List.mem_append_right _ (List.mem_append_left _ (List.mem_of_getElem? (i := 234) rfl))) rfl
theorem kl_LW_39 : Cond.methodLink R_LW 39 y_MD_load ∈ lw_tb := gw_in (List.mem_append_right _ (List.mem_append_left _ (List.mem_of_getElem? (i := 235) rfl))) rfl
theorem ki_MD_load : Cond.instanceMethod y_MD_load ∈ lw_tb := gw_in (List.mem_append_right _ (List.mem_append_left _ (List.mem_of_getElem? (i := 236) rfl))) rfl
theorem ks_MD_load : Cond.selects R_MD y_MD_load y_MD_load ∈ lw_tb := gw_in (List.mem_append_right _ (List.mem_append_left _ (List.mem_of_getElem? (i := 237) rfl))) rfl
theorem kc_MD_load : Cond.code y_MD_load b_MD_load 6 (some .int) ∈ lw_tb := gw_in (List.mem_append_right _ (List.mem_append_left _ (List.mem_of_getElem? (i := 238) rfl))) rfl
theorem kl_MD_41 : Cond.methodLink R_MD 41 y_MD_isBit ∈ lw_tb := gw_in (List.mem_append_right _ (List.mem_append_left _ (List.mem_of_getElem? (i := 239) rfl))) rfl
theorem ki_MD_isBit : Cond.instanceMethod y_MD_isBit ∈ lw_tb := gw_in (List.mem_append_right _ (List.mem_append_right _ (List.mem_of_getElem? (i := 1) rfl))) rfl
theorem kc_MD_isBit : Cond.code y_MD_isBit b_MD_isBit 2 (some .boolean) ∈ lw_tb := gw_in (List.mem_append_right _ (List.mem_append_right _ (List.mem_of_getElem? (i := 2) rfl))) rfl
theorem kl_LW_43 : Cond.methodLink R_LW 43 y_MD_store ∈ lw_tb := gw_in (List.mem_append_right _ (List.mem_append_right _ (List.mem_of_getElem? (i := 3) rfl))) rfl
theorem ki_MD_store : Cond.instanceMethod y_MD_store ∈ lw_tb := gw_in (List.mem_append_right _ (List.mem_append_right _ (List.mem_of_getElem? (i := 4) rfl))) rfl
theorem ks_MD_store : Cond.selects R_MD y_MD_store y_MD_store ∈ lw_tb := gw_in (List.mem_append_right _ (List.mem_append_right _ (List.mem_of_getElem? (i := 5) rfl))) rfl
theorem kc_MD_store : Cond.code y_MD_store b_MD_store 6 (some .int) ∈ lw_tb := gw_in (List.mem_append_right _ (List.mem_append_right _ (List.mem_of_getElem? (i := 6) rfl))) rfl
theorem kl_LW_47 : Cond.methodLink R_LW 47 y_MD_put ∈ lw_tb := gw_in (List.mem_append_right _ (List.mem_append_right _ (List.mem_of_getElem? (i := 7) rfl))) rfl
theorem ki_MD_put : Cond.instanceMethod y_MD_put ∈ lw_tb := gw_in (List.mem_append_right _ (List.mem_append_right _ (List.mem_of_getElem? (i := 8) rfl))) rfl
theorem ks_MD_put : Cond.selects R_MD y_MD_put y_MD_put ∈ lw_tb := gw_in (List.mem_append_right _ (List.mem_append_right _ (List.mem_of_getElem? (i := 9) rfl))) rfl
theorem kc_MD_put : Cond.code y_MD_put b_MD_put 4 (some .int) ∈ lw_tb := gw_in (List.mem_append_right _ (List.mem_append_right _ (List.mem_of_getElem? (i := 10) rfl))) rfl
theorem kl_LW_51 : Cond.methodLink R_LW 51 y_MD_get ∈ lw_tb := gw_in (List.mem_append_right _ (List.mem_append_right _ (List.mem_of_getElem? (i := 11) rfl))) rfl
theorem ki_MD_get : Cond.instanceMethod y_MD_get ∈ lw_tb := gw_in (List.mem_append_right _ (List.mem_append_right _ (List.mem_of_getElem? (i := 12) rfl))) rfl
theorem ks_MD_get : Cond.selects R_MD y_MD_get y_MD_get ∈ lw_tb := gw_in (List.mem_append_right _ (List.mem_append_right _ (List.mem_of_getElem? (i := 13) rfl))) rfl
theorem kc_MD_get : Cond.code y_MD_get b_MD_get 4 (some .int) ∈ lw_tb := gw_in (List.mem_append_right _ (List.mem_append_right _ (List.mem_of_getElem? (i := 14) rfl))) rfl
theorem kl_LW_55 : Cond.methodLink R_LW 55 y_MD_swap ∈ lw_tb := gw_in (List.mem_append_right _ (List.mem_append_right _ (List.mem_of_getElem? (i := 15) rfl))) rfl
theorem ki_MD_swap : Cond.instanceMethod y_MD_swap ∈ lw_tb := gw_in (List.mem_append_right _ (List.mem_append_right _ (List.mem_of_getElem? (i := 16) rfl))) rfl
theorem ks_MD_swap : Cond.selects R_MD y_MD_swap y_MD_swap ∈ lw_tb := gw_in (List.mem_append_right _ (List.mem_append_right _ (List.mem_of_getElem? (i := 17) rfl))) rfl
theorem kc_MD_swap : Cond.code y_MD_swap b_MD_swap 6 (some .int) ∈ lw_tb := gw_in (List.mem_append_right _ (List.mem_append_right _ (List.mem_of_getElem? (i := 18) rfl))) rfl
theorem kl_LW_59 : Cond.methodLink R_LW 59 y_MD_setNumber ∈ lw_tb := gw_in (List.mem_append_right _ (List.mem_append_right _ (List.mem_of_getElem? (i := 19) rfl))) rfl
theorem ki_MD_setNumber : Cond.instanceMethod y_MD_setNumber ∈ lw_tb := gw_in (List.mem_append_right _ (List.mem_append_right _ (List.mem_of_getElem? (i := 20) rfl))) rfl
theorem ks_MD_setNumber : Cond.selects R_MD y_MD_setNumber y_MD_setNumber ∈ lw_tb := gw_in (List.mem_append_right _ (List.mem_append_right _ (List.mem_of_getElem? (i := 21) rfl))) rfl
theorem kc_MD_setNumber : Cond.code y_MD_setNumber b_MD_setNumber 5 (some .int) ∈ lw_tb := gw_in (List.mem_append_right _ (List.mem_append_right _ (List.mem_of_getElem? (i := 22) rfl))) rfl
theorem kl_LW_63 : Cond.methodLink R_LW 63 y_MD_number ∈ lw_tb := gw_in (List.mem_append_right _ (List.mem_append_right _ (List.mem_of_getElem? (i := 23) rfl))) rfl
theorem ki_MD_number : Cond.instanceMethod y_MD_number ∈ lw_tb := gw_in (List.mem_append_right _ (List.mem_append_right _ (List.mem_of_getElem? (i := 24) rfl))) rfl
theorem ks_MD_number : Cond.selects R_MD y_MD_number y_MD_number ∈ lw_tb := gw_in (List.mem_append_right _ (List.mem_append_right _ (List.mem_of_getElem? (i := 25) rfl))) rfl
theorem kc_MD_number : Cond.code y_MD_number b_MD_number 3 (some .int) ∈ lw_tb := gw_in (List.mem_append_right _ (List.mem_append_right _ (List.mem_of_getElem? (i := 26) rfl))) rfl
theorem kl_LW_67 : Cond.methodLink R_LW 67 y_MD_serial ∈ lw_tb := gw_in (List.mem_append_right _ (List.mem_append_right _ (List.mem_of_getElem? (i := 27) rfl))) rfl
theorem ki_MD_serial : Cond.instanceMethod y_MD_serial ∈ lw_tb := gw_in (List.mem_append_right _ (List.mem_append_right _ (List.mem_of_getElem? (i := 28) rfl))) rfl
theorem ks_MD_serial : Cond.selects R_MD y_MD_serial y_MD_serial ∈ lw_tb := gw_in (List.mem_append_right _ (List.mem_append_right _ (List.mem_of_getElem? (i := 29) rfl))) rfl
theorem kc_MD_serial : Cond.code y_MD_serial b_MD_serial 3 (some .int) ∈ lw_tb := gw_in (List.mem_append_right _ (List.mem_append_right _ (List.mem_of_getElem? (i := 30) rfl))) rfl
theorem kl_LW_71 : Cond.methodLink R_LW 71 y_MD_serialIn ∈ lw_tb := gw_in (List.mem_append_right _ (List.mem_append_right _ (List.mem_of_getElem? (i := 31) rfl))) rfl
theorem ki_MD_serialIn : Cond.instanceMethod y_MD_serialIn ∈ lw_tb := gw_in (List.mem_append_right _ (List.mem_append_right _ (List.mem_of_getElem? (i := 32) rfl))) rfl
theorem ks_MD_serialIn : Cond.selects R_MD y_MD_serialIn y_MD_serialIn ∈ lw_tb := gw_in (List.mem_append_right _ (List.mem_append_right _ (List.mem_of_getElem? (i := 33) rfl))) rfl
theorem kc_MD_serialIn : Cond.code y_MD_serialIn b_MD_serialIn 5 (some .int) ∈ lw_tb := gw_in (List.mem_append_right _ (List.mem_append_right _ (List.mem_of_getElem? (i := 34) rfl))) rfl
theorem kl_LW_76 : Cond.methodLink R_LW 76 y_MD_serialOf ∈ lw_tb := gw_in (List.mem_append_right _ (List.mem_append_right _ (List.mem_of_getElem? (i := 35) rfl))) rfl
theorem ki_MD_serialOf : Cond.instanceMethod y_MD_serialOf ∈ lw_tb := gw_in (List.mem_append_right _ (List.mem_append_right _ (List.mem_of_getElem? (i := 36) rfl))) rfl
theorem ks_MD_serialOf : Cond.selects R_MD y_MD_serialOf y_MD_serialOf ∈ lw_tb := gw_in (List.mem_append_right _ (List.mem_append_right _ (List.mem_of_getElem? (i := 37) rfl))) rfl
theorem kc_MD_serialOf : Cond.code y_MD_serialOf b_MD_serialOf 2 (some .int) ∈ lw_tb := gw_in (List.mem_append_right _ (List.mem_append_right _ (List.mem_of_getElem? (i := 38) rfl))) rfl
theorem kl_LW_81 : Cond.methodLink R_LW 81 y_MD_made ∈ lw_tb := gw_in (List.mem_append_right _ (List.mem_append_right _ (List.mem_of_getElem? (i := 39) rfl))) rfl
theorem ki_MD_made : Cond.instanceMethod y_MD_made ∈ lw_tb := gw_in (List.mem_append_right _ (List.mem_append_right _ (List.mem_of_getElem? (i := 40) rfl))) rfl
theorem ks_MD_made : Cond.selects R_MD y_MD_made y_MD_made ∈ lw_tb := gw_in (List.mem_append_right _ (List.mem_append_right _ (List.mem_of_getElem? (i := 41) rfl))) rfl
theorem kc_MD_made : Cond.code y_MD_made b_MD_made 1 (some .int) ∈ lw_tb := gw_in (List.mem_append_right _ (List.mem_append_right _ (List.mem_of_getElem? (i := 42) rfl))) rfl
theorem kl_LW_85 : Cond.methodLink R_LW 85 y_MD_live ∈ lw_tb := gw_in (List.mem_append_right _ (List.mem_append_right _ (List.mem_of_getElem? (i := 43) rfl))) rfl
theorem kl_LW_89 : Cond.methodLink R_LW 89 y_MD_rest ∈ lw_tb := gw_in (List.mem_append_right _ (List.mem_append_right _ (List.mem_of_getElem? (i := 44) rfl))) rfl
theorem ki_MD_rest : Cond.instanceMethod y_MD_rest ∈ lw_tb := gw_in (List.mem_append_right _ (List.mem_append_right _ (List.mem_of_getElem? (i := 45) rfl))) rfl
theorem ks_MD_rest : Cond.selects R_MD y_MD_rest y_MD_rest ∈ lw_tb := gw_in (List.mem_append_right _ (List.mem_append_right _ (List.mem_of_getElem? (i := 46) rfl))) rfl
theorem kc_MD_rest : Cond.code y_MD_rest b_MD_rest 2 none ∈ lw_tb := gw_in (List.mem_append_right _ (List.mem_append_right _ (List.mem_of_getElem? (i := 47) rfl))) rfl
theorem kl_LW_93 : Cond.methodLink R_LW 93 y_MD_pause ∈ lw_tb := gw_in (List.mem_append_right _ (List.mem_append_right _ (List.mem_of_getElem? (i := 48) rfl))) rfl
theorem ki_MD_pause : Cond.instanceMethod y_MD_pause ∈ lw_tb := gw_in (List.mem_append_right _ (List.mem_append_right _ (List.mem_of_getElem? (i := 49) rfl))) rfl
theorem ks_MD_pause : Cond.selects R_MD y_MD_pause y_MD_pause ∈ lw_tb := gw_in (List.mem_append_right _ (List.mem_append_right _ (List.mem_of_getElem? (i := 50) rfl))) rfl
theorem kc_MD_pause : Cond.code y_MD_pause b_MD_pause 2 (some .int) ∈ lw_tb := gw_in (List.mem_append_right _ (List.mem_append_right _ (List.mem_of_getElem? (i := 51) rfl))) rfl
theorem ks_TH_bad : Cond.selects R_TH y_TH_bad y_TH_bad ∈ lw_tb := gw_in (List.mem_append_left _ (List.mem_of_getElem? (i := 0) rfl)) rfl
theorem ks_TH_answer : Cond.selects R_TH y_TH_answer y_TH_answer ∈ lw_tb := gw_in (List.mem_append_left _ (List.mem_of_getElem? (i := 1) rfl)) rfl
theorem ks_TH_reach : Cond.selects R_TH y_TH_reach y_TH_reach ∈ lw_tb := gw_in (List.mem_append_left _ (List.mem_of_getElem? (i := 2) rfl)) rfl
theorem ks_TH_freeCell : Cond.selects R_TH y_TH_freeCell y_TH_freeCell ∈ lw_tb := gw_in (List.mem_append_left _ (List.mem_of_getElem? (i := 3) rfl)) rfl
theorem ks_TH_collectAll : Cond.selects R_TH y_TH_collectAll y_TH_collectAll ∈ lw_tb := gw_in (List.mem_append_left _ (List.mem_of_getElem? (i := 4) rfl)) rfl
theorem ks_TH_drive : Cond.selects R_TH y_TH_drive y_TH_drive ∈ lw_tb := gw_in (List.mem_append_left _ (List.mem_of_getElem? (i := 5) rfl)) rfl
theorem ks_TH_step : Cond.selects R_TH y_TH_step y_TH_step ∈ lw_tb := gw_in (List.mem_append_left _ (List.mem_of_getElem? (i := 6) rfl)) rfl
theorem ks_TH_signalStep : Cond.selects R_TH y_TH_signalStep y_TH_signalStep ∈ lw_tb := gw_in (List.mem_append_left _ (List.mem_of_getElem? (i := 7) rfl)) rfl
theorem ks_TH_traceStep : Cond.selects R_TH y_TH_traceStep y_TH_traceStep ∈ lw_tb := gw_in (List.mem_append_left _ (List.mem_of_getElem? (i := 8) rfl)) rfl
theorem ks_TH_sweepStep : Cond.selects R_TH y_TH_sweepStep y_TH_sweepStep ∈ lw_tb := gw_in (List.mem_append_left _ (List.mem_of_getElem? (i := 9) rfl)) rfl
theorem ks_TH_badBit : Cond.selects R_TH y_TH_badBit y_TH_badBit ∈ lw_tb := gw_in (List.mem_append_left _ (List.mem_of_getElem? (i := 10) rfl)) rfl
theorem ks_TH_watch : Cond.selects R_TH y_TH_watch y_TH_watch ∈ lw_tb := gw_in (List.mem_append_left _ (List.mem_of_getElem? (i := 11) rfl)) rfl
theorem ks_TH_tagOf : Cond.selects R_TH y_TH_tagOf y_TH_tagOf ∈ lw_tb := gw_in (List.mem_append_left _ (List.mem_of_getElem? (i := 12) rfl)) rfl
theorem ks_MD_isRegister : Cond.selects R_MD y_MD_isRegister y_MD_isRegister ∈ lw_tb := gw_in (List.mem_append_left _ (List.mem_of_getElem? (i := 13) rfl)) rfl
theorem ks_MD_reachRoots : Cond.selects R_MD y_MD_reachRoots y_MD_reachRoots ∈ lw_tb := gw_in (List.mem_append_left _ (List.mem_of_getElem? (i := 14) rfl)) rfl
theorem ks_MD_reachFields : Cond.selects R_MD y_MD_reachFields y_MD_reachFields ∈ lw_tb := gw_in (List.mem_append_left _ (List.mem_of_getElem? (i := 15) rfl)) rfl
theorem ks_MD_isBit : Cond.selects R_MD y_MD_isBit y_MD_isBit ∈ lw_tb := gw_in (List.mem_append_left _ (List.mem_of_getElem? (i := 16) rfl)) rfl
theorem n_TH : ∀ a, a < 14 → ∀ b, b < 14 → a ≠ b → (F_TH a).2.1 ≠ (F_TH b).2.1 := by decide +kernel
theorem t_TH_ok : ∀ k, k < 14 → parseFieldDescriptor (F_TH k).2.2.1 = some (t_TH k) := by decide +kernel
theorem i_TH : ∀ w ∈ u_ws R_TH F_TH 14, w ∈ lw_tb := by decide +kernel
theorem n_MD : ∀ a, a < 7 → ∀ b, b < 7 → a ≠ b → (F_MD a).2.1 ≠ (F_MD b).2.1 := by decide +kernel
theorem t_MD_ok : ∀ k, k < 7 → parseFieldDescriptor (F_MD k).2.2.1 = some (t_MD k) := by decide +kernel
theorem i_MD : ∀ w ∈ u_ws R_MD F_MD 7, w ∈ lw_tb := by decide +kernel
end
section
-- pictures of the two objects, printed by base.py
abbrev TS : Type := Int32 × (Nat → Int32) × (Nat → Int32) × (Nat → Int32) × (Nat → Int32) × (Nat → Int32) × (Nat → Int32) × (Nat → Int32) × (Nat → Int32) × Int32 × Int32 × Int32 × Int32 × Int32
abbrev tN (u : TS) : Int32 := u.1
abbrev tCol (u : TS) : Nat → Int32 := u.2.1
abbrev tL0 (u : TS) : Nat → Int32 := u.2.2.1
abbrev tL1 (u : TS) : Nat → Int32 := u.2.2.2.1
abbrev tVal (u : TS) : Nat → Int32 := u.2.2.2.2.1
abbrev tTag (u : TS) : Nat → Int32 := u.2.2.2.2.2.1
abbrev tReg (u : TS) : Nat → Int32 := u.2.2.2.2.2.2.1
abbrev tGl (u : TS) : Nat → Int32 := u.2.2.2.2.2.2.2.1
abbrev tSt (u : TS) : Nat → Int32 := u.2.2.2.2.2.2.2.2.1
abbrev tAns (u : TS) : Int32 := u.2.2.2.2.2.2.2.2.2.1
abbrev tPh (u : TS) : Int32 := u.2.2.2.2.2.2.2.2.2.2.1
abbrev tBl (u : TS) : Int32 := u.2.2.2.2.2.2.2.2.2.2.2.1
abbrev tSw (u : TS) : Int32 := u.2.2.2.2.2.2.2.2.2.2.2.2.1
abbrev tCnt (u : TS) : Int32 := u.2.2.2.2.2.2.2.2.2.2.2.2.2
abbrev sN (u : TS) (v : Int32) : TS := (v, u.2)
abbrev sCol (u : TS) (v : Nat → Int32) : TS := (u.1, v, u.2.2)
abbrev sL0 (u : TS) (v : Nat → Int32) : TS := (u.1, u.2.1, v, u.2.2.2)
abbrev sL1 (u : TS) (v : Nat → Int32) : TS := (u.1, u.2.1, u.2.2.1, v, u.2.2.2.2)
abbrev sVal (u : TS) (v : Nat → Int32) : TS := (u.1, u.2.1, u.2.2.1, u.2.2.2.1, v, u.2.2.2.2.2)
abbrev sTag (u : TS) (v : Nat → Int32) : TS := (u.1, u.2.1, u.2.2.1, u.2.2.2.1, u.2.2.2.2.1, v, u.2.2.2.2.2.2)
abbrev sReg (u : TS) (v : Nat → Int32) : TS := (u.1, u.2.1, u.2.2.1, u.2.2.2.1, u.2.2.2.2.1, u.2.2.2.2.2.1, v, u.2.2.2.2.2.2.2)
abbrev sGl (u : TS) (v : Nat → Int32) : TS := (u.1, u.2.1, u.2.2.1, u.2.2.2.1, u.2.2.2.2.1, u.2.2.2.2.2.1, u.2.2.2.2.2.2.1, v, u.2.2.2.2.2.2.2.2)
abbrev sSt (u : TS) (v : Nat → Int32) : TS := (u.1, u.2.1, u.2.2.1, u.2.2.2.1, u.2.2.2.2.1, u.2.2.2.2.2.1, u.2.2.2.2.2.2.1, u.2.2.2.2.2.2.2.1, v, u.2.2.2.2.2.2.2.2.2)
abbrev sAns (u : TS) (v : Int32) : TS := (u.1, u.2.1, u.2.2.1, u.2.2.2.1, u.2.2.2.2.1, u.2.2.2.2.2.1, u.2.2.2.2.2.2.1, u.2.2.2.2.2.2.2.1, u.2.2.2.2.2.2.2.2.1, v, u.2.2.2.2.2.2.2.2.2.2)
abbrev sPh (u : TS) (v : Int32) : TS := (u.1, u.2.1, u.2.2.1, u.2.2.2.1, u.2.2.2.2.1, u.2.2.2.2.2.1, u.2.2.2.2.2.2.1, u.2.2.2.2.2.2.2.1, u.2.2.2.2.2.2.2.2.1, u.2.2.2.2.2.2.2.2.2.1, v, u.2.2.2.2.2.2.2.2.2.2.2)
abbrev sBl (u : TS) (v : Int32) : TS := (u.1, u.2.1, u.2.2.1, u.2.2.2.1, u.2.2.2.2.1, u.2.2.2.2.2.1, u.2.2.2.2.2.2.1, u.2.2.2.2.2.2.2.1, u.2.2.2.2.2.2.2.2.1, u.2.2.2.2.2.2.2.2.2.1, u.2.2.2.2.2.2.2.2.2.2.1, v, u.2.2.2.2.2.2.2.2.2.2.2.2)
abbrev sSw (u : TS) (v : Int32) : TS := (u.1, u.2.1, u.2.2.1, u.2.2.2.1, u.2.2.2.2.1, u.2.2.2.2.2.1, u.2.2.2.2.2.2.1, u.2.2.2.2.2.2.2.1, u.2.2.2.2.2.2.2.2.1, u.2.2.2.2.2.2.2.2.2.1, u.2.2.2.2.2.2.2.2.2.2.1, u.2.2.2.2.2.2.2.2.2.2.2.1, v, u.2.2.2.2.2.2.2.2.2.2.2.2.2)
abbrev sCnt (u : TS) (v : Int32) : TS := (u.1, u.2.1, u.2.2.1, u.2.2.2.1, u.2.2.2.2.1, u.2.2.2.2.2.1, u.2.2.2.2.2.2.1, u.2.2.2.2.2.2.2.1, u.2.2.2.2.2.2.2.2.1, u.2.2.2.2.2.2.2.2.2.1, u.2.2.2.2.2.2.2.2.2.2.1, u.2.2.2.2.2.2.2.2.2.2.2.1, u.2.2.2.2.2.2.2.2.2.2.2.2.1, v)
abbrev MS : Type := (Nat → Int32) × (Nat → Int32) × (Nat → Int32) × (Nat → Int32) × (Nat → Int32) × Int32 × Int32
abbrev mFld (u : MS) : Nat → Int32 := u.1
abbrev mNum (u : MS) : Nat → Int32 := u.2.1
abbrev mRch (u : MS) : Nat → Int32 := u.2.2.1
abbrev mReg (u : MS) : Nat → Int32 := u.2.2.2.1
abbrev mGl (u : MS) : Nat → Int32 := u.2.2.2.2.1
abbrev mMade (u : MS) : Int32 := u.2.2.2.2.2.1
abbrev mRoom (u : MS) : Int32 := u.2.2.2.2.2.2
abbrev eFld (u : MS) (v : Nat → Int32) : MS := (v, u.2)
abbrev eNum (u : MS) (v : Nat → Int32) : MS := (u.1, v, u.2.2)
abbrev eRch (u : MS) (v : Nat → Int32) : MS := (u.1, u.2.1, v, u.2.2.2)
abbrev eReg (u : MS) (v : Nat → Int32) : MS := (u.1, u.2.1, u.2.2.1, v, u.2.2.2.2)
abbrev eGl (u : MS) (v : Nat → Int32) : MS := (u.1, u.2.1, u.2.2.1, u.2.2.2.1, v, u.2.2.2.2.2)
abbrev eMade (u : MS) (v : Int32) : MS := (u.1, u.2.1, u.2.2.1, u.2.2.2.1, u.2.2.2.2.1, v, u.2.2.2.2.2.2)
abbrev eRoom (u : MS) (v : Int32) : MS := (u.1, u.2.1, u.2.2.1, u.2.2.2.1, u.2.2.2.2.1, u.2.2.2.2.2.1, v)
abbrev cw_tys (cI cZ : ClassId) : List (ClassId × FieldType) := [(cI, .int), (cZ, .boolean)]
def th_F (ad : Nat → Nat) (u : TS) : List Value := [.int (tN u), .ref (ad 1), .ref (ad 2), .ref (ad 3), .ref (ad 4), .ref (ad 5), .ref (ad 6), .ref (ad 7), .ref (ad 8), .int (tAns u), .int (tPh u), .int (tBl u), .int (tSw u), .int (tCnt u)]
def th_W (cI cZ : ClassId) (ad : Nat → Nat) (u : TS) : va_W := [(ad 0, .inr (0, th_F ad u)), (ad 1, .inl (cI, 16, .inl (tCol u))), (ad 2, .inl (cI, 16, .inl (tL0 u))), (ad 3, .inl (cI, 16, .inl (tL1 u))), (ad 4, .inl (cI, 16, .inl (tVal u))), (ad 5, .inl (cI, 16, .inl (tTag u))), (ad 6, .inl (cI, 12, .inl (tReg u))), (ad 7, .inl (cI, 2, .inl (tGl u))), (ad 8, .inl (cI, 3, .inl (tSt u)))]
def md_F (ad : Nat → Nat) (u : MS) : List Value := [.ref (ad 1), .ref (ad 2), .ref (ad 3), .ref (ad 4), .ref (ad 5), .int (mMade u), .int (mRoom u)]
def md_W (cI cZ : ClassId) (ad : Nat → Nat) (u : MS) : va_W := [(ad 0, .inr (1, md_F ad u)), (ad 1, .inl (cI, 1026, .inl (mFld u))), (ad 2, .inl (cI, 513, .inl (mNum u))), (ad 3, .inl (cZ, 513, .inl (mRch u))), (ad 4, .inl (cI, 12, .inl (mReg u))), (ad 5, .inl (cI, 2, .inl (mGl u)))]
def cw_rm (k : Nat) : Room := { frames := k, cells := 0, slots := 0, locals := 32 * k }
def cw_I (D : va_G) (cI cZ : ClassId) (A : Nat → Prop) (H0 : Heap) (s : State) (ws : va_W) (H : Heap) (locs : List Loc) : Prop :=
  va_K D classes (cw_tys cI cZ) s ∧ va_P D classes ws H ∧ va_D A ws ∧ va_S A H0 H locs ∧ ∀ q : Nat, H0.size ≤ q → A q
/-- a contract with an int answer: world 'wf u' before, 'wf z.1' behind, the answer z.2 -/
def ct_I (l : Launch) (D : va_G) (cI cZ : ClassId) {S : Type} (wf : S → va_W) (y : MethodName) (b : ByteArray) (nL : Nat) (ret : Option FieldType) (k : Nat) (av : List Value) (u : S) (z : S × Int32) : Prop :=
  ∀ sz : Nat, Met l y (Cond.code y b nL ret :: lw_tb) (cw_rm k) (va_Pc av (fun U => U.heap.size = sz ∧ va_P D classes (wf u) U.heap ∧ va_K D classes (cw_tys cI cZ) U ∧ va_D (fun _ => True) (wf u)))
    (va_Qi (S := Unit) (fun r _ => r = z.2) (fun _ t => va_P D classes (wf z.1) t.heap ∧ va_K D classes (cw_tys cI cZ) t ∧ va_D (va_A (wf u) sz) (wf z.1)) (va_A (wf u) sz)) 0 0 (va_A (wf u) sz)
/-- the same without an answer -/
def ct_V (l : Launch) (D : va_G) (cI cZ : ClassId) {S : Type} (wf : S → va_W) (y : MethodName) (b : ByteArray) (nL : Nat) (ret : Option FieldType) (k : Nat) (av : List Value) (u : S) (z : S) : Prop :=
  ∀ sz : Nat, Met l y (Cond.code y b nL ret :: lw_tb) (cw_rm k) (va_Pc av (fun U => U.heap.size = sz ∧ va_P D classes (wf u) U.heap ∧ va_K D classes (cw_tys cI cZ) U ∧ va_D (fun _ => True) (wf u)))
    (va_Qv (S := Unit) (fun _ => True) (fun _ t => va_P D classes (wf z) t.heap ∧ va_K D classes (cw_tys cI cZ) t ∧ va_D (va_A (wf u) sz) (wf z)) (va_A (wf u) sz)) 0 0 (va_A (wf u) sz)
theorem ct_I.mk {l : Launch} {D : va_G} {cI cZ : ClassId} {S : Type} {wf : S → va_W} {y : MethodName} {b : ByteArray} {nL : Nat} {ty : FieldType} {k : Nat} {av : List Value} {u : S} {z : S × Int32}
    (hy : plainName y.cls = true) (hlen : (lg_sl av).length ≤ nL)
    (body : ∀ (p : Program) (e : Env) (s : State) (m : MethodId) (below : List Frame) (meth : Method) (c : Code) (A : Nat → Prop) (Q : State → Prop) (ls : Array Slot),
      CallFix p m c b nL s av.toArray lw_tb y.cls → cw_I D cI cZ A s.heap s (wf u) s.heap [] → lv_has ls nL (lv_args 0 av) →
      (∀ {v : S} {r : Int32} {H : Heap} {locs : List Loc} {pc : Nat} {ls : Array Slot}, cw_I D cI cZ A s.heap s (wf v) H locs → decode b pc = .ok (.ireturn, 1) → narrow ty (.int r) = .int r → (v, r) = z → W p l e (cw_rm k) s m av.toArray below meth c H locs 0 0 Q (F0 m pc ls [.int r])) →
      W p l e (cw_rm k) s m av.toArray below meth c s.heap [] 0 0 Q (F0 m 0 ls [])) :
    ct_I l D cI cZ wf y b nL (some ty) k av u z := by
  intro sz
  refine Met.ofW (cc := b) (maxL := nL) (ret := some ty) hy rfl ?_
  intro p e s m args below meth c s₁ B hml hv
  obtain ⟨rfl, hsz, hP, hK, hD0⟩ := hv
  subst hsz
  have hts := atoms_spec (ws := Cond.code y b nL (some ty) :: lw_tb) B.pre
  have hown : s.vm.findClass y.cls = some m.cls := findClass_of_methodNamed B.named
  have hlocks := B.notSynchronized
  have hr := B.returns
  have hl := lv_entry av (n := nL) hlen
  rw [lg_entry_eq]
  refine body p e s m below meth c (va_A (wf u) s.heap.size) _ _ ⟨B.exec, B.bytes, hml, hown, fun w hw => hts w (List.mem_cons_of_mem _ hw)⟩ ⟨hK, hP, hD0.self, va_S.rf, fun q h => Or.inr h⟩ hl ?_
  intro v r H locs pc ls hI hd hn hz
  obtain ⟨hK', hP', hD', hS, hA⟩ := hI
  subst hz
  exact W.zret (ty := ty) B.exec B.bytes hr hn (fun t ht hW => ⟨⟨r, (), rfl, rfl, by rw [ht]; exact hP', va_K.moved hW.alike hK', hD'⟩, hS.F ht⟩) hS.2.2 hd
theorem ct_V.mk {l : Launch} {D : va_G} {cI cZ : ClassId} {S : Type} {wf : S → va_W} {y : MethodName} {b : ByteArray} {nL : Nat} {k : Nat} {av : List Value} {u : S} {z : S}
    (hy : plainName y.cls = true) (hlen : (lg_sl av).length ≤ nL)
    (body : ∀ (p : Program) (e : Env) (s : State) (m : MethodId) (below : List Frame) (meth : Method) (c : Code) (A : Nat → Prop) (Q : State → Prop) (ls : Array Slot),
      CallFix p m c b nL s av.toArray lw_tb y.cls → cw_I D cI cZ A s.heap s (wf u) s.heap [] → lv_has ls nL (lv_args 0 av) →
      (∀ {v : S} {H : Heap} {locs : List Loc} {pc : Nat} {ls : Array Slot}, cw_I D cI cZ A s.heap s (wf v) H locs → decode b pc = .ok (.return_, 1) → v = z → W p l e (cw_rm k) s m av.toArray below meth c H locs 0 0 Q (F0 m pc ls [])) →
      W p l e (cw_rm k) s m av.toArray below meth c s.heap [] 0 0 Q (F0 m 0 ls [])) :
    ct_V l D cI cZ wf y b nL none k av u z := by
  intro sz
  refine Met.ofW (cc := b) (maxL := nL) (ret := none) hy rfl ?_
  intro p e s m args below meth c s₁ B hml hv
  obtain ⟨rfl, hsz, hP, hK, hD0⟩ := hv
  subst hsz
  have hts := atoms_spec (ws := Cond.code y b nL none :: lw_tb) B.pre
  have hown : s.vm.findClass y.cls = some m.cls := findClass_of_methodNamed B.named
  have hlocks := B.notSynchronized
  have hr := B.returns
  have hl := lv_entry av (n := nL) hlen
  rw [lg_entry_eq]
  refine body p e s m below meth c (va_A (wf u) s.heap.size) _ _ ⟨B.exec, B.bytes, hml, hown, fun w hw => hts w (List.mem_cons_of_mem _ hw)⟩ ⟨hK, hP, hD0.self, va_S.rf, fun q h => Or.inr h⟩ hl ?_
  intro v H locs pc ls hI hd hz
  obtain ⟨hK', hP', hD', hS, hA⟩ := hI
  subst hz
  exact W.vret B.exec B.bytes hr (fun t ht hW => ⟨⟨(), rfl, trivial, by rw [ht]; exact hP', va_K.moved hW.alike hK', hD'⟩, hS.F ht⟩) hS.2.2 hd
theorem gd_tbl : ∀ w ∈ lw_tb, (w.onTables && w.keeps) = true ∨ ∃ ty, w = .arrayClass ty := fun w hw => good_of_word (List.mem_filter.mp hw).2
theorem cw_fm {ws w : va_W} {isC : List Nat} (h : isC.map (fun i => ws[i]?) = w.map some) : isC.filterMap (fun i => ws[i]?) = w := by
  have h2 := congrArg (List.filterMap id) h
  rw [List.filterMap_map, List.filterMap_map] at h2
  simpa using h2
/-- what the tables say of a call: the link, the method, which one is selected, its code -/
def cw_ok (own : String) (idx : Nat) (y : MethodName) (b : ByteArray) (nL : Nat) (ret : Option FieldType) (n : Nat) : Prop :=
  Cond.methodLink own idx y ∈ lw_tb ∧ Cond.instanceMethod y ∈ lw_tb ∧ Cond.selects y.cls y y ∈ lw_tb ∧ Cond.initialized y.cls ∈ lw_tb ∧ Cond.code y b nL ret ∈ lw_tb ∧
  y.cls ≠ "java/lang/invoke/MethodHandle" ∧ y.cls ≠ "java/lang/invoke/VarHandle" ∧ (parseMethodDescriptor y.desc).map (fun d => d.parameters.length) = some n
theorem cw_good {own : String} {idx : Nat} {y : MethodName} {b : ByteArray} {nL : Nat} {ret : Option FieldType} {n : Nat} (h : cw_ok own idx y b nL ret n) : GoodIn lw_tb (wsV own idx y.cls y (Cond.code y b nL ret :: lw_tb)) := by
  obtain ⟨h1, h2, h3, h4, h5, -⟩ := h
  intro w hw
  have hm : w ∈ lw_tb := by
    unfold wsV at hw
    rcases List.mem_append.mp hw with hw | hw
    · simp only [List.mem_cons, List.not_mem_nil, or_false] at hw
      rcases hw with rfl | rfl | rfl | rfl
      · exact h1
      · exact h2
      · exact h3
      · exact h4
    · rcases List.mem_cons.mp hw with rfl | hw
      · exact h5
      · exact hw
  exact ⟨hm, gd_tbl w hm⟩
section
variable {p : Program} {l : Launch} {e : Env} {R : Room} {s : State} {m : MethodId} {args : Array Value} {below : List Frame} {meth : Method} {c : Code} {H : Heap} {locs : List Loc} {cells slots : Nat} {Q : State → Prop} {cc : ByteArray} {pc nL : Nat} {ls : Array Slot} {rest : List Value} {D : va_G} {A : Nat → Prop} {H0 : Heap} {cI cZ : ClassId} {own : String}
theorem ct_I.call {S : Type} {wf : S → va_W} {y : MethodName} {b : ByteArray} {nLy : Nat} {ret : Option FieldType} {k : Nat} {As : List Value} {u : S} {z : S × Int32} {a idx : Nat} {ws wr : va_W} (isC isR : List Nat)
    (F : CallFix p m c cc nL s args lw_tb own) (hI : cw_I D cI cZ A H0 s ws H locs) (hM : ct_I l D cI cZ wf y b nLy ret k (.ref a :: As) u z)
    (hC : isC.map (fun i => ws[i]?) = (wf u).map some) (hRs : isR.map (fun i => ws[i]?) = wr.map some) (hn : va_nd isR = true) (hC1 : va_nd isC = true) (hdis : ∀ i ∈ isR, i ∉ isC)
    (hw : cw_ok own idx y b nLy ret As.length) {ci : Nat} {fs : List Value} {T : u_T} {N : Nat} (he : (wf u)[0]? = some (a, .inr (ci, fs))) (hc : classes[ci]? = some (y.cls, T, N))
    (hR : k + 1 ≤ R.frames ∧ 8 + (nLy + 11) + 32 * k ≤ R.locals) (hsz : ls.size = nL) (hrest : (rest.map fun v => v.category).sum ≤ 8) (hcs : cells ≤ R.cells ∧ slots ≤ R.slots)
    (hdg : decode cc pc = .ok (.invokevirtual idx, 3))
    (kk : ∀ (H1 : Heap) (locs1 : List Loc), cw_I D cI cZ A H0 s (wr ++ wf z.1) H1 locs1 → W p l e R s m args below meth c H1 locs1 cells slots Q (F0 m (pc + 3) ls (.int z.2 :: rest))) :
    W p l e R s m args below meth c H locs cells slots Q (F0 m pc ls (As.reverse ++ .ref a :: rest)) := by
  obtain ⟨hK, hP, hD, hS, hA⟩ := hI
  have hPc := hP.sub (ws' := wf u) isC (cw_fm hC)
  have hDc := hD.sub (ws' := wf u) isC hC1 hC
  have hFc := va_free (wc := wf u) hD hS hA isC hC
  refine va_calli (va_runV (As := As) (rest := rest) F (hM H.size) (cwV As.length F.2.2.2.2 (cw_good hw) rfl rfl rfl ⟨rfl, hw.2.2.2.2.2⟩ hR) ⟨fun a U g mk q => by obtain ⟨q0, q1, qP, qK, qD⟩ := q; exact ⟨q0, q1, qP, va_K.moved (u := U) (U := U.calling g mk a) (Vm.Alike.refl U.vm) qK, qD⟩, va_recv hK hPc hc he, fun U hU hW => ⟨rfl, by rw [hU], by rw [hU]; exact hPc, va_K.moved hW.alike hK, hDc.weaken (fun _ _ _ _ => trivial)⟩⟩ rfl rfl hsz rfl (lv_room hrest) hdg hcs) hS (fun q _ h => hFc q h) hFc (fun r u1 t H1 locs1 ht hvm hw1 hB hz1 hk1 hS1 => ?_)
  obtain ⟨hP1, hK1, hD1⟩ := hB
  rw [ht] at hP1
  subst hw1
  obtain ⟨hP2, hD2⟩ := va_join (wr := wr) (w1 := wf z.1) hP hD isC isR hC hRs hn hdis hk1 hFc hP1 hD1
  exact kk H1 locs1 ⟨hK, hP2, hD2, hS1, hA⟩
theorem ct_V.call {S : Type} {wf : S → va_W} {y : MethodName} {b : ByteArray} {nLy : Nat} {ret : Option FieldType} {k : Nat} {As : List Value} {u : S} {z : S} {a idx : Nat} {ws wr : va_W} (isC isR : List Nat)
    (F : CallFix p m c cc nL s args lw_tb own) (hI : cw_I D cI cZ A H0 s ws H locs) (hM : ct_V l D cI cZ wf y b nLy ret k (.ref a :: As) u z)
    (hC : isC.map (fun i => ws[i]?) = (wf u).map some) (hRs : isR.map (fun i => ws[i]?) = wr.map some) (hn : va_nd isR = true) (hC1 : va_nd isC = true) (hdis : ∀ i ∈ isR, i ∉ isC)
    (hw : cw_ok own idx y b nLy ret As.length) {ci : Nat} {fs : List Value} {T : u_T} {N : Nat} (he : (wf u)[0]? = some (a, .inr (ci, fs))) (hc : classes[ci]? = some (y.cls, T, N))
    (hR : k + 1 ≤ R.frames ∧ 8 + (nLy + 11) + 32 * k ≤ R.locals) (hsz : ls.size = nL) (hrest : (rest.map fun v => v.category).sum ≤ 8) (hcs : cells ≤ R.cells ∧ slots ≤ R.slots)
    (hdg : decode cc pc = .ok (.invokevirtual idx, 3))
    (kk : ∀ (H1 : Heap) (locs1 : List Loc), cw_I D cI cZ A H0 s (wr ++ wf z) H1 locs1 → W p l e R s m args below meth c H1 locs1 cells slots Q (F0 m (pc + 3) ls rest)) :
    W p l e R s m args below meth c H locs cells slots Q (F0 m pc ls (As.reverse ++ .ref a :: rest)) := by
  obtain ⟨hK, hP, hD, hS, hA⟩ := hI
  have hPc := hP.sub (ws' := wf u) isC (cw_fm hC)
  have hDc := hD.sub (ws' := wf u) isC hC1 hC
  have hFc := va_free (wc := wf u) hD hS hA isC hC
  refine va_callv (va_runV (As := As) (rest := rest) F (hM H.size) (cwV As.length F.2.2.2.2 (cw_good hw) rfl rfl rfl ⟨rfl, hw.2.2.2.2.2⟩ hR) ⟨fun a U g mk q => by obtain ⟨q0, q1, qP, qK, qD⟩ := q; exact ⟨q0, q1, qP, va_K.moved (u := U) (U := U.calling g mk a) (Vm.Alike.refl U.vm) qK, qD⟩, va_recv hK hPc hc he, fun U hU hW => ⟨rfl, by rw [hU], by rw [hU]; exact hPc, va_K.moved hW.alike hK, hDc.weaken (fun _ _ _ _ => trivial)⟩⟩ rfl rfl hsz rfl (lv_room hrest) hdg hcs) hS (fun q _ h => hFc q h) hFc (fun u1 t H1 locs1 ht hvm hw1 hB hz1 hk1 hS1 => ?_)
  obtain ⟨hP1, hK1, hD1⟩ := hB
  rw [ht] at hP1
  obtain ⟨hP2, hD2⟩ := va_join (wr := wr) (w1 := wf z) hP hD isC isR hC hRs hn hdis hk1 hFc hP1 hD1
  exact kk H1 locs1 ⟨hK, hP2, hD2, hS1, hA⟩
theorem cw_get (F : CallFix p m c cc nL s args lw_tb own) {ws : va_W} (hI : cw_I D cI cZ A H0 s ws H locs) (q0 : Nat) {C : String} {T : u_T} {N ci index a : Nat} {fs : List Value} (he : ws[q0]? = some (a, .inr (ci, fs))) (hc : classes[ci]? = some (C, T, N)) (hin : ∀ w ∈ u_ws C T N, w ∈ lw_tb) (k : Nat) (hk : k < N) (hlk : Cond.fieldLink own index own (T k).2.1 (T k).2.2.1 ∈ lw_tb) (hself : (T k).1 = own) {v : Value} (hv : fs[k]? = some v) (hdg : decode cc pc = .ok (.getfield index, 3))
    (kk : W p l e R s m args below meth c H locs cells slots Q (F0 m (pc + 3) ls (v :: rest))) : W p l e R s m args below meth c H locs cells slots Q (F0 m pc ls (.ref a :: rest)) :=
  va_get F.1 F.2.1 F.2.2.2.2 hin F.2.2.2.1 hI.1 hI.2.1 q0 he hc k hk (F.2.2.2.2 _ hlk) (by rw [hself]; exact fun _ h => h) hv hdg kk
theorem cw_put (F : CallFix p m c cc nL s args lw_tb own) {ws ws' : va_W} (hI : cw_I D cI cZ A H0 s ws H locs) (q0 : Nat) {C : String} {T : u_T} {N ci index a : Nat} {fs : List Value} (he : ws[q0]? = some (a, .inr (ci, fs))) (hc : classes[ci]? = some (C, T, N)) (hin : ∀ w ∈ u_ws C T N, w ∈ lw_tb) (ty0 : Nat → FieldType) (hty : ∀ k, k < N → parseFieldDescriptor (T k).2.2.1 = some (ty0 k)) (hnm : ∀ a, a < N → ∀ b, b < N → a ≠ b → (T a).2.1 ≠ (T b).2.1) (k : Nat) (hk : k < N) (hlk : Cond.fieldLink own index own (T k).2.1 (T k).2.2.1 ∈ lw_tb) (hself : (T k).1 = own) (hfin : (T k).2.2.2 = false) {v : Int32} (hd : parseFieldDescriptor (T k).2.2.1 = some .int) (hl : k < fs.length) (hws : ws.set q0 (a, .inr (ci, fs.set k (.int v))) = ws') (hdg : decode cc pc = .ok (.putfield index, 3))
    (kk : ∀ (H1 : Heap) (locs1 : List Loc), cw_I D cI cZ A H0 s ws' H1 locs1 → W p l e R s m args below meth c H1 locs1 cells slots Q (F0 m (pc + 3) ls rest)) : W p l e R s m args below meth c H locs cells slots Q (F0 m pc ls (.int v :: .ref a :: rest)) := by
  subst hws
  exact va_put F.1 F.2.1 F.2.2.2.2 hin ty0 hty hnm F.2.2.2.1 hI.1 hI.2.1 hI.2.2.1 hI.2.2.2.1 q0 he hc k hk (F.2.2.2.2 _ hlk) (by rw [hself]; exact fun _ h => h) hfin hd rfl rfl hl hdg (fun H1 locs1 hP hD hS => kk H1 locs1 ⟨hI.1, hP, hD, hS, hI.2.2.2.2⟩)
theorem cw_ald (F : CallFix p m c cc nL s args lw_tb own) {ws : va_W} (hI : cw_I D cI cZ A H0 s ws H locs) (q0 : Nat) {n a : Nat} {f : Nat → Int32} (ha : ws[q0]? = some (a, .inl (cI, n, .inl f))) {i : Int32} (hin : vp_in i n) (hdg : decode cc pc = .ok (.iaload, 1))
    (kk : W p l e R s m args below meth c H locs cells slots Q (F0 m (pc + 1) ls (.int (f i.toNatClampNeg) :: rest))) : W p l e R s m args below meth c H locs cells slots Q (F0 m pc ls (.int i :: .ref a :: rest)) :=
  va_iald F.1 F.2.1 hI.1 hI.2.1 q0 0 ha rfl hin hdg kk
theorem cw_ast (F : CallFix p m c cc nL s args lw_tb own) {ws ws' : va_W} (hI : cw_I D cI cZ A H0 s ws H locs) (q0 : Nat) {n a : Nat} {f : Nat → Int32} (ha : ws[q0]? = some (a, .inl (cI, n, .inl f))) {i v : Int32} (hin : vp_in i n) (hws : ws.set q0 (a, .inl (cI, n, .inl (upd f i.toNatClampNeg v))) = ws') (hdg : decode cc pc = .ok (.iastore, 1))
    (kk : ∀ (H1 : Heap) (locs1 : List Loc), cw_I D cI cZ A H0 s ws' H1 locs1 → W p l e R s m args below meth c H1 locs1 cells slots Q (F0 m (pc + 1) ls rest)) : W p l e R s m args below meth c H locs cells slots Q (F0 m pc ls (.int v :: .int i :: .ref a :: rest)) := by
  subst hws
  exact va_iast F.1 F.2.1 hI.1 hI.2.1 hI.2.2.1 hI.2.2.2.1 q0 0 ha rfl hin hdg (fun H1 locs1 hP hD hS => kk H1 locs1 ⟨hI.1, hP, hD, hS, hI.2.2.2.2⟩)
theorem cw_zld (F : CallFix p m c cc nL s args lw_tb own) {ws : va_W} (hI : cw_I D cI cZ A H0 s ws H locs) (q0 : Nat) {n a : Nat} {f : Nat → Int32} (ha : ws[q0]? = some (a, .inl (cZ, n, .inl f))) {i : Int32} (hin : vp_in i n) (hdg : decode cc pc = .ok (.baload, 1))
    (kk : W p l e R s m args below meth c H locs cells slots Q (F0 m (pc + 1) ls (.int (f i.toNatClampNeg) :: rest))) : W p l e R s m args below meth c H locs cells slots Q (F0 m pc ls (.int i :: .ref a :: rest)) :=
  va_zald F.1 F.2.1 hI.1 hI.2.1 q0 1 ha rfl hin hdg kk
theorem cw_zst (F : CallFix p m c cc nL s args lw_tb own) {ws ws' : va_W} (hI : cw_I D cI cZ A H0 s ws H locs) (q0 : Nat) {n a : Nat} {f : Nat → Int32} (ha : ws[q0]? = some (a, .inl (cZ, n, .inl f))) {i v : Int32} (hin : vp_in i n) (hv : vp_nar .boolean v = v) (hws : ws.set q0 (a, .inl (cZ, n, .inl (upd f i.toNatClampNeg v))) = ws') (hdg : decode cc pc = .ok (.bastore, 1))
    (kk : ∀ (H1 : Heap) (locs1 : List Loc), cw_I D cI cZ A H0 s ws' H1 locs1 → W p l e R s m args below meth c H1 locs1 cells slots Q (F0 m (pc + 1) ls rest)) : W p l e R s m args below meth c H locs cells slots Q (F0 m pc ls (.int v :: .int i :: .ref a :: rest)) := by
  subst hws
  exact va_zast F.1 F.2.1 hI.1 hI.2.1 hI.2.2.1 hI.2.2.2.1 q0 1 ha rfl hin hdg (fun H1 locs1 hP hD hS => kk H1 locs1 ⟨hI.1, by rw [hv] at hP; exact hP, by rw [hv] at hD; exact hD, hS, hI.2.2.2.2⟩)
theorem th_get_cells (F : CallFix p m c cc nL s args lw_tb R_TH) {ad : Nat → Nat} {u : TS} (hI : cw_I D cI cZ A H0 s (th_W cI cZ ad u) H locs) (hdg : decode cc pc = .ok (.getfield 34, 3)) (kk : W p l e R s m args below meth c H locs cells slots Q (F0 m (pc + 3) ls (.int (tN u) :: rest))) : W p l e R s m args below meth c H locs cells slots Q (F0 m pc ls (.ref (ad 0) :: rest)) := cw_get F hI 0 rfl rfl i_TH 0 (by decide) kf_TH_34 rfl rfl hdg kk
theorem th_get_colour (F : CallFix p m c cc nL s args lw_tb R_TH) {ad : Nat → Nat} {u : TS} (hI : cw_I D cI cZ A H0 s (th_W cI cZ ad u) H locs) (hdg : decode cc pc = .ok (.getfield 7, 3)) (kk : W p l e R s m args below meth c H locs cells slots Q (F0 m (pc + 3) ls (.ref (ad 1) :: rest))) : W p l e R s m args below meth c H locs cells slots Q (F0 m pc ls (.ref (ad 0) :: rest)) := cw_get F hI 0 rfl rfl i_TH 1 (by decide) kf_TH_7 rfl rfl hdg kk
theorem th_ald_colour (F : CallFix p m c cc nL s args lw_tb R_TH) {ad : Nat → Nat} {u : TS} (hI : cw_I D cI cZ A H0 s (th_W cI cZ ad u) H locs) {i : Int32} (hin : vp_in i 16) (hdg : decode cc pc = .ok (.iaload, 1)) (kk : W p l e R s m args below meth c H locs cells slots Q (F0 m (pc + 1) ls (.int (tCol u i.toNatClampNeg) :: rest))) : W p l e R s m args below meth c H locs cells slots Q (F0 m pc ls (.int i :: .ref (ad 1) :: rest)) := cw_ald F hI 1 rfl hin hdg kk
theorem th_ast_colour (F : CallFix p m c cc nL s args lw_tb R_TH) {ad : Nat → Nat} {u : TS} (hI : cw_I D cI cZ A H0 s (th_W cI cZ ad u) H locs) {i v : Int32} (hin : vp_in i 16) (hdg : decode cc pc = .ok (.iastore, 1)) (kk : ∀ (H1 : Heap) (locs1 : List Loc), cw_I D cI cZ A H0 s (th_W cI cZ ad (sCol u (upd (tCol u) i.toNatClampNeg v))) H1 locs1 → W p l e R s m args below meth c H1 locs1 cells slots Q (F0 m (pc + 1) ls rest)) : W p l e R s m args below meth c H locs cells slots Q (F0 m pc ls (.int v :: .int i :: .ref (ad 1) :: rest)) := cw_ast F hI 1 rfl hin rfl hdg kk
theorem th_get_link0 (F : CallFix p m c cc nL s args lw_tb R_TH) {ad : Nat → Nat} {u : TS} (hI : cw_I D cI cZ A H0 s (th_W cI cZ ad u) H locs) (hdg : decode cc pc = .ok (.getfield 13, 3)) (kk : W p l e R s m args below meth c H locs cells slots Q (F0 m (pc + 3) ls (.ref (ad 2) :: rest))) : W p l e R s m args below meth c H locs cells slots Q (F0 m pc ls (.ref (ad 0) :: rest)) := cw_get F hI 0 rfl rfl i_TH 2 (by decide) kf_TH_13 rfl rfl hdg kk
theorem th_ald_link0 (F : CallFix p m c cc nL s args lw_tb R_TH) {ad : Nat → Nat} {u : TS} (hI : cw_I D cI cZ A H0 s (th_W cI cZ ad u) H locs) {i : Int32} (hin : vp_in i 16) (hdg : decode cc pc = .ok (.iaload, 1)) (kk : W p l e R s m args below meth c H locs cells slots Q (F0 m (pc + 1) ls (.int (tL0 u i.toNatClampNeg) :: rest))) : W p l e R s m args below meth c H locs cells slots Q (F0 m pc ls (.int i :: .ref (ad 2) :: rest)) := cw_ald F hI 2 rfl hin hdg kk
theorem th_ast_link0 (F : CallFix p m c cc nL s args lw_tb R_TH) {ad : Nat → Nat} {u : TS} (hI : cw_I D cI cZ A H0 s (th_W cI cZ ad u) H locs) {i v : Int32} (hin : vp_in i 16) (hdg : decode cc pc = .ok (.iastore, 1)) (kk : ∀ (H1 : Heap) (locs1 : List Loc), cw_I D cI cZ A H0 s (th_W cI cZ ad (sL0 u (upd (tL0 u) i.toNatClampNeg v))) H1 locs1 → W p l e R s m args below meth c H1 locs1 cells slots Q (F0 m (pc + 1) ls rest)) : W p l e R s m args below meth c H locs cells slots Q (F0 m pc ls (.int v :: .int i :: .ref (ad 2) :: rest)) := cw_ast F hI 2 rfl hin rfl hdg kk
theorem th_get_link1 (F : CallFix p m c cc nL s args lw_tb R_TH) {ad : Nat → Nat} {u : TS} (hI : cw_I D cI cZ A H0 s (th_W cI cZ ad u) H locs) (hdg : decode cc pc = .ok (.getfield 16, 3)) (kk : W p l e R s m args below meth c H locs cells slots Q (F0 m (pc + 3) ls (.ref (ad 3) :: rest))) : W p l e R s m args below meth c H locs cells slots Q (F0 m pc ls (.ref (ad 0) :: rest)) := cw_get F hI 0 rfl rfl i_TH 3 (by decide) kf_TH_16 rfl rfl hdg kk
theorem th_ald_link1 (F : CallFix p m c cc nL s args lw_tb R_TH) {ad : Nat → Nat} {u : TS} (hI : cw_I D cI cZ A H0 s (th_W cI cZ ad u) H locs) {i : Int32} (hin : vp_in i 16) (hdg : decode cc pc = .ok (.iaload, 1)) (kk : W p l e R s m args below meth c H locs cells slots Q (F0 m (pc + 1) ls (.int (tL1 u i.toNatClampNeg) :: rest))) : W p l e R s m args below meth c H locs cells slots Q (F0 m pc ls (.int i :: .ref (ad 3) :: rest)) := cw_ald F hI 3 rfl hin hdg kk
theorem th_ast_link1 (F : CallFix p m c cc nL s args lw_tb R_TH) {ad : Nat → Nat} {u : TS} (hI : cw_I D cI cZ A H0 s (th_W cI cZ ad u) H locs) {i v : Int32} (hin : vp_in i 16) (hdg : decode cc pc = .ok (.iastore, 1)) (kk : ∀ (H1 : Heap) (locs1 : List Loc), cw_I D cI cZ A H0 s (th_W cI cZ ad (sL1 u (upd (tL1 u) i.toNatClampNeg v))) H1 locs1 → W p l e R s m args below meth c H1 locs1 cells slots Q (F0 m (pc + 1) ls rest)) : W p l e R s m args below meth c H locs cells slots Q (F0 m pc ls (.int v :: .int i :: .ref (ad 3) :: rest)) := cw_ast F hI 3 rfl hin rfl hdg kk
theorem th_get_value (F : CallFix p m c cc nL s args lw_tb R_TH) {ad : Nat → Nat} {u : TS} (hI : cw_I D cI cZ A H0 s (th_W cI cZ ad u) H locs) (hdg : decode cc pc = .ok (.getfield 19, 3)) (kk : W p l e R s m args below meth c H locs cells slots Q (F0 m (pc + 3) ls (.ref (ad 4) :: rest))) : W p l e R s m args below meth c H locs cells slots Q (F0 m pc ls (.ref (ad 0) :: rest)) := cw_get F hI 0 rfl rfl i_TH 4 (by decide) kf_TH_19 rfl rfl hdg kk
theorem th_ald_value (F : CallFix p m c cc nL s args lw_tb R_TH) {ad : Nat → Nat} {u : TS} (hI : cw_I D cI cZ A H0 s (th_W cI cZ ad u) H locs) {i : Int32} (hin : vp_in i 16) (hdg : decode cc pc = .ok (.iaload, 1)) (kk : W p l e R s m args below meth c H locs cells slots Q (F0 m (pc + 1) ls (.int (tVal u i.toNatClampNeg) :: rest))) : W p l e R s m args below meth c H locs cells slots Q (F0 m pc ls (.int i :: .ref (ad 4) :: rest)) := cw_ald F hI 4 rfl hin hdg kk
theorem th_ast_value (F : CallFix p m c cc nL s args lw_tb R_TH) {ad : Nat → Nat} {u : TS} (hI : cw_I D cI cZ A H0 s (th_W cI cZ ad u) H locs) {i v : Int32} (hin : vp_in i 16) (hdg : decode cc pc = .ok (.iastore, 1)) (kk : ∀ (H1 : Heap) (locs1 : List Loc), cw_I D cI cZ A H0 s (th_W cI cZ ad (sVal u (upd (tVal u) i.toNatClampNeg v))) H1 locs1 → W p l e R s m args below meth c H1 locs1 cells slots Q (F0 m (pc + 1) ls rest)) : W p l e R s m args below meth c H locs cells slots Q (F0 m pc ls (.int v :: .int i :: .ref (ad 4) :: rest)) := cw_ast F hI 4 rfl hin rfl hdg kk
theorem th_get_tag (F : CallFix p m c cc nL s args lw_tb R_TH) {ad : Nat → Nat} {u : TS} (hI : cw_I D cI cZ A H0 s (th_W cI cZ ad u) H locs) (hdg : decode cc pc = .ok (.getfield 22, 3)) (kk : W p l e R s m args below meth c H locs cells slots Q (F0 m (pc + 3) ls (.ref (ad 5) :: rest))) : W p l e R s m args below meth c H locs cells slots Q (F0 m pc ls (.ref (ad 0) :: rest)) := cw_get F hI 0 rfl rfl i_TH 5 (by decide) kf_TH_22 rfl rfl hdg kk
theorem th_ald_tag (F : CallFix p m c cc nL s args lw_tb R_TH) {ad : Nat → Nat} {u : TS} (hI : cw_I D cI cZ A H0 s (th_W cI cZ ad u) H locs) {i : Int32} (hin : vp_in i 16) (hdg : decode cc pc = .ok (.iaload, 1)) (kk : W p l e R s m args below meth c H locs cells slots Q (F0 m (pc + 1) ls (.int (tTag u i.toNatClampNeg) :: rest))) : W p l e R s m args below meth c H locs cells slots Q (F0 m pc ls (.int i :: .ref (ad 5) :: rest)) := cw_ald F hI 5 rfl hin hdg kk
theorem th_ast_tag (F : CallFix p m c cc nL s args lw_tb R_TH) {ad : Nat → Nat} {u : TS} (hI : cw_I D cI cZ A H0 s (th_W cI cZ ad u) H locs) {i v : Int32} (hin : vp_in i 16) (hdg : decode cc pc = .ok (.iastore, 1)) (kk : ∀ (H1 : Heap) (locs1 : List Loc), cw_I D cI cZ A H0 s (th_W cI cZ ad (sTag u (upd (tTag u) i.toNatClampNeg v))) H1 locs1 → W p l e R s m args below meth c H1 locs1 cells slots Q (F0 m (pc + 1) ls rest)) : W p l e R s m args below meth c H locs cells slots Q (F0 m pc ls (.int v :: .int i :: .ref (ad 5) :: rest)) := cw_ast F hI 5 rfl hin rfl hdg kk
theorem th_get_reg (F : CallFix p m c cc nL s args lw_tb R_TH) {ad : Nat → Nat} {u : TS} (hI : cw_I D cI cZ A H0 s (th_W cI cZ ad u) H locs) (hdg : decode cc pc = .ok (.getfield 25, 3)) (kk : W p l e R s m args below meth c H locs cells slots Q (F0 m (pc + 3) ls (.ref (ad 6) :: rest))) : W p l e R s m args below meth c H locs cells slots Q (F0 m pc ls (.ref (ad 0) :: rest)) := cw_get F hI 0 rfl rfl i_TH 6 (by decide) kf_TH_25 rfl rfl hdg kk
theorem th_ald_reg (F : CallFix p m c cc nL s args lw_tb R_TH) {ad : Nat → Nat} {u : TS} (hI : cw_I D cI cZ A H0 s (th_W cI cZ ad u) H locs) {i : Int32} (hin : vp_in i 12) (hdg : decode cc pc = .ok (.iaload, 1)) (kk : W p l e R s m args below meth c H locs cells slots Q (F0 m (pc + 1) ls (.int (tReg u i.toNatClampNeg) :: rest))) : W p l e R s m args below meth c H locs cells slots Q (F0 m pc ls (.int i :: .ref (ad 6) :: rest)) := cw_ald F hI 6 rfl hin hdg kk
theorem th_ast_reg (F : CallFix p m c cc nL s args lw_tb R_TH) {ad : Nat → Nat} {u : TS} (hI : cw_I D cI cZ A H0 s (th_W cI cZ ad u) H locs) {i v : Int32} (hin : vp_in i 12) (hdg : decode cc pc = .ok (.iastore, 1)) (kk : ∀ (H1 : Heap) (locs1 : List Loc), cw_I D cI cZ A H0 s (th_W cI cZ ad (sReg u (upd (tReg u) i.toNatClampNeg v))) H1 locs1 → W p l e R s m args below meth c H1 locs1 cells slots Q (F0 m (pc + 1) ls rest)) : W p l e R s m args below meth c H locs cells slots Q (F0 m pc ls (.int v :: .int i :: .ref (ad 6) :: rest)) := cw_ast F hI 6 rfl hin rfl hdg kk
theorem th_get_global (F : CallFix p m c cc nL s args lw_tb R_TH) {ad : Nat → Nat} {u : TS} (hI : cw_I D cI cZ A H0 s (th_W cI cZ ad u) H locs) (hdg : decode cc pc = .ok (.getfield 28, 3)) (kk : W p l e R s m args below meth c H locs cells slots Q (F0 m (pc + 3) ls (.ref (ad 7) :: rest))) : W p l e R s m args below meth c H locs cells slots Q (F0 m pc ls (.ref (ad 0) :: rest)) := cw_get F hI 0 rfl rfl i_TH 7 (by decide) kf_TH_28 rfl rfl hdg kk
theorem th_ald_global (F : CallFix p m c cc nL s args lw_tb R_TH) {ad : Nat → Nat} {u : TS} (hI : cw_I D cI cZ A H0 s (th_W cI cZ ad u) H locs) {i : Int32} (hin : vp_in i 2) (hdg : decode cc pc = .ok (.iaload, 1)) (kk : W p l e R s m args below meth c H locs cells slots Q (F0 m (pc + 1) ls (.int (tGl u i.toNatClampNeg) :: rest))) : W p l e R s m args below meth c H locs cells slots Q (F0 m pc ls (.int i :: .ref (ad 7) :: rest)) := cw_ald F hI 7 rfl hin hdg kk
theorem th_ast_global (F : CallFix p m c cc nL s args lw_tb R_TH) {ad : Nat → Nat} {u : TS} (hI : cw_I D cI cZ A H0 s (th_W cI cZ ad u) H locs) {i v : Int32} (hin : vp_in i 2) (hdg : decode cc pc = .ok (.iastore, 1)) (kk : ∀ (H1 : Heap) (locs1 : List Loc), cw_I D cI cZ A H0 s (th_W cI cZ ad (sGl u (upd (tGl u) i.toNatClampNeg v))) H1 locs1 → W p l e R s m args below meth c H1 locs1 cells slots Q (F0 m (pc + 1) ls rest)) : W p l e R s m args below meth c H locs cells slots Q (F0 m pc ls (.int v :: .int i :: .ref (ad 7) :: rest)) := cw_ast F hI 7 rfl hin rfl hdg kk
theorem th_get_status (F : CallFix p m c cc nL s args lw_tb R_TH) {ad : Nat → Nat} {u : TS} (hI : cw_I D cI cZ A H0 s (th_W cI cZ ad u) H locs) (hdg : decode cc pc = .ok (.getfield 31, 3)) (kk : W p l e R s m args below meth c H locs cells slots Q (F0 m (pc + 3) ls (.ref (ad 8) :: rest))) : W p l e R s m args below meth c H locs cells slots Q (F0 m pc ls (.ref (ad 0) :: rest)) := cw_get F hI 0 rfl rfl i_TH 8 (by decide) kf_TH_31 rfl rfl hdg kk
theorem th_ald_status (F : CallFix p m c cc nL s args lw_tb R_TH) {ad : Nat → Nat} {u : TS} (hI : cw_I D cI cZ A H0 s (th_W cI cZ ad u) H locs) {i : Int32} (hin : vp_in i 3) (hdg : decode cc pc = .ok (.iaload, 1)) (kk : W p l e R s m args below meth c H locs cells slots Q (F0 m (pc + 1) ls (.int (tSt u i.toNatClampNeg) :: rest))) : W p l e R s m args below meth c H locs cells slots Q (F0 m pc ls (.int i :: .ref (ad 8) :: rest)) := cw_ald F hI 8 rfl hin hdg kk
theorem th_ast_status (F : CallFix p m c cc nL s args lw_tb R_TH) {ad : Nat → Nat} {u : TS} (hI : cw_I D cI cZ A H0 s (th_W cI cZ ad u) H locs) {i v : Int32} (hin : vp_in i 3) (hdg : decode cc pc = .ok (.iastore, 1)) (kk : ∀ (H1 : Heap) (locs1 : List Loc), cw_I D cI cZ A H0 s (th_W cI cZ ad (sSt u (upd (tSt u) i.toNatClampNeg v))) H1 locs1 → W p l e R s m args below meth c H1 locs1 cells slots Q (F0 m (pc + 1) ls rest)) : W p l e R s m args below meth c H locs cells slots Q (F0 m pc ls (.int v :: .int i :: .ref (ad 8) :: rest)) := cw_ast F hI 8 rfl hin rfl hdg kk
theorem th_get_answered (F : CallFix p m c cc nL s args lw_tb R_TH) {ad : Nat → Nat} {u : TS} (hI : cw_I D cI cZ A H0 s (th_W cI cZ ad u) H locs) (hdg : decode cc pc = .ok (.getfield 44, 3)) (kk : W p l e R s m args below meth c H locs cells slots Q (F0 m (pc + 3) ls (.int (tAns u) :: rest))) : W p l e R s m args below meth c H locs cells slots Q (F0 m pc ls (.ref (ad 0) :: rest)) := cw_get F hI 0 rfl rfl i_TH 9 (by decide) kf_TH_44 rfl rfl hdg kk
theorem th_put_answered (F : CallFix p m c cc nL s args lw_tb R_TH) {ad : Nat → Nat} {u : TS} (hI : cw_I D cI cZ A H0 s (th_W cI cZ ad u) H locs) {v : Int32} (hdg : decode cc pc = .ok (.putfield 44, 3)) (kk : ∀ (H1 : Heap) (locs1 : List Loc), cw_I D cI cZ A H0 s (th_W cI cZ ad (sAns u v)) H1 locs1 → W p l e R s m args below meth c H1 locs1 cells slots Q (F0 m (pc + 3) ls rest)) : W p l e R s m args below meth c H locs cells slots Q (F0 m pc ls (.int v :: .ref (ad 0) :: rest)) := cw_put F hI 0 rfl rfl i_TH t_TH t_TH_ok n_TH 9 (by decide) kf_TH_44 rfl rfl (by decide +kernel) (Nat.le_of_ble_eq_true rfl) rfl hdg kk
theorem th_get_phase (F : CallFix p m c cc nL s args lw_tb R_TH) {ad : Nat → Nat} {u : TS} (hI : cw_I D cI cZ A H0 s (th_W cI cZ ad u) H locs) (hdg : decode cc pc = .ok (.getfield 41, 3)) (kk : W p l e R s m args below meth c H locs cells slots Q (F0 m (pc + 3) ls (.int (tPh u) :: rest))) : W p l e R s m args below meth c H locs cells slots Q (F0 m pc ls (.ref (ad 0) :: rest)) := cw_get F hI 0 rfl rfl i_TH 10 (by decide) kf_TH_41 rfl rfl hdg kk
theorem th_put_phase (F : CallFix p m c cc nL s args lw_tb R_TH) {ad : Nat → Nat} {u : TS} (hI : cw_I D cI cZ A H0 s (th_W cI cZ ad u) H locs) {v : Int32} (hdg : decode cc pc = .ok (.putfield 41, 3)) (kk : ∀ (H1 : Heap) (locs1 : List Loc), cw_I D cI cZ A H0 s (th_W cI cZ ad (sPh u v)) H1 locs1 → W p l e R s m args below meth c H1 locs1 cells slots Q (F0 m (pc + 3) ls rest)) : W p l e R s m args below meth c H locs cells slots Q (F0 m pc ls (.int v :: .ref (ad 0) :: rest)) := cw_put F hI 0 rfl rfl i_TH t_TH t_TH_ok n_TH 10 (by decide) kf_TH_41 rfl rfl (by decide +kernel) (Nat.le_of_ble_eq_true rfl) rfl hdg kk
theorem th_get_black (F : CallFix p m c cc nL s args lw_tb R_TH) {ad : Nat → Nat} {u : TS} (hI : cw_I D cI cZ A H0 s (th_W cI cZ ad u) H locs) (hdg : decode cc pc = .ok (.getfield 38, 3)) (kk : W p l e R s m args below meth c H locs cells slots Q (F0 m (pc + 3) ls (.int (tBl u) :: rest))) : W p l e R s m args below meth c H locs cells slots Q (F0 m pc ls (.ref (ad 0) :: rest)) := cw_get F hI 0 rfl rfl i_TH 11 (by decide) kf_TH_38 rfl rfl hdg kk
theorem th_put_black (F : CallFix p m c cc nL s args lw_tb R_TH) {ad : Nat → Nat} {u : TS} (hI : cw_I D cI cZ A H0 s (th_W cI cZ ad u) H locs) {v : Int32} (hdg : decode cc pc = .ok (.putfield 38, 3)) (kk : ∀ (H1 : Heap) (locs1 : List Loc), cw_I D cI cZ A H0 s (th_W cI cZ ad (sBl u v)) H1 locs1 → W p l e R s m args below meth c H1 locs1 cells slots Q (F0 m (pc + 3) ls rest)) : W p l e R s m args below meth c H locs cells slots Q (F0 m pc ls (.int v :: .ref (ad 0) :: rest)) := cw_put F hI 0 rfl rfl i_TH t_TH t_TH_ok n_TH 11 (by decide) kf_TH_38 rfl rfl (by decide +kernel) (Nat.le_of_ble_eq_true rfl) rfl hdg kk
theorem th_get_sweepAt (F : CallFix p m c cc nL s args lw_tb R_TH) {ad : Nat → Nat} {u : TS} (hI : cw_I D cI cZ A H0 s (th_W cI cZ ad u) H locs) (hdg : decode cc pc = .ok (.getfield 60, 3)) (kk : W p l e R s m args below meth c H locs cells slots Q (F0 m (pc + 3) ls (.int (tSw u) :: rest))) : W p l e R s m args below meth c H locs cells slots Q (F0 m pc ls (.ref (ad 0) :: rest)) := cw_get F hI 0 rfl rfl i_TH 12 (by decide) kf_TH_60 rfl rfl hdg kk
theorem th_put_sweepAt (F : CallFix p m c cc nL s args lw_tb R_TH) {ad : Nat → Nat} {u : TS} (hI : cw_I D cI cZ A H0 s (th_W cI cZ ad u) H locs) {v : Int32} (hdg : decode cc pc = .ok (.putfield 60, 3)) (kk : ∀ (H1 : Heap) (locs1 : List Loc), cw_I D cI cZ A H0 s (th_W cI cZ ad (sSw u v)) H1 locs1 → W p l e R s m args below meth c H1 locs1 cells slots Q (F0 m (pc + 3) ls rest)) : W p l e R s m args below meth c H locs cells slots Q (F0 m pc ls (.int v :: .ref (ad 0) :: rest)) := cw_put F hI 0 rfl rfl i_TH t_TH t_TH_ok n_TH 12 (by decide) kf_TH_60 rfl rfl (by decide +kernel) (Nat.le_of_ble_eq_true rfl) rfl hdg kk
theorem th_get_count (F : CallFix p m c cc nL s args lw_tb R_TH) {ad : Nat → Nat} {u : TS} (hI : cw_I D cI cZ A H0 s (th_W cI cZ ad u) H locs) (hdg : decode cc pc = .ok (.getfield 83, 3)) (kk : W p l e R s m args below meth c H locs cells slots Q (F0 m (pc + 3) ls (.int (tCnt u) :: rest))) : W p l e R s m args below meth c H locs cells slots Q (F0 m pc ls (.ref (ad 0) :: rest)) := cw_get F hI 0 rfl rfl i_TH 13 (by decide) kf_TH_83 rfl rfl hdg kk
theorem th_put_count (F : CallFix p m c cc nL s args lw_tb R_TH) {ad : Nat → Nat} {u : TS} (hI : cw_I D cI cZ A H0 s (th_W cI cZ ad u) H locs) {v : Int32} (hdg : decode cc pc = .ok (.putfield 83, 3)) (kk : ∀ (H1 : Heap) (locs1 : List Loc), cw_I D cI cZ A H0 s (th_W cI cZ ad (sCnt u v)) H1 locs1 → W p l e R s m args below meth c H1 locs1 cells slots Q (F0 m (pc + 3) ls rest)) : W p l e R s m args below meth c H locs cells slots Q (F0 m pc ls (.int v :: .ref (ad 0) :: rest)) := cw_put F hI 0 rfl rfl i_TH t_TH t_TH_ok n_TH 13 (by decide) kf_TH_83 rfl rfl (by decide +kernel) (Nat.le_of_ble_eq_true rfl) rfl hdg kk
theorem th_callI0 {y : MethodName} {b : ByteArray} {nLy k idx : Nat} {ret : Option FieldType} {ad : Nat → Nat} {u : TS} {z : TS × Int32} (F : CallFix p m c cc nL s args lw_tb R_TH) (hI : cw_I D cI cZ A H0 s (th_W cI cZ ad u) H locs) (hM : ct_I l D cI cZ (th_W cI cZ ad) y b nLy ret k (.ref (ad 0) :: []) u z) (hw : cw_ok R_TH idx y b nLy ret 0) (hcl : y.cls = R_TH) (hR : k + 1 ≤ R.frames ∧ 8 + (nLy + 11) + 32 * k ≤ R.locals) (hsz : ls.size = nL) (hrest : (rest.map fun v => v.category).sum ≤ 8) (hcs : cells ≤ R.cells ∧ slots ≤ R.slots) (hdg : decode cc pc = .ok (.invokevirtual idx, 3)) (kk : ∀ (H1 : Heap) (locs1 : List Loc), cw_I D cI cZ A H0 s (th_W cI cZ ad z.1) H1 locs1 → W p l e R s m args below meth c H1 locs1 cells slots Q (F0 m (pc + 3) ls (.int z.2 :: rest))) : W p l e R s m args below meth c H locs cells slots Q (F0 m pc ls (.ref (ad 0) :: rest)) := ct_I.call (As := []) (wr := []) [0, 1, 2, 3, 4, 5, 6, 7, 8] [] F hI hM rfl rfl rfl rfl (fun _ h => absurd h List.not_mem_nil) hw (ci := 0) (T := F_TH) (N := 14) rfl (by rw [hcl]; rfl) hR hsz hrest hcs hdg kk
theorem th_callV0 {y : MethodName} {b : ByteArray} {nLy k idx : Nat} {ret : Option FieldType} {ad : Nat → Nat} {u : TS} {z : TS} (F : CallFix p m c cc nL s args lw_tb R_TH) (hI : cw_I D cI cZ A H0 s (th_W cI cZ ad u) H locs) (hM : ct_V l D cI cZ (th_W cI cZ ad) y b nLy ret k (.ref (ad 0) :: []) u z) (hw : cw_ok R_TH idx y b nLy ret 0) (hcl : y.cls = R_TH) (hR : k + 1 ≤ R.frames ∧ 8 + (nLy + 11) + 32 * k ≤ R.locals) (hsz : ls.size = nL) (hrest : (rest.map fun v => v.category).sum ≤ 8) (hcs : cells ≤ R.cells ∧ slots ≤ R.slots) (hdg : decode cc pc = .ok (.invokevirtual idx, 3)) (kk : ∀ (H1 : Heap) (locs1 : List Loc), cw_I D cI cZ A H0 s (th_W cI cZ ad z) H1 locs1 → W p l e R s m args below meth c H1 locs1 cells slots Q (F0 m (pc + 3) ls rest)) : W p l e R s m args below meth c H locs cells slots Q (F0 m pc ls (.ref (ad 0) :: rest)) := ct_V.call (As := []) (wr := []) [0, 1, 2, 3, 4, 5, 6, 7, 8] [] F hI hM rfl rfl rfl rfl (fun _ h => absurd h List.not_mem_nil) hw (ci := 0) (T := F_TH) (N := 14) rfl (by rw [hcl]; rfl) hR hsz hrest hcs hdg kk
theorem th_callI1 {y : MethodName} {b : ByteArray} {nLy k idx : Nat} {ret : Option FieldType} {a1 : Int32} {ad : Nat → Nat} {u : TS} {z : TS × Int32} (F : CallFix p m c cc nL s args lw_tb R_TH) (hI : cw_I D cI cZ A H0 s (th_W cI cZ ad u) H locs) (hM : ct_I l D cI cZ (th_W cI cZ ad) y b nLy ret k (.ref (ad 0) :: [.int a1]) u z) (hw : cw_ok R_TH idx y b nLy ret 1) (hcl : y.cls = R_TH) (hR : k + 1 ≤ R.frames ∧ 8 + (nLy + 11) + 32 * k ≤ R.locals) (hsz : ls.size = nL) (hrest : (rest.map fun v => v.category).sum ≤ 8) (hcs : cells ≤ R.cells ∧ slots ≤ R.slots) (hdg : decode cc pc = .ok (.invokevirtual idx, 3)) (kk : ∀ (H1 : Heap) (locs1 : List Loc), cw_I D cI cZ A H0 s (th_W cI cZ ad z.1) H1 locs1 → W p l e R s m args below meth c H1 locs1 cells slots Q (F0 m (pc + 3) ls (.int z.2 :: rest))) : W p l e R s m args below meth c H locs cells slots Q (F0 m pc ls (.int a1 :: .ref (ad 0) :: rest)) := ct_I.call (As := [.int a1]) (wr := []) [0, 1, 2, 3, 4, 5, 6, 7, 8] [] F hI hM rfl rfl rfl rfl (fun _ h => absurd h List.not_mem_nil) hw (ci := 0) (T := F_TH) (N := 14) rfl (by rw [hcl]; rfl) hR hsz hrest hcs hdg kk
theorem th_callV1 {y : MethodName} {b : ByteArray} {nLy k idx : Nat} {ret : Option FieldType} {a1 : Int32} {ad : Nat → Nat} {u : TS} {z : TS} (F : CallFix p m c cc nL s args lw_tb R_TH) (hI : cw_I D cI cZ A H0 s (th_W cI cZ ad u) H locs) (hM : ct_V l D cI cZ (th_W cI cZ ad) y b nLy ret k (.ref (ad 0) :: [.int a1]) u z) (hw : cw_ok R_TH idx y b nLy ret 1) (hcl : y.cls = R_TH) (hR : k + 1 ≤ R.frames ∧ 8 + (nLy + 11) + 32 * k ≤ R.locals) (hsz : ls.size = nL) (hrest : (rest.map fun v => v.category).sum ≤ 8) (hcs : cells ≤ R.cells ∧ slots ≤ R.slots) (hdg : decode cc pc = .ok (.invokevirtual idx, 3)) (kk : ∀ (H1 : Heap) (locs1 : List Loc), cw_I D cI cZ A H0 s (th_W cI cZ ad z) H1 locs1 → W p l e R s m args below meth c H1 locs1 cells slots Q (F0 m (pc + 3) ls rest)) : W p l e R s m args below meth c H locs cells slots Q (F0 m pc ls (.int a1 :: .ref (ad 0) :: rest)) := ct_V.call (As := [.int a1]) (wr := []) [0, 1, 2, 3, 4, 5, 6, 7, 8] [] F hI hM rfl rfl rfl rfl (fun _ h => absurd h List.not_mem_nil) hw (ci := 0) (T := F_TH) (N := 14) rfl (by rw [hcl]; rfl) hR hsz hrest hcs hdg kk
theorem th_callI2 {y : MethodName} {b : ByteArray} {nLy k idx : Nat} {ret : Option FieldType} {a1 a2 : Int32} {ad : Nat → Nat} {u : TS} {z : TS × Int32} (F : CallFix p m c cc nL s args lw_tb R_TH) (hI : cw_I D cI cZ A H0 s (th_W cI cZ ad u) H locs) (hM : ct_I l D cI cZ (th_W cI cZ ad) y b nLy ret k (.ref (ad 0) :: [.int a1, .int a2]) u z) (hw : cw_ok R_TH idx y b nLy ret 2) (hcl : y.cls = R_TH) (hR : k + 1 ≤ R.frames ∧ 8 + (nLy + 11) + 32 * k ≤ R.locals) (hsz : ls.size = nL) (hrest : (rest.map fun v => v.category).sum ≤ 8) (hcs : cells ≤ R.cells ∧ slots ≤ R.slots) (hdg : decode cc pc = .ok (.invokevirtual idx, 3)) (kk : ∀ (H1 : Heap) (locs1 : List Loc), cw_I D cI cZ A H0 s (th_W cI cZ ad z.1) H1 locs1 → W p l e R s m args below meth c H1 locs1 cells slots Q (F0 m (pc + 3) ls (.int z.2 :: rest))) : W p l e R s m args below meth c H locs cells slots Q (F0 m pc ls (.int a2 :: .int a1 :: .ref (ad 0) :: rest)) := ct_I.call (As := [.int a1, .int a2]) (wr := []) [0, 1, 2, 3, 4, 5, 6, 7, 8] [] F hI hM rfl rfl rfl rfl (fun _ h => absurd h List.not_mem_nil) hw (ci := 0) (T := F_TH) (N := 14) rfl (by rw [hcl]; rfl) hR hsz hrest hcs hdg kk
theorem th_callV2 {y : MethodName} {b : ByteArray} {nLy k idx : Nat} {ret : Option FieldType} {a1 a2 : Int32} {ad : Nat → Nat} {u : TS} {z : TS} (F : CallFix p m c cc nL s args lw_tb R_TH) (hI : cw_I D cI cZ A H0 s (th_W cI cZ ad u) H locs) (hM : ct_V l D cI cZ (th_W cI cZ ad) y b nLy ret k (.ref (ad 0) :: [.int a1, .int a2]) u z) (hw : cw_ok R_TH idx y b nLy ret 2) (hcl : y.cls = R_TH) (hR : k + 1 ≤ R.frames ∧ 8 + (nLy + 11) + 32 * k ≤ R.locals) (hsz : ls.size = nL) (hrest : (rest.map fun v => v.category).sum ≤ 8) (hcs : cells ≤ R.cells ∧ slots ≤ R.slots) (hdg : decode cc pc = .ok (.invokevirtual idx, 3)) (kk : ∀ (H1 : Heap) (locs1 : List Loc), cw_I D cI cZ A H0 s (th_W cI cZ ad z) H1 locs1 → W p l e R s m args below meth c H1 locs1 cells slots Q (F0 m (pc + 3) ls rest)) : W p l e R s m args below meth c H locs cells slots Q (F0 m pc ls (.int a2 :: .int a1 :: .ref (ad 0) :: rest)) := ct_V.call (As := [.int a1, .int a2]) (wr := []) [0, 1, 2, 3, 4, 5, 6, 7, 8] [] F hI hM rfl rfl rfl rfl (fun _ h => absurd h List.not_mem_nil) hw (ci := 0) (T := F_TH) (N := 14) rfl (by rw [hcl]; rfl) hR hsz hrest hcs hdg kk
theorem th_callI3 {y : MethodName} {b : ByteArray} {nLy k idx : Nat} {ret : Option FieldType} {a1 a2 a3 : Int32} {ad : Nat → Nat} {u : TS} {z : TS × Int32} (F : CallFix p m c cc nL s args lw_tb R_TH) (hI : cw_I D cI cZ A H0 s (th_W cI cZ ad u) H locs) (hM : ct_I l D cI cZ (th_W cI cZ ad) y b nLy ret k (.ref (ad 0) :: [.int a1, .int a2, .int a3]) u z) (hw : cw_ok R_TH idx y b nLy ret 3) (hcl : y.cls = R_TH) (hR : k + 1 ≤ R.frames ∧ 8 + (nLy + 11) + 32 * k ≤ R.locals) (hsz : ls.size = nL) (hrest : (rest.map fun v => v.category).sum ≤ 8) (hcs : cells ≤ R.cells ∧ slots ≤ R.slots) (hdg : decode cc pc = .ok (.invokevirtual idx, 3)) (kk : ∀ (H1 : Heap) (locs1 : List Loc), cw_I D cI cZ A H0 s (th_W cI cZ ad z.1) H1 locs1 → W p l e R s m args below meth c H1 locs1 cells slots Q (F0 m (pc + 3) ls (.int z.2 :: rest))) : W p l e R s m args below meth c H locs cells slots Q (F0 m pc ls (.int a3 :: .int a2 :: .int a1 :: .ref (ad 0) :: rest)) := ct_I.call (As := [.int a1, .int a2, .int a3]) (wr := []) [0, 1, 2, 3, 4, 5, 6, 7, 8] [] F hI hM rfl rfl rfl rfl (fun _ h => absurd h List.not_mem_nil) hw (ci := 0) (T := F_TH) (N := 14) rfl (by rw [hcl]; rfl) hR hsz hrest hcs hdg kk
theorem th_callV3 {y : MethodName} {b : ByteArray} {nLy k idx : Nat} {ret : Option FieldType} {a1 a2 a3 : Int32} {ad : Nat → Nat} {u : TS} {z : TS} (F : CallFix p m c cc nL s args lw_tb R_TH) (hI : cw_I D cI cZ A H0 s (th_W cI cZ ad u) H locs) (hM : ct_V l D cI cZ (th_W cI cZ ad) y b nLy ret k (.ref (ad 0) :: [.int a1, .int a2, .int a3]) u z) (hw : cw_ok R_TH idx y b nLy ret 3) (hcl : y.cls = R_TH) (hR : k + 1 ≤ R.frames ∧ 8 + (nLy + 11) + 32 * k ≤ R.locals) (hsz : ls.size = nL) (hrest : (rest.map fun v => v.category).sum ≤ 8) (hcs : cells ≤ R.cells ∧ slots ≤ R.slots) (hdg : decode cc pc = .ok (.invokevirtual idx, 3)) (kk : ∀ (H1 : Heap) (locs1 : List Loc), cw_I D cI cZ A H0 s (th_W cI cZ ad z) H1 locs1 → W p l e R s m args below meth c H1 locs1 cells slots Q (F0 m (pc + 3) ls rest)) : W p l e R s m args below meth c H locs cells slots Q (F0 m pc ls (.int a3 :: .int a2 :: .int a1 :: .ref (ad 0) :: rest)) := ct_V.call (As := [.int a1, .int a2, .int a3]) (wr := []) [0, 1, 2, 3, 4, 5, 6, 7, 8] [] F hI hM rfl rfl rfl rfl (fun _ h => absurd h List.not_mem_nil) hw (ci := 0) (T := F_TH) (N := 14) rfl (by rw [hcl]; rfl) hR hsz hrest hcs hdg kk
theorem th_callI4 {y : MethodName} {b : ByteArray} {nLy k idx : Nat} {ret : Option FieldType} {a1 a2 a3 a4 : Int32} {ad : Nat → Nat} {u : TS} {z : TS × Int32} (F : CallFix p m c cc nL s args lw_tb R_TH) (hI : cw_I D cI cZ A H0 s (th_W cI cZ ad u) H locs) (hM : ct_I l D cI cZ (th_W cI cZ ad) y b nLy ret k (.ref (ad 0) :: [.int a1, .int a2, .int a3, .int a4]) u z) (hw : cw_ok R_TH idx y b nLy ret 4) (hcl : y.cls = R_TH) (hR : k + 1 ≤ R.frames ∧ 8 + (nLy + 11) + 32 * k ≤ R.locals) (hsz : ls.size = nL) (hrest : (rest.map fun v => v.category).sum ≤ 8) (hcs : cells ≤ R.cells ∧ slots ≤ R.slots) (hdg : decode cc pc = .ok (.invokevirtual idx, 3)) (kk : ∀ (H1 : Heap) (locs1 : List Loc), cw_I D cI cZ A H0 s (th_W cI cZ ad z.1) H1 locs1 → W p l e R s m args below meth c H1 locs1 cells slots Q (F0 m (pc + 3) ls (.int z.2 :: rest))) : W p l e R s m args below meth c H locs cells slots Q (F0 m pc ls (.int a4 :: .int a3 :: .int a2 :: .int a1 :: .ref (ad 0) :: rest)) := ct_I.call (As := [.int a1, .int a2, .int a3, .int a4]) (wr := []) [0, 1, 2, 3, 4, 5, 6, 7, 8] [] F hI hM rfl rfl rfl rfl (fun _ h => absurd h List.not_mem_nil) hw (ci := 0) (T := F_TH) (N := 14) rfl (by rw [hcl]; rfl) hR hsz hrest hcs hdg kk
theorem th_callV4 {y : MethodName} {b : ByteArray} {nLy k idx : Nat} {ret : Option FieldType} {a1 a2 a3 a4 : Int32} {ad : Nat → Nat} {u : TS} {z : TS} (F : CallFix p m c cc nL s args lw_tb R_TH) (hI : cw_I D cI cZ A H0 s (th_W cI cZ ad u) H locs) (hM : ct_V l D cI cZ (th_W cI cZ ad) y b nLy ret k (.ref (ad 0) :: [.int a1, .int a2, .int a3, .int a4]) u z) (hw : cw_ok R_TH idx y b nLy ret 4) (hcl : y.cls = R_TH) (hR : k + 1 ≤ R.frames ∧ 8 + (nLy + 11) + 32 * k ≤ R.locals) (hsz : ls.size = nL) (hrest : (rest.map fun v => v.category).sum ≤ 8) (hcs : cells ≤ R.cells ∧ slots ≤ R.slots) (hdg : decode cc pc = .ok (.invokevirtual idx, 3)) (kk : ∀ (H1 : Heap) (locs1 : List Loc), cw_I D cI cZ A H0 s (th_W cI cZ ad z) H1 locs1 → W p l e R s m args below meth c H1 locs1 cells slots Q (F0 m (pc + 3) ls rest)) : W p l e R s m args below meth c H locs cells slots Q (F0 m pc ls (.int a4 :: .int a3 :: .int a2 :: .int a1 :: .ref (ad 0) :: rest)) := ct_V.call (As := [.int a1, .int a2, .int a3, .int a4]) (wr := []) [0, 1, 2, 3, 4, 5, 6, 7, 8] [] F hI hM rfl rfl rfl rfl (fun _ h => absurd h List.not_mem_nil) hw (ci := 0) (T := F_TH) (N := 14) rfl (by rw [hcl]; rfl) hR hsz hrest hcs hdg kk
theorem th_callP0 {y : MethodName} {b : ByteArray} {nLy k idx : Nat} {ret : Option FieldType} {ad : Nat → Nat} {u : TS} {w : Int32} (F : CallFix p m c cc nL s args lw_tb R_TH) (hI : cw_I D cI cZ A H0 s (th_W cI cZ ad u) H locs) (hM : ct_I l D cI cZ (th_W cI cZ ad) y b nLy ret k (.ref (ad 0) :: []) u (u, w)) (hw : cw_ok R_TH idx y b nLy ret 0) (hcl : y.cls = R_TH) (hR : k + 1 ≤ R.frames ∧ 8 + (nLy + 11) + 32 * k ≤ R.locals) (hsz : ls.size = nL) (hrest : (rest.map fun v => v.category).sum ≤ 8) (hcs : cells ≤ R.cells ∧ slots ≤ R.slots) (hdg : decode cc pc = .ok (.invokevirtual idx, 3)) (kk : ∀ (H1 : Heap) (locs1 : List Loc), cw_I D cI cZ A H0 s (th_W cI cZ ad u) H1 locs1 → W p l e R s m args below meth c H1 locs1 cells slots Q (F0 m (pc + 3) ls (.int w :: rest))) : W p l e R s m args below meth c H locs cells slots Q (F0 m pc ls (.ref (ad 0) :: rest)) := th_callI0 F hI hM hw hcl hR hsz hrest hcs hdg kk
theorem th_callP1 {y : MethodName} {b : ByteArray} {nLy k idx : Nat} {ret : Option FieldType} {a1 : Int32} {ad : Nat → Nat} {u : TS} {w : Int32} (F : CallFix p m c cc nL s args lw_tb R_TH) (hI : cw_I D cI cZ A H0 s (th_W cI cZ ad u) H locs) (hM : ct_I l D cI cZ (th_W cI cZ ad) y b nLy ret k (.ref (ad 0) :: [.int a1]) u (u, w)) (hw : cw_ok R_TH idx y b nLy ret 1) (hcl : y.cls = R_TH) (hR : k + 1 ≤ R.frames ∧ 8 + (nLy + 11) + 32 * k ≤ R.locals) (hsz : ls.size = nL) (hrest : (rest.map fun v => v.category).sum ≤ 8) (hcs : cells ≤ R.cells ∧ slots ≤ R.slots) (hdg : decode cc pc = .ok (.invokevirtual idx, 3)) (kk : ∀ (H1 : Heap) (locs1 : List Loc), cw_I D cI cZ A H0 s (th_W cI cZ ad u) H1 locs1 → W p l e R s m args below meth c H1 locs1 cells slots Q (F0 m (pc + 3) ls (.int w :: rest))) : W p l e R s m args below meth c H locs cells slots Q (F0 m pc ls (.int a1 :: .ref (ad 0) :: rest)) := th_callI1 F hI hM hw hcl hR hsz hrest hcs hdg kk
theorem th_callP2 {y : MethodName} {b : ByteArray} {nLy k idx : Nat} {ret : Option FieldType} {a1 a2 : Int32} {ad : Nat → Nat} {u : TS} {w : Int32} (F : CallFix p m c cc nL s args lw_tb R_TH) (hI : cw_I D cI cZ A H0 s (th_W cI cZ ad u) H locs) (hM : ct_I l D cI cZ (th_W cI cZ ad) y b nLy ret k (.ref (ad 0) :: [.int a1, .int a2]) u (u, w)) (hw : cw_ok R_TH idx y b nLy ret 2) (hcl : y.cls = R_TH) (hR : k + 1 ≤ R.frames ∧ 8 + (nLy + 11) + 32 * k ≤ R.locals) (hsz : ls.size = nL) (hrest : (rest.map fun v => v.category).sum ≤ 8) (hcs : cells ≤ R.cells ∧ slots ≤ R.slots) (hdg : decode cc pc = .ok (.invokevirtual idx, 3)) (kk : ∀ (H1 : Heap) (locs1 : List Loc), cw_I D cI cZ A H0 s (th_W cI cZ ad u) H1 locs1 → W p l e R s m args below meth c H1 locs1 cells slots Q (F0 m (pc + 3) ls (.int w :: rest))) : W p l e R s m args below meth c H locs cells slots Q (F0 m pc ls (.int a2 :: .int a1 :: .ref (ad 0) :: rest)) := th_callI2 F hI hM hw hcl hR hsz hrest hcs hdg kk
theorem th_callP3 {y : MethodName} {b : ByteArray} {nLy k idx : Nat} {ret : Option FieldType} {a1 a2 a3 : Int32} {ad : Nat → Nat} {u : TS} {w : Int32} (F : CallFix p m c cc nL s args lw_tb R_TH) (hI : cw_I D cI cZ A H0 s (th_W cI cZ ad u) H locs) (hM : ct_I l D cI cZ (th_W cI cZ ad) y b nLy ret k (.ref (ad 0) :: [.int a1, .int a2, .int a3]) u (u, w)) (hw : cw_ok R_TH idx y b nLy ret 3) (hcl : y.cls = R_TH) (hR : k + 1 ≤ R.frames ∧ 8 + (nLy + 11) + 32 * k ≤ R.locals) (hsz : ls.size = nL) (hrest : (rest.map fun v => v.category).sum ≤ 8) (hcs : cells ≤ R.cells ∧ slots ≤ R.slots) (hdg : decode cc pc = .ok (.invokevirtual idx, 3)) (kk : ∀ (H1 : Heap) (locs1 : List Loc), cw_I D cI cZ A H0 s (th_W cI cZ ad u) H1 locs1 → W p l e R s m args below meth c H1 locs1 cells slots Q (F0 m (pc + 3) ls (.int w :: rest))) : W p l e R s m args below meth c H locs cells slots Q (F0 m pc ls (.int a3 :: .int a2 :: .int a1 :: .ref (ad 0) :: rest)) := th_callI3 F hI hM hw hcl hR hsz hrest hcs hdg kk
theorem th_callP4 {y : MethodName} {b : ByteArray} {nLy k idx : Nat} {ret : Option FieldType} {a1 a2 a3 a4 : Int32} {ad : Nat → Nat} {u : TS} {w : Int32} (F : CallFix p m c cc nL s args lw_tb R_TH) (hI : cw_I D cI cZ A H0 s (th_W cI cZ ad u) H locs) (hM : ct_I l D cI cZ (th_W cI cZ ad) y b nLy ret k (.ref (ad 0) :: [.int a1, .int a2, .int a3, .int a4]) u (u, w)) (hw : cw_ok R_TH idx y b nLy ret 4) (hcl : y.cls = R_TH) (hR : k + 1 ≤ R.frames ∧ 8 + (nLy + 11) + 32 * k ≤ R.locals) (hsz : ls.size = nL) (hrest : (rest.map fun v => v.category).sum ≤ 8) (hcs : cells ≤ R.cells ∧ slots ≤ R.slots) (hdg : decode cc pc = .ok (.invokevirtual idx, 3)) (kk : ∀ (H1 : Heap) (locs1 : List Loc), cw_I D cI cZ A H0 s (th_W cI cZ ad u) H1 locs1 → W p l e R s m args below meth c H1 locs1 cells slots Q (F0 m (pc + 3) ls (.int w :: rest))) : W p l e R s m args below meth c H locs cells slots Q (F0 m pc ls (.int a4 :: .int a3 :: .int a2 :: .int a1 :: .ref (ad 0) :: rest)) := th_callI4 F hI hM hw hcl hR hsz hrest hcs hdg kk
theorem md_get_field (F : CallFix p m c cc nL s args lw_tb R_MD) {ad : Nat → Nat} {u : MS} (hI : cw_I D cI cZ A H0 s (md_W cI cZ ad u) H locs) (hdg : decode cc pc = .ok (.getfield 7, 3)) (kk : W p l e R s m args below meth c H locs cells slots Q (F0 m (pc + 3) ls (.ref (ad 1) :: rest))) : W p l e R s m args below meth c H locs cells slots Q (F0 m pc ls (.ref (ad 0) :: rest)) := cw_get F hI 0 rfl rfl i_MD 0 (by decide) kf_MD_7 rfl rfl hdg kk
theorem md_ald_field (F : CallFix p m c cc nL s args lw_tb R_MD) {ad : Nat → Nat} {u : MS} (hI : cw_I D cI cZ A H0 s (md_W cI cZ ad u) H locs) {i : Int32} (hin : vp_in i 1026) (hdg : decode cc pc = .ok (.iaload, 1)) (kk : W p l e R s m args below meth c H locs cells slots Q (F0 m (pc + 1) ls (.int (mFld u i.toNatClampNeg) :: rest))) : W p l e R s m args below meth c H locs cells slots Q (F0 m pc ls (.int i :: .ref (ad 1) :: rest)) := cw_ald F hI 1 rfl hin hdg kk
theorem md_ast_field (F : CallFix p m c cc nL s args lw_tb R_MD) {ad : Nat → Nat} {u : MS} (hI : cw_I D cI cZ A H0 s (md_W cI cZ ad u) H locs) {i v : Int32} (hin : vp_in i 1026) (hdg : decode cc pc = .ok (.iastore, 1)) (kk : ∀ (H1 : Heap) (locs1 : List Loc), cw_I D cI cZ A H0 s (md_W cI cZ ad (eFld u (upd (mFld u) i.toNatClampNeg v))) H1 locs1 → W p l e R s m args below meth c H1 locs1 cells slots Q (F0 m (pc + 1) ls rest)) : W p l e R s m args below meth c H locs cells slots Q (F0 m pc ls (.int v :: .int i :: .ref (ad 1) :: rest)) := cw_ast F hI 1 rfl hin rfl hdg kk
theorem md_get_numbers (F : CallFix p m c cc nL s args lw_tb R_MD) {ad : Nat → Nat} {u : MS} (hI : cw_I D cI cZ A H0 s (md_W cI cZ ad u) H locs) (hdg : decode cc pc = .ok (.getfield 13, 3)) (kk : W p l e R s m args below meth c H locs cells slots Q (F0 m (pc + 3) ls (.ref (ad 2) :: rest))) : W p l e R s m args below meth c H locs cells slots Q (F0 m pc ls (.ref (ad 0) :: rest)) := cw_get F hI 0 rfl rfl i_MD 1 (by decide) kf_MD_13 rfl rfl hdg kk
theorem md_ald_numbers (F : CallFix p m c cc nL s args lw_tb R_MD) {ad : Nat → Nat} {u : MS} (hI : cw_I D cI cZ A H0 s (md_W cI cZ ad u) H locs) {i : Int32} (hin : vp_in i 513) (hdg : decode cc pc = .ok (.iaload, 1)) (kk : W p l e R s m args below meth c H locs cells slots Q (F0 m (pc + 1) ls (.int (mNum u i.toNatClampNeg) :: rest))) : W p l e R s m args below meth c H locs cells slots Q (F0 m pc ls (.int i :: .ref (ad 2) :: rest)) := cw_ald F hI 2 rfl hin hdg kk
theorem md_ast_numbers (F : CallFix p m c cc nL s args lw_tb R_MD) {ad : Nat → Nat} {u : MS} (hI : cw_I D cI cZ A H0 s (md_W cI cZ ad u) H locs) {i v : Int32} (hin : vp_in i 513) (hdg : decode cc pc = .ok (.iastore, 1)) (kk : ∀ (H1 : Heap) (locs1 : List Loc), cw_I D cI cZ A H0 s (md_W cI cZ ad (eNum u (upd (mNum u) i.toNatClampNeg v))) H1 locs1 → W p l e R s m args below meth c H1 locs1 cells slots Q (F0 m (pc + 1) ls rest)) : W p l e R s m args below meth c H locs cells slots Q (F0 m pc ls (.int v :: .int i :: .ref (ad 2) :: rest)) := cw_ast F hI 2 rfl hin rfl hdg kk
theorem md_get_reached (F : CallFix p m c cc nL s args lw_tb R_MD) {ad : Nat → Nat} {u : MS} (hI : cw_I D cI cZ A H0 s (md_W cI cZ ad u) H locs) (hdg : decode cc pc = .ok (.getfield 16, 3)) (kk : W p l e R s m args below meth c H locs cells slots Q (F0 m (pc + 3) ls (.ref (ad 3) :: rest))) : W p l e R s m args below meth c H locs cells slots Q (F0 m pc ls (.ref (ad 0) :: rest)) := cw_get F hI 0 rfl rfl i_MD 2 (by decide) kf_MD_16 rfl rfl hdg kk
theorem md_ald_reached (F : CallFix p m c cc nL s args lw_tb R_MD) {ad : Nat → Nat} {u : MS} (hI : cw_I D cI cZ A H0 s (md_W cI cZ ad u) H locs) {i : Int32} (hin : vp_in i 513) (hdg : decode cc pc = .ok (.baload, 1)) (kk : W p l e R s m args below meth c H locs cells slots Q (F0 m (pc + 1) ls (.int (mRch u i.toNatClampNeg) :: rest))) : W p l e R s m args below meth c H locs cells slots Q (F0 m pc ls (.int i :: .ref (ad 3) :: rest)) := cw_zld F hI 3 rfl hin hdg kk
theorem md_ast_reached (F : CallFix p m c cc nL s args lw_tb R_MD) {ad : Nat → Nat} {u : MS} (hI : cw_I D cI cZ A H0 s (md_W cI cZ ad u) H locs) {i v : Int32} (hin : vp_in i 513) (hv : vp_nar .boolean v = v) (hdg : decode cc pc = .ok (.bastore, 1)) (kk : ∀ (H1 : Heap) (locs1 : List Loc), cw_I D cI cZ A H0 s (md_W cI cZ ad (eRch u (upd (mRch u) i.toNatClampNeg v))) H1 locs1 → W p l e R s m args below meth c H1 locs1 cells slots Q (F0 m (pc + 1) ls rest)) : W p l e R s m args below meth c H locs cells slots Q (F0 m pc ls (.int v :: .int i :: .ref (ad 3) :: rest)) := cw_zst F hI 3 rfl hin hv rfl hdg kk
theorem md_get_registers (F : CallFix p m c cc nL s args lw_tb R_MD) {ad : Nat → Nat} {u : MS} (hI : cw_I D cI cZ A H0 s (md_W cI cZ ad u) H locs) (hdg : decode cc pc = .ok (.getfield 20, 3)) (kk : W p l e R s m args below meth c H locs cells slots Q (F0 m (pc + 3) ls (.ref (ad 4) :: rest))) : W p l e R s m args below meth c H locs cells slots Q (F0 m pc ls (.ref (ad 0) :: rest)) := cw_get F hI 0 rfl rfl i_MD 3 (by decide) kf_MD_20 rfl rfl hdg kk
theorem md_ald_registers (F : CallFix p m c cc nL s args lw_tb R_MD) {ad : Nat → Nat} {u : MS} (hI : cw_I D cI cZ A H0 s (md_W cI cZ ad u) H locs) {i : Int32} (hin : vp_in i 12) (hdg : decode cc pc = .ok (.iaload, 1)) (kk : W p l e R s m args below meth c H locs cells slots Q (F0 m (pc + 1) ls (.int (mReg u i.toNatClampNeg) :: rest))) : W p l e R s m args below meth c H locs cells slots Q (F0 m pc ls (.int i :: .ref (ad 4) :: rest)) := cw_ald F hI 4 rfl hin hdg kk
theorem md_ast_registers (F : CallFix p m c cc nL s args lw_tb R_MD) {ad : Nat → Nat} {u : MS} (hI : cw_I D cI cZ A H0 s (md_W cI cZ ad u) H locs) {i v : Int32} (hin : vp_in i 12) (hdg : decode cc pc = .ok (.iastore, 1)) (kk : ∀ (H1 : Heap) (locs1 : List Loc), cw_I D cI cZ A H0 s (md_W cI cZ ad (eReg u (upd (mReg u) i.toNatClampNeg v))) H1 locs1 → W p l e R s m args below meth c H1 locs1 cells slots Q (F0 m (pc + 1) ls rest)) : W p l e R s m args below meth c H locs cells slots Q (F0 m pc ls (.int v :: .int i :: .ref (ad 4) :: rest)) := cw_ast F hI 4 rfl hin rfl hdg kk
theorem md_get_globals (F : CallFix p m c cc nL s args lw_tb R_MD) {ad : Nat → Nat} {u : MS} (hI : cw_I D cI cZ A H0 s (md_W cI cZ ad u) H locs) (hdg : decode cc pc = .ok (.getfield 23, 3)) (kk : W p l e R s m args below meth c H locs cells slots Q (F0 m (pc + 3) ls (.ref (ad 5) :: rest))) : W p l e R s m args below meth c H locs cells slots Q (F0 m pc ls (.ref (ad 0) :: rest)) := cw_get F hI 0 rfl rfl i_MD 4 (by decide) kf_MD_23 rfl rfl hdg kk
theorem md_ald_globals (F : CallFix p m c cc nL s args lw_tb R_MD) {ad : Nat → Nat} {u : MS} (hI : cw_I D cI cZ A H0 s (md_W cI cZ ad u) H locs) {i : Int32} (hin : vp_in i 2) (hdg : decode cc pc = .ok (.iaload, 1)) (kk : W p l e R s m args below meth c H locs cells slots Q (F0 m (pc + 1) ls (.int (mGl u i.toNatClampNeg) :: rest))) : W p l e R s m args below meth c H locs cells slots Q (F0 m pc ls (.int i :: .ref (ad 5) :: rest)) := cw_ald F hI 5 rfl hin hdg kk
theorem md_ast_globals (F : CallFix p m c cc nL s args lw_tb R_MD) {ad : Nat → Nat} {u : MS} (hI : cw_I D cI cZ A H0 s (md_W cI cZ ad u) H locs) {i v : Int32} (hin : vp_in i 2) (hdg : decode cc pc = .ok (.iastore, 1)) (kk : ∀ (H1 : Heap) (locs1 : List Loc), cw_I D cI cZ A H0 s (md_W cI cZ ad (eGl u (upd (mGl u) i.toNatClampNeg v))) H1 locs1 → W p l e R s m args below meth c H1 locs1 cells slots Q (F0 m (pc + 1) ls rest)) : W p l e R s m args below meth c H locs cells slots Q (F0 m pc ls (.int v :: .int i :: .ref (ad 5) :: rest)) := cw_ast F hI 5 rfl hin rfl hdg kk
theorem md_get_made (F : CallFix p m c cc nL s args lw_tb R_MD) {ad : Nat → Nat} {u : MS} (hI : cw_I D cI cZ A H0 s (md_W cI cZ ad u) H locs) (hdg : decode cc pc = .ok (.getfield 30, 3)) (kk : W p l e R s m args below meth c H locs cells slots Q (F0 m (pc + 3) ls (.int (mMade u) :: rest))) : W p l e R s m args below meth c H locs cells slots Q (F0 m pc ls (.ref (ad 0) :: rest)) := cw_get F hI 0 rfl rfl i_MD 5 (by decide) kf_MD_30 rfl rfl hdg kk
theorem md_put_made (F : CallFix p m c cc nL s args lw_tb R_MD) {ad : Nat → Nat} {u : MS} (hI : cw_I D cI cZ A H0 s (md_W cI cZ ad u) H locs) {v : Int32} (hdg : decode cc pc = .ok (.putfield 30, 3)) (kk : ∀ (H1 : Heap) (locs1 : List Loc), cw_I D cI cZ A H0 s (md_W cI cZ ad (eMade u v)) H1 locs1 → W p l e R s m args below meth c H1 locs1 cells slots Q (F0 m (pc + 3) ls rest)) : W p l e R s m args below meth c H locs cells slots Q (F0 m pc ls (.int v :: .ref (ad 0) :: rest)) := cw_put F hI 0 rfl rfl i_MD t_MD t_MD_ok n_MD 5 (by decide) kf_MD_30 rfl rfl (by decide +kernel) (Nat.le_of_ble_eq_true rfl) rfl hdg kk
theorem md_get_room (F : CallFix p m c cc nL s args lw_tb R_MD) {ad : Nat → Nat} {u : MS} (hI : cw_I D cI cZ A H0 s (md_W cI cZ ad u) H locs) (hdg : decode cc pc = .ok (.getfield 26, 3)) (kk : W p l e R s m args below meth c H locs cells slots Q (F0 m (pc + 3) ls (.int (mRoom u) :: rest))) : W p l e R s m args below meth c H locs cells slots Q (F0 m pc ls (.ref (ad 0) :: rest)) := cw_get F hI 0 rfl rfl i_MD 6 (by decide) kf_MD_26 rfl rfl hdg kk
theorem md_put_room (F : CallFix p m c cc nL s args lw_tb R_MD) {ad : Nat → Nat} {u : MS} (hI : cw_I D cI cZ A H0 s (md_W cI cZ ad u) H locs) {v : Int32} (hdg : decode cc pc = .ok (.putfield 26, 3)) (kk : ∀ (H1 : Heap) (locs1 : List Loc), cw_I D cI cZ A H0 s (md_W cI cZ ad (eRoom u v)) H1 locs1 → W p l e R s m args below meth c H1 locs1 cells slots Q (F0 m (pc + 3) ls rest)) : W p l e R s m args below meth c H locs cells slots Q (F0 m pc ls (.int v :: .ref (ad 0) :: rest)) := cw_put F hI 0 rfl rfl i_MD t_MD t_MD_ok n_MD 6 (by decide) kf_MD_26 rfl rfl (by decide +kernel) (Nat.le_of_ble_eq_true rfl) rfl hdg kk
theorem md_callI0 {y : MethodName} {b : ByteArray} {nLy k idx : Nat} {ret : Option FieldType} {ad : Nat → Nat} {u : MS} {z : MS × Int32} (F : CallFix p m c cc nL s args lw_tb R_MD) (hI : cw_I D cI cZ A H0 s (md_W cI cZ ad u) H locs) (hM : ct_I l D cI cZ (md_W cI cZ ad) y b nLy ret k (.ref (ad 0) :: []) u z) (hw : cw_ok R_MD idx y b nLy ret 0) (hcl : y.cls = R_MD) (hR : k + 1 ≤ R.frames ∧ 8 + (nLy + 11) + 32 * k ≤ R.locals) (hsz : ls.size = nL) (hrest : (rest.map fun v => v.category).sum ≤ 8) (hcs : cells ≤ R.cells ∧ slots ≤ R.slots) (hdg : decode cc pc = .ok (.invokevirtual idx, 3)) (kk : ∀ (H1 : Heap) (locs1 : List Loc), cw_I D cI cZ A H0 s (md_W cI cZ ad z.1) H1 locs1 → W p l e R s m args below meth c H1 locs1 cells slots Q (F0 m (pc + 3) ls (.int z.2 :: rest))) : W p l e R s m args below meth c H locs cells slots Q (F0 m pc ls (.ref (ad 0) :: rest)) := ct_I.call (As := []) (wr := []) [0, 1, 2, 3, 4, 5] [] F hI hM rfl rfl rfl rfl (fun _ h => absurd h List.not_mem_nil) hw (ci := 1) (T := F_MD) (N := 7) rfl (by rw [hcl]; rfl) hR hsz hrest hcs hdg kk
theorem md_callV0 {y : MethodName} {b : ByteArray} {nLy k idx : Nat} {ret : Option FieldType} {ad : Nat → Nat} {u : MS} {z : MS} (F : CallFix p m c cc nL s args lw_tb R_MD) (hI : cw_I D cI cZ A H0 s (md_W cI cZ ad u) H locs) (hM : ct_V l D cI cZ (md_W cI cZ ad) y b nLy ret k (.ref (ad 0) :: []) u z) (hw : cw_ok R_MD idx y b nLy ret 0) (hcl : y.cls = R_MD) (hR : k + 1 ≤ R.frames ∧ 8 + (nLy + 11) + 32 * k ≤ R.locals) (hsz : ls.size = nL) (hrest : (rest.map fun v => v.category).sum ≤ 8) (hcs : cells ≤ R.cells ∧ slots ≤ R.slots) (hdg : decode cc pc = .ok (.invokevirtual idx, 3)) (kk : ∀ (H1 : Heap) (locs1 : List Loc), cw_I D cI cZ A H0 s (md_W cI cZ ad z) H1 locs1 → W p l e R s m args below meth c H1 locs1 cells slots Q (F0 m (pc + 3) ls rest)) : W p l e R s m args below meth c H locs cells slots Q (F0 m pc ls (.ref (ad 0) :: rest)) := ct_V.call (As := []) (wr := []) [0, 1, 2, 3, 4, 5] [] F hI hM rfl rfl rfl rfl (fun _ h => absurd h List.not_mem_nil) hw (ci := 1) (T := F_MD) (N := 7) rfl (by rw [hcl]; rfl) hR hsz hrest hcs hdg kk
theorem md_callI1 {y : MethodName} {b : ByteArray} {nLy k idx : Nat} {ret : Option FieldType} {a1 : Int32} {ad : Nat → Nat} {u : MS} {z : MS × Int32} (F : CallFix p m c cc nL s args lw_tb R_MD) (hI : cw_I D cI cZ A H0 s (md_W cI cZ ad u) H locs) (hM : ct_I l D cI cZ (md_W cI cZ ad) y b nLy ret k (.ref (ad 0) :: [.int a1]) u z) (hw : cw_ok R_MD idx y b nLy ret 1) (hcl : y.cls = R_MD) (hR : k + 1 ≤ R.frames ∧ 8 + (nLy + 11) + 32 * k ≤ R.locals) (hsz : ls.size = nL) (hrest : (rest.map fun v => v.category).sum ≤ 8) (hcs : cells ≤ R.cells ∧ slots ≤ R.slots) (hdg : decode cc pc = .ok (.invokevirtual idx, 3)) (kk : ∀ (H1 : Heap) (locs1 : List Loc), cw_I D cI cZ A H0 s (md_W cI cZ ad z.1) H1 locs1 → W p l e R s m args below meth c H1 locs1 cells slots Q (F0 m (pc + 3) ls (.int z.2 :: rest))) : W p l e R s m args below meth c H locs cells slots Q (F0 m pc ls (.int a1 :: .ref (ad 0) :: rest)) := ct_I.call (As := [.int a1]) (wr := []) [0, 1, 2, 3, 4, 5] [] F hI hM rfl rfl rfl rfl (fun _ h => absurd h List.not_mem_nil) hw (ci := 1) (T := F_MD) (N := 7) rfl (by rw [hcl]; rfl) hR hsz hrest hcs hdg kk
theorem md_callV1 {y : MethodName} {b : ByteArray} {nLy k idx : Nat} {ret : Option FieldType} {a1 : Int32} {ad : Nat → Nat} {u : MS} {z : MS} (F : CallFix p m c cc nL s args lw_tb R_MD) (hI : cw_I D cI cZ A H0 s (md_W cI cZ ad u) H locs) (hM : ct_V l D cI cZ (md_W cI cZ ad) y b nLy ret k (.ref (ad 0) :: [.int a1]) u z) (hw : cw_ok R_MD idx y b nLy ret 1) (hcl : y.cls = R_MD) (hR : k + 1 ≤ R.frames ∧ 8 + (nLy + 11) + 32 * k ≤ R.locals) (hsz : ls.size = nL) (hrest : (rest.map fun v => v.category).sum ≤ 8) (hcs : cells ≤ R.cells ∧ slots ≤ R.slots) (hdg : decode cc pc = .ok (.invokevirtual idx, 3)) (kk : ∀ (H1 : Heap) (locs1 : List Loc), cw_I D cI cZ A H0 s (md_W cI cZ ad z) H1 locs1 → W p l e R s m args below meth c H1 locs1 cells slots Q (F0 m (pc + 3) ls rest)) : W p l e R s m args below meth c H locs cells slots Q (F0 m pc ls (.int a1 :: .ref (ad 0) :: rest)) := ct_V.call (As := [.int a1]) (wr := []) [0, 1, 2, 3, 4, 5] [] F hI hM rfl rfl rfl rfl (fun _ h => absurd h List.not_mem_nil) hw (ci := 1) (T := F_MD) (N := 7) rfl (by rw [hcl]; rfl) hR hsz hrest hcs hdg kk
theorem md_callI2 {y : MethodName} {b : ByteArray} {nLy k idx : Nat} {ret : Option FieldType} {a1 a2 : Int32} {ad : Nat → Nat} {u : MS} {z : MS × Int32} (F : CallFix p m c cc nL s args lw_tb R_MD) (hI : cw_I D cI cZ A H0 s (md_W cI cZ ad u) H locs) (hM : ct_I l D cI cZ (md_W cI cZ ad) y b nLy ret k (.ref (ad 0) :: [.int a1, .int a2]) u z) (hw : cw_ok R_MD idx y b nLy ret 2) (hcl : y.cls = R_MD) (hR : k + 1 ≤ R.frames ∧ 8 + (nLy + 11) + 32 * k ≤ R.locals) (hsz : ls.size = nL) (hrest : (rest.map fun v => v.category).sum ≤ 8) (hcs : cells ≤ R.cells ∧ slots ≤ R.slots) (hdg : decode cc pc = .ok (.invokevirtual idx, 3)) (kk : ∀ (H1 : Heap) (locs1 : List Loc), cw_I D cI cZ A H0 s (md_W cI cZ ad z.1) H1 locs1 → W p l e R s m args below meth c H1 locs1 cells slots Q (F0 m (pc + 3) ls (.int z.2 :: rest))) : W p l e R s m args below meth c H locs cells slots Q (F0 m pc ls (.int a2 :: .int a1 :: .ref (ad 0) :: rest)) := ct_I.call (As := [.int a1, .int a2]) (wr := []) [0, 1, 2, 3, 4, 5] [] F hI hM rfl rfl rfl rfl (fun _ h => absurd h List.not_mem_nil) hw (ci := 1) (T := F_MD) (N := 7) rfl (by rw [hcl]; rfl) hR hsz hrest hcs hdg kk
theorem md_callV2 {y : MethodName} {b : ByteArray} {nLy k idx : Nat} {ret : Option FieldType} {a1 a2 : Int32} {ad : Nat → Nat} {u : MS} {z : MS} (F : CallFix p m c cc nL s args lw_tb R_MD) (hI : cw_I D cI cZ A H0 s (md_W cI cZ ad u) H locs) (hM : ct_V l D cI cZ (md_W cI cZ ad) y b nLy ret k (.ref (ad 0) :: [.int a1, .int a2]) u z) (hw : cw_ok R_MD idx y b nLy ret 2) (hcl : y.cls = R_MD) (hR : k + 1 ≤ R.frames ∧ 8 + (nLy + 11) + 32 * k ≤ R.locals) (hsz : ls.size = nL) (hrest : (rest.map fun v => v.category).sum ≤ 8) (hcs : cells ≤ R.cells ∧ slots ≤ R.slots) (hdg : decode cc pc = .ok (.invokevirtual idx, 3)) (kk : ∀ (H1 : Heap) (locs1 : List Loc), cw_I D cI cZ A H0 s (md_W cI cZ ad z) H1 locs1 → W p l e R s m args below meth c H1 locs1 cells slots Q (F0 m (pc + 3) ls rest)) : W p l e R s m args below meth c H locs cells slots Q (F0 m pc ls (.int a2 :: .int a1 :: .ref (ad 0) :: rest)) := ct_V.call (As := [.int a1, .int a2]) (wr := []) [0, 1, 2, 3, 4, 5] [] F hI hM rfl rfl rfl rfl (fun _ h => absurd h List.not_mem_nil) hw (ci := 1) (T := F_MD) (N := 7) rfl (by rw [hcl]; rfl) hR hsz hrest hcs hdg kk
theorem md_callI3 {y : MethodName} {b : ByteArray} {nLy k idx : Nat} {ret : Option FieldType} {a1 a2 a3 : Int32} {ad : Nat → Nat} {u : MS} {z : MS × Int32} (F : CallFix p m c cc nL s args lw_tb R_MD) (hI : cw_I D cI cZ A H0 s (md_W cI cZ ad u) H locs) (hM : ct_I l D cI cZ (md_W cI cZ ad) y b nLy ret k (.ref (ad 0) :: [.int a1, .int a2, .int a3]) u z) (hw : cw_ok R_MD idx y b nLy ret 3) (hcl : y.cls = R_MD) (hR : k + 1 ≤ R.frames ∧ 8 + (nLy + 11) + 32 * k ≤ R.locals) (hsz : ls.size = nL) (hrest : (rest.map fun v => v.category).sum ≤ 8) (hcs : cells ≤ R.cells ∧ slots ≤ R.slots) (hdg : decode cc pc = .ok (.invokevirtual idx, 3)) (kk : ∀ (H1 : Heap) (locs1 : List Loc), cw_I D cI cZ A H0 s (md_W cI cZ ad z.1) H1 locs1 → W p l e R s m args below meth c H1 locs1 cells slots Q (F0 m (pc + 3) ls (.int z.2 :: rest))) : W p l e R s m args below meth c H locs cells slots Q (F0 m pc ls (.int a3 :: .int a2 :: .int a1 :: .ref (ad 0) :: rest)) := ct_I.call (As := [.int a1, .int a2, .int a3]) (wr := []) [0, 1, 2, 3, 4, 5] [] F hI hM rfl rfl rfl rfl (fun _ h => absurd h List.not_mem_nil) hw (ci := 1) (T := F_MD) (N := 7) rfl (by rw [hcl]; rfl) hR hsz hrest hcs hdg kk
theorem md_callV3 {y : MethodName} {b : ByteArray} {nLy k idx : Nat} {ret : Option FieldType} {a1 a2 a3 : Int32} {ad : Nat → Nat} {u : MS} {z : MS} (F : CallFix p m c cc nL s args lw_tb R_MD) (hI : cw_I D cI cZ A H0 s (md_W cI cZ ad u) H locs) (hM : ct_V l D cI cZ (md_W cI cZ ad) y b nLy ret k (.ref (ad 0) :: [.int a1, .int a2, .int a3]) u z) (hw : cw_ok R_MD idx y b nLy ret 3) (hcl : y.cls = R_MD) (hR : k + 1 ≤ R.frames ∧ 8 + (nLy + 11) + 32 * k ≤ R.locals) (hsz : ls.size = nL) (hrest : (rest.map fun v => v.category).sum ≤ 8) (hcs : cells ≤ R.cells ∧ slots ≤ R.slots) (hdg : decode cc pc = .ok (.invokevirtual idx, 3)) (kk : ∀ (H1 : Heap) (locs1 : List Loc), cw_I D cI cZ A H0 s (md_W cI cZ ad z) H1 locs1 → W p l e R s m args below meth c H1 locs1 cells slots Q (F0 m (pc + 3) ls rest)) : W p l e R s m args below meth c H locs cells slots Q (F0 m pc ls (.int a3 :: .int a2 :: .int a1 :: .ref (ad 0) :: rest)) := ct_V.call (As := [.int a1, .int a2, .int a3]) (wr := []) [0, 1, 2, 3, 4, 5] [] F hI hM rfl rfl rfl rfl (fun _ h => absurd h List.not_mem_nil) hw (ci := 1) (T := F_MD) (N := 7) rfl (by rw [hcl]; rfl) hR hsz hrest hcs hdg kk
theorem md_callI4 {y : MethodName} {b : ByteArray} {nLy k idx : Nat} {ret : Option FieldType} {a1 a2 a3 a4 : Int32} {ad : Nat → Nat} {u : MS} {z : MS × Int32} (F : CallFix p m c cc nL s args lw_tb R_MD) (hI : cw_I D cI cZ A H0 s (md_W cI cZ ad u) H locs) (hM : ct_I l D cI cZ (md_W cI cZ ad) y b nLy ret k (.ref (ad 0) :: [.int a1, .int a2, .int a3, .int a4]) u z) (hw : cw_ok R_MD idx y b nLy ret 4) (hcl : y.cls = R_MD) (hR : k + 1 ≤ R.frames ∧ 8 + (nLy + 11) + 32 * k ≤ R.locals) (hsz : ls.size = nL) (hrest : (rest.map fun v => v.category).sum ≤ 8) (hcs : cells ≤ R.cells ∧ slots ≤ R.slots) (hdg : decode cc pc = .ok (.invokevirtual idx, 3)) (kk : ∀ (H1 : Heap) (locs1 : List Loc), cw_I D cI cZ A H0 s (md_W cI cZ ad z.1) H1 locs1 → W p l e R s m args below meth c H1 locs1 cells slots Q (F0 m (pc + 3) ls (.int z.2 :: rest))) : W p l e R s m args below meth c H locs cells slots Q (F0 m pc ls (.int a4 :: .int a3 :: .int a2 :: .int a1 :: .ref (ad 0) :: rest)) := ct_I.call (As := [.int a1, .int a2, .int a3, .int a4]) (wr := []) [0, 1, 2, 3, 4, 5] [] F hI hM rfl rfl rfl rfl (fun _ h => absurd h List.not_mem_nil) hw (ci := 1) (T := F_MD) (N := 7) rfl (by rw [hcl]; rfl) hR hsz hrest hcs hdg kk
theorem md_callV4 {y : MethodName} {b : ByteArray} {nLy k idx : Nat} {ret : Option FieldType} {a1 a2 a3 a4 : Int32} {ad : Nat → Nat} {u : MS} {z : MS} (F : CallFix p m c cc nL s args lw_tb R_MD) (hI : cw_I D cI cZ A H0 s (md_W cI cZ ad u) H locs) (hM : ct_V l D cI cZ (md_W cI cZ ad) y b nLy ret k (.ref (ad 0) :: [.int a1, .int a2, .int a3, .int a4]) u z) (hw : cw_ok R_MD idx y b nLy ret 4) (hcl : y.cls = R_MD) (hR : k + 1 ≤ R.frames ∧ 8 + (nLy + 11) + 32 * k ≤ R.locals) (hsz : ls.size = nL) (hrest : (rest.map fun v => v.category).sum ≤ 8) (hcs : cells ≤ R.cells ∧ slots ≤ R.slots) (hdg : decode cc pc = .ok (.invokevirtual idx, 3)) (kk : ∀ (H1 : Heap) (locs1 : List Loc), cw_I D cI cZ A H0 s (md_W cI cZ ad z) H1 locs1 → W p l e R s m args below meth c H1 locs1 cells slots Q (F0 m (pc + 3) ls rest)) : W p l e R s m args below meth c H locs cells slots Q (F0 m pc ls (.int a4 :: .int a3 :: .int a2 :: .int a1 :: .ref (ad 0) :: rest)) := ct_V.call (As := [.int a1, .int a2, .int a3, .int a4]) (wr := []) [0, 1, 2, 3, 4, 5] [] F hI hM rfl rfl rfl rfl (fun _ h => absurd h List.not_mem_nil) hw (ci := 1) (T := F_MD) (N := 7) rfl (by rw [hcl]; rfl) hR hsz hrest hcs hdg kk
theorem md_callP0 {y : MethodName} {b : ByteArray} {nLy k idx : Nat} {ret : Option FieldType} {ad : Nat → Nat} {u : MS} {w : Int32} (F : CallFix p m c cc nL s args lw_tb R_MD) (hI : cw_I D cI cZ A H0 s (md_W cI cZ ad u) H locs) (hM : ct_I l D cI cZ (md_W cI cZ ad) y b nLy ret k (.ref (ad 0) :: []) u (u, w)) (hw : cw_ok R_MD idx y b nLy ret 0) (hcl : y.cls = R_MD) (hR : k + 1 ≤ R.frames ∧ 8 + (nLy + 11) + 32 * k ≤ R.locals) (hsz : ls.size = nL) (hrest : (rest.map fun v => v.category).sum ≤ 8) (hcs : cells ≤ R.cells ∧ slots ≤ R.slots) (hdg : decode cc pc = .ok (.invokevirtual idx, 3)) (kk : ∀ (H1 : Heap) (locs1 : List Loc), cw_I D cI cZ A H0 s (md_W cI cZ ad u) H1 locs1 → W p l e R s m args below meth c H1 locs1 cells slots Q (F0 m (pc + 3) ls (.int w :: rest))) : W p l e R s m args below meth c H locs cells slots Q (F0 m pc ls (.ref (ad 0) :: rest)) := md_callI0 F hI hM hw hcl hR hsz hrest hcs hdg kk
theorem md_callP1 {y : MethodName} {b : ByteArray} {nLy k idx : Nat} {ret : Option FieldType} {a1 : Int32} {ad : Nat → Nat} {u : MS} {w : Int32} (F : CallFix p m c cc nL s args lw_tb R_MD) (hI : cw_I D cI cZ A H0 s (md_W cI cZ ad u) H locs) (hM : ct_I l D cI cZ (md_W cI cZ ad) y b nLy ret k (.ref (ad 0) :: [.int a1]) u (u, w)) (hw : cw_ok R_MD idx y b nLy ret 1) (hcl : y.cls = R_MD) (hR : k + 1 ≤ R.frames ∧ 8 + (nLy + 11) + 32 * k ≤ R.locals) (hsz : ls.size = nL) (hrest : (rest.map fun v => v.category).sum ≤ 8) (hcs : cells ≤ R.cells ∧ slots ≤ R.slots) (hdg : decode cc pc = .ok (.invokevirtual idx, 3)) (kk : ∀ (H1 : Heap) (locs1 : List Loc), cw_I D cI cZ A H0 s (md_W cI cZ ad u) H1 locs1 → W p l e R s m args below meth c H1 locs1 cells slots Q (F0 m (pc + 3) ls (.int w :: rest))) : W p l e R s m args below meth c H locs cells slots Q (F0 m pc ls (.int a1 :: .ref (ad 0) :: rest)) := md_callI1 F hI hM hw hcl hR hsz hrest hcs hdg kk
theorem md_callP2 {y : MethodName} {b : ByteArray} {nLy k idx : Nat} {ret : Option FieldType} {a1 a2 : Int32} {ad : Nat → Nat} {u : MS} {w : Int32} (F : CallFix p m c cc nL s args lw_tb R_MD) (hI : cw_I D cI cZ A H0 s (md_W cI cZ ad u) H locs) (hM : ct_I l D cI cZ (md_W cI cZ ad) y b nLy ret k (.ref (ad 0) :: [.int a1, .int a2]) u (u, w)) (hw : cw_ok R_MD idx y b nLy ret 2) (hcl : y.cls = R_MD) (hR : k + 1 ≤ R.frames ∧ 8 + (nLy + 11) + 32 * k ≤ R.locals) (hsz : ls.size = nL) (hrest : (rest.map fun v => v.category).sum ≤ 8) (hcs : cells ≤ R.cells ∧ slots ≤ R.slots) (hdg : decode cc pc = .ok (.invokevirtual idx, 3)) (kk : ∀ (H1 : Heap) (locs1 : List Loc), cw_I D cI cZ A H0 s (md_W cI cZ ad u) H1 locs1 → W p l e R s m args below meth c H1 locs1 cells slots Q (F0 m (pc + 3) ls (.int w :: rest))) : W p l e R s m args below meth c H locs cells slots Q (F0 m pc ls (.int a2 :: .int a1 :: .ref (ad 0) :: rest)) := md_callI2 F hI hM hw hcl hR hsz hrest hcs hdg kk
theorem md_callP3 {y : MethodName} {b : ByteArray} {nLy k idx : Nat} {ret : Option FieldType} {a1 a2 a3 : Int32} {ad : Nat → Nat} {u : MS} {w : Int32} (F : CallFix p m c cc nL s args lw_tb R_MD) (hI : cw_I D cI cZ A H0 s (md_W cI cZ ad u) H locs) (hM : ct_I l D cI cZ (md_W cI cZ ad) y b nLy ret k (.ref (ad 0) :: [.int a1, .int a2, .int a3]) u (u, w)) (hw : cw_ok R_MD idx y b nLy ret 3) (hcl : y.cls = R_MD) (hR : k + 1 ≤ R.frames ∧ 8 + (nLy + 11) + 32 * k ≤ R.locals) (hsz : ls.size = nL) (hrest : (rest.map fun v => v.category).sum ≤ 8) (hcs : cells ≤ R.cells ∧ slots ≤ R.slots) (hdg : decode cc pc = .ok (.invokevirtual idx, 3)) (kk : ∀ (H1 : Heap) (locs1 : List Loc), cw_I D cI cZ A H0 s (md_W cI cZ ad u) H1 locs1 → W p l e R s m args below meth c H1 locs1 cells slots Q (F0 m (pc + 3) ls (.int w :: rest))) : W p l e R s m args below meth c H locs cells slots Q (F0 m pc ls (.int a3 :: .int a2 :: .int a1 :: .ref (ad 0) :: rest)) := md_callI3 F hI hM hw hcl hR hsz hrest hcs hdg kk
theorem md_callP4 {y : MethodName} {b : ByteArray} {nLy k idx : Nat} {ret : Option FieldType} {a1 a2 a3 a4 : Int32} {ad : Nat → Nat} {u : MS} {w : Int32} (F : CallFix p m c cc nL s args lw_tb R_MD) (hI : cw_I D cI cZ A H0 s (md_W cI cZ ad u) H locs) (hM : ct_I l D cI cZ (md_W cI cZ ad) y b nLy ret k (.ref (ad 0) :: [.int a1, .int a2, .int a3, .int a4]) u (u, w)) (hw : cw_ok R_MD idx y b nLy ret 4) (hcl : y.cls = R_MD) (hR : k + 1 ≤ R.frames ∧ 8 + (nLy + 11) + 32 * k ≤ R.locals) (hsz : ls.size = nL) (hrest : (rest.map fun v => v.category).sum ≤ 8) (hcs : cells ≤ R.cells ∧ slots ≤ R.slots) (hdg : decode cc pc = .ok (.invokevirtual idx, 3)) (kk : ∀ (H1 : Heap) (locs1 : List Loc), cw_I D cI cZ A H0 s (md_W cI cZ ad u) H1 locs1 → W p l e R s m args below meth c H1 locs1 cells slots Q (F0 m (pc + 3) ls (.int w :: rest))) : W p l e R s m args below meth c H locs cells slots Q (F0 m pc ls (.int a4 :: .int a3 :: .int a2 :: .int a1 :: .ref (ad 0) :: rest)) := md_callI4 F hI hM hw hcl hR hsz hrest hcs hdg kk
end
theorem wk_MD_33 : cw_ok R_MD 33 y_MD_isRegister b_MD_isRegister 3 (some .boolean) 2 := ⟨kl_MD_33, ki_MD_isRegister, ks_MD_isRegister, kn_MD, kc_MD_isRegister, by decide +kernel, by decide +kernel, by decide +kernel⟩
theorem wk_MD_37 : cw_ok R_MD 37 y_MD_live b_MD_live 4 (some .int) 0 := ⟨kl_MD_37, ki_MD_live, ks_MD_live, kn_MD, kc_MD_live, by decide +kernel, by decide +kernel, by decide +kernel⟩
theorem wk_MD_41 : cw_ok R_MD 41 y_MD_isBit b_MD_isBit 2 (some .boolean) 1 := ⟨kl_MD_41, ki_MD_isBit, ks_MD_isBit, kn_MD, kc_MD_isBit, by decide +kernel, by decide +kernel, by decide +kernel⟩
theorem wk_MD_45 : cw_ok R_MD 45 y_MD_reachRoots b_MD_reachRoots 2 none 0 := ⟨kl_MD_45, ki_MD_reachRoots, ks_MD_reachRoots, kn_MD, kc_MD_reachRoots, by decide +kernel, by decide +kernel, by decide +kernel⟩
theorem wk_MD_48 : cw_ok R_MD 48 y_MD_reachFields b_MD_reachFields 5 (some .boolean) 0 := ⟨kl_MD_48, ki_MD_reachFields, ks_MD_reachFields, kn_MD, kc_MD_reachFields, by decide +kernel, by decide +kernel, by decide +kernel⟩
theorem wk_TH_47 : cw_ok R_TH 47 y_TH_reach b_TH_reach 2 none 1 := ⟨kl_TH_47, ki_TH_reach, ks_TH_reach, kn_TH, kc_TH_reach, by decide +kernel, by decide +kernel, by decide +kernel⟩
theorem wk_TH_51 : cw_ok R_TH 51 y_TH_signalStep b_TH_signalStep 1 none 0 := ⟨kl_TH_51, ki_TH_signalStep, ks_TH_signalStep, kn_TH, kc_TH_signalStep, by decide +kernel, by decide +kernel, by decide +kernel⟩
theorem wk_TH_54 : cw_ok R_TH 54 y_TH_traceStep b_TH_traceStep 3 none 0 := ⟨kl_TH_54, ki_TH_traceStep, ks_TH_traceStep, kn_TH, kc_TH_traceStep, by decide +kernel, by decide +kernel, by decide +kernel⟩
theorem wk_TH_57 : cw_ok R_TH 57 y_TH_sweepStep b_TH_sweepStep 1 none 0 := ⟨kl_TH_57, ki_TH_sweepStep, ks_TH_sweepStep, kn_TH, kc_TH_sweepStep, by decide +kernel, by decide +kernel, by decide +kernel⟩
theorem wk_TH_63 : cw_ok R_TH 63 y_TH_answer b_TH_answer 3 none 1 := ⟨kl_TH_63, ki_TH_answer, ks_TH_answer, kn_TH, kc_TH_answer, by decide +kernel, by decide +kernel, by decide +kernel⟩
theorem wk_TH_66 : cw_ok R_TH 66 y_TH_step b_TH_step 1 none 0 := ⟨kl_TH_66, ki_TH_step, ks_TH_step, kn_TH, kc_TH_step, by decide +kernel, by decide +kernel, by decide +kernel⟩
theorem wk_TH_69 : cw_ok R_TH 69 y_TH_drive b_TH_drive 1 none 0 := ⟨kl_TH_69, ki_TH_drive, ks_TH_drive, kn_TH, kc_TH_drive, by decide +kernel, by decide +kernel, by decide +kernel⟩
theorem wk_TH_72 : cw_ok R_TH 72 y_TH_bad b_TH_bad 3 (some .boolean) 2 := ⟨kl_TH_72, ki_TH_bad, ks_TH_bad, kn_TH, kc_TH_bad, by decide +kernel, by decide +kernel, by decide +kernel⟩
theorem wk_TH_76 : cw_ok R_TH 76 y_TH_freeCell b_TH_freeCell 2 (some .int) 0 := ⟨kl_TH_76, ki_TH_freeCell, ks_TH_freeCell, kn_TH, kc_TH_freeCell, by decide +kernel, by decide +kernel, by decide +kernel⟩
theorem wk_TH_80 : cw_ok R_TH 80 y_TH_collectAll b_TH_collectAll 2 none 0 := ⟨kl_TH_80, ki_TH_collectAll, ks_TH_collectAll, kn_TH, kc_TH_collectAll, by decide +kernel, by decide +kernel, by decide +kernel⟩
theorem wk_TH_86 : cw_ok R_TH 86 y_TH_badBit b_TH_badBit 2 (some .boolean) 1 := ⟨kl_TH_86, ki_TH_badBit, ks_TH_badBit, kn_TH, kc_TH_badBit, by decide +kernel, by decide +kernel, by decide +kernel⟩
theorem wk_TH_90 : cw_ok R_TH 90 y_TH_watch b_TH_watch 4 none 3 := ⟨kl_TH_90, ki_TH_watch, ks_TH_watch, kn_TH, kc_TH_watch, by decide +kernel, by decide +kernel, by decide +kernel⟩
theorem wk_TH_94 : cw_ok R_TH 94 y_TH_tagOf b_TH_tagOf 2 (some .int) 1 := ⟨kl_TH_94, ki_TH_tagOf, ks_TH_tagOf, kn_TH, kc_TH_tagOf, by decide +kernel, by decide +kernel, by decide +kernel⟩
end
section
-- decode rows, printed by names.py
theorem d_TH_init_0 : decode b_TH_init 0 = .ok (.aload_n 0, 1) := by decide +kernel
theorem d_TH_init_1 : decode b_TH_init 1 = .ok (.invokespecial 1, 3) := by decide +kernel
theorem d_TH_init_4 : decode b_TH_init 4 = .ok (.aload_n 0, 1) := by decide +kernel
theorem d_TH_init_5 : decode b_TH_init 5 = .ok (.bipush 16, 2) := by decide +kernel
theorem d_TH_init_7 : decode b_TH_init 7 = .ok (.newarray .int, 2) := by decide +kernel
theorem d_TH_init_9 : decode b_TH_init 9 = .ok (.putfield 7, 3) := by decide +kernel
theorem d_TH_init_12 : decode b_TH_init 12 = .ok (.aload_n 0, 1) := by decide +kernel
theorem d_TH_init_13 : decode b_TH_init 13 = .ok (.bipush 16, 2) := by decide +kernel
theorem d_TH_init_15 : decode b_TH_init 15 = .ok (.newarray .int, 2) := by decide +kernel
theorem d_TH_init_17 : decode b_TH_init 17 = .ok (.putfield 13, 3) := by decide +kernel
theorem d_TH_init_20 : decode b_TH_init 20 = .ok (.aload_n 0, 1) := by decide +kernel
theorem d_TH_init_21 : decode b_TH_init 21 = .ok (.bipush 16, 2) := by decide +kernel
theorem d_TH_init_23 : decode b_TH_init 23 = .ok (.newarray .int, 2) := by decide +kernel
theorem d_TH_init_25 : decode b_TH_init 25 = .ok (.putfield 16, 3) := by decide +kernel
theorem d_TH_init_28 : decode b_TH_init 28 = .ok (.aload_n 0, 1) := by decide +kernel
theorem d_TH_init_29 : decode b_TH_init 29 = .ok (.bipush 16, 2) := by decide +kernel
theorem d_TH_init_31 : decode b_TH_init 31 = .ok (.newarray .int, 2) := by decide +kernel
theorem d_TH_init_33 : decode b_TH_init 33 = .ok (.putfield 19, 3) := by decide +kernel
theorem d_TH_init_36 : decode b_TH_init 36 = .ok (.aload_n 0, 1) := by decide +kernel
theorem d_TH_init_37 : decode b_TH_init 37 = .ok (.bipush 16, 2) := by decide +kernel
theorem d_TH_init_39 : decode b_TH_init 39 = .ok (.newarray .int, 2) := by decide +kernel
theorem d_TH_init_41 : decode b_TH_init 41 = .ok (.putfield 22, 3) := by decide +kernel
theorem d_TH_init_44 : decode b_TH_init 44 = .ok (.aload_n 0, 1) := by decide +kernel
theorem d_TH_init_45 : decode b_TH_init 45 = .ok (.bipush 12, 2) := by decide +kernel
theorem d_TH_init_47 : decode b_TH_init 47 = .ok (.newarray .int, 2) := by decide +kernel
theorem d_TH_init_49 : decode b_TH_init 49 = .ok (.putfield 25, 3) := by decide +kernel
theorem d_TH_init_52 : decode b_TH_init 52 = .ok (.aload_n 0, 1) := by decide +kernel
theorem d_TH_init_53 : decode b_TH_init 53 = .ok (.iconst 2, 1) := by decide +kernel
theorem d_TH_init_54 : decode b_TH_init 54 = .ok (.newarray .int, 2) := by decide +kernel
theorem d_TH_init_56 : decode b_TH_init 56 = .ok (.putfield 28, 3) := by decide +kernel
theorem d_TH_init_59 : decode b_TH_init 59 = .ok (.aload_n 0, 1) := by decide +kernel
theorem d_TH_init_60 : decode b_TH_init 60 = .ok (.iconst 3, 1) := by decide +kernel
theorem d_TH_init_61 : decode b_TH_init 61 = .ok (.newarray .int, 2) := by decide +kernel
theorem d_TH_init_63 : decode b_TH_init 63 = .ok (.putfield 31, 3) := by decide +kernel
theorem d_TH_init_66 : decode b_TH_init 66 = .ok (.iload_n 1, 1) := by decide +kernel
theorem d_TH_init_67 : decode b_TH_init 67 = .ok (.istore_n 2, 1) := by decide +kernel
theorem d_TH_init_68 : decode b_TH_init 68 = .ok (.iload_n 2, 1) := by decide +kernel
theorem d_TH_init_69 : decode b_TH_init 69 = .ok (.iconst 4, 1) := by decide +kernel
theorem d_TH_init_70 : decode b_TH_init 70 = .ok (.if_icmp .ge 5, 3) := by decide +kernel
theorem d_TH_init_73 : decode b_TH_init 73 = .ok (.iconst 4, 1) := by decide +kernel
theorem d_TH_init_74 : decode b_TH_init 74 = .ok (.istore_n 2, 1) := by decide +kernel
theorem d_TH_init_75 : decode b_TH_init 75 = .ok (.iload_n 2, 1) := by decide +kernel
theorem d_TH_init_76 : decode b_TH_init 76 = .ok (.bipush 16, 2) := by decide +kernel
theorem d_TH_init_78 : decode b_TH_init 78 = .ok (.if_icmp .le 6, 3) := by decide +kernel
theorem d_TH_init_81 : decode b_TH_init 81 = .ok (.bipush 16, 2) := by decide +kernel
theorem d_TH_init_83 : decode b_TH_init 83 = .ok (.istore_n 2, 1) := by decide +kernel
theorem d_TH_init_84 : decode b_TH_init 84 = .ok (.aload_n 0, 1) := by decide +kernel
theorem d_TH_init_85 : decode b_TH_init 85 = .ok (.iload_n 2, 1) := by decide +kernel
theorem d_TH_init_86 : decode b_TH_init 86 = .ok (.putfield 34, 3) := by decide +kernel
theorem d_TH_init_89 : decode b_TH_init 89 = .ok (.aload_n 0, 1) := by decide +kernel
theorem d_TH_init_90 : decode b_TH_init 90 = .ok (.iconst 1, 1) := by decide +kernel
theorem d_TH_init_91 : decode b_TH_init 91 = .ok (.putfield 38, 3) := by decide +kernel
theorem d_TH_init_94 : decode b_TH_init 94 = .ok (.iconst 0, 1) := by decide +kernel
theorem d_TH_init_95 : decode b_TH_init 95 = .ok (.istore_n 3, 1) := by decide +kernel
theorem d_TH_init_96 : decode b_TH_init 96 = .ok (.iload_n 3, 1) := by decide +kernel
theorem d_TH_init_97 : decode b_TH_init 97 = .ok (.bipush 12, 2) := by decide +kernel
theorem d_TH_init_99 : decode b_TH_init 99 = .ok (.if_icmp .ge 16, 3) := by decide +kernel
theorem d_TH_init_102 : decode b_TH_init 102 = .ok (.aload_n 0, 1) := by decide +kernel
theorem d_TH_init_103 : decode b_TH_init 103 = .ok (.getfield 25, 3) := by decide +kernel
theorem d_TH_init_106 : decode b_TH_init 106 = .ok (.iload_n 3, 1) := by decide +kernel
theorem d_TH_init_107 : decode b_TH_init 107 = .ok (.iconst (-1), 1) := by decide +kernel
theorem d_TH_init_108 : decode b_TH_init 108 = .ok (.iastore, 1) := by decide +kernel
theorem d_TH_init_109 : decode b_TH_init 109 = .ok (.iinc 3 1, 3) := by decide +kernel
theorem d_TH_init_112 : decode b_TH_init 112 = .ok (.goto (-16), 3) := by decide +kernel
theorem d_TH_init_115 : decode b_TH_init 115 = .ok (.aload_n 0, 1) := by decide +kernel
theorem d_TH_init_116 : decode b_TH_init 116 = .ok (.getfield 28, 3) := by decide +kernel
theorem d_TH_init_119 : decode b_TH_init 119 = .ok (.iconst 0, 1) := by decide +kernel
theorem d_TH_init_120 : decode b_TH_init 120 = .ok (.iconst (-1), 1) := by decide +kernel
theorem d_TH_init_121 : decode b_TH_init 121 = .ok (.iastore, 1) := by decide +kernel
theorem d_TH_init_122 : decode b_TH_init 122 = .ok (.aload_n 0, 1) := by decide +kernel
theorem d_TH_init_123 : decode b_TH_init 123 = .ok (.getfield 28, 3) := by decide +kernel
theorem d_TH_init_126 : decode b_TH_init 126 = .ok (.iconst 1, 1) := by decide +kernel
theorem d_TH_init_127 : decode b_TH_init 127 = .ok (.iconst (-1), 1) := by decide +kernel
theorem d_TH_init_128 : decode b_TH_init 128 = .ok (.iastore, 1) := by decide +kernel
theorem d_TH_init_129 : decode b_TH_init 129 = .ok (.return_, 1) := by decide +kernel
theorem d_TH_reach_0 : decode b_TH_reach 0 = .ok (.iload_n 1, 1) := by decide +kernel
theorem d_TH_reach_1 : decode b_TH_reach 1 = .ok (.ifCond .lt 25, 3) := by decide +kernel
theorem d_TH_reach_4 : decode b_TH_reach 4 = .ok (.aload_n 0, 1) := by decide +kernel
theorem d_TH_reach_5 : decode b_TH_reach 5 = .ok (.getfield 7, 3) := by decide +kernel
theorem d_TH_reach_8 : decode b_TH_reach 8 = .ok (.iload_n 1, 1) := by decide +kernel
theorem d_TH_reach_9 : decode b_TH_reach 9 = .ok (.iaload, 1) := by decide +kernel
theorem d_TH_reach_10 : decode b_TH_reach 10 = .ok (.iconst 3, 1) := by decide +kernel
theorem d_TH_reach_11 : decode b_TH_reach 11 = .ok (.aload_n 0, 1) := by decide +kernel
theorem d_TH_reach_12 : decode b_TH_reach 12 = .ok (.getfield 38, 3) := by decide +kernel
theorem d_TH_reach_15 : decode b_TH_reach 15 = .ok (.isub, 1) := by decide +kernel
theorem d_TH_reach_16 : decode b_TH_reach 16 = .ok (.if_icmp .ne 10, 3) := by decide +kernel
theorem d_TH_reach_19 : decode b_TH_reach 19 = .ok (.aload_n 0, 1) := by decide +kernel
theorem d_TH_reach_20 : decode b_TH_reach 20 = .ok (.getfield 7, 3) := by decide +kernel
theorem d_TH_reach_23 : decode b_TH_reach 23 = .ok (.iload_n 1, 1) := by decide +kernel
theorem d_TH_reach_24 : decode b_TH_reach 24 = .ok (.iconst 3, 1) := by decide +kernel
theorem d_TH_reach_25 : decode b_TH_reach 25 = .ok (.iastore, 1) := by decide +kernel
theorem d_TH_reach_26 : decode b_TH_reach 26 = .ok (.return_, 1) := by decide +kernel
theorem d_TH_answer_0 : decode b_TH_answer 0 = .ok (.aload_n 0, 1) := by decide +kernel
theorem d_TH_answer_1 : decode b_TH_answer 1 = .ok (.getfield 41, 3) := by decide +kernel
theorem d_TH_answer_4 : decode b_TH_answer 4 = .ok (.iconst 1, 1) := by decide +kernel
theorem d_TH_answer_5 : decode b_TH_answer 5 = .ok (.if_icmp .lt 23, 3) := by decide +kernel
theorem d_TH_answer_8 : decode b_TH_answer 8 = .ok (.aload_n 0, 1) := by decide +kernel
theorem d_TH_answer_9 : decode b_TH_answer 9 = .ok (.getfield 41, 3) := by decide +kernel
theorem d_TH_answer_12 : decode b_TH_answer 12 = .ok (.iconst 3, 1) := by decide +kernel
theorem d_TH_answer_13 : decode b_TH_answer 13 = .ok (.if_icmp .gt 15, 3) := by decide +kernel
theorem d_TH_answer_16 : decode b_TH_answer 16 = .ok (.aload_n 0, 1) := by decide +kernel
theorem d_TH_answer_17 : decode b_TH_answer 17 = .ok (.getfield 44, 3) := by decide +kernel
theorem d_TH_answer_20 : decode b_TH_answer 20 = .ok (.iload_n 1, 1) := by decide +kernel
theorem d_TH_answer_21 : decode b_TH_answer 21 = .ok (.ishr, 1) := by decide +kernel
theorem d_TH_answer_22 : decode b_TH_answer 22 = .ok (.iconst 1, 1) := by decide +kernel
theorem d_TH_answer_23 : decode b_TH_answer 23 = .ok (.iand, 1) := by decide +kernel
theorem d_TH_answer_24 : decode b_TH_answer 24 = .ok (.iconst 1, 1) := by decide +kernel
theorem d_TH_answer_25 : decode b_TH_answer 25 = .ok (.if_icmp .ne 4, 3) := by decide +kernel
theorem d_TH_answer_28 : decode b_TH_answer 28 = .ok (.return_, 1) := by decide +kernel
theorem d_TH_answer_29 : decode b_TH_answer 29 = .ok (.aload_n 0, 1) := by decide +kernel
theorem d_TH_answer_30 : decode b_TH_answer 30 = .ok (.aload_n 0, 1) := by decide +kernel
theorem d_TH_answer_31 : decode b_TH_answer 31 = .ok (.getfield 44, 3) := by decide +kernel
theorem d_TH_answer_34 : decode b_TH_answer 34 = .ok (.iconst 1, 1) := by decide +kernel
theorem d_TH_answer_35 : decode b_TH_answer 35 = .ok (.iload_n 1, 1) := by decide +kernel
theorem d_TH_answer_36 : decode b_TH_answer 36 = .ok (.ishl, 1) := by decide +kernel
theorem d_TH_answer_37 : decode b_TH_answer 37 = .ok (.ior, 1) := by decide +kernel
theorem d_TH_answer_38 : decode b_TH_answer 38 = .ok (.putfield 44, 3) := by decide +kernel
theorem d_TH_answer_41 : decode b_TH_answer 41 = .ok (.aload_n 0, 1) := by decide +kernel
theorem d_TH_answer_42 : decode b_TH_answer 42 = .ok (.getfield 31, 3) := by decide +kernel
theorem d_TH_answer_45 : decode b_TH_answer 45 = .ok (.iload_n 1, 1) := by decide +kernel
theorem d_TH_answer_46 : decode b_TH_answer 46 = .ok (.aload_n 0, 1) := by decide +kernel
theorem d_TH_answer_47 : decode b_TH_answer 47 = .ok (.getfield 41, 3) := by decide +kernel
theorem d_TH_answer_50 : decode b_TH_answer 50 = .ok (.iastore, 1) := by decide +kernel
theorem d_TH_answer_51 : decode b_TH_answer 51 = .ok (.aload_n 0, 1) := by decide +kernel
theorem d_TH_answer_52 : decode b_TH_answer 52 = .ok (.getfield 41, 3) := by decide +kernel
theorem d_TH_answer_55 : decode b_TH_answer 55 = .ok (.iconst 3, 1) := by decide +kernel
theorem d_TH_answer_56 : decode b_TH_answer 56 = .ok (.if_icmp .ne 30, 3) := by decide +kernel
theorem d_TH_answer_59 : decode b_TH_answer 59 = .ok (.iconst 0, 1) := by decide +kernel
theorem d_TH_answer_60 : decode b_TH_answer 60 = .ok (.istore_n 2, 1) := by decide +kernel
theorem d_TH_answer_61 : decode b_TH_answer 61 = .ok (.iload_n 2, 1) := by decide +kernel
theorem d_TH_answer_62 : decode b_TH_answer 62 = .ok (.iconst 4, 1) := by decide +kernel
theorem d_TH_answer_63 : decode b_TH_answer 63 = .ok (.if_icmp .ge 23, 3) := by decide +kernel
theorem d_TH_answer_66 : decode b_TH_answer 66 = .ok (.aload_n 0, 1) := by decide +kernel
theorem d_TH_answer_67 : decode b_TH_answer 67 = .ok (.aload_n 0, 1) := by decide +kernel
theorem d_TH_answer_68 : decode b_TH_answer 68 = .ok (.getfield 25, 3) := by decide +kernel
theorem d_TH_answer_71 : decode b_TH_answer 71 = .ok (.iload_n 1, 1) := by decide +kernel
theorem d_TH_answer_72 : decode b_TH_answer 72 = .ok (.iconst 4, 1) := by decide +kernel
theorem d_TH_answer_73 : decode b_TH_answer 73 = .ok (.imul, 1) := by decide +kernel
theorem d_TH_answer_74 : decode b_TH_answer 74 = .ok (.iload_n 2, 1) := by decide +kernel
theorem d_TH_answer_75 : decode b_TH_answer 75 = .ok (.iadd, 1) := by decide +kernel
theorem d_TH_answer_76 : decode b_TH_answer 76 = .ok (.iaload, 1) := by decide +kernel
theorem d_TH_answer_77 : decode b_TH_answer 77 = .ok (.invokevirtual 47, 3) := by decide +kernel
theorem d_TH_answer_80 : decode b_TH_answer 80 = .ok (.iinc 2 1, 3) := by decide +kernel
theorem d_TH_answer_83 : decode b_TH_answer 83 = .ok (.goto (-22), 3) := by decide +kernel
theorem d_TH_answer_86 : decode b_TH_answer 86 = .ok (.return_, 1) := by decide +kernel
theorem d_TH_watch_0 : decode b_TH_watch 0 = .ok (.aload_n 0, 1) := by decide +kernel
theorem d_TH_watch_1 : decode b_TH_watch 1 = .ok (.iload_n 2, 1) := by decide +kernel
theorem d_TH_watch_2 : decode b_TH_watch 2 = .ok (.invokevirtual 47, 3) := by decide +kernel
theorem d_TH_watch_5 : decode b_TH_watch 5 = .ok (.aload_n 0, 1) := by decide +kernel
theorem d_TH_watch_6 : decode b_TH_watch 6 = .ok (.getfield 31, 3) := by decide +kernel
theorem d_TH_watch_9 : decode b_TH_watch 9 = .ok (.iload_n 1, 1) := by decide +kernel
theorem d_TH_watch_10 : decode b_TH_watch 10 = .ok (.iaload, 1) := by decide +kernel
theorem d_TH_watch_11 : decode b_TH_watch 11 = .ok (.iconst 1, 1) := by decide +kernel
theorem d_TH_watch_12 : decode b_TH_watch 12 = .ok (.if_icmp .eq 13, 3) := by decide +kernel
theorem d_TH_watch_15 : decode b_TH_watch 15 = .ok (.aload_n 0, 1) := by decide +kernel
theorem d_TH_watch_16 : decode b_TH_watch 16 = .ok (.getfield 31, 3) := by decide +kernel
theorem d_TH_watch_19 : decode b_TH_watch 19 = .ok (.iload_n 1, 1) := by decide +kernel
theorem d_TH_watch_20 : decode b_TH_watch 20 = .ok (.iaload, 1) := by decide +kernel
theorem d_TH_watch_21 : decode b_TH_watch 21 = .ok (.iconst 2, 1) := by decide +kernel
theorem d_TH_watch_22 : decode b_TH_watch 22 = .ok (.if_icmp .ne 8, 3) := by decide +kernel
theorem d_TH_watch_25 : decode b_TH_watch 25 = .ok (.aload_n 0, 1) := by decide +kernel
theorem d_TH_watch_26 : decode b_TH_watch 26 = .ok (.iload_n 3, 1) := by decide +kernel
theorem d_TH_watch_27 : decode b_TH_watch 27 = .ok (.invokevirtual 47, 3) := by decide +kernel
theorem d_TH_watch_30 : decode b_TH_watch 30 = .ok (.return_, 1) := by decide +kernel
theorem d_TH_step_0 : decode b_TH_step 0 = .ok (.aload_n 0, 1) := by decide +kernel
theorem d_TH_step_1 : decode b_TH_step 1 = .ok (.getfield 41, 3) := by decide +kernel
theorem d_TH_step_4 : decode b_TH_step 4 = .ok (.ifCond .ne 26, 3) := by decide +kernel
theorem d_TH_step_7 : decode b_TH_step 7 = .ok (.aload_n 0, 1) := by decide +kernel
theorem d_TH_step_8 : decode b_TH_step 8 = .ok (.iconst 3, 1) := by decide +kernel
theorem d_TH_step_9 : decode b_TH_step 9 = .ok (.aload_n 0, 1) := by decide +kernel
theorem d_TH_step_10 : decode b_TH_step 10 = .ok (.getfield 38, 3) := by decide +kernel
theorem d_TH_step_13 : decode b_TH_step 13 = .ok (.isub, 1) := by decide +kernel
theorem d_TH_step_14 : decode b_TH_step 14 = .ok (.putfield 38, 3) := by decide +kernel
theorem d_TH_step_17 : decode b_TH_step 17 = .ok (.aload_n 0, 1) := by decide +kernel
theorem d_TH_step_18 : decode b_TH_step 18 = .ok (.iconst 1, 1) := by decide +kernel
theorem d_TH_step_19 : decode b_TH_step 19 = .ok (.putfield 41, 3) := by decide +kernel
theorem d_TH_step_22 : decode b_TH_step 22 = .ok (.aload_n 0, 1) := by decide +kernel
theorem d_TH_step_23 : decode b_TH_step 23 = .ok (.iconst 0, 1) := by decide +kernel
theorem d_TH_step_24 : decode b_TH_step 24 = .ok (.putfield 44, 3) := by decide +kernel
theorem d_TH_step_27 : decode b_TH_step 27 = .ok (.goto 37, 3) := by decide +kernel
theorem d_TH_step_30 : decode b_TH_step 30 = .ok (.aload_n 0, 1) := by decide +kernel
theorem d_TH_step_31 : decode b_TH_step 31 = .ok (.getfield 41, 3) := by decide +kernel
theorem d_TH_step_34 : decode b_TH_step 34 = .ok (.iconst 3, 1) := by decide +kernel
theorem d_TH_step_35 : decode b_TH_step 35 = .ok (.if_icmp .gt 10, 3) := by decide +kernel
theorem d_TH_step_38 : decode b_TH_step 38 = .ok (.aload_n 0, 1) := by decide +kernel
theorem d_TH_step_39 : decode b_TH_step 39 = .ok (.invokevirtual 51, 3) := by decide +kernel
theorem d_TH_step_42 : decode b_TH_step 42 = .ok (.goto 22, 3) := by decide +kernel
theorem d_TH_step_45 : decode b_TH_step 45 = .ok (.aload_n 0, 1) := by decide +kernel
theorem d_TH_step_46 : decode b_TH_step 46 = .ok (.getfield 41, 3) := by decide +kernel
theorem d_TH_step_49 : decode b_TH_step 49 = .ok (.iconst 4, 1) := by decide +kernel
theorem d_TH_step_50 : decode b_TH_step 50 = .ok (.if_icmp .ne 10, 3) := by decide +kernel
theorem d_TH_step_53 : decode b_TH_step 53 = .ok (.aload_n 0, 1) := by decide +kernel
theorem d_TH_step_54 : decode b_TH_step 54 = .ok (.invokevirtual 54, 3) := by decide +kernel
theorem d_TH_step_57 : decode b_TH_step 57 = .ok (.goto 7, 3) := by decide +kernel
theorem d_TH_step_60 : decode b_TH_step 60 = .ok (.aload_n 0, 1) := by decide +kernel
theorem d_TH_step_61 : decode b_TH_step 61 = .ok (.invokevirtual 57, 3) := by decide +kernel
theorem d_TH_step_64 : decode b_TH_step 64 = .ok (.return_, 1) := by decide +kernel
theorem d_TH_signalStep_0 : decode b_TH_signalStep 0 = .ok (.aload_n 0, 1) := by decide +kernel
theorem d_TH_signalStep_1 : decode b_TH_signalStep 1 = .ok (.getfield 44, 3) := by decide +kernel
theorem d_TH_signalStep_4 : decode b_TH_signalStep 4 = .ok (.bipush 7, 2) := by decide +kernel
theorem d_TH_signalStep_6 : decode b_TH_signalStep 6 = .ok (.if_icmp .eq 4, 3) := by decide +kernel
theorem d_TH_signalStep_9 : decode b_TH_signalStep 9 = .ok (.return_, 1) := by decide +kernel
theorem d_TH_signalStep_10 : decode b_TH_signalStep 10 = .ok (.aload_n 0, 1) := by decide +kernel
theorem d_TH_signalStep_11 : decode b_TH_signalStep 11 = .ok (.iconst 0, 1) := by decide +kernel
theorem d_TH_signalStep_12 : decode b_TH_signalStep 12 = .ok (.putfield 44, 3) := by decide +kernel
theorem d_TH_signalStep_15 : decode b_TH_signalStep 15 = .ok (.aload_n 0, 1) := by decide +kernel
theorem d_TH_signalStep_16 : decode b_TH_signalStep 16 = .ok (.dup, 1) := by decide +kernel
theorem d_TH_signalStep_17 : decode b_TH_signalStep 17 = .ok (.getfield 41, 3) := by decide +kernel
theorem d_TH_signalStep_20 : decode b_TH_signalStep 20 = .ok (.iconst 1, 1) := by decide +kernel
theorem d_TH_signalStep_21 : decode b_TH_signalStep 21 = .ok (.iadd, 1) := by decide +kernel
theorem d_TH_signalStep_22 : decode b_TH_signalStep 22 = .ok (.putfield 41, 3) := by decide +kernel
theorem d_TH_signalStep_25 : decode b_TH_signalStep 25 = .ok (.aload_n 0, 1) := by decide +kernel
theorem d_TH_signalStep_26 : decode b_TH_signalStep 26 = .ok (.getfield 41, 3) := by decide +kernel
theorem d_TH_signalStep_29 : decode b_TH_signalStep 29 = .ok (.iconst 4, 1) := by decide +kernel
theorem d_TH_signalStep_30 : decode b_TH_signalStep 30 = .ok (.if_icmp .ne 23, 3) := by decide +kernel
theorem d_TH_signalStep_33 : decode b_TH_signalStep 33 = .ok (.aload_n 0, 1) := by decide +kernel
theorem d_TH_signalStep_34 : decode b_TH_signalStep 34 = .ok (.aload_n 0, 1) := by decide +kernel
theorem d_TH_signalStep_35 : decode b_TH_signalStep 35 = .ok (.getfield 28, 3) := by decide +kernel
theorem d_TH_signalStep_38 : decode b_TH_signalStep 38 = .ok (.iconst 0, 1) := by decide +kernel
theorem d_TH_signalStep_39 : decode b_TH_signalStep 39 = .ok (.iaload, 1) := by decide +kernel
theorem d_TH_signalStep_40 : decode b_TH_signalStep 40 = .ok (.invokevirtual 47, 3) := by decide +kernel
theorem d_TH_signalStep_43 : decode b_TH_signalStep 43 = .ok (.aload_n 0, 1) := by decide +kernel
theorem d_TH_signalStep_44 : decode b_TH_signalStep 44 = .ok (.aload_n 0, 1) := by decide +kernel
theorem d_TH_signalStep_45 : decode b_TH_signalStep 45 = .ok (.getfield 28, 3) := by decide +kernel
theorem d_TH_signalStep_48 : decode b_TH_signalStep 48 = .ok (.iconst 1, 1) := by decide +kernel
theorem d_TH_signalStep_49 : decode b_TH_signalStep 49 = .ok (.iaload, 1) := by decide +kernel
theorem d_TH_signalStep_50 : decode b_TH_signalStep 50 = .ok (.invokevirtual 47, 3) := by decide +kernel
theorem d_TH_signalStep_53 : decode b_TH_signalStep 53 = .ok (.return_, 1) := by decide +kernel
theorem d_TH_traceStep_0 : decode b_TH_traceStep 0 = .ok (.iconst (-1), 1) := by decide +kernel
theorem d_TH_traceStep_1 : decode b_TH_traceStep 1 = .ok (.istore_n 1, 1) := by decide +kernel
theorem d_TH_traceStep_2 : decode b_TH_traceStep 2 = .ok (.iconst 0, 1) := by decide +kernel
theorem d_TH_traceStep_3 : decode b_TH_traceStep 3 = .ok (.istore_n 2, 1) := by decide +kernel
theorem d_TH_traceStep_4 : decode b_TH_traceStep 4 = .ok (.iload_n 2, 1) := by decide +kernel
theorem d_TH_traceStep_5 : decode b_TH_traceStep 5 = .ok (.aload_n 0, 1) := by decide +kernel
theorem d_TH_traceStep_6 : decode b_TH_traceStep 6 = .ok (.getfield 34, 3) := by decide +kernel
theorem d_TH_traceStep_9 : decode b_TH_traceStep 9 = .ok (.if_icmp .ge 21, 3) := by decide +kernel
theorem d_TH_traceStep_12 : decode b_TH_traceStep 12 = .ok (.aload_n 0, 1) := by decide +kernel
theorem d_TH_traceStep_13 : decode b_TH_traceStep 13 = .ok (.getfield 7, 3) := by decide +kernel
theorem d_TH_traceStep_16 : decode b_TH_traceStep 16 = .ok (.iload_n 2, 1) := by decide +kernel
theorem d_TH_traceStep_17 : decode b_TH_traceStep 17 = .ok (.iaload, 1) := by decide +kernel
theorem d_TH_traceStep_18 : decode b_TH_traceStep 18 = .ok (.iconst 3, 1) := by decide +kernel
theorem d_TH_traceStep_19 : decode b_TH_traceStep 19 = .ok (.if_icmp .ne 5, 3) := by decide +kernel
theorem d_TH_traceStep_22 : decode b_TH_traceStep 22 = .ok (.iload_n 2, 1) := by decide +kernel
theorem d_TH_traceStep_23 : decode b_TH_traceStep 23 = .ok (.istore_n 1, 1) := by decide +kernel
theorem d_TH_traceStep_24 : decode b_TH_traceStep 24 = .ok (.iinc 2 1, 3) := by decide +kernel
theorem d_TH_traceStep_27 : decode b_TH_traceStep 27 = .ok (.goto (-23), 3) := by decide +kernel
theorem d_TH_traceStep_30 : decode b_TH_traceStep 30 = .ok (.iload_n 1, 1) := by decide +kernel
theorem d_TH_traceStep_31 : decode b_TH_traceStep 31 = .ok (.ifCond .ge 14, 3) := by decide +kernel
theorem d_TH_traceStep_34 : decode b_TH_traceStep 34 = .ok (.aload_n 0, 1) := by decide +kernel
theorem d_TH_traceStep_35 : decode b_TH_traceStep 35 = .ok (.iconst 5, 1) := by decide +kernel
theorem d_TH_traceStep_36 : decode b_TH_traceStep 36 = .ok (.putfield 41, 3) := by decide +kernel
theorem d_TH_traceStep_39 : decode b_TH_traceStep 39 = .ok (.aload_n 0, 1) := by decide +kernel
theorem d_TH_traceStep_40 : decode b_TH_traceStep 40 = .ok (.iconst 0, 1) := by decide +kernel
theorem d_TH_traceStep_41 : decode b_TH_traceStep 41 = .ok (.putfield 60, 3) := by decide +kernel
theorem d_TH_traceStep_44 : decode b_TH_traceStep 44 = .ok (.return_, 1) := by decide +kernel
theorem d_TH_traceStep_45 : decode b_TH_traceStep 45 = .ok (.aload_n 0, 1) := by decide +kernel
theorem d_TH_traceStep_46 : decode b_TH_traceStep 46 = .ok (.aload_n 0, 1) := by decide +kernel
theorem d_TH_traceStep_47 : decode b_TH_traceStep 47 = .ok (.getfield 13, 3) := by decide +kernel
theorem d_TH_traceStep_50 : decode b_TH_traceStep 50 = .ok (.iload_n 1, 1) := by decide +kernel
theorem d_TH_traceStep_51 : decode b_TH_traceStep 51 = .ok (.iaload, 1) := by decide +kernel
theorem d_TH_traceStep_52 : decode b_TH_traceStep 52 = .ok (.invokevirtual 47, 3) := by decide +kernel
theorem d_TH_traceStep_55 : decode b_TH_traceStep 55 = .ok (.aload_n 0, 1) := by decide +kernel
theorem d_TH_traceStep_56 : decode b_TH_traceStep 56 = .ok (.aload_n 0, 1) := by decide +kernel
theorem d_TH_traceStep_57 : decode b_TH_traceStep 57 = .ok (.getfield 16, 3) := by decide +kernel
theorem d_TH_traceStep_60 : decode b_TH_traceStep 60 = .ok (.iload_n 1, 1) := by decide +kernel
theorem d_TH_traceStep_61 : decode b_TH_traceStep 61 = .ok (.iaload, 1) := by decide +kernel
theorem d_TH_traceStep_62 : decode b_TH_traceStep 62 = .ok (.invokevirtual 47, 3) := by decide +kernel
theorem d_TH_traceStep_65 : decode b_TH_traceStep 65 = .ok (.aload_n 0, 1) := by decide +kernel
theorem d_TH_traceStep_66 : decode b_TH_traceStep 66 = .ok (.getfield 7, 3) := by decide +kernel
theorem d_TH_traceStep_69 : decode b_TH_traceStep 69 = .ok (.iload_n 1, 1) := by decide +kernel
theorem d_TH_traceStep_70 : decode b_TH_traceStep 70 = .ok (.aload_n 0, 1) := by decide +kernel
theorem d_TH_traceStep_71 : decode b_TH_traceStep 71 = .ok (.getfield 38, 3) := by decide +kernel
theorem d_TH_traceStep_74 : decode b_TH_traceStep 74 = .ok (.iastore, 1) := by decide +kernel
theorem d_TH_traceStep_75 : decode b_TH_traceStep 75 = .ok (.return_, 1) := by decide +kernel
theorem d_TH_sweepStep_0 : decode b_TH_sweepStep 0 = .ok (.aload_n 0, 1) := by decide +kernel
theorem d_TH_sweepStep_1 : decode b_TH_sweepStep 1 = .ok (.getfield 7, 3) := by decide +kernel
theorem d_TH_sweepStep_4 : decode b_TH_sweepStep 4 = .ok (.aload_n 0, 1) := by decide +kernel
theorem d_TH_sweepStep_5 : decode b_TH_sweepStep 5 = .ok (.getfield 60, 3) := by decide +kernel
theorem d_TH_sweepStep_8 : decode b_TH_sweepStep 8 = .ok (.iaload, 1) := by decide +kernel
theorem d_TH_sweepStep_9 : decode b_TH_sweepStep 9 = .ok (.iconst 3, 1) := by decide +kernel
theorem d_TH_sweepStep_10 : decode b_TH_sweepStep 10 = .ok (.aload_n 0, 1) := by decide +kernel
theorem d_TH_sweepStep_11 : decode b_TH_sweepStep 11 = .ok (.getfield 38, 3) := by decide +kernel
theorem d_TH_sweepStep_14 : decode b_TH_sweepStep 14 = .ok (.isub, 1) := by decide +kernel
theorem d_TH_sweepStep_15 : decode b_TH_sweepStep 15 = .ok (.if_icmp .ne 13, 3) := by decide +kernel
theorem d_TH_sweepStep_18 : decode b_TH_sweepStep 18 = .ok (.aload_n 0, 1) := by decide +kernel
theorem d_TH_sweepStep_19 : decode b_TH_sweepStep 19 = .ok (.getfield 7, 3) := by decide +kernel
theorem d_TH_sweepStep_22 : decode b_TH_sweepStep 22 = .ok (.aload_n 0, 1) := by decide +kernel
theorem d_TH_sweepStep_23 : decode b_TH_sweepStep 23 = .ok (.getfield 60, 3) := by decide +kernel
theorem d_TH_sweepStep_26 : decode b_TH_sweepStep 26 = .ok (.iconst 0, 1) := by decide +kernel
theorem d_TH_sweepStep_27 : decode b_TH_sweepStep 27 = .ok (.iastore, 1) := by decide +kernel
theorem d_TH_sweepStep_28 : decode b_TH_sweepStep 28 = .ok (.aload_n 0, 1) := by decide +kernel
theorem d_TH_sweepStep_29 : decode b_TH_sweepStep 29 = .ok (.dup, 1) := by decide +kernel
theorem d_TH_sweepStep_30 : decode b_TH_sweepStep 30 = .ok (.getfield 60, 3) := by decide +kernel
theorem d_TH_sweepStep_33 : decode b_TH_sweepStep 33 = .ok (.iconst 1, 1) := by decide +kernel
theorem d_TH_sweepStep_34 : decode b_TH_sweepStep 34 = .ok (.iadd, 1) := by decide +kernel
theorem d_TH_sweepStep_35 : decode b_TH_sweepStep 35 = .ok (.putfield 60, 3) := by decide +kernel
theorem d_TH_sweepStep_38 : decode b_TH_sweepStep 38 = .ok (.aload_n 0, 1) := by decide +kernel
theorem d_TH_sweepStep_39 : decode b_TH_sweepStep 39 = .ok (.getfield 60, 3) := by decide +kernel
theorem d_TH_sweepStep_42 : decode b_TH_sweepStep 42 = .ok (.aload_n 0, 1) := by decide +kernel
theorem d_TH_sweepStep_43 : decode b_TH_sweepStep 43 = .ok (.getfield 34, 3) := by decide +kernel
theorem d_TH_sweepStep_46 : decode b_TH_sweepStep 46 = .ok (.if_icmp .ne 13, 3) := by decide +kernel
theorem d_TH_sweepStep_49 : decode b_TH_sweepStep 49 = .ok (.aload_n 0, 1) := by decide +kernel
theorem d_TH_sweepStep_50 : decode b_TH_sweepStep 50 = .ok (.iconst 0, 1) := by decide +kernel
theorem d_TH_sweepStep_51 : decode b_TH_sweepStep 51 = .ok (.putfield 60, 3) := by decide +kernel
theorem d_TH_sweepStep_54 : decode b_TH_sweepStep 54 = .ok (.aload_n 0, 1) := by decide +kernel
theorem d_TH_sweepStep_55 : decode b_TH_sweepStep 55 = .ok (.iconst 0, 1) := by decide +kernel
theorem d_TH_sweepStep_56 : decode b_TH_sweepStep 56 = .ok (.putfield 41, 3) := by decide +kernel
theorem d_TH_sweepStep_59 : decode b_TH_sweepStep 59 = .ok (.return_, 1) := by decide +kernel
theorem d_TH_drive_0 : decode b_TH_drive 0 = .ok (.aload_n 0, 1) := by decide +kernel
theorem d_TH_drive_1 : decode b_TH_drive 1 = .ok (.iconst 0, 1) := by decide +kernel
theorem d_TH_drive_2 : decode b_TH_drive 2 = .ok (.invokevirtual 63, 3) := by decide +kernel
theorem d_TH_drive_5 : decode b_TH_drive 5 = .ok (.aload_n 0, 1) := by decide +kernel
theorem d_TH_drive_6 : decode b_TH_drive 6 = .ok (.iconst 1, 1) := by decide +kernel
theorem d_TH_drive_7 : decode b_TH_drive 7 = .ok (.invokevirtual 63, 3) := by decide +kernel
theorem d_TH_drive_10 : decode b_TH_drive 10 = .ok (.aload_n 0, 1) := by decide +kernel
theorem d_TH_drive_11 : decode b_TH_drive 11 = .ok (.iconst 2, 1) := by decide +kernel
theorem d_TH_drive_12 : decode b_TH_drive 12 = .ok (.invokevirtual 63, 3) := by decide +kernel
theorem d_TH_drive_15 : decode b_TH_drive 15 = .ok (.aload_n 0, 1) := by decide +kernel
theorem d_TH_drive_16 : decode b_TH_drive 16 = .ok (.invokevirtual 66, 3) := by decide +kernel
theorem d_TH_drive_19 : decode b_TH_drive 19 = .ok (.return_, 1) := by decide +kernel
theorem d_TH_collectAll_0 : decode b_TH_collectAll 0 = .ok (.iconst 0, 1) := by decide +kernel
theorem d_TH_collectAll_1 : decode b_TH_collectAll 1 = .ok (.istore_n 1, 1) := by decide +kernel
theorem d_TH_collectAll_2 : decode b_TH_collectAll 2 = .ok (.iload_n 1, 1) := by decide +kernel
theorem d_TH_collectAll_3 : decode b_TH_collectAll 3 = .ok (.bipush 80, 2) := by decide +kernel
theorem d_TH_collectAll_5 : decode b_TH_collectAll 5 = .ok (.if_icmp .ge 20, 3) := by decide +kernel
theorem d_TH_collectAll_8 : decode b_TH_collectAll 8 = .ok (.aload_n 0, 1) := by decide +kernel
theorem d_TH_collectAll_9 : decode b_TH_collectAll 9 = .ok (.getfield 41, 3) := by decide +kernel
theorem d_TH_collectAll_12 : decode b_TH_collectAll 12 = .ok (.ifCond .eq 13, 3) := by decide +kernel
theorem d_TH_collectAll_15 : decode b_TH_collectAll 15 = .ok (.aload_n 0, 1) := by decide +kernel
theorem d_TH_collectAll_16 : decode b_TH_collectAll 16 = .ok (.invokevirtual 69, 3) := by decide +kernel
theorem d_TH_collectAll_19 : decode b_TH_collectAll 19 = .ok (.iinc 1 1, 3) := by decide +kernel
theorem d_TH_collectAll_22 : decode b_TH_collectAll 22 = .ok (.goto (-20), 3) := by decide +kernel
theorem d_TH_collectAll_25 : decode b_TH_collectAll 25 = .ok (.aload_n 0, 1) := by decide +kernel
theorem d_TH_collectAll_26 : decode b_TH_collectAll 26 = .ok (.invokevirtual 66, 3) := by decide +kernel
theorem d_TH_collectAll_29 : decode b_TH_collectAll 29 = .ok (.iconst 0, 1) := by decide +kernel
theorem d_TH_collectAll_30 : decode b_TH_collectAll 30 = .ok (.istore_n 1, 1) := by decide +kernel
theorem d_TH_collectAll_31 : decode b_TH_collectAll 31 = .ok (.iload_n 1, 1) := by decide +kernel
theorem d_TH_collectAll_32 : decode b_TH_collectAll 32 = .ok (.bipush 80, 2) := by decide +kernel
theorem d_TH_collectAll_34 : decode b_TH_collectAll 34 = .ok (.if_icmp .ge 20, 3) := by decide +kernel
theorem d_TH_collectAll_37 : decode b_TH_collectAll 37 = .ok (.aload_n 0, 1) := by decide +kernel
theorem d_TH_collectAll_38 : decode b_TH_collectAll 38 = .ok (.getfield 41, 3) := by decide +kernel
theorem d_TH_collectAll_41 : decode b_TH_collectAll 41 = .ok (.ifCond .eq 13, 3) := by decide +kernel
theorem d_TH_collectAll_44 : decode b_TH_collectAll 44 = .ok (.aload_n 0, 1) := by decide +kernel
theorem d_TH_collectAll_45 : decode b_TH_collectAll 45 = .ok (.invokevirtual 69, 3) := by decide +kernel
theorem d_TH_collectAll_48 : decode b_TH_collectAll 48 = .ok (.iinc 1 1, 3) := by decide +kernel
theorem d_TH_collectAll_51 : decode b_TH_collectAll 51 = .ok (.goto (-20), 3) := by decide +kernel
theorem d_TH_collectAll_54 : decode b_TH_collectAll 54 = .ok (.return_, 1) := by decide +kernel
theorem d_TH_freeCell_0 : decode b_TH_freeCell 0 = .ok (.iconst 0, 1) := by decide +kernel
theorem d_TH_freeCell_1 : decode b_TH_freeCell 1 = .ok (.istore_n 1, 1) := by decide +kernel
theorem d_TH_freeCell_2 : decode b_TH_freeCell 2 = .ok (.iload_n 1, 1) := by decide +kernel
theorem d_TH_freeCell_3 : decode b_TH_freeCell 3 = .ok (.aload_n 0, 1) := by decide +kernel
theorem d_TH_freeCell_4 : decode b_TH_freeCell 4 = .ok (.getfield 34, 3) := by decide +kernel
theorem d_TH_freeCell_7 : decode b_TH_freeCell 7 = .ok (.if_icmp .ge 20, 3) := by decide +kernel
theorem d_TH_freeCell_10 : decode b_TH_freeCell 10 = .ok (.aload_n 0, 1) := by decide +kernel
theorem d_TH_freeCell_11 : decode b_TH_freeCell 11 = .ok (.getfield 7, 3) := by decide +kernel
theorem d_TH_freeCell_14 : decode b_TH_freeCell 14 = .ok (.iload_n 1, 1) := by decide +kernel
theorem d_TH_freeCell_15 : decode b_TH_freeCell 15 = .ok (.iaload, 1) := by decide +kernel
theorem d_TH_freeCell_16 : decode b_TH_freeCell 16 = .ok (.ifCond .ne 5, 3) := by decide +kernel
theorem d_TH_freeCell_19 : decode b_TH_freeCell 19 = .ok (.iload_n 1, 1) := by decide +kernel
theorem d_TH_freeCell_20 : decode b_TH_freeCell 20 = .ok (.ireturn, 1) := by decide +kernel
theorem d_TH_freeCell_21 : decode b_TH_freeCell 21 = .ok (.iinc 1 1, 3) := by decide +kernel
theorem d_TH_freeCell_24 : decode b_TH_freeCell 24 = .ok (.goto (-22), 3) := by decide +kernel
theorem d_TH_freeCell_27 : decode b_TH_freeCell 27 = .ok (.iconst (-1), 1) := by decide +kernel
theorem d_TH_freeCell_28 : decode b_TH_freeCell 28 = .ok (.ireturn, 1) := by decide +kernel
theorem d_TH_bad_0 : decode b_TH_bad 0 = .ok (.iload_n 1, 1) := by decide +kernel
theorem d_TH_bad_1 : decode b_TH_bad 1 = .ok (.ifCond .lt 17, 3) := by decide +kernel
theorem d_TH_bad_4 : decode b_TH_bad 4 = .ok (.iload_n 1, 1) := by decide +kernel
theorem d_TH_bad_5 : decode b_TH_bad 5 = .ok (.iconst 2, 1) := by decide +kernel
theorem d_TH_bad_6 : decode b_TH_bad 6 = .ok (.if_icmp .gt 12, 3) := by decide +kernel
theorem d_TH_bad_9 : decode b_TH_bad 9 = .ok (.iload_n 2, 1) := by decide +kernel
theorem d_TH_bad_10 : decode b_TH_bad 10 = .ok (.ifCond .lt 8, 3) := by decide +kernel
theorem d_TH_bad_13 : decode b_TH_bad 13 = .ok (.iload_n 2, 1) := by decide +kernel
theorem d_TH_bad_14 : decode b_TH_bad 14 = .ok (.iconst 3, 1) := by decide +kernel
theorem d_TH_bad_15 : decode b_TH_bad 15 = .ok (.if_icmp .le 7, 3) := by decide +kernel
theorem d_TH_bad_18 : decode b_TH_bad 18 = .ok (.iconst 1, 1) := by decide +kernel
theorem d_TH_bad_19 : decode b_TH_bad 19 = .ok (.goto 4, 3) := by decide +kernel
theorem d_TH_bad_22 : decode b_TH_bad 22 = .ok (.iconst 0, 1) := by decide +kernel
theorem d_TH_bad_23 : decode b_TH_bad 23 = .ok (.ireturn, 1) := by decide +kernel
theorem d_TH_badBit_0 : decode b_TH_badBit 0 = .ok (.iload_n 1, 1) := by decide +kernel
theorem d_TH_badBit_1 : decode b_TH_badBit 1 = .ok (.ifCond .lt 8, 3) := by decide +kernel
theorem d_TH_badBit_4 : decode b_TH_badBit 4 = .ok (.iload_n 1, 1) := by decide +kernel
theorem d_TH_badBit_5 : decode b_TH_badBit 5 = .ok (.iconst 1, 1) := by decide +kernel
theorem d_TH_badBit_6 : decode b_TH_badBit 6 = .ok (.if_icmp .le 7, 3) := by decide +kernel
theorem d_TH_badBit_9 : decode b_TH_badBit 9 = .ok (.iconst 1, 1) := by decide +kernel
theorem d_TH_badBit_10 : decode b_TH_badBit 10 = .ok (.goto 4, 3) := by decide +kernel
theorem d_TH_badBit_13 : decode b_TH_badBit 13 = .ok (.iconst 0, 1) := by decide +kernel
theorem d_TH_badBit_14 : decode b_TH_badBit 14 = .ok (.ireturn, 1) := by decide +kernel
theorem d_TH_make_0 : decode b_TH_make 0 = .ok (.aload_n 0, 1) := by decide +kernel
theorem d_TH_make_1 : decode b_TH_make 1 = .ok (.iload_n 1, 1) := by decide +kernel
theorem d_TH_make_2 : decode b_TH_make 2 = .ok (.iload_n 2, 1) := by decide +kernel
theorem d_TH_make_3 : decode b_TH_make 3 = .ok (.invokevirtual 72, 3) := by decide +kernel
theorem d_TH_make_6 : decode b_TH_make 6 = .ok (.ifCond .eq 5, 3) := by decide +kernel
theorem d_TH_make_9 : decode b_TH_make 9 = .ok (.iconst (-1), 1) := by decide +kernel
theorem d_TH_make_10 : decode b_TH_make 10 = .ok (.ireturn, 1) := by decide +kernel
theorem d_TH_make_11 : decode b_TH_make 11 = .ok (.aload_n 0, 1) := by decide +kernel
theorem d_TH_make_12 : decode b_TH_make 12 = .ok (.iload_n 1, 1) := by decide +kernel
theorem d_TH_make_13 : decode b_TH_make 13 = .ok (.invokevirtual 63, 3) := by decide +kernel
theorem d_TH_make_16 : decode b_TH_make 16 = .ok (.aload_n 0, 1) := by decide +kernel
theorem d_TH_make_17 : decode b_TH_make 17 = .ok (.invokevirtual 76, 3) := by decide +kernel
theorem d_TH_make_20 : decode b_TH_make 20 = .ok (.istore 4, 2) := by decide +kernel
theorem d_TH_make_22 : decode b_TH_make 22 = .ok (.iload 4, 2) := by decide +kernel
theorem d_TH_make_24 : decode b_TH_make 24 = .ok (.ifCond .ge 13, 3) := by decide +kernel
theorem d_TH_make_27 : decode b_TH_make 27 = .ok (.aload_n 0, 1) := by decide +kernel
theorem d_TH_make_28 : decode b_TH_make 28 = .ok (.invokevirtual 80, 3) := by decide +kernel
theorem d_TH_make_31 : decode b_TH_make 31 = .ok (.aload_n 0, 1) := by decide +kernel
theorem d_TH_make_32 : decode b_TH_make 32 = .ok (.invokevirtual 76, 3) := by decide +kernel
theorem d_TH_make_35 : decode b_TH_make 35 = .ok (.istore 4, 2) := by decide +kernel
theorem d_TH_make_37 : decode b_TH_make 37 = .ok (.iload 4, 2) := by decide +kernel
theorem d_TH_make_39 : decode b_TH_make 39 = .ok (.ifCond .ge 6, 3) := by decide +kernel
theorem d_TH_make_42 : decode b_TH_make 42 = .ok (.bipush (-2), 2) := by decide +kernel
theorem d_TH_make_44 : decode b_TH_make 44 = .ok (.ireturn, 1) := by decide +kernel
theorem d_TH_make_45 : decode b_TH_make 45 = .ok (.aload_n 0, 1) := by decide +kernel
theorem d_TH_make_46 : decode b_TH_make 46 = .ok (.dup, 1) := by decide +kernel
theorem d_TH_make_47 : decode b_TH_make 47 = .ok (.getfield 83, 3) := by decide +kernel
theorem d_TH_make_50 : decode b_TH_make 50 = .ok (.iconst 1, 1) := by decide +kernel
theorem d_TH_make_51 : decode b_TH_make 51 = .ok (.iadd, 1) := by decide +kernel
theorem d_TH_make_52 : decode b_TH_make 52 = .ok (.putfield 83, 3) := by decide +kernel
theorem d_TH_make_55 : decode b_TH_make 55 = .ok (.aload_n 0, 1) := by decide +kernel
theorem d_TH_make_56 : decode b_TH_make 56 = .ok (.getfield 7, 3) := by decide +kernel
theorem d_TH_make_59 : decode b_TH_make 59 = .ok (.iload 4, 2) := by decide +kernel
theorem d_TH_make_61 : decode b_TH_make 61 = .ok (.aload_n 0, 1) := by decide +kernel
theorem d_TH_make_62 : decode b_TH_make 62 = .ok (.getfield 38, 3) := by decide +kernel
theorem d_TH_make_65 : decode b_TH_make 65 = .ok (.iastore, 1) := by decide +kernel
theorem d_TH_make_66 : decode b_TH_make 66 = .ok (.aload_n 0, 1) := by decide +kernel
theorem d_TH_make_67 : decode b_TH_make 67 = .ok (.getfield 41, 3) := by decide +kernel
theorem d_TH_make_70 : decode b_TH_make 70 = .ok (.iconst 1, 1) := by decide +kernel
theorem d_TH_make_71 : decode b_TH_make 71 = .ok (.if_icmp .lt 19, 3) := by decide +kernel
theorem d_TH_make_74 : decode b_TH_make 74 = .ok (.aload_n 0, 1) := by decide +kernel
theorem d_TH_make_75 : decode b_TH_make 75 = .ok (.getfield 41, 3) := by decide +kernel
theorem d_TH_make_78 : decode b_TH_make 78 = .ok (.iconst 4, 1) := by decide +kernel
theorem d_TH_make_79 : decode b_TH_make 79 = .ok (.if_icmp .gt 11, 3) := by decide +kernel
theorem d_TH_make_82 : decode b_TH_make 82 = .ok (.aload_n 0, 1) := by decide +kernel
theorem d_TH_make_83 : decode b_TH_make 83 = .ok (.getfield 7, 3) := by decide +kernel
theorem d_TH_make_86 : decode b_TH_make 86 = .ok (.iload 4, 2) := by decide +kernel
theorem d_TH_make_88 : decode b_TH_make 88 = .ok (.iconst 3, 1) := by decide +kernel
theorem d_TH_make_89 : decode b_TH_make 89 = .ok (.iastore, 1) := by decide +kernel
theorem d_TH_make_90 : decode b_TH_make 90 = .ok (.aload_n 0, 1) := by decide +kernel
theorem d_TH_make_91 : decode b_TH_make 91 = .ok (.getfield 13, 3) := by decide +kernel
theorem d_TH_make_94 : decode b_TH_make 94 = .ok (.iload 4, 2) := by decide +kernel
theorem d_TH_make_96 : decode b_TH_make 96 = .ok (.iconst (-1), 1) := by decide +kernel
theorem d_TH_make_97 : decode b_TH_make 97 = .ok (.iastore, 1) := by decide +kernel
theorem d_TH_make_98 : decode b_TH_make 98 = .ok (.aload_n 0, 1) := by decide +kernel
theorem d_TH_make_99 : decode b_TH_make 99 = .ok (.getfield 16, 3) := by decide +kernel
theorem d_TH_make_102 : decode b_TH_make 102 = .ok (.iload 4, 2) := by decide +kernel
theorem d_TH_make_104 : decode b_TH_make 104 = .ok (.iconst (-1), 1) := by decide +kernel
theorem d_TH_make_105 : decode b_TH_make 105 = .ok (.iastore, 1) := by decide +kernel
theorem d_TH_make_106 : decode b_TH_make 106 = .ok (.aload_n 0, 1) := by decide +kernel
theorem d_TH_make_107 : decode b_TH_make 107 = .ok (.getfield 19, 3) := by decide +kernel
theorem d_TH_make_110 : decode b_TH_make 110 = .ok (.iload 4, 2) := by decide +kernel
theorem d_TH_make_112 : decode b_TH_make 112 = .ok (.iload_n 3, 1) := by decide +kernel
theorem d_TH_make_113 : decode b_TH_make 113 = .ok (.iastore, 1) := by decide +kernel
theorem d_TH_make_114 : decode b_TH_make 114 = .ok (.aload_n 0, 1) := by decide +kernel
theorem d_TH_make_115 : decode b_TH_make 115 = .ok (.getfield 22, 3) := by decide +kernel
theorem d_TH_make_118 : decode b_TH_make 118 = .ok (.iload 4, 2) := by decide +kernel
theorem d_TH_make_120 : decode b_TH_make 120 = .ok (.aload_n 0, 1) := by decide +kernel
theorem d_TH_make_121 : decode b_TH_make 121 = .ok (.getfield 83, 3) := by decide +kernel
theorem d_TH_make_124 : decode b_TH_make 124 = .ok (.iastore, 1) := by decide +kernel
theorem d_TH_make_125 : decode b_TH_make 125 = .ok (.aload_n 0, 1) := by decide +kernel
theorem d_TH_make_126 : decode b_TH_make 126 = .ok (.getfield 25, 3) := by decide +kernel
theorem d_TH_make_129 : decode b_TH_make 129 = .ok (.iload_n 1, 1) := by decide +kernel
theorem d_TH_make_130 : decode b_TH_make 130 = .ok (.iconst 4, 1) := by decide +kernel
theorem d_TH_make_131 : decode b_TH_make 131 = .ok (.imul, 1) := by decide +kernel
theorem d_TH_make_132 : decode b_TH_make 132 = .ok (.iload_n 2, 1) := by decide +kernel
theorem d_TH_make_133 : decode b_TH_make 133 = .ok (.iadd, 1) := by decide +kernel
theorem d_TH_make_134 : decode b_TH_make 134 = .ok (.iload 4, 2) := by decide +kernel
theorem d_TH_make_136 : decode b_TH_make 136 = .ok (.iastore, 1) := by decide +kernel
theorem d_TH_make_137 : decode b_TH_make 137 = .ok (.aload_n 0, 1) := by decide +kernel
theorem d_TH_make_138 : decode b_TH_make 138 = .ok (.getfield 83, 3) := by decide +kernel
theorem d_TH_make_141 : decode b_TH_make 141 = .ok (.ireturn, 1) := by decide +kernel
theorem d_TH_copy_0 : decode b_TH_copy 0 = .ok (.aload_n 0, 1) := by decide +kernel
theorem d_TH_copy_1 : decode b_TH_copy 1 = .ok (.iload_n 1, 1) := by decide +kernel
theorem d_TH_copy_2 : decode b_TH_copy 2 = .ok (.iload_n 2, 1) := by decide +kernel
theorem d_TH_copy_3 : decode b_TH_copy 3 = .ok (.invokevirtual 72, 3) := by decide +kernel
theorem d_TH_copy_6 : decode b_TH_copy 6 = .ok (.ifCond .ne 12, 3) := by decide +kernel
theorem d_TH_copy_9 : decode b_TH_copy 9 = .ok (.aload_n 0, 1) := by decide +kernel
theorem d_TH_copy_10 : decode b_TH_copy 10 = .ok (.iload_n 1, 1) := by decide +kernel
theorem d_TH_copy_11 : decode b_TH_copy 11 = .ok (.iload_n 3, 1) := by decide +kernel
theorem d_TH_copy_12 : decode b_TH_copy 12 = .ok (.invokevirtual 72, 3) := by decide +kernel
theorem d_TH_copy_15 : decode b_TH_copy 15 = .ok (.ifCond .eq 5, 3) := by decide +kernel
theorem d_TH_copy_18 : decode b_TH_copy 18 = .ok (.iconst (-1), 1) := by decide +kernel
theorem d_TH_copy_19 : decode b_TH_copy 19 = .ok (.ireturn, 1) := by decide +kernel
theorem d_TH_copy_20 : decode b_TH_copy 20 = .ok (.aload_n 0, 1) := by decide +kernel
theorem d_TH_copy_21 : decode b_TH_copy 21 = .ok (.iload_n 1, 1) := by decide +kernel
theorem d_TH_copy_22 : decode b_TH_copy 22 = .ok (.invokevirtual 63, 3) := by decide +kernel
theorem d_TH_copy_25 : decode b_TH_copy 25 = .ok (.aload_n 0, 1) := by decide +kernel
theorem d_TH_copy_26 : decode b_TH_copy 26 = .ok (.getfield 25, 3) := by decide +kernel
theorem d_TH_copy_29 : decode b_TH_copy 29 = .ok (.iload_n 1, 1) := by decide +kernel
theorem d_TH_copy_30 : decode b_TH_copy 30 = .ok (.iconst 4, 1) := by decide +kernel
theorem d_TH_copy_31 : decode b_TH_copy 31 = .ok (.imul, 1) := by decide +kernel
theorem d_TH_copy_32 : decode b_TH_copy 32 = .ok (.iload_n 2, 1) := by decide +kernel
theorem d_TH_copy_33 : decode b_TH_copy 33 = .ok (.iadd, 1) := by decide +kernel
theorem d_TH_copy_34 : decode b_TH_copy 34 = .ok (.aload_n 0, 1) := by decide +kernel
theorem d_TH_copy_35 : decode b_TH_copy 35 = .ok (.getfield 25, 3) := by decide +kernel
theorem d_TH_copy_38 : decode b_TH_copy 38 = .ok (.iload_n 1, 1) := by decide +kernel
theorem d_TH_copy_39 : decode b_TH_copy 39 = .ok (.iconst 4, 1) := by decide +kernel
theorem d_TH_copy_40 : decode b_TH_copy 40 = .ok (.imul, 1) := by decide +kernel
theorem d_TH_copy_41 : decode b_TH_copy 41 = .ok (.iload_n 3, 1) := by decide +kernel
theorem d_TH_copy_42 : decode b_TH_copy 42 = .ok (.iadd, 1) := by decide +kernel
theorem d_TH_copy_43 : decode b_TH_copy 43 = .ok (.iaload, 1) := by decide +kernel
theorem d_TH_copy_44 : decode b_TH_copy 44 = .ok (.iastore, 1) := by decide +kernel
theorem d_TH_copy_45 : decode b_TH_copy 45 = .ok (.iconst 0, 1) := by decide +kernel
theorem d_TH_copy_46 : decode b_TH_copy 46 = .ok (.ireturn, 1) := by decide +kernel
theorem d_TH_drop_0 : decode b_TH_drop 0 = .ok (.aload_n 0, 1) := by decide +kernel
theorem d_TH_drop_1 : decode b_TH_drop 1 = .ok (.iload_n 1, 1) := by decide +kernel
theorem d_TH_drop_2 : decode b_TH_drop 2 = .ok (.iload_n 2, 1) := by decide +kernel
theorem d_TH_drop_3 : decode b_TH_drop 3 = .ok (.invokevirtual 72, 3) := by decide +kernel
theorem d_TH_drop_6 : decode b_TH_drop 6 = .ok (.ifCond .eq 5, 3) := by decide +kernel
theorem d_TH_drop_9 : decode b_TH_drop 9 = .ok (.iconst (-1), 1) := by decide +kernel
theorem d_TH_drop_10 : decode b_TH_drop 10 = .ok (.ireturn, 1) := by decide +kernel
theorem d_TH_drop_11 : decode b_TH_drop 11 = .ok (.aload_n 0, 1) := by decide +kernel
theorem d_TH_drop_12 : decode b_TH_drop 12 = .ok (.iload_n 1, 1) := by decide +kernel
theorem d_TH_drop_13 : decode b_TH_drop 13 = .ok (.invokevirtual 63, 3) := by decide +kernel
theorem d_TH_drop_16 : decode b_TH_drop 16 = .ok (.aload_n 0, 1) := by decide +kernel
theorem d_TH_drop_17 : decode b_TH_drop 17 = .ok (.getfield 25, 3) := by decide +kernel
theorem d_TH_drop_20 : decode b_TH_drop 20 = .ok (.iload_n 1, 1) := by decide +kernel
theorem d_TH_drop_21 : decode b_TH_drop 21 = .ok (.iconst 4, 1) := by decide +kernel
theorem d_TH_drop_22 : decode b_TH_drop 22 = .ok (.imul, 1) := by decide +kernel
theorem d_TH_drop_23 : decode b_TH_drop 23 = .ok (.iload_n 2, 1) := by decide +kernel
theorem d_TH_drop_24 : decode b_TH_drop 24 = .ok (.iadd, 1) := by decide +kernel
theorem d_TH_drop_25 : decode b_TH_drop 25 = .ok (.iconst (-1), 1) := by decide +kernel
theorem d_TH_drop_26 : decode b_TH_drop 26 = .ok (.iastore, 1) := by decide +kernel
theorem d_TH_drop_27 : decode b_TH_drop 27 = .ok (.iconst 0, 1) := by decide +kernel
theorem d_TH_drop_28 : decode b_TH_drop 28 = .ok (.ireturn, 1) := by decide +kernel
theorem d_TH_load_0 : decode b_TH_load 0 = .ok (.aload_n 0, 1) := by decide +kernel
theorem d_TH_load_1 : decode b_TH_load 1 = .ok (.iload_n 1, 1) := by decide +kernel
theorem d_TH_load_2 : decode b_TH_load 2 = .ok (.iload_n 2, 1) := by decide +kernel
theorem d_TH_load_3 : decode b_TH_load 3 = .ok (.invokevirtual 72, 3) := by decide +kernel
theorem d_TH_load_6 : decode b_TH_load 6 = .ok (.ifCond .ne 21, 3) := by decide +kernel
theorem d_TH_load_9 : decode b_TH_load 9 = .ok (.aload_n 0, 1) := by decide +kernel
theorem d_TH_load_10 : decode b_TH_load 10 = .ok (.iload_n 1, 1) := by decide +kernel
theorem d_TH_load_11 : decode b_TH_load 11 = .ok (.iload_n 3, 1) := by decide +kernel
theorem d_TH_load_12 : decode b_TH_load 12 = .ok (.invokevirtual 72, 3) := by decide +kernel
theorem d_TH_load_15 : decode b_TH_load 15 = .ok (.ifCond .ne 12, 3) := by decide +kernel
theorem d_TH_load_18 : decode b_TH_load 18 = .ok (.aload_n 0, 1) := by decide +kernel
theorem d_TH_load_19 : decode b_TH_load 19 = .ok (.iload 4, 2) := by decide +kernel
theorem d_TH_load_21 : decode b_TH_load 21 = .ok (.invokevirtual 86, 3) := by decide +kernel
theorem d_TH_load_24 : decode b_TH_load 24 = .ok (.ifCond .eq 5, 3) := by decide +kernel
theorem d_TH_load_27 : decode b_TH_load 27 = .ok (.iconst (-1), 1) := by decide +kernel
theorem d_TH_load_28 : decode b_TH_load 28 = .ok (.ireturn, 1) := by decide +kernel
theorem d_TH_load_29 : decode b_TH_load 29 = .ok (.aload_n 0, 1) := by decide +kernel
theorem d_TH_load_30 : decode b_TH_load 30 = .ok (.iload_n 1, 1) := by decide +kernel
theorem d_TH_load_31 : decode b_TH_load 31 = .ok (.invokevirtual 63, 3) := by decide +kernel
theorem d_TH_load_34 : decode b_TH_load 34 = .ok (.aload_n 0, 1) := by decide +kernel
theorem d_TH_load_35 : decode b_TH_load 35 = .ok (.getfield 25, 3) := by decide +kernel
theorem d_TH_load_38 : decode b_TH_load 38 = .ok (.iload_n 1, 1) := by decide +kernel
theorem d_TH_load_39 : decode b_TH_load 39 = .ok (.iconst 4, 1) := by decide +kernel
theorem d_TH_load_40 : decode b_TH_load 40 = .ok (.imul, 1) := by decide +kernel
theorem d_TH_load_41 : decode b_TH_load 41 = .ok (.iload_n 3, 1) := by decide +kernel
theorem d_TH_load_42 : decode b_TH_load 42 = .ok (.iadd, 1) := by decide +kernel
theorem d_TH_load_43 : decode b_TH_load 43 = .ok (.iaload, 1) := by decide +kernel
theorem d_TH_load_44 : decode b_TH_load 44 = .ok (.istore 5, 2) := by decide +kernel
theorem d_TH_load_46 : decode b_TH_load 46 = .ok (.iload 5, 2) := by decide +kernel
theorem d_TH_load_48 : decode b_TH_load 48 = .ok (.ifCond .ge 6, 3) := by decide +kernel
theorem d_TH_load_51 : decode b_TH_load 51 = .ok (.bipush (-3), 2) := by decide +kernel
theorem d_TH_load_53 : decode b_TH_load 53 = .ok (.ireturn, 1) := by decide +kernel
theorem d_TH_load_54 : decode b_TH_load 54 = .ok (.aload_n 0, 1) := by decide +kernel
theorem d_TH_load_55 : decode b_TH_load 55 = .ok (.getfield 25, 3) := by decide +kernel
theorem d_TH_load_58 : decode b_TH_load 58 = .ok (.iload_n 1, 1) := by decide +kernel
theorem d_TH_load_59 : decode b_TH_load 59 = .ok (.iconst 4, 1) := by decide +kernel
theorem d_TH_load_60 : decode b_TH_load 60 = .ok (.imul, 1) := by decide +kernel
theorem d_TH_load_61 : decode b_TH_load 61 = .ok (.iload_n 2, 1) := by decide +kernel
theorem d_TH_load_62 : decode b_TH_load 62 = .ok (.iadd, 1) := by decide +kernel
theorem d_TH_load_63 : decode b_TH_load 63 = .ok (.iload 4, 2) := by decide +kernel
theorem d_TH_load_65 : decode b_TH_load 65 = .ok (.ifCond .ne 13, 3) := by decide +kernel
theorem d_TH_load_68 : decode b_TH_load 68 = .ok (.aload_n 0, 1) := by decide +kernel
theorem d_TH_load_69 : decode b_TH_load 69 = .ok (.getfield 13, 3) := by decide +kernel
theorem d_TH_load_72 : decode b_TH_load 72 = .ok (.iload 5, 2) := by decide +kernel
theorem d_TH_load_74 : decode b_TH_load 74 = .ok (.iaload, 1) := by decide +kernel
theorem d_TH_load_75 : decode b_TH_load 75 = .ok (.goto 10, 3) := by decide +kernel
theorem d_TH_load_78 : decode b_TH_load 78 = .ok (.aload_n 0, 1) := by decide +kernel
theorem d_TH_load_79 : decode b_TH_load 79 = .ok (.getfield 16, 3) := by decide +kernel
theorem d_TH_load_82 : decode b_TH_load 82 = .ok (.iload 5, 2) := by decide +kernel
theorem d_TH_load_84 : decode b_TH_load 84 = .ok (.iaload, 1) := by decide +kernel
theorem d_TH_load_85 : decode b_TH_load 85 = .ok (.iastore, 1) := by decide +kernel
theorem d_TH_load_86 : decode b_TH_load 86 = .ok (.iconst 0, 1) := by decide +kernel
theorem d_TH_load_87 : decode b_TH_load 87 = .ok (.ireturn, 1) := by decide +kernel
theorem d_TH_store_0 : decode b_TH_store 0 = .ok (.aload_n 0, 1) := by decide +kernel
theorem d_TH_store_1 : decode b_TH_store 1 = .ok (.iload_n 1, 1) := by decide +kernel
theorem d_TH_store_2 : decode b_TH_store 2 = .ok (.iload_n 2, 1) := by decide +kernel
theorem d_TH_store_3 : decode b_TH_store 3 = .ok (.invokevirtual 72, 3) := by decide +kernel
theorem d_TH_store_6 : decode b_TH_store 6 = .ok (.ifCond .ne 21, 3) := by decide +kernel
theorem d_TH_store_9 : decode b_TH_store 9 = .ok (.aload_n 0, 1) := by decide +kernel
theorem d_TH_store_10 : decode b_TH_store 10 = .ok (.iload_n 1, 1) := by decide +kernel
theorem d_TH_store_11 : decode b_TH_store 11 = .ok (.iload 4, 2) := by decide +kernel
theorem d_TH_store_13 : decode b_TH_store 13 = .ok (.invokevirtual 72, 3) := by decide +kernel
theorem d_TH_store_16 : decode b_TH_store 16 = .ok (.ifCond .ne 11, 3) := by decide +kernel
theorem d_TH_store_19 : decode b_TH_store 19 = .ok (.aload_n 0, 1) := by decide +kernel
theorem d_TH_store_20 : decode b_TH_store 20 = .ok (.iload_n 3, 1) := by decide +kernel
theorem d_TH_store_21 : decode b_TH_store 21 = .ok (.invokevirtual 86, 3) := by decide +kernel
theorem d_TH_store_24 : decode b_TH_store 24 = .ok (.ifCond .eq 5, 3) := by decide +kernel
theorem d_TH_store_27 : decode b_TH_store 27 = .ok (.iconst (-1), 1) := by decide +kernel
theorem d_TH_store_28 : decode b_TH_store 28 = .ok (.ireturn, 1) := by decide +kernel
theorem d_TH_store_29 : decode b_TH_store 29 = .ok (.aload_n 0, 1) := by decide +kernel
theorem d_TH_store_30 : decode b_TH_store 30 = .ok (.iload_n 1, 1) := by decide +kernel
theorem d_TH_store_31 : decode b_TH_store 31 = .ok (.invokevirtual 63, 3) := by decide +kernel
theorem d_TH_store_34 : decode b_TH_store 34 = .ok (.aload_n 0, 1) := by decide +kernel
theorem d_TH_store_35 : decode b_TH_store 35 = .ok (.getfield 25, 3) := by decide +kernel
theorem d_TH_store_38 : decode b_TH_store 38 = .ok (.iload_n 1, 1) := by decide +kernel
theorem d_TH_store_39 : decode b_TH_store 39 = .ok (.iconst 4, 1) := by decide +kernel
theorem d_TH_store_40 : decode b_TH_store 40 = .ok (.imul, 1) := by decide +kernel
theorem d_TH_store_41 : decode b_TH_store 41 = .ok (.iload_n 2, 1) := by decide +kernel
theorem d_TH_store_42 : decode b_TH_store 42 = .ok (.iadd, 1) := by decide +kernel
theorem d_TH_store_43 : decode b_TH_store 43 = .ok (.iaload, 1) := by decide +kernel
theorem d_TH_store_44 : decode b_TH_store 44 = .ok (.istore 5, 2) := by decide +kernel
theorem d_TH_store_46 : decode b_TH_store 46 = .ok (.iload 5, 2) := by decide +kernel
theorem d_TH_store_48 : decode b_TH_store 48 = .ok (.ifCond .ge 6, 3) := by decide +kernel
theorem d_TH_store_51 : decode b_TH_store 51 = .ok (.bipush (-3), 2) := by decide +kernel
theorem d_TH_store_53 : decode b_TH_store 53 = .ok (.ireturn, 1) := by decide +kernel
theorem d_TH_store_54 : decode b_TH_store 54 = .ok (.aload_n 0, 1) := by decide +kernel
theorem d_TH_store_55 : decode b_TH_store 55 = .ok (.getfield 25, 3) := by decide +kernel
theorem d_TH_store_58 : decode b_TH_store 58 = .ok (.iload_n 1, 1) := by decide +kernel
theorem d_TH_store_59 : decode b_TH_store 59 = .ok (.iconst 4, 1) := by decide +kernel
theorem d_TH_store_60 : decode b_TH_store 60 = .ok (.imul, 1) := by decide +kernel
theorem d_TH_store_61 : decode b_TH_store 61 = .ok (.iload 4, 2) := by decide +kernel
theorem d_TH_store_63 : decode b_TH_store 63 = .ok (.iadd, 1) := by decide +kernel
theorem d_TH_store_64 : decode b_TH_store 64 = .ok (.iaload, 1) := by decide +kernel
theorem d_TH_store_65 : decode b_TH_store 65 = .ok (.istore 6, 2) := by decide +kernel
theorem d_TH_store_67 : decode b_TH_store 67 = .ok (.iload_n 3, 1) := by decide +kernel
theorem d_TH_store_68 : decode b_TH_store 68 = .ok (.ifCond .ne 29, 3) := by decide +kernel
theorem d_TH_store_71 : decode b_TH_store 71 = .ok (.aload_n 0, 1) := by decide +kernel
theorem d_TH_store_72 : decode b_TH_store 72 = .ok (.iload_n 1, 1) := by decide +kernel
theorem d_TH_store_73 : decode b_TH_store 73 = .ok (.aload_n 0, 1) := by decide +kernel
theorem d_TH_store_74 : decode b_TH_store 74 = .ok (.getfield 13, 3) := by decide +kernel
theorem d_TH_store_77 : decode b_TH_store 77 = .ok (.iload 5, 2) := by decide +kernel
theorem d_TH_store_79 : decode b_TH_store 79 = .ok (.iaload, 1) := by decide +kernel
theorem d_TH_store_80 : decode b_TH_store 80 = .ok (.iload 6, 2) := by decide +kernel
theorem d_TH_store_82 : decode b_TH_store 82 = .ok (.invokevirtual 90, 3) := by decide +kernel
theorem d_TH_store_85 : decode b_TH_store 85 = .ok (.aload_n 0, 1) := by decide +kernel
theorem d_TH_store_86 : decode b_TH_store 86 = .ok (.getfield 13, 3) := by decide +kernel
theorem d_TH_store_89 : decode b_TH_store 89 = .ok (.iload 5, 2) := by decide +kernel
theorem d_TH_store_91 : decode b_TH_store 91 = .ok (.iload 6, 2) := by decide +kernel
theorem d_TH_store_93 : decode b_TH_store 93 = .ok (.iastore, 1) := by decide +kernel
theorem d_TH_store_94 : decode b_TH_store 94 = .ok (.goto 26, 3) := by decide +kernel
theorem d_TH_store_97 : decode b_TH_store 97 = .ok (.aload_n 0, 1) := by decide +kernel
theorem d_TH_store_98 : decode b_TH_store 98 = .ok (.iload_n 1, 1) := by decide +kernel
theorem d_TH_store_99 : decode b_TH_store 99 = .ok (.aload_n 0, 1) := by decide +kernel
theorem d_TH_store_100 : decode b_TH_store 100 = .ok (.getfield 16, 3) := by decide +kernel
theorem d_TH_store_103 : decode b_TH_store 103 = .ok (.iload 5, 2) := by decide +kernel
theorem d_TH_store_105 : decode b_TH_store 105 = .ok (.iaload, 1) := by decide +kernel
theorem d_TH_store_106 : decode b_TH_store 106 = .ok (.iload 6, 2) := by decide +kernel
theorem d_TH_store_108 : decode b_TH_store 108 = .ok (.invokevirtual 90, 3) := by decide +kernel
theorem d_TH_store_111 : decode b_TH_store 111 = .ok (.aload_n 0, 1) := by decide +kernel
theorem d_TH_store_112 : decode b_TH_store 112 = .ok (.getfield 16, 3) := by decide +kernel
theorem d_TH_store_115 : decode b_TH_store 115 = .ok (.iload 5, 2) := by decide +kernel
theorem d_TH_store_117 : decode b_TH_store 117 = .ok (.iload 6, 2) := by decide +kernel
theorem d_TH_store_119 : decode b_TH_store 119 = .ok (.iastore, 1) := by decide +kernel
theorem d_TH_store_120 : decode b_TH_store 120 = .ok (.iconst 0, 1) := by decide +kernel
theorem d_TH_store_121 : decode b_TH_store 121 = .ok (.ireturn, 1) := by decide +kernel
theorem d_TH_put_0 : decode b_TH_put 0 = .ok (.aload_n 0, 1) := by decide +kernel
theorem d_TH_put_1 : decode b_TH_put 1 = .ok (.iload_n 1, 1) := by decide +kernel
theorem d_TH_put_2 : decode b_TH_put 2 = .ok (.iload_n 3, 1) := by decide +kernel
theorem d_TH_put_3 : decode b_TH_put 3 = .ok (.invokevirtual 72, 3) := by decide +kernel
theorem d_TH_put_6 : decode b_TH_put 6 = .ok (.ifCond .ne 11, 3) := by decide +kernel
theorem d_TH_put_9 : decode b_TH_put 9 = .ok (.aload_n 0, 1) := by decide +kernel
theorem d_TH_put_10 : decode b_TH_put 10 = .ok (.iload_n 2, 1) := by decide +kernel
theorem d_TH_put_11 : decode b_TH_put 11 = .ok (.invokevirtual 86, 3) := by decide +kernel
theorem d_TH_put_14 : decode b_TH_put 14 = .ok (.ifCond .eq 5, 3) := by decide +kernel
theorem d_TH_put_17 : decode b_TH_put 17 = .ok (.iconst (-1), 1) := by decide +kernel
theorem d_TH_put_18 : decode b_TH_put 18 = .ok (.ireturn, 1) := by decide +kernel
theorem d_TH_put_19 : decode b_TH_put 19 = .ok (.aload_n 0, 1) := by decide +kernel
theorem d_TH_put_20 : decode b_TH_put 20 = .ok (.iload_n 1, 1) := by decide +kernel
theorem d_TH_put_21 : decode b_TH_put 21 = .ok (.invokevirtual 63, 3) := by decide +kernel
theorem d_TH_put_24 : decode b_TH_put 24 = .ok (.aload_n 0, 1) := by decide +kernel
theorem d_TH_put_25 : decode b_TH_put 25 = .ok (.getfield 25, 3) := by decide +kernel
theorem d_TH_put_28 : decode b_TH_put 28 = .ok (.iload_n 1, 1) := by decide +kernel
theorem d_TH_put_29 : decode b_TH_put 29 = .ok (.iconst 4, 1) := by decide +kernel
theorem d_TH_put_30 : decode b_TH_put 30 = .ok (.imul, 1) := by decide +kernel
theorem d_TH_put_31 : decode b_TH_put 31 = .ok (.iload_n 3, 1) := by decide +kernel
theorem d_TH_put_32 : decode b_TH_put 32 = .ok (.iadd, 1) := by decide +kernel
theorem d_TH_put_33 : decode b_TH_put 33 = .ok (.iaload, 1) := by decide +kernel
theorem d_TH_put_34 : decode b_TH_put 34 = .ok (.istore 4, 2) := by decide +kernel
theorem d_TH_put_36 : decode b_TH_put 36 = .ok (.aload_n 0, 1) := by decide +kernel
theorem d_TH_put_37 : decode b_TH_put 37 = .ok (.iload_n 1, 1) := by decide +kernel
theorem d_TH_put_38 : decode b_TH_put 38 = .ok (.aload_n 0, 1) := by decide +kernel
theorem d_TH_put_39 : decode b_TH_put 39 = .ok (.getfield 28, 3) := by decide +kernel
theorem d_TH_put_42 : decode b_TH_put 42 = .ok (.iload_n 2, 1) := by decide +kernel
theorem d_TH_put_43 : decode b_TH_put 43 = .ok (.iaload, 1) := by decide +kernel
theorem d_TH_put_44 : decode b_TH_put 44 = .ok (.iload 4, 2) := by decide +kernel
theorem d_TH_put_46 : decode b_TH_put 46 = .ok (.invokevirtual 90, 3) := by decide +kernel
theorem d_TH_put_49 : decode b_TH_put 49 = .ok (.aload_n 0, 1) := by decide +kernel
theorem d_TH_put_50 : decode b_TH_put 50 = .ok (.getfield 28, 3) := by decide +kernel
theorem d_TH_put_53 : decode b_TH_put 53 = .ok (.iload_n 2, 1) := by decide +kernel
theorem d_TH_put_54 : decode b_TH_put 54 = .ok (.iload 4, 2) := by decide +kernel
theorem d_TH_put_56 : decode b_TH_put 56 = .ok (.iastore, 1) := by decide +kernel
theorem d_TH_put_57 : decode b_TH_put 57 = .ok (.iconst 0, 1) := by decide +kernel
theorem d_TH_put_58 : decode b_TH_put 58 = .ok (.ireturn, 1) := by decide +kernel
theorem d_TH_get_0 : decode b_TH_get 0 = .ok (.aload_n 0, 1) := by decide +kernel
theorem d_TH_get_1 : decode b_TH_get 1 = .ok (.iload_n 1, 1) := by decide +kernel
theorem d_TH_get_2 : decode b_TH_get 2 = .ok (.iload_n 2, 1) := by decide +kernel
theorem d_TH_get_3 : decode b_TH_get 3 = .ok (.invokevirtual 72, 3) := by decide +kernel
theorem d_TH_get_6 : decode b_TH_get 6 = .ok (.ifCond .ne 11, 3) := by decide +kernel
theorem d_TH_get_9 : decode b_TH_get 9 = .ok (.aload_n 0, 1) := by decide +kernel
theorem d_TH_get_10 : decode b_TH_get 10 = .ok (.iload_n 3, 1) := by decide +kernel
theorem d_TH_get_11 : decode b_TH_get 11 = .ok (.invokevirtual 86, 3) := by decide +kernel
theorem d_TH_get_14 : decode b_TH_get 14 = .ok (.ifCond .eq 5, 3) := by decide +kernel
theorem d_TH_get_17 : decode b_TH_get 17 = .ok (.iconst (-1), 1) := by decide +kernel
theorem d_TH_get_18 : decode b_TH_get 18 = .ok (.ireturn, 1) := by decide +kernel
theorem d_TH_get_19 : decode b_TH_get 19 = .ok (.aload_n 0, 1) := by decide +kernel
theorem d_TH_get_20 : decode b_TH_get 20 = .ok (.iload_n 1, 1) := by decide +kernel
theorem d_TH_get_21 : decode b_TH_get 21 = .ok (.invokevirtual 63, 3) := by decide +kernel
theorem d_TH_get_24 : decode b_TH_get 24 = .ok (.aload_n 0, 1) := by decide +kernel
theorem d_TH_get_25 : decode b_TH_get 25 = .ok (.getfield 25, 3) := by decide +kernel
theorem d_TH_get_28 : decode b_TH_get 28 = .ok (.iload_n 1, 1) := by decide +kernel
theorem d_TH_get_29 : decode b_TH_get 29 = .ok (.iconst 4, 1) := by decide +kernel
theorem d_TH_get_30 : decode b_TH_get 30 = .ok (.imul, 1) := by decide +kernel
theorem d_TH_get_31 : decode b_TH_get 31 = .ok (.iload_n 2, 1) := by decide +kernel
theorem d_TH_get_32 : decode b_TH_get 32 = .ok (.iadd, 1) := by decide +kernel
theorem d_TH_get_33 : decode b_TH_get 33 = .ok (.aload_n 0, 1) := by decide +kernel
theorem d_TH_get_34 : decode b_TH_get 34 = .ok (.getfield 28, 3) := by decide +kernel
theorem d_TH_get_37 : decode b_TH_get 37 = .ok (.iload_n 3, 1) := by decide +kernel
theorem d_TH_get_38 : decode b_TH_get 38 = .ok (.iaload, 1) := by decide +kernel
theorem d_TH_get_39 : decode b_TH_get 39 = .ok (.iastore, 1) := by decide +kernel
theorem d_TH_get_40 : decode b_TH_get 40 = .ok (.iconst 0, 1) := by decide +kernel
theorem d_TH_get_41 : decode b_TH_get 41 = .ok (.ireturn, 1) := by decide +kernel
theorem d_TH_swap_0 : decode b_TH_swap 0 = .ok (.aload_n 0, 1) := by decide +kernel
theorem d_TH_swap_1 : decode b_TH_swap 1 = .ok (.iload_n 1, 1) := by decide +kernel
theorem d_TH_swap_2 : decode b_TH_swap 2 = .ok (.iload_n 2, 1) := by decide +kernel
theorem d_TH_swap_3 : decode b_TH_swap 3 = .ok (.invokevirtual 72, 3) := by decide +kernel
theorem d_TH_swap_6 : decode b_TH_swap 6 = .ok (.ifCond .ne 13, 3) := by decide +kernel
theorem d_TH_swap_9 : decode b_TH_swap 9 = .ok (.aload_n 0, 1) := by decide +kernel
theorem d_TH_swap_10 : decode b_TH_swap 10 = .ok (.iload_n 3, 1) := by decide +kernel
theorem d_TH_swap_11 : decode b_TH_swap 11 = .ok (.iload 4, 2) := by decide +kernel
theorem d_TH_swap_13 : decode b_TH_swap 13 = .ok (.invokevirtual 72, 3) := by decide +kernel
theorem d_TH_swap_16 : decode b_TH_swap 16 = .ok (.ifCond .eq 5, 3) := by decide +kernel
theorem d_TH_swap_19 : decode b_TH_swap 19 = .ok (.iconst (-1), 1) := by decide +kernel
theorem d_TH_swap_20 : decode b_TH_swap 20 = .ok (.ireturn, 1) := by decide +kernel
theorem d_TH_swap_21 : decode b_TH_swap 21 = .ok (.aload_n 0, 1) := by decide +kernel
theorem d_TH_swap_22 : decode b_TH_swap 22 = .ok (.iload_n 1, 1) := by decide +kernel
theorem d_TH_swap_23 : decode b_TH_swap 23 = .ok (.invokevirtual 63, 3) := by decide +kernel
theorem d_TH_swap_26 : decode b_TH_swap 26 = .ok (.aload_n 0, 1) := by decide +kernel
theorem d_TH_swap_27 : decode b_TH_swap 27 = .ok (.iload_n 3, 1) := by decide +kernel
theorem d_TH_swap_28 : decode b_TH_swap 28 = .ok (.invokevirtual 63, 3) := by decide +kernel
theorem d_TH_swap_31 : decode b_TH_swap 31 = .ok (.aload_n 0, 1) := by decide +kernel
theorem d_TH_swap_32 : decode b_TH_swap 32 = .ok (.getfield 25, 3) := by decide +kernel
theorem d_TH_swap_35 : decode b_TH_swap 35 = .ok (.iload_n 1, 1) := by decide +kernel
theorem d_TH_swap_36 : decode b_TH_swap 36 = .ok (.iconst 4, 1) := by decide +kernel
theorem d_TH_swap_37 : decode b_TH_swap 37 = .ok (.imul, 1) := by decide +kernel
theorem d_TH_swap_38 : decode b_TH_swap 38 = .ok (.iload_n 2, 1) := by decide +kernel
theorem d_TH_swap_39 : decode b_TH_swap 39 = .ok (.iadd, 1) := by decide +kernel
theorem d_TH_swap_40 : decode b_TH_swap 40 = .ok (.iaload, 1) := by decide +kernel
theorem d_TH_swap_41 : decode b_TH_swap 41 = .ok (.istore 5, 2) := by decide +kernel
theorem d_TH_swap_43 : decode b_TH_swap 43 = .ok (.aload_n 0, 1) := by decide +kernel
theorem d_TH_swap_44 : decode b_TH_swap 44 = .ok (.getfield 25, 3) := by decide +kernel
theorem d_TH_swap_47 : decode b_TH_swap 47 = .ok (.iload_n 1, 1) := by decide +kernel
theorem d_TH_swap_48 : decode b_TH_swap 48 = .ok (.iconst 4, 1) := by decide +kernel
theorem d_TH_swap_49 : decode b_TH_swap 49 = .ok (.imul, 1) := by decide +kernel
theorem d_TH_swap_50 : decode b_TH_swap 50 = .ok (.iload_n 2, 1) := by decide +kernel
theorem d_TH_swap_51 : decode b_TH_swap 51 = .ok (.iadd, 1) := by decide +kernel
theorem d_TH_swap_52 : decode b_TH_swap 52 = .ok (.aload_n 0, 1) := by decide +kernel
theorem d_TH_swap_53 : decode b_TH_swap 53 = .ok (.getfield 25, 3) := by decide +kernel
theorem d_TH_swap_56 : decode b_TH_swap 56 = .ok (.iload_n 3, 1) := by decide +kernel
theorem d_TH_swap_57 : decode b_TH_swap 57 = .ok (.iconst 4, 1) := by decide +kernel
theorem d_TH_swap_58 : decode b_TH_swap 58 = .ok (.imul, 1) := by decide +kernel
theorem d_TH_swap_59 : decode b_TH_swap 59 = .ok (.iload 4, 2) := by decide +kernel
theorem d_TH_swap_61 : decode b_TH_swap 61 = .ok (.iadd, 1) := by decide +kernel
theorem d_TH_swap_62 : decode b_TH_swap 62 = .ok (.iaload, 1) := by decide +kernel
theorem d_TH_swap_63 : decode b_TH_swap 63 = .ok (.iastore, 1) := by decide +kernel
theorem d_TH_swap_64 : decode b_TH_swap 64 = .ok (.aload_n 0, 1) := by decide +kernel
theorem d_TH_swap_65 : decode b_TH_swap 65 = .ok (.getfield 25, 3) := by decide +kernel
theorem d_TH_swap_68 : decode b_TH_swap 68 = .ok (.iload_n 3, 1) := by decide +kernel
theorem d_TH_swap_69 : decode b_TH_swap 69 = .ok (.iconst 4, 1) := by decide +kernel
theorem d_TH_swap_70 : decode b_TH_swap 70 = .ok (.imul, 1) := by decide +kernel
theorem d_TH_swap_71 : decode b_TH_swap 71 = .ok (.iload 4, 2) := by decide +kernel
theorem d_TH_swap_73 : decode b_TH_swap 73 = .ok (.iadd, 1) := by decide +kernel
theorem d_TH_swap_74 : decode b_TH_swap 74 = .ok (.iload 5, 2) := by decide +kernel
theorem d_TH_swap_76 : decode b_TH_swap 76 = .ok (.iastore, 1) := by decide +kernel
theorem d_TH_swap_77 : decode b_TH_swap 77 = .ok (.iconst 0, 1) := by decide +kernel
theorem d_TH_swap_78 : decode b_TH_swap 78 = .ok (.ireturn, 1) := by decide +kernel
theorem d_TH_setNumber_0 : decode b_TH_setNumber 0 = .ok (.aload_n 0, 1) := by decide +kernel
theorem d_TH_setNumber_1 : decode b_TH_setNumber 1 = .ok (.iload_n 1, 1) := by decide +kernel
theorem d_TH_setNumber_2 : decode b_TH_setNumber 2 = .ok (.iload_n 2, 1) := by decide +kernel
theorem d_TH_setNumber_3 : decode b_TH_setNumber 3 = .ok (.invokevirtual 72, 3) := by decide +kernel
theorem d_TH_setNumber_6 : decode b_TH_setNumber 6 = .ok (.ifCond .eq 5, 3) := by decide +kernel
theorem d_TH_setNumber_9 : decode b_TH_setNumber 9 = .ok (.iconst (-1), 1) := by decide +kernel
theorem d_TH_setNumber_10 : decode b_TH_setNumber 10 = .ok (.ireturn, 1) := by decide +kernel
theorem d_TH_setNumber_11 : decode b_TH_setNumber 11 = .ok (.aload_n 0, 1) := by decide +kernel
theorem d_TH_setNumber_12 : decode b_TH_setNumber 12 = .ok (.iload_n 1, 1) := by decide +kernel
theorem d_TH_setNumber_13 : decode b_TH_setNumber 13 = .ok (.invokevirtual 63, 3) := by decide +kernel
theorem d_TH_setNumber_16 : decode b_TH_setNumber 16 = .ok (.aload_n 0, 1) := by decide +kernel
theorem d_TH_setNumber_17 : decode b_TH_setNumber 17 = .ok (.getfield 25, 3) := by decide +kernel
theorem d_TH_setNumber_20 : decode b_TH_setNumber 20 = .ok (.iload_n 1, 1) := by decide +kernel
theorem d_TH_setNumber_21 : decode b_TH_setNumber 21 = .ok (.iconst 4, 1) := by decide +kernel
theorem d_TH_setNumber_22 : decode b_TH_setNumber 22 = .ok (.imul, 1) := by decide +kernel
theorem d_TH_setNumber_23 : decode b_TH_setNumber 23 = .ok (.iload_n 2, 1) := by decide +kernel
theorem d_TH_setNumber_24 : decode b_TH_setNumber 24 = .ok (.iadd, 1) := by decide +kernel
theorem d_TH_setNumber_25 : decode b_TH_setNumber 25 = .ok (.iaload, 1) := by decide +kernel
theorem d_TH_setNumber_26 : decode b_TH_setNumber 26 = .ok (.istore 4, 2) := by decide +kernel
theorem d_TH_setNumber_28 : decode b_TH_setNumber 28 = .ok (.iload 4, 2) := by decide +kernel
theorem d_TH_setNumber_30 : decode b_TH_setNumber 30 = .ok (.ifCond .ge 6, 3) := by decide +kernel
theorem d_TH_setNumber_33 : decode b_TH_setNumber 33 = .ok (.bipush (-3), 2) := by decide +kernel
theorem d_TH_setNumber_35 : decode b_TH_setNumber 35 = .ok (.ireturn, 1) := by decide +kernel
theorem d_TH_setNumber_36 : decode b_TH_setNumber 36 = .ok (.aload_n 0, 1) := by decide +kernel
theorem d_TH_setNumber_37 : decode b_TH_setNumber 37 = .ok (.getfield 19, 3) := by decide +kernel
theorem d_TH_setNumber_40 : decode b_TH_setNumber 40 = .ok (.iload 4, 2) := by decide +kernel
theorem d_TH_setNumber_42 : decode b_TH_setNumber 42 = .ok (.iload_n 3, 1) := by decide +kernel
theorem d_TH_setNumber_43 : decode b_TH_setNumber 43 = .ok (.iastore, 1) := by decide +kernel
theorem d_TH_setNumber_44 : decode b_TH_setNumber 44 = .ok (.iconst 0, 1) := by decide +kernel
theorem d_TH_setNumber_45 : decode b_TH_setNumber 45 = .ok (.ireturn, 1) := by decide +kernel
theorem d_TH_number_0 : decode b_TH_number 0 = .ok (.aload_n 0, 1) := by decide +kernel
theorem d_TH_number_1 : decode b_TH_number 1 = .ok (.iload_n 1, 1) := by decide +kernel
theorem d_TH_number_2 : decode b_TH_number 2 = .ok (.iload_n 2, 1) := by decide +kernel
theorem d_TH_number_3 : decode b_TH_number 3 = .ok (.invokevirtual 72, 3) := by decide +kernel
theorem d_TH_number_6 : decode b_TH_number 6 = .ok (.ifCond .eq 5, 3) := by decide +kernel
theorem d_TH_number_9 : decode b_TH_number 9 = .ok (.iconst 0, 1) := by decide +kernel
theorem d_TH_number_10 : decode b_TH_number 10 = .ok (.ireturn, 1) := by decide +kernel
theorem d_TH_number_11 : decode b_TH_number 11 = .ok (.aload_n 0, 1) := by decide +kernel
theorem d_TH_number_12 : decode b_TH_number 12 = .ok (.getfield 25, 3) := by decide +kernel
theorem d_TH_number_15 : decode b_TH_number 15 = .ok (.iload_n 1, 1) := by decide +kernel
theorem d_TH_number_16 : decode b_TH_number 16 = .ok (.iconst 4, 1) := by decide +kernel
theorem d_TH_number_17 : decode b_TH_number 17 = .ok (.imul, 1) := by decide +kernel
theorem d_TH_number_18 : decode b_TH_number 18 = .ok (.iload_n 2, 1) := by decide +kernel
theorem d_TH_number_19 : decode b_TH_number 19 = .ok (.iadd, 1) := by decide +kernel
theorem d_TH_number_20 : decode b_TH_number 20 = .ok (.iaload, 1) := by decide +kernel
theorem d_TH_number_21 : decode b_TH_number 21 = .ok (.istore_n 3, 1) := by decide +kernel
theorem d_TH_number_22 : decode b_TH_number 22 = .ok (.iload_n 3, 1) := by decide +kernel
theorem d_TH_number_23 : decode b_TH_number 23 = .ok (.ifCond .ge 7, 3) := by decide +kernel
theorem d_TH_number_26 : decode b_TH_number 26 = .ok (.iconst 0, 1) := by decide +kernel
theorem d_TH_number_27 : decode b_TH_number 27 = .ok (.goto 9, 3) := by decide +kernel
theorem d_TH_number_30 : decode b_TH_number 30 = .ok (.aload_n 0, 1) := by decide +kernel
theorem d_TH_number_31 : decode b_TH_number 31 = .ok (.getfield 19, 3) := by decide +kernel
theorem d_TH_number_34 : decode b_TH_number 34 = .ok (.iload_n 3, 1) := by decide +kernel
theorem d_TH_number_35 : decode b_TH_number 35 = .ok (.iaload, 1) := by decide +kernel
theorem d_TH_number_36 : decode b_TH_number 36 = .ok (.ireturn, 1) := by decide +kernel
theorem d_TH_tagOf_0 : decode b_TH_tagOf 0 = .ok (.iload_n 1, 1) := by decide +kernel
theorem d_TH_tagOf_1 : decode b_TH_tagOf 1 = .ok (.ifCond .ge 7, 3) := by decide +kernel
theorem d_TH_tagOf_4 : decode b_TH_tagOf 4 = .ok (.iconst 0, 1) := by decide +kernel
theorem d_TH_tagOf_5 : decode b_TH_tagOf 5 = .ok (.goto 9, 3) := by decide +kernel
theorem d_TH_tagOf_8 : decode b_TH_tagOf 8 = .ok (.aload_n 0, 1) := by decide +kernel
theorem d_TH_tagOf_9 : decode b_TH_tagOf 9 = .ok (.getfield 22, 3) := by decide +kernel
theorem d_TH_tagOf_12 : decode b_TH_tagOf 12 = .ok (.iload_n 1, 1) := by decide +kernel
theorem d_TH_tagOf_13 : decode b_TH_tagOf 13 = .ok (.iaload, 1) := by decide +kernel
theorem d_TH_tagOf_14 : decode b_TH_tagOf 14 = .ok (.ireturn, 1) := by decide +kernel
theorem d_TH_serial_0 : decode b_TH_serial 0 = .ok (.aload_n 0, 1) := by decide +kernel
theorem d_TH_serial_1 : decode b_TH_serial 1 = .ok (.iload_n 1, 1) := by decide +kernel
theorem d_TH_serial_2 : decode b_TH_serial 2 = .ok (.iload_n 2, 1) := by decide +kernel
theorem d_TH_serial_3 : decode b_TH_serial 3 = .ok (.invokevirtual 72, 3) := by decide +kernel
theorem d_TH_serial_6 : decode b_TH_serial 6 = .ok (.ifCond .eq 5, 3) := by decide +kernel
theorem d_TH_serial_9 : decode b_TH_serial 9 = .ok (.iconst (-1), 1) := by decide +kernel
theorem d_TH_serial_10 : decode b_TH_serial 10 = .ok (.ireturn, 1) := by decide +kernel
theorem d_TH_serial_11 : decode b_TH_serial 11 = .ok (.aload_n 0, 1) := by decide +kernel
theorem d_TH_serial_12 : decode b_TH_serial 12 = .ok (.aload_n 0, 1) := by decide +kernel
theorem d_TH_serial_13 : decode b_TH_serial 13 = .ok (.getfield 25, 3) := by decide +kernel
theorem d_TH_serial_16 : decode b_TH_serial 16 = .ok (.iload_n 1, 1) := by decide +kernel
theorem d_TH_serial_17 : decode b_TH_serial 17 = .ok (.iconst 4, 1) := by decide +kernel
theorem d_TH_serial_18 : decode b_TH_serial 18 = .ok (.imul, 1) := by decide +kernel
theorem d_TH_serial_19 : decode b_TH_serial 19 = .ok (.iload_n 2, 1) := by decide +kernel
theorem d_TH_serial_20 : decode b_TH_serial 20 = .ok (.iadd, 1) := by decide +kernel
theorem d_TH_serial_21 : decode b_TH_serial 21 = .ok (.iaload, 1) := by decide +kernel
theorem d_TH_serial_22 : decode b_TH_serial 22 = .ok (.invokevirtual 94, 3) := by decide +kernel
theorem d_TH_serial_25 : decode b_TH_serial 25 = .ok (.ireturn, 1) := by decide +kernel
theorem d_TH_serialIn_0 : decode b_TH_serialIn 0 = .ok (.aload_n 0, 1) := by decide +kernel
theorem d_TH_serialIn_1 : decode b_TH_serialIn 1 = .ok (.iload_n 1, 1) := by decide +kernel
theorem d_TH_serialIn_2 : decode b_TH_serialIn 2 = .ok (.iload_n 2, 1) := by decide +kernel
theorem d_TH_serialIn_3 : decode b_TH_serialIn 3 = .ok (.invokevirtual 72, 3) := by decide +kernel
theorem d_TH_serialIn_6 : decode b_TH_serialIn 6 = .ok (.ifCond .ne 11, 3) := by decide +kernel
theorem d_TH_serialIn_9 : decode b_TH_serialIn 9 = .ok (.aload_n 0, 1) := by decide +kernel
theorem d_TH_serialIn_10 : decode b_TH_serialIn 10 = .ok (.iload_n 3, 1) := by decide +kernel
theorem d_TH_serialIn_11 : decode b_TH_serialIn 11 = .ok (.invokevirtual 86, 3) := by decide +kernel
theorem d_TH_serialIn_14 : decode b_TH_serialIn 14 = .ok (.ifCond .eq 5, 3) := by decide +kernel
theorem d_TH_serialIn_17 : decode b_TH_serialIn 17 = .ok (.iconst (-1), 1) := by decide +kernel
theorem d_TH_serialIn_18 : decode b_TH_serialIn 18 = .ok (.ireturn, 1) := by decide +kernel
theorem d_TH_serialIn_19 : decode b_TH_serialIn 19 = .ok (.aload_n 0, 1) := by decide +kernel
theorem d_TH_serialIn_20 : decode b_TH_serialIn 20 = .ok (.getfield 25, 3) := by decide +kernel
theorem d_TH_serialIn_23 : decode b_TH_serialIn 23 = .ok (.iload_n 1, 1) := by decide +kernel
theorem d_TH_serialIn_24 : decode b_TH_serialIn 24 = .ok (.iconst 4, 1) := by decide +kernel
theorem d_TH_serialIn_25 : decode b_TH_serialIn 25 = .ok (.imul, 1) := by decide +kernel
theorem d_TH_serialIn_26 : decode b_TH_serialIn 26 = .ok (.iload_n 2, 1) := by decide +kernel
theorem d_TH_serialIn_27 : decode b_TH_serialIn 27 = .ok (.iadd, 1) := by decide +kernel
theorem d_TH_serialIn_28 : decode b_TH_serialIn 28 = .ok (.iaload, 1) := by decide +kernel
theorem d_TH_serialIn_29 : decode b_TH_serialIn 29 = .ok (.istore 4, 2) := by decide +kernel
theorem d_TH_serialIn_31 : decode b_TH_serialIn 31 = .ok (.iload 4, 2) := by decide +kernel
theorem d_TH_serialIn_33 : decode b_TH_serialIn 33 = .ok (.ifCond .ge 6, 3) := by decide +kernel
theorem d_TH_serialIn_36 : decode b_TH_serialIn 36 = .ok (.bipush (-3), 2) := by decide +kernel
theorem d_TH_serialIn_38 : decode b_TH_serialIn 38 = .ok (.ireturn, 1) := by decide +kernel
theorem d_TH_serialIn_39 : decode b_TH_serialIn 39 = .ok (.aload_n 0, 1) := by decide +kernel
theorem d_TH_serialIn_40 : decode b_TH_serialIn 40 = .ok (.iload_n 3, 1) := by decide +kernel
theorem d_TH_serialIn_41 : decode b_TH_serialIn 41 = .ok (.ifCond .ne 13, 3) := by decide +kernel
theorem d_TH_serialIn_44 : decode b_TH_serialIn 44 = .ok (.aload_n 0, 1) := by decide +kernel
theorem d_TH_serialIn_45 : decode b_TH_serialIn 45 = .ok (.getfield 13, 3) := by decide +kernel
theorem d_TH_serialIn_48 : decode b_TH_serialIn 48 = .ok (.iload 4, 2) := by decide +kernel
theorem d_TH_serialIn_50 : decode b_TH_serialIn 50 = .ok (.iaload, 1) := by decide +kernel
theorem d_TH_serialIn_51 : decode b_TH_serialIn 51 = .ok (.goto 10, 3) := by decide +kernel
theorem d_TH_serialIn_54 : decode b_TH_serialIn 54 = .ok (.aload_n 0, 1) := by decide +kernel
theorem d_TH_serialIn_55 : decode b_TH_serialIn 55 = .ok (.getfield 16, 3) := by decide +kernel
theorem d_TH_serialIn_58 : decode b_TH_serialIn 58 = .ok (.iload 4, 2) := by decide +kernel
theorem d_TH_serialIn_60 : decode b_TH_serialIn 60 = .ok (.iaload, 1) := by decide +kernel
theorem d_TH_serialIn_61 : decode b_TH_serialIn 61 = .ok (.invokevirtual 94, 3) := by decide +kernel
theorem d_TH_serialIn_64 : decode b_TH_serialIn 64 = .ok (.ireturn, 1) := by decide +kernel
theorem d_TH_serialOf_0 : decode b_TH_serialOf 0 = .ok (.aload_n 0, 1) := by decide +kernel
theorem d_TH_serialOf_1 : decode b_TH_serialOf 1 = .ok (.iload_n 1, 1) := by decide +kernel
theorem d_TH_serialOf_2 : decode b_TH_serialOf 2 = .ok (.invokevirtual 86, 3) := by decide +kernel
theorem d_TH_serialOf_5 : decode b_TH_serialOf 5 = .ok (.ifCond .eq 5, 3) := by decide +kernel
theorem d_TH_serialOf_8 : decode b_TH_serialOf 8 = .ok (.iconst (-1), 1) := by decide +kernel
theorem d_TH_serialOf_9 : decode b_TH_serialOf 9 = .ok (.ireturn, 1) := by decide +kernel
theorem d_TH_serialOf_10 : decode b_TH_serialOf 10 = .ok (.aload_n 0, 1) := by decide +kernel
theorem d_TH_serialOf_11 : decode b_TH_serialOf 11 = .ok (.aload_n 0, 1) := by decide +kernel
theorem d_TH_serialOf_12 : decode b_TH_serialOf 12 = .ok (.getfield 28, 3) := by decide +kernel
theorem d_TH_serialOf_15 : decode b_TH_serialOf 15 = .ok (.iload_n 1, 1) := by decide +kernel
theorem d_TH_serialOf_16 : decode b_TH_serialOf 16 = .ok (.iaload, 1) := by decide +kernel
theorem d_TH_serialOf_17 : decode b_TH_serialOf 17 = .ok (.invokevirtual 94, 3) := by decide +kernel
theorem d_TH_serialOf_20 : decode b_TH_serialOf 20 = .ok (.ireturn, 1) := by decide +kernel
theorem d_TH_made_0 : decode b_TH_made 0 = .ok (.aload_n 0, 1) := by decide +kernel
theorem d_TH_made_1 : decode b_TH_made 1 = .ok (.getfield 83, 3) := by decide +kernel
theorem d_TH_made_4 : decode b_TH_made 4 = .ok (.ireturn, 1) := by decide +kernel
theorem d_TH_live_0 : decode b_TH_live 0 = .ok (.aload_n 0, 1) := by decide +kernel
theorem d_TH_live_1 : decode b_TH_live 1 = .ok (.invokevirtual 80, 3) := by decide +kernel
theorem d_TH_live_4 : decode b_TH_live 4 = .ok (.iconst 0, 1) := by decide +kernel
theorem d_TH_live_5 : decode b_TH_live 5 = .ok (.istore_n 1, 1) := by decide +kernel
theorem d_TH_live_6 : decode b_TH_live 6 = .ok (.iconst 0, 1) := by decide +kernel
theorem d_TH_live_7 : decode b_TH_live 7 = .ok (.istore_n 2, 1) := by decide +kernel
theorem d_TH_live_8 : decode b_TH_live 8 = .ok (.iload_n 2, 1) := by decide +kernel
theorem d_TH_live_9 : decode b_TH_live 9 = .ok (.aload_n 0, 1) := by decide +kernel
theorem d_TH_live_10 : decode b_TH_live 10 = .ok (.getfield 34, 3) := by decide +kernel
theorem d_TH_live_13 : decode b_TH_live 13 = .ok (.if_icmp .ge 21, 3) := by decide +kernel
theorem d_TH_live_16 : decode b_TH_live 16 = .ok (.aload_n 0, 1) := by decide +kernel
theorem d_TH_live_17 : decode b_TH_live 17 = .ok (.getfield 7, 3) := by decide +kernel
theorem d_TH_live_20 : decode b_TH_live 20 = .ok (.iload_n 2, 1) := by decide +kernel
theorem d_TH_live_21 : decode b_TH_live 21 = .ok (.iaload, 1) := by decide +kernel
theorem d_TH_live_22 : decode b_TH_live 22 = .ok (.ifCond .eq 6, 3) := by decide +kernel
theorem d_TH_live_25 : decode b_TH_live 25 = .ok (.iinc 1 1, 3) := by decide +kernel
theorem d_TH_live_28 : decode b_TH_live 28 = .ok (.iinc 2 1, 3) := by decide +kernel
theorem d_TH_live_31 : decode b_TH_live 31 = .ok (.goto (-23), 3) := by decide +kernel
theorem d_TH_live_34 : decode b_TH_live 34 = .ok (.iload_n 1, 1) := by decide +kernel
theorem d_TH_live_35 : decode b_TH_live 35 = .ok (.ireturn, 1) := by decide +kernel
theorem d_TH_rest_0 : decode b_TH_rest 0 = .ok (.iload_n 1, 1) := by decide +kernel
theorem d_TH_rest_1 : decode b_TH_rest 1 = .ok (.bipush 63, 2) := by decide +kernel
theorem d_TH_rest_3 : decode b_TH_rest 3 = .ok (.if_icmp .le 8, 3) := by decide +kernel
theorem d_TH_rest_6 : decode b_TH_rest 6 = .ok (.bipush 63, 2) := by decide +kernel
theorem d_TH_rest_8 : decode b_TH_rest 8 = .ok (.goto 4, 3) := by decide +kernel
theorem d_TH_rest_11 : decode b_TH_rest 11 = .ok (.iload_n 1, 1) := by decide +kernel
theorem d_TH_rest_12 : decode b_TH_rest 12 = .ok (.istore_n 2, 1) := by decide +kernel
theorem d_TH_rest_13 : decode b_TH_rest 13 = .ok (.iconst 0, 1) := by decide +kernel
theorem d_TH_rest_14 : decode b_TH_rest 14 = .ok (.istore_n 3, 1) := by decide +kernel
theorem d_TH_rest_15 : decode b_TH_rest 15 = .ok (.iload_n 3, 1) := by decide +kernel
theorem d_TH_rest_16 : decode b_TH_rest 16 = .ok (.iload_n 2, 1) := by decide +kernel
theorem d_TH_rest_17 : decode b_TH_rest 17 = .ok (.if_icmp .ge 13, 3) := by decide +kernel
theorem d_TH_rest_20 : decode b_TH_rest 20 = .ok (.aload_n 0, 1) := by decide +kernel
theorem d_TH_rest_21 : decode b_TH_rest 21 = .ok (.invokevirtual 66, 3) := by decide +kernel
theorem d_TH_rest_24 : decode b_TH_rest 24 = .ok (.iinc 3 1, 3) := by decide +kernel
theorem d_TH_rest_27 : decode b_TH_rest 27 = .ok (.goto (-12), 3) := by decide +kernel
theorem d_TH_rest_30 : decode b_TH_rest 30 = .ok (.return_, 1) := by decide +kernel
theorem d_TH_pause_0 : decode b_TH_pause 0 = .ok (.iload_n 1, 1) := by decide +kernel
theorem d_TH_pause_1 : decode b_TH_pause 1 = .ok (.ifCond .lt 8, 3) := by decide +kernel
theorem d_TH_pause_4 : decode b_TH_pause 4 = .ok (.iload_n 1, 1) := by decide +kernel
theorem d_TH_pause_5 : decode b_TH_pause 5 = .ok (.iconst 2, 1) := by decide +kernel
theorem d_TH_pause_6 : decode b_TH_pause 6 = .ok (.if_icmp .le 5, 3) := by decide +kernel
theorem d_TH_pause_9 : decode b_TH_pause 9 = .ok (.iconst (-1), 1) := by decide +kernel
theorem d_TH_pause_10 : decode b_TH_pause 10 = .ok (.ireturn, 1) := by decide +kernel
theorem d_TH_pause_11 : decode b_TH_pause 11 = .ok (.aload_n 0, 1) := by decide +kernel
theorem d_TH_pause_12 : decode b_TH_pause 12 = .ok (.iload_n 1, 1) := by decide +kernel
theorem d_TH_pause_13 : decode b_TH_pause 13 = .ok (.invokevirtual 63, 3) := by decide +kernel
theorem d_TH_pause_16 : decode b_TH_pause 16 = .ok (.iconst 0, 1) := by decide +kernel
theorem d_TH_pause_17 : decode b_TH_pause 17 = .ok (.ireturn, 1) := by decide +kernel
end
section
-- decode rows, printed by names.py
theorem d_MD_init_0 : decode b_MD_init 0 = .ok (.aload_n 0, 1) := by decide +kernel
theorem d_MD_init_1 : decode b_MD_init 1 = .ok (.invokespecial 1, 3) := by decide +kernel
theorem d_MD_init_4 : decode b_MD_init 4 = .ok (.aload_n 0, 1) := by decide +kernel
theorem d_MD_init_5 : decode b_MD_init 5 = .ok (.sipush 1026, 3) := by decide +kernel
theorem d_MD_init_8 : decode b_MD_init 8 = .ok (.newarray .int, 2) := by decide +kernel
theorem d_MD_init_10 : decode b_MD_init 10 = .ok (.putfield 7, 3) := by decide +kernel
theorem d_MD_init_13 : decode b_MD_init 13 = .ok (.aload_n 0, 1) := by decide +kernel
theorem d_MD_init_14 : decode b_MD_init 14 = .ok (.sipush 513, 3) := by decide +kernel
theorem d_MD_init_17 : decode b_MD_init 17 = .ok (.newarray .int, 2) := by decide +kernel
theorem d_MD_init_19 : decode b_MD_init 19 = .ok (.putfield 13, 3) := by decide +kernel
theorem d_MD_init_22 : decode b_MD_init 22 = .ok (.aload_n 0, 1) := by decide +kernel
theorem d_MD_init_23 : decode b_MD_init 23 = .ok (.sipush 513, 3) := by decide +kernel
theorem d_MD_init_26 : decode b_MD_init 26 = .ok (.newarray .boolean, 2) := by decide +kernel
theorem d_MD_init_28 : decode b_MD_init 28 = .ok (.putfield 16, 3) := by decide +kernel
theorem d_MD_init_31 : decode b_MD_init 31 = .ok (.aload_n 0, 1) := by decide +kernel
theorem d_MD_init_32 : decode b_MD_init 32 = .ok (.bipush 12, 2) := by decide +kernel
theorem d_MD_init_34 : decode b_MD_init 34 = .ok (.newarray .int, 2) := by decide +kernel
theorem d_MD_init_36 : decode b_MD_init 36 = .ok (.putfield 20, 3) := by decide +kernel
theorem d_MD_init_39 : decode b_MD_init 39 = .ok (.aload_n 0, 1) := by decide +kernel
theorem d_MD_init_40 : decode b_MD_init 40 = .ok (.iconst 2, 1) := by decide +kernel
theorem d_MD_init_41 : decode b_MD_init 41 = .ok (.newarray .int, 2) := by decide +kernel
theorem d_MD_init_43 : decode b_MD_init 43 = .ok (.putfield 23, 3) := by decide +kernel
theorem d_MD_init_46 : decode b_MD_init 46 = .ok (.aload_n 0, 1) := by decide +kernel
theorem d_MD_init_47 : decode b_MD_init 47 = .ok (.iload_n 1, 1) := by decide +kernel
theorem d_MD_init_48 : decode b_MD_init 48 = .ok (.iconst 4, 1) := by decide +kernel
theorem d_MD_init_49 : decode b_MD_init 49 = .ok (.if_icmp .ge 7, 3) := by decide +kernel
theorem d_MD_init_52 : decode b_MD_init 52 = .ok (.iconst 4, 1) := by decide +kernel
theorem d_MD_init_53 : decode b_MD_init 53 = .ok (.goto 15, 3) := by decide +kernel
theorem d_MD_init_56 : decode b_MD_init 56 = .ok (.iload_n 1, 1) := by decide +kernel
theorem d_MD_init_57 : decode b_MD_init 57 = .ok (.bipush 16, 2) := by decide +kernel
theorem d_MD_init_59 : decode b_MD_init 59 = .ok (.if_icmp .le 8, 3) := by decide +kernel
theorem d_MD_init_62 : decode b_MD_init 62 = .ok (.bipush 16, 2) := by decide +kernel
theorem d_MD_init_64 : decode b_MD_init 64 = .ok (.goto 4, 3) := by decide +kernel
theorem d_MD_init_67 : decode b_MD_init 67 = .ok (.iload_n 1, 1) := by decide +kernel
theorem d_MD_init_68 : decode b_MD_init 68 = .ok (.putfield 26, 3) := by decide +kernel
theorem d_MD_init_71 : decode b_MD_init 71 = .ok (.return_, 1) := by decide +kernel
theorem d_MD_isRegister_0 : decode b_MD_isRegister 0 = .ok (.iload_n 1, 1) := by decide +kernel
theorem d_MD_isRegister_1 : decode b_MD_isRegister 1 = .ok (.ifCond .lt 21, 3) := by decide +kernel
theorem d_MD_isRegister_4 : decode b_MD_isRegister 4 = .ok (.iload_n 1, 1) := by decide +kernel
theorem d_MD_isRegister_5 : decode b_MD_isRegister 5 = .ok (.iconst 2, 1) := by decide +kernel
theorem d_MD_isRegister_6 : decode b_MD_isRegister 6 = .ok (.if_icmp .gt 16, 3) := by decide +kernel
theorem d_MD_isRegister_9 : decode b_MD_isRegister 9 = .ok (.iload_n 2, 1) := by decide +kernel
theorem d_MD_isRegister_10 : decode b_MD_isRegister 10 = .ok (.ifCond .lt 12, 3) := by decide +kernel
theorem d_MD_isRegister_13 : decode b_MD_isRegister 13 = .ok (.iload_n 2, 1) := by decide +kernel
theorem d_MD_isRegister_14 : decode b_MD_isRegister 14 = .ok (.iconst 3, 1) := by decide +kernel
theorem d_MD_isRegister_15 : decode b_MD_isRegister 15 = .ok (.if_icmp .gt 7, 3) := by decide +kernel
theorem d_MD_isRegister_18 : decode b_MD_isRegister 18 = .ok (.iconst 1, 1) := by decide +kernel
theorem d_MD_isRegister_19 : decode b_MD_isRegister 19 = .ok (.goto 4, 3) := by decide +kernel
theorem d_MD_isRegister_22 : decode b_MD_isRegister 22 = .ok (.iconst 0, 1) := by decide +kernel
theorem d_MD_isRegister_23 : decode b_MD_isRegister 23 = .ok (.ireturn, 1) := by decide +kernel
theorem d_MD_isBit_0 : decode b_MD_isBit 0 = .ok (.iload_n 1, 1) := by decide +kernel
theorem d_MD_isBit_1 : decode b_MD_isBit 1 = .ok (.ifCond .eq 8, 3) := by decide +kernel
theorem d_MD_isBit_4 : decode b_MD_isBit 4 = .ok (.iload_n 1, 1) := by decide +kernel
theorem d_MD_isBit_5 : decode b_MD_isBit 5 = .ok (.iconst 1, 1) := by decide +kernel
theorem d_MD_isBit_6 : decode b_MD_isBit 6 = .ok (.if_icmp .ne 7, 3) := by decide +kernel
theorem d_MD_isBit_9 : decode b_MD_isBit 9 = .ok (.iconst 1, 1) := by decide +kernel
theorem d_MD_isBit_10 : decode b_MD_isBit 10 = .ok (.goto 4, 3) := by decide +kernel
theorem d_MD_isBit_13 : decode b_MD_isBit 13 = .ok (.iconst 0, 1) := by decide +kernel
theorem d_MD_isBit_14 : decode b_MD_isBit 14 = .ok (.ireturn, 1) := by decide +kernel
theorem d_MD_reachRoots_0 : decode b_MD_reachRoots 0 = .ok (.iconst 0, 1) := by decide +kernel
theorem d_MD_reachRoots_1 : decode b_MD_reachRoots 1 = .ok (.istore_n 1, 1) := by decide +kernel
theorem d_MD_reachRoots_2 : decode b_MD_reachRoots 2 = .ok (.iload_n 1, 1) := by decide +kernel
theorem d_MD_reachRoots_3 : decode b_MD_reachRoots 3 = .ok (.aload_n 0, 1) := by decide +kernel
theorem d_MD_reachRoots_4 : decode b_MD_reachRoots 4 = .ok (.getfield 30, 3) := by decide +kernel
theorem d_MD_reachRoots_7 : decode b_MD_reachRoots 7 = .ok (.if_icmp .gt 16, 3) := by decide +kernel
theorem d_MD_reachRoots_10 : decode b_MD_reachRoots 10 = .ok (.aload_n 0, 1) := by decide +kernel
theorem d_MD_reachRoots_11 : decode b_MD_reachRoots 11 = .ok (.getfield 16, 3) := by decide +kernel
theorem d_MD_reachRoots_14 : decode b_MD_reachRoots 14 = .ok (.iload_n 1, 1) := by decide +kernel
theorem d_MD_reachRoots_15 : decode b_MD_reachRoots 15 = .ok (.iconst 0, 1) := by decide +kernel
theorem d_MD_reachRoots_16 : decode b_MD_reachRoots 16 = .ok (.bastore, 1) := by decide +kernel
theorem d_MD_reachRoots_17 : decode b_MD_reachRoots 17 = .ok (.iinc 1 1, 3) := by decide +kernel
theorem d_MD_reachRoots_20 : decode b_MD_reachRoots 20 = .ok (.goto (-18), 3) := by decide +kernel
theorem d_MD_reachRoots_23 : decode b_MD_reachRoots 23 = .ok (.iconst 0, 1) := by decide +kernel
theorem d_MD_reachRoots_24 : decode b_MD_reachRoots 24 = .ok (.istore_n 1, 1) := by decide +kernel
theorem d_MD_reachRoots_25 : decode b_MD_reachRoots 25 = .ok (.iload_n 1, 1) := by decide +kernel
theorem d_MD_reachRoots_26 : decode b_MD_reachRoots 26 = .ok (.bipush 12, 2) := by decide +kernel
theorem d_MD_reachRoots_28 : decode b_MD_reachRoots 28 = .ok (.if_icmp .ge 21, 3) := by decide +kernel
theorem d_MD_reachRoots_31 : decode b_MD_reachRoots 31 = .ok (.aload_n 0, 1) := by decide +kernel
theorem d_MD_reachRoots_32 : decode b_MD_reachRoots 32 = .ok (.getfield 16, 3) := by decide +kernel
theorem d_MD_reachRoots_35 : decode b_MD_reachRoots 35 = .ok (.aload_n 0, 1) := by decide +kernel
theorem d_MD_reachRoots_36 : decode b_MD_reachRoots 36 = .ok (.getfield 20, 3) := by decide +kernel
theorem d_MD_reachRoots_39 : decode b_MD_reachRoots 39 = .ok (.iload_n 1, 1) := by decide +kernel
theorem d_MD_reachRoots_40 : decode b_MD_reachRoots 40 = .ok (.iaload, 1) := by decide +kernel
theorem d_MD_reachRoots_41 : decode b_MD_reachRoots 41 = .ok (.iconst 1, 1) := by decide +kernel
theorem d_MD_reachRoots_42 : decode b_MD_reachRoots 42 = .ok (.bastore, 1) := by decide +kernel
theorem d_MD_reachRoots_43 : decode b_MD_reachRoots 43 = .ok (.iinc 1 1, 3) := by decide +kernel
theorem d_MD_reachRoots_46 : decode b_MD_reachRoots 46 = .ok (.goto (-21), 3) := by decide +kernel
theorem d_MD_reachRoots_49 : decode b_MD_reachRoots 49 = .ok (.aload_n 0, 1) := by decide +kernel
theorem d_MD_reachRoots_50 : decode b_MD_reachRoots 50 = .ok (.getfield 16, 3) := by decide +kernel
theorem d_MD_reachRoots_53 : decode b_MD_reachRoots 53 = .ok (.aload_n 0, 1) := by decide +kernel
theorem d_MD_reachRoots_54 : decode b_MD_reachRoots 54 = .ok (.getfield 23, 3) := by decide +kernel
theorem d_MD_reachRoots_57 : decode b_MD_reachRoots 57 = .ok (.iconst 0, 1) := by decide +kernel
theorem d_MD_reachRoots_58 : decode b_MD_reachRoots 58 = .ok (.iaload, 1) := by decide +kernel
theorem d_MD_reachRoots_59 : decode b_MD_reachRoots 59 = .ok (.iconst 1, 1) := by decide +kernel
theorem d_MD_reachRoots_60 : decode b_MD_reachRoots 60 = .ok (.bastore, 1) := by decide +kernel
theorem d_MD_reachRoots_61 : decode b_MD_reachRoots 61 = .ok (.aload_n 0, 1) := by decide +kernel
theorem d_MD_reachRoots_62 : decode b_MD_reachRoots 62 = .ok (.getfield 16, 3) := by decide +kernel
theorem d_MD_reachRoots_65 : decode b_MD_reachRoots 65 = .ok (.aload_n 0, 1) := by decide +kernel
theorem d_MD_reachRoots_66 : decode b_MD_reachRoots 66 = .ok (.getfield 23, 3) := by decide +kernel
theorem d_MD_reachRoots_69 : decode b_MD_reachRoots 69 = .ok (.iconst 1, 1) := by decide +kernel
theorem d_MD_reachRoots_70 : decode b_MD_reachRoots 70 = .ok (.iaload, 1) := by decide +kernel
theorem d_MD_reachRoots_71 : decode b_MD_reachRoots 71 = .ok (.iconst 1, 1) := by decide +kernel
theorem d_MD_reachRoots_72 : decode b_MD_reachRoots 72 = .ok (.bastore, 1) := by decide +kernel
theorem d_MD_reachRoots_73 : decode b_MD_reachRoots 73 = .ok (.return_, 1) := by decide +kernel
theorem d_MD_reachFields_0 : decode b_MD_reachFields 0 = .ok (.iconst 0, 1) := by decide +kernel
theorem d_MD_reachFields_1 : decode b_MD_reachFields 1 = .ok (.istore_n 1, 1) := by decide +kernel
theorem d_MD_reachFields_2 : decode b_MD_reachFields 2 = .ok (.iconst 1, 1) := by decide +kernel
theorem d_MD_reachFields_3 : decode b_MD_reachFields 3 = .ok (.istore_n 2, 1) := by decide +kernel
theorem d_MD_reachFields_4 : decode b_MD_reachFields 4 = .ok (.iload_n 2, 1) := by decide +kernel
theorem d_MD_reachFields_5 : decode b_MD_reachFields 5 = .ok (.aload_n 0, 1) := by decide +kernel
theorem d_MD_reachFields_6 : decode b_MD_reachFields 6 = .ok (.getfield 30, 3) := by decide +kernel
theorem d_MD_reachFields_9 : decode b_MD_reachFields 9 = .ok (.if_icmp .gt 75, 3) := by decide +kernel
theorem d_MD_reachFields_12 : decode b_MD_reachFields 12 = .ok (.aload_n 0, 1) := by decide +kernel
theorem d_MD_reachFields_13 : decode b_MD_reachFields 13 = .ok (.getfield 7, 3) := by decide +kernel
theorem d_MD_reachFields_16 : decode b_MD_reachFields 16 = .ok (.iconst 2, 1) := by decide +kernel
theorem d_MD_reachFields_17 : decode b_MD_reachFields 17 = .ok (.iload_n 2, 1) := by decide +kernel
theorem d_MD_reachFields_18 : decode b_MD_reachFields 18 = .ok (.imul, 1) := by decide +kernel
theorem d_MD_reachFields_19 : decode b_MD_reachFields 19 = .ok (.iaload, 1) := by decide +kernel
theorem d_MD_reachFields_20 : decode b_MD_reachFields 20 = .ok (.istore_n 3, 1) := by decide +kernel
theorem d_MD_reachFields_21 : decode b_MD_reachFields 21 = .ok (.aload_n 0, 1) := by decide +kernel
theorem d_MD_reachFields_22 : decode b_MD_reachFields 22 = .ok (.getfield 7, 3) := by decide +kernel
theorem d_MD_reachFields_25 : decode b_MD_reachFields 25 = .ok (.iconst 2, 1) := by decide +kernel
theorem d_MD_reachFields_26 : decode b_MD_reachFields 26 = .ok (.iload_n 2, 1) := by decide +kernel
theorem d_MD_reachFields_27 : decode b_MD_reachFields 27 = .ok (.imul, 1) := by decide +kernel
theorem d_MD_reachFields_28 : decode b_MD_reachFields 28 = .ok (.iconst 1, 1) := by decide +kernel
theorem d_MD_reachFields_29 : decode b_MD_reachFields 29 = .ok (.iadd, 1) := by decide +kernel
theorem d_MD_reachFields_30 : decode b_MD_reachFields 30 = .ok (.iaload, 1) := by decide +kernel
theorem d_MD_reachFields_31 : decode b_MD_reachFields 31 = .ok (.istore 4, 2) := by decide +kernel
theorem d_MD_reachFields_33 : decode b_MD_reachFields 33 = .ok (.aload_n 0, 1) := by decide +kernel
theorem d_MD_reachFields_34 : decode b_MD_reachFields 34 = .ok (.getfield 16, 3) := by decide +kernel
theorem d_MD_reachFields_37 : decode b_MD_reachFields 37 = .ok (.iload_n 2, 1) := by decide +kernel
theorem d_MD_reachFields_38 : decode b_MD_reachFields 38 = .ok (.baload, 1) := by decide +kernel
theorem d_MD_reachFields_39 : decode b_MD_reachFields 39 = .ok (.ifCond .eq 39, 3) := by decide +kernel
theorem d_MD_reachFields_42 : decode b_MD_reachFields 42 = .ok (.aload_n 0, 1) := by decide +kernel
theorem d_MD_reachFields_43 : decode b_MD_reachFields 43 = .ok (.getfield 16, 3) := by decide +kernel
theorem d_MD_reachFields_46 : decode b_MD_reachFields 46 = .ok (.iload_n 3, 1) := by decide +kernel
theorem d_MD_reachFields_47 : decode b_MD_reachFields 47 = .ok (.baload, 1) := by decide +kernel
theorem d_MD_reachFields_48 : decode b_MD_reachFields 48 = .ok (.ifCond .eq 13, 3) := by decide +kernel
theorem d_MD_reachFields_51 : decode b_MD_reachFields 51 = .ok (.aload_n 0, 1) := by decide +kernel
theorem d_MD_reachFields_52 : decode b_MD_reachFields 52 = .ok (.getfield 16, 3) := by decide +kernel
theorem d_MD_reachFields_55 : decode b_MD_reachFields 55 = .ok (.iload 4, 2) := by decide +kernel
theorem d_MD_reachFields_57 : decode b_MD_reachFields 57 = .ok (.baload, 1) := by decide +kernel
theorem d_MD_reachFields_58 : decode b_MD_reachFields 58 = .ok (.ifCond .ne 20, 3) := by decide +kernel
theorem d_MD_reachFields_61 : decode b_MD_reachFields 61 = .ok (.aload_n 0, 1) := by decide +kernel
theorem d_MD_reachFields_62 : decode b_MD_reachFields 62 = .ok (.getfield 16, 3) := by decide +kernel
theorem d_MD_reachFields_65 : decode b_MD_reachFields 65 = .ok (.iload_n 3, 1) := by decide +kernel
theorem d_MD_reachFields_66 : decode b_MD_reachFields 66 = .ok (.iconst 1, 1) := by decide +kernel
theorem d_MD_reachFields_67 : decode b_MD_reachFields 67 = .ok (.bastore, 1) := by decide +kernel
theorem d_MD_reachFields_68 : decode b_MD_reachFields 68 = .ok (.aload_n 0, 1) := by decide +kernel
theorem d_MD_reachFields_69 : decode b_MD_reachFields 69 = .ok (.getfield 16, 3) := by decide +kernel
theorem d_MD_reachFields_72 : decode b_MD_reachFields 72 = .ok (.iload 4, 2) := by decide +kernel
theorem d_MD_reachFields_74 : decode b_MD_reachFields 74 = .ok (.iconst 1, 1) := by decide +kernel
theorem d_MD_reachFields_75 : decode b_MD_reachFields 75 = .ok (.bastore, 1) := by decide +kernel
theorem d_MD_reachFields_76 : decode b_MD_reachFields 76 = .ok (.iconst 1, 1) := by decide +kernel
theorem d_MD_reachFields_77 : decode b_MD_reachFields 77 = .ok (.istore_n 1, 1) := by decide +kernel
theorem d_MD_reachFields_78 : decode b_MD_reachFields 78 = .ok (.iinc 2 1, 3) := by decide +kernel
theorem d_MD_reachFields_81 : decode b_MD_reachFields 81 = .ok (.goto (-77), 3) := by decide +kernel
theorem d_MD_reachFields_84 : decode b_MD_reachFields 84 = .ok (.iload_n 1, 1) := by decide +kernel
theorem d_MD_reachFields_85 : decode b_MD_reachFields 85 = .ok (.ireturn, 1) := by decide +kernel
theorem d_MD_make_0 : decode b_MD_make 0 = .ok (.aload_n 0, 1) := by decide +kernel
theorem d_MD_make_1 : decode b_MD_make 1 = .ok (.iload_n 1, 1) := by decide +kernel
theorem d_MD_make_2 : decode b_MD_make 2 = .ok (.iload_n 2, 1) := by decide +kernel
theorem d_MD_make_3 : decode b_MD_make 3 = .ok (.invokevirtual 33, 3) := by decide +kernel
theorem d_MD_make_6 : decode b_MD_make 6 = .ok (.ifCond .ne 5, 3) := by decide +kernel
theorem d_MD_make_9 : decode b_MD_make 9 = .ok (.iconst (-1), 1) := by decide +kernel
theorem d_MD_make_10 : decode b_MD_make 10 = .ok (.ireturn, 1) := by decide +kernel
theorem d_MD_make_11 : decode b_MD_make 11 = .ok (.aload_n 0, 1) := by decide +kernel
theorem d_MD_make_12 : decode b_MD_make 12 = .ok (.invokevirtual 37, 3) := by decide +kernel
theorem d_MD_make_15 : decode b_MD_make 15 = .ok (.aload_n 0, 1) := by decide +kernel
theorem d_MD_make_16 : decode b_MD_make 16 = .ok (.getfield 26, 3) := by decide +kernel
theorem d_MD_make_19 : decode b_MD_make 19 = .ok (.if_icmp .ge 13, 3) := by decide +kernel
theorem d_MD_make_22 : decode b_MD_make 22 = .ok (.aload_n 0, 1) := by decide +kernel
theorem d_MD_make_23 : decode b_MD_make 23 = .ok (.getfield 30, 3) := by decide +kernel
theorem d_MD_make_26 : decode b_MD_make 26 = .ok (.sipush 512, 3) := by decide +kernel
theorem d_MD_make_29 : decode b_MD_make 29 = .ok (.if_icmp .ne 6, 3) := by decide +kernel
theorem d_MD_make_32 : decode b_MD_make 32 = .ok (.bipush (-2), 2) := by decide +kernel
theorem d_MD_make_34 : decode b_MD_make 34 = .ok (.ireturn, 1) := by decide +kernel
theorem d_MD_make_35 : decode b_MD_make 35 = .ok (.aload_n 0, 1) := by decide +kernel
theorem d_MD_make_36 : decode b_MD_make 36 = .ok (.dup, 1) := by decide +kernel
theorem d_MD_make_37 : decode b_MD_make 37 = .ok (.getfield 30, 3) := by decide +kernel
theorem d_MD_make_40 : decode b_MD_make 40 = .ok (.iconst 1, 1) := by decide +kernel
theorem d_MD_make_41 : decode b_MD_make 41 = .ok (.iadd, 1) := by decide +kernel
theorem d_MD_make_42 : decode b_MD_make 42 = .ok (.putfield 30, 3) := by decide +kernel
theorem d_MD_make_45 : decode b_MD_make 45 = .ok (.aload_n 0, 1) := by decide +kernel
theorem d_MD_make_46 : decode b_MD_make 46 = .ok (.getfield 7, 3) := by decide +kernel
theorem d_MD_make_49 : decode b_MD_make 49 = .ok (.iconst 2, 1) := by decide +kernel
theorem d_MD_make_50 : decode b_MD_make 50 = .ok (.aload_n 0, 1) := by decide +kernel
theorem d_MD_make_51 : decode b_MD_make 51 = .ok (.getfield 30, 3) := by decide +kernel
theorem d_MD_make_54 : decode b_MD_make 54 = .ok (.imul, 1) := by decide +kernel
theorem d_MD_make_55 : decode b_MD_make 55 = .ok (.iconst 0, 1) := by decide +kernel
theorem d_MD_make_56 : decode b_MD_make 56 = .ok (.iastore, 1) := by decide +kernel
theorem d_MD_make_57 : decode b_MD_make 57 = .ok (.aload_n 0, 1) := by decide +kernel
theorem d_MD_make_58 : decode b_MD_make 58 = .ok (.getfield 7, 3) := by decide +kernel
theorem d_MD_make_61 : decode b_MD_make 61 = .ok (.iconst 2, 1) := by decide +kernel
theorem d_MD_make_62 : decode b_MD_make 62 = .ok (.aload_n 0, 1) := by decide +kernel
theorem d_MD_make_63 : decode b_MD_make 63 = .ok (.getfield 30, 3) := by decide +kernel
theorem d_MD_make_66 : decode b_MD_make 66 = .ok (.imul, 1) := by decide +kernel
theorem d_MD_make_67 : decode b_MD_make 67 = .ok (.iconst 1, 1) := by decide +kernel
theorem d_MD_make_68 : decode b_MD_make 68 = .ok (.iadd, 1) := by decide +kernel
theorem d_MD_make_69 : decode b_MD_make 69 = .ok (.iconst 0, 1) := by decide +kernel
theorem d_MD_make_70 : decode b_MD_make 70 = .ok (.iastore, 1) := by decide +kernel
theorem d_MD_make_71 : decode b_MD_make 71 = .ok (.aload_n 0, 1) := by decide +kernel
theorem d_MD_make_72 : decode b_MD_make 72 = .ok (.getfield 13, 3) := by decide +kernel
theorem d_MD_make_75 : decode b_MD_make 75 = .ok (.aload_n 0, 1) := by decide +kernel
theorem d_MD_make_76 : decode b_MD_make 76 = .ok (.getfield 30, 3) := by decide +kernel
theorem d_MD_make_79 : decode b_MD_make 79 = .ok (.iload_n 3, 1) := by decide +kernel
theorem d_MD_make_80 : decode b_MD_make 80 = .ok (.iastore, 1) := by decide +kernel
theorem d_MD_make_81 : decode b_MD_make 81 = .ok (.aload_n 0, 1) := by decide +kernel
theorem d_MD_make_82 : decode b_MD_make 82 = .ok (.getfield 20, 3) := by decide +kernel
theorem d_MD_make_85 : decode b_MD_make 85 = .ok (.iconst 4, 1) := by decide +kernel
theorem d_MD_make_86 : decode b_MD_make 86 = .ok (.iload_n 1, 1) := by decide +kernel
theorem d_MD_make_87 : decode b_MD_make 87 = .ok (.imul, 1) := by decide +kernel
theorem d_MD_make_88 : decode b_MD_make 88 = .ok (.iload_n 2, 1) := by decide +kernel
theorem d_MD_make_89 : decode b_MD_make 89 = .ok (.iadd, 1) := by decide +kernel
theorem d_MD_make_90 : decode b_MD_make 90 = .ok (.aload_n 0, 1) := by decide +kernel
theorem d_MD_make_91 : decode b_MD_make 91 = .ok (.getfield 30, 3) := by decide +kernel
theorem d_MD_make_94 : decode b_MD_make 94 = .ok (.iastore, 1) := by decide +kernel
theorem d_MD_make_95 : decode b_MD_make 95 = .ok (.aload_n 0, 1) := by decide +kernel
theorem d_MD_make_96 : decode b_MD_make 96 = .ok (.getfield 30, 3) := by decide +kernel
theorem d_MD_make_99 : decode b_MD_make 99 = .ok (.ireturn, 1) := by decide +kernel
theorem d_MD_copy_0 : decode b_MD_copy 0 = .ok (.aload_n 0, 1) := by decide +kernel
theorem d_MD_copy_1 : decode b_MD_copy 1 = .ok (.iload_n 1, 1) := by decide +kernel
theorem d_MD_copy_2 : decode b_MD_copy 2 = .ok (.iload_n 2, 1) := by decide +kernel
theorem d_MD_copy_3 : decode b_MD_copy 3 = .ok (.invokevirtual 33, 3) := by decide +kernel
theorem d_MD_copy_6 : decode b_MD_copy 6 = .ok (.ifCond .eq 12, 3) := by decide +kernel
theorem d_MD_copy_9 : decode b_MD_copy 9 = .ok (.aload_n 0, 1) := by decide +kernel
theorem d_MD_copy_10 : decode b_MD_copy 10 = .ok (.iload_n 1, 1) := by decide +kernel
theorem d_MD_copy_11 : decode b_MD_copy 11 = .ok (.iload_n 3, 1) := by decide +kernel
theorem d_MD_copy_12 : decode b_MD_copy 12 = .ok (.invokevirtual 33, 3) := by decide +kernel
theorem d_MD_copy_15 : decode b_MD_copy 15 = .ok (.ifCond .ne 5, 3) := by decide +kernel
theorem d_MD_copy_18 : decode b_MD_copy 18 = .ok (.iconst (-1), 1) := by decide +kernel
theorem d_MD_copy_19 : decode b_MD_copy 19 = .ok (.ireturn, 1) := by decide +kernel
theorem d_MD_copy_20 : decode b_MD_copy 20 = .ok (.aload_n 0, 1) := by decide +kernel
theorem d_MD_copy_21 : decode b_MD_copy 21 = .ok (.getfield 20, 3) := by decide +kernel
theorem d_MD_copy_24 : decode b_MD_copy 24 = .ok (.iconst 4, 1) := by decide +kernel
theorem d_MD_copy_25 : decode b_MD_copy 25 = .ok (.iload_n 1, 1) := by decide +kernel
theorem d_MD_copy_26 : decode b_MD_copy 26 = .ok (.imul, 1) := by decide +kernel
theorem d_MD_copy_27 : decode b_MD_copy 27 = .ok (.iload_n 2, 1) := by decide +kernel
theorem d_MD_copy_28 : decode b_MD_copy 28 = .ok (.iadd, 1) := by decide +kernel
theorem d_MD_copy_29 : decode b_MD_copy 29 = .ok (.aload_n 0, 1) := by decide +kernel
theorem d_MD_copy_30 : decode b_MD_copy 30 = .ok (.getfield 20, 3) := by decide +kernel
theorem d_MD_copy_33 : decode b_MD_copy 33 = .ok (.iconst 4, 1) := by decide +kernel
theorem d_MD_copy_34 : decode b_MD_copy 34 = .ok (.iload_n 1, 1) := by decide +kernel
theorem d_MD_copy_35 : decode b_MD_copy 35 = .ok (.imul, 1) := by decide +kernel
theorem d_MD_copy_36 : decode b_MD_copy 36 = .ok (.iload_n 3, 1) := by decide +kernel
theorem d_MD_copy_37 : decode b_MD_copy 37 = .ok (.iadd, 1) := by decide +kernel
theorem d_MD_copy_38 : decode b_MD_copy 38 = .ok (.iaload, 1) := by decide +kernel
theorem d_MD_copy_39 : decode b_MD_copy 39 = .ok (.iastore, 1) := by decide +kernel
theorem d_MD_copy_40 : decode b_MD_copy 40 = .ok (.iconst 0, 1) := by decide +kernel
theorem d_MD_copy_41 : decode b_MD_copy 41 = .ok (.ireturn, 1) := by decide +kernel
theorem d_MD_drop_0 : decode b_MD_drop 0 = .ok (.aload_n 0, 1) := by decide +kernel
theorem d_MD_drop_1 : decode b_MD_drop 1 = .ok (.iload_n 1, 1) := by decide +kernel
theorem d_MD_drop_2 : decode b_MD_drop 2 = .ok (.iload_n 2, 1) := by decide +kernel
theorem d_MD_drop_3 : decode b_MD_drop 3 = .ok (.invokevirtual 33, 3) := by decide +kernel
theorem d_MD_drop_6 : decode b_MD_drop 6 = .ok (.ifCond .ne 5, 3) := by decide +kernel
theorem d_MD_drop_9 : decode b_MD_drop 9 = .ok (.iconst (-1), 1) := by decide +kernel
theorem d_MD_drop_10 : decode b_MD_drop 10 = .ok (.ireturn, 1) := by decide +kernel
theorem d_MD_drop_11 : decode b_MD_drop 11 = .ok (.aload_n 0, 1) := by decide +kernel
theorem d_MD_drop_12 : decode b_MD_drop 12 = .ok (.getfield 20, 3) := by decide +kernel
theorem d_MD_drop_15 : decode b_MD_drop 15 = .ok (.iconst 4, 1) := by decide +kernel
theorem d_MD_drop_16 : decode b_MD_drop 16 = .ok (.iload_n 1, 1) := by decide +kernel
theorem d_MD_drop_17 : decode b_MD_drop 17 = .ok (.imul, 1) := by decide +kernel
theorem d_MD_drop_18 : decode b_MD_drop 18 = .ok (.iload_n 2, 1) := by decide +kernel
theorem d_MD_drop_19 : decode b_MD_drop 19 = .ok (.iadd, 1) := by decide +kernel
theorem d_MD_drop_20 : decode b_MD_drop 20 = .ok (.iconst 0, 1) := by decide +kernel
theorem d_MD_drop_21 : decode b_MD_drop 21 = .ok (.iastore, 1) := by decide +kernel
theorem d_MD_drop_22 : decode b_MD_drop 22 = .ok (.iconst 0, 1) := by decide +kernel
theorem d_MD_drop_23 : decode b_MD_drop 23 = .ok (.ireturn, 1) := by decide +kernel
theorem d_MD_load_0 : decode b_MD_load 0 = .ok (.aload_n 0, 1) := by decide +kernel
theorem d_MD_load_1 : decode b_MD_load 1 = .ok (.iload_n 1, 1) := by decide +kernel
theorem d_MD_load_2 : decode b_MD_load 2 = .ok (.iload_n 2, 1) := by decide +kernel
theorem d_MD_load_3 : decode b_MD_load 3 = .ok (.invokevirtual 33, 3) := by decide +kernel
theorem d_MD_load_6 : decode b_MD_load 6 = .ok (.ifCond .eq 21, 3) := by decide +kernel
theorem d_MD_load_9 : decode b_MD_load 9 = .ok (.aload_n 0, 1) := by decide +kernel
theorem d_MD_load_10 : decode b_MD_load 10 = .ok (.iload_n 1, 1) := by decide +kernel
theorem d_MD_load_11 : decode b_MD_load 11 = .ok (.iload_n 3, 1) := by decide +kernel
theorem d_MD_load_12 : decode b_MD_load 12 = .ok (.invokevirtual 33, 3) := by decide +kernel
theorem d_MD_load_15 : decode b_MD_load 15 = .ok (.ifCond .eq 12, 3) := by decide +kernel
theorem d_MD_load_18 : decode b_MD_load 18 = .ok (.aload_n 0, 1) := by decide +kernel
theorem d_MD_load_19 : decode b_MD_load 19 = .ok (.iload 4, 2) := by decide +kernel
theorem d_MD_load_21 : decode b_MD_load 21 = .ok (.invokevirtual 41, 3) := by decide +kernel
theorem d_MD_load_24 : decode b_MD_load 24 = .ok (.ifCond .ne 5, 3) := by decide +kernel
theorem d_MD_load_27 : decode b_MD_load 27 = .ok (.iconst (-1), 1) := by decide +kernel
theorem d_MD_load_28 : decode b_MD_load 28 = .ok (.ireturn, 1) := by decide +kernel
theorem d_MD_load_29 : decode b_MD_load 29 = .ok (.aload_n 0, 1) := by decide +kernel
theorem d_MD_load_30 : decode b_MD_load 30 = .ok (.getfield 20, 3) := by decide +kernel
theorem d_MD_load_33 : decode b_MD_load 33 = .ok (.iconst 4, 1) := by decide +kernel
theorem d_MD_load_34 : decode b_MD_load 34 = .ok (.iload_n 1, 1) := by decide +kernel
theorem d_MD_load_35 : decode b_MD_load 35 = .ok (.imul, 1) := by decide +kernel
theorem d_MD_load_36 : decode b_MD_load 36 = .ok (.iload_n 3, 1) := by decide +kernel
theorem d_MD_load_37 : decode b_MD_load 37 = .ok (.iadd, 1) := by decide +kernel
theorem d_MD_load_38 : decode b_MD_load 38 = .ok (.iaload, 1) := by decide +kernel
theorem d_MD_load_39 : decode b_MD_load 39 = .ok (.istore 5, 2) := by decide +kernel
theorem d_MD_load_41 : decode b_MD_load 41 = .ok (.iload 5, 2) := by decide +kernel
theorem d_MD_load_43 : decode b_MD_load 43 = .ok (.ifCond .ne 6, 3) := by decide +kernel
theorem d_MD_load_46 : decode b_MD_load 46 = .ok (.bipush (-3), 2) := by decide +kernel
theorem d_MD_load_48 : decode b_MD_load 48 = .ok (.ireturn, 1) := by decide +kernel
theorem d_MD_load_49 : decode b_MD_load 49 = .ok (.aload_n 0, 1) := by decide +kernel
theorem d_MD_load_50 : decode b_MD_load 50 = .ok (.getfield 20, 3) := by decide +kernel
theorem d_MD_load_53 : decode b_MD_load 53 = .ok (.iconst 4, 1) := by decide +kernel
theorem d_MD_load_54 : decode b_MD_load 54 = .ok (.iload_n 1, 1) := by decide +kernel
theorem d_MD_load_55 : decode b_MD_load 55 = .ok (.imul, 1) := by decide +kernel
theorem d_MD_load_56 : decode b_MD_load 56 = .ok (.iload_n 2, 1) := by decide +kernel
theorem d_MD_load_57 : decode b_MD_load 57 = .ok (.iadd, 1) := by decide +kernel
theorem d_MD_load_58 : decode b_MD_load 58 = .ok (.aload_n 0, 1) := by decide +kernel
theorem d_MD_load_59 : decode b_MD_load 59 = .ok (.getfield 7, 3) := by decide +kernel
theorem d_MD_load_62 : decode b_MD_load 62 = .ok (.iconst 2, 1) := by decide +kernel
theorem d_MD_load_63 : decode b_MD_load 63 = .ok (.iload 5, 2) := by decide +kernel
theorem d_MD_load_65 : decode b_MD_load 65 = .ok (.imul, 1) := by decide +kernel
theorem d_MD_load_66 : decode b_MD_load 66 = .ok (.iload 4, 2) := by decide +kernel
theorem d_MD_load_68 : decode b_MD_load 68 = .ok (.iadd, 1) := by decide +kernel
theorem d_MD_load_69 : decode b_MD_load 69 = .ok (.iaload, 1) := by decide +kernel
theorem d_MD_load_70 : decode b_MD_load 70 = .ok (.iastore, 1) := by decide +kernel
theorem d_MD_load_71 : decode b_MD_load 71 = .ok (.iconst 0, 1) := by decide +kernel
theorem d_MD_load_72 : decode b_MD_load 72 = .ok (.ireturn, 1) := by decide +kernel
theorem d_MD_store_0 : decode b_MD_store 0 = .ok (.aload_n 0, 1) := by decide +kernel
theorem d_MD_store_1 : decode b_MD_store 1 = .ok (.iload_n 1, 1) := by decide +kernel
theorem d_MD_store_2 : decode b_MD_store 2 = .ok (.iload 4, 2) := by decide +kernel
theorem d_MD_store_4 : decode b_MD_store 4 = .ok (.invokevirtual 33, 3) := by decide +kernel
theorem d_MD_store_7 : decode b_MD_store 7 = .ok (.ifCond .eq 20, 3) := by decide +kernel
theorem d_MD_store_10 : decode b_MD_store 10 = .ok (.aload_n 0, 1) := by decide +kernel
theorem d_MD_store_11 : decode b_MD_store 11 = .ok (.iload_n 1, 1) := by decide +kernel
theorem d_MD_store_12 : decode b_MD_store 12 = .ok (.iload_n 2, 1) := by decide +kernel
theorem d_MD_store_13 : decode b_MD_store 13 = .ok (.invokevirtual 33, 3) := by decide +kernel
theorem d_MD_store_16 : decode b_MD_store 16 = .ok (.ifCond .eq 11, 3) := by decide +kernel
theorem d_MD_store_19 : decode b_MD_store 19 = .ok (.aload_n 0, 1) := by decide +kernel
theorem d_MD_store_20 : decode b_MD_store 20 = .ok (.iload_n 3, 1) := by decide +kernel
theorem d_MD_store_21 : decode b_MD_store 21 = .ok (.invokevirtual 41, 3) := by decide +kernel
theorem d_MD_store_24 : decode b_MD_store 24 = .ok (.ifCond .ne 5, 3) := by decide +kernel
theorem d_MD_store_27 : decode b_MD_store 27 = .ok (.iconst (-1), 1) := by decide +kernel
theorem d_MD_store_28 : decode b_MD_store 28 = .ok (.ireturn, 1) := by decide +kernel
theorem d_MD_store_29 : decode b_MD_store 29 = .ok (.aload_n 0, 1) := by decide +kernel
theorem d_MD_store_30 : decode b_MD_store 30 = .ok (.getfield 20, 3) := by decide +kernel
theorem d_MD_store_33 : decode b_MD_store 33 = .ok (.iconst 4, 1) := by decide +kernel
theorem d_MD_store_34 : decode b_MD_store 34 = .ok (.iload_n 1, 1) := by decide +kernel
theorem d_MD_store_35 : decode b_MD_store 35 = .ok (.imul, 1) := by decide +kernel
theorem d_MD_store_36 : decode b_MD_store 36 = .ok (.iload_n 2, 1) := by decide +kernel
theorem d_MD_store_37 : decode b_MD_store 37 = .ok (.iadd, 1) := by decide +kernel
theorem d_MD_store_38 : decode b_MD_store 38 = .ok (.iaload, 1) := by decide +kernel
theorem d_MD_store_39 : decode b_MD_store 39 = .ok (.istore 5, 2) := by decide +kernel
theorem d_MD_store_41 : decode b_MD_store 41 = .ok (.iload 5, 2) := by decide +kernel
theorem d_MD_store_43 : decode b_MD_store 43 = .ok (.ifCond .ne 6, 3) := by decide +kernel
theorem d_MD_store_46 : decode b_MD_store 46 = .ok (.bipush (-3), 2) := by decide +kernel
theorem d_MD_store_48 : decode b_MD_store 48 = .ok (.ireturn, 1) := by decide +kernel
theorem d_MD_store_49 : decode b_MD_store 49 = .ok (.aload_n 0, 1) := by decide +kernel
theorem d_MD_store_50 : decode b_MD_store 50 = .ok (.getfield 7, 3) := by decide +kernel
theorem d_MD_store_53 : decode b_MD_store 53 = .ok (.iconst 2, 1) := by decide +kernel
theorem d_MD_store_54 : decode b_MD_store 54 = .ok (.iload 5, 2) := by decide +kernel
theorem d_MD_store_56 : decode b_MD_store 56 = .ok (.imul, 1) := by decide +kernel
theorem d_MD_store_57 : decode b_MD_store 57 = .ok (.iload_n 3, 1) := by decide +kernel
theorem d_MD_store_58 : decode b_MD_store 58 = .ok (.iadd, 1) := by decide +kernel
theorem d_MD_store_59 : decode b_MD_store 59 = .ok (.aload_n 0, 1) := by decide +kernel
theorem d_MD_store_60 : decode b_MD_store 60 = .ok (.getfield 20, 3) := by decide +kernel
theorem d_MD_store_63 : decode b_MD_store 63 = .ok (.iconst 4, 1) := by decide +kernel
theorem d_MD_store_64 : decode b_MD_store 64 = .ok (.iload_n 1, 1) := by decide +kernel
theorem d_MD_store_65 : decode b_MD_store 65 = .ok (.imul, 1) := by decide +kernel
theorem d_MD_store_66 : decode b_MD_store 66 = .ok (.iload 4, 2) := by decide +kernel
theorem d_MD_store_68 : decode b_MD_store 68 = .ok (.iadd, 1) := by decide +kernel
theorem d_MD_store_69 : decode b_MD_store 69 = .ok (.iaload, 1) := by decide +kernel
theorem d_MD_store_70 : decode b_MD_store 70 = .ok (.iastore, 1) := by decide +kernel
theorem d_MD_store_71 : decode b_MD_store 71 = .ok (.iconst 0, 1) := by decide +kernel
theorem d_MD_store_72 : decode b_MD_store 72 = .ok (.ireturn, 1) := by decide +kernel
theorem d_MD_put_0 : decode b_MD_put 0 = .ok (.aload_n 0, 1) := by decide +kernel
theorem d_MD_put_1 : decode b_MD_put 1 = .ok (.iload_n 1, 1) := by decide +kernel
theorem d_MD_put_2 : decode b_MD_put 2 = .ok (.iload_n 3, 1) := by decide +kernel
theorem d_MD_put_3 : decode b_MD_put 3 = .ok (.invokevirtual 33, 3) := by decide +kernel
theorem d_MD_put_6 : decode b_MD_put 6 = .ok (.ifCond .eq 11, 3) := by decide +kernel
theorem d_MD_put_9 : decode b_MD_put 9 = .ok (.aload_n 0, 1) := by decide +kernel
theorem d_MD_put_10 : decode b_MD_put 10 = .ok (.iload_n 2, 1) := by decide +kernel
theorem d_MD_put_11 : decode b_MD_put 11 = .ok (.invokevirtual 41, 3) := by decide +kernel
theorem d_MD_put_14 : decode b_MD_put 14 = .ok (.ifCond .ne 5, 3) := by decide +kernel
theorem d_MD_put_17 : decode b_MD_put 17 = .ok (.iconst (-1), 1) := by decide +kernel
theorem d_MD_put_18 : decode b_MD_put 18 = .ok (.ireturn, 1) := by decide +kernel
theorem d_MD_put_19 : decode b_MD_put 19 = .ok (.aload_n 0, 1) := by decide +kernel
theorem d_MD_put_20 : decode b_MD_put 20 = .ok (.getfield 23, 3) := by decide +kernel
theorem d_MD_put_23 : decode b_MD_put 23 = .ok (.iload_n 2, 1) := by decide +kernel
theorem d_MD_put_24 : decode b_MD_put 24 = .ok (.aload_n 0, 1) := by decide +kernel
theorem d_MD_put_25 : decode b_MD_put 25 = .ok (.getfield 20, 3) := by decide +kernel
theorem d_MD_put_28 : decode b_MD_put 28 = .ok (.iconst 4, 1) := by decide +kernel
theorem d_MD_put_29 : decode b_MD_put 29 = .ok (.iload_n 1, 1) := by decide +kernel
theorem d_MD_put_30 : decode b_MD_put 30 = .ok (.imul, 1) := by decide +kernel
theorem d_MD_put_31 : decode b_MD_put 31 = .ok (.iload_n 3, 1) := by decide +kernel
theorem d_MD_put_32 : decode b_MD_put 32 = .ok (.iadd, 1) := by decide +kernel
theorem d_MD_put_33 : decode b_MD_put 33 = .ok (.iaload, 1) := by decide +kernel
theorem d_MD_put_34 : decode b_MD_put 34 = .ok (.iastore, 1) := by decide +kernel
theorem d_MD_put_35 : decode b_MD_put 35 = .ok (.iconst 0, 1) := by decide +kernel
theorem d_MD_put_36 : decode b_MD_put 36 = .ok (.ireturn, 1) := by decide +kernel
theorem d_MD_get_0 : decode b_MD_get 0 = .ok (.aload_n 0, 1) := by decide +kernel
theorem d_MD_get_1 : decode b_MD_get 1 = .ok (.iload_n 1, 1) := by decide +kernel
theorem d_MD_get_2 : decode b_MD_get 2 = .ok (.iload_n 2, 1) := by decide +kernel
theorem d_MD_get_3 : decode b_MD_get 3 = .ok (.invokevirtual 33, 3) := by decide +kernel
theorem d_MD_get_6 : decode b_MD_get 6 = .ok (.ifCond .eq 11, 3) := by decide +kernel
theorem d_MD_get_9 : decode b_MD_get 9 = .ok (.aload_n 0, 1) := by decide +kernel
theorem d_MD_get_10 : decode b_MD_get 10 = .ok (.iload_n 3, 1) := by decide +kernel
theorem d_MD_get_11 : decode b_MD_get 11 = .ok (.invokevirtual 41, 3) := by decide +kernel
theorem d_MD_get_14 : decode b_MD_get 14 = .ok (.ifCond .ne 5, 3) := by decide +kernel
theorem d_MD_get_17 : decode b_MD_get 17 = .ok (.iconst (-1), 1) := by decide +kernel
theorem d_MD_get_18 : decode b_MD_get 18 = .ok (.ireturn, 1) := by decide +kernel
theorem d_MD_get_19 : decode b_MD_get 19 = .ok (.aload_n 0, 1) := by decide +kernel
theorem d_MD_get_20 : decode b_MD_get 20 = .ok (.getfield 20, 3) := by decide +kernel
theorem d_MD_get_23 : decode b_MD_get 23 = .ok (.iconst 4, 1) := by decide +kernel
theorem d_MD_get_24 : decode b_MD_get 24 = .ok (.iload_n 1, 1) := by decide +kernel
theorem d_MD_get_25 : decode b_MD_get 25 = .ok (.imul, 1) := by decide +kernel
theorem d_MD_get_26 : decode b_MD_get 26 = .ok (.iload_n 2, 1) := by decide +kernel
theorem d_MD_get_27 : decode b_MD_get 27 = .ok (.iadd, 1) := by decide +kernel
theorem d_MD_get_28 : decode b_MD_get 28 = .ok (.aload_n 0, 1) := by decide +kernel
theorem d_MD_get_29 : decode b_MD_get 29 = .ok (.getfield 23, 3) := by decide +kernel
theorem d_MD_get_32 : decode b_MD_get 32 = .ok (.iload_n 3, 1) := by decide +kernel
theorem d_MD_get_33 : decode b_MD_get 33 = .ok (.iaload, 1) := by decide +kernel
theorem d_MD_get_34 : decode b_MD_get 34 = .ok (.iastore, 1) := by decide +kernel
theorem d_MD_get_35 : decode b_MD_get 35 = .ok (.iconst 0, 1) := by decide +kernel
theorem d_MD_get_36 : decode b_MD_get 36 = .ok (.ireturn, 1) := by decide +kernel
theorem d_MD_swap_0 : decode b_MD_swap 0 = .ok (.aload_n 0, 1) := by decide +kernel
theorem d_MD_swap_1 : decode b_MD_swap 1 = .ok (.iload_n 1, 1) := by decide +kernel
theorem d_MD_swap_2 : decode b_MD_swap 2 = .ok (.iload_n 2, 1) := by decide +kernel
theorem d_MD_swap_3 : decode b_MD_swap 3 = .ok (.invokevirtual 33, 3) := by decide +kernel
theorem d_MD_swap_6 : decode b_MD_swap 6 = .ok (.ifCond .eq 13, 3) := by decide +kernel
theorem d_MD_swap_9 : decode b_MD_swap 9 = .ok (.aload_n 0, 1) := by decide +kernel
theorem d_MD_swap_10 : decode b_MD_swap 10 = .ok (.iload_n 3, 1) := by decide +kernel
theorem d_MD_swap_11 : decode b_MD_swap 11 = .ok (.iload 4, 2) := by decide +kernel
theorem d_MD_swap_13 : decode b_MD_swap 13 = .ok (.invokevirtual 33, 3) := by decide +kernel
theorem d_MD_swap_16 : decode b_MD_swap 16 = .ok (.ifCond .ne 5, 3) := by decide +kernel
theorem d_MD_swap_19 : decode b_MD_swap 19 = .ok (.iconst (-1), 1) := by decide +kernel
theorem d_MD_swap_20 : decode b_MD_swap 20 = .ok (.ireturn, 1) := by decide +kernel
theorem d_MD_swap_21 : decode b_MD_swap 21 = .ok (.aload_n 0, 1) := by decide +kernel
theorem d_MD_swap_22 : decode b_MD_swap 22 = .ok (.getfield 20, 3) := by decide +kernel
theorem d_MD_swap_25 : decode b_MD_swap 25 = .ok (.iconst 4, 1) := by decide +kernel
theorem d_MD_swap_26 : decode b_MD_swap 26 = .ok (.iload_n 1, 1) := by decide +kernel
theorem d_MD_swap_27 : decode b_MD_swap 27 = .ok (.imul, 1) := by decide +kernel
theorem d_MD_swap_28 : decode b_MD_swap 28 = .ok (.iload_n 2, 1) := by decide +kernel
theorem d_MD_swap_29 : decode b_MD_swap 29 = .ok (.iadd, 1) := by decide +kernel
theorem d_MD_swap_30 : decode b_MD_swap 30 = .ok (.iaload, 1) := by decide +kernel
theorem d_MD_swap_31 : decode b_MD_swap 31 = .ok (.istore 5, 2) := by decide +kernel
theorem d_MD_swap_33 : decode b_MD_swap 33 = .ok (.aload_n 0, 1) := by decide +kernel
theorem d_MD_swap_34 : decode b_MD_swap 34 = .ok (.getfield 20, 3) := by decide +kernel
theorem d_MD_swap_37 : decode b_MD_swap 37 = .ok (.iconst 4, 1) := by decide +kernel
theorem d_MD_swap_38 : decode b_MD_swap 38 = .ok (.iload_n 1, 1) := by decide +kernel
theorem d_MD_swap_39 : decode b_MD_swap 39 = .ok (.imul, 1) := by decide +kernel
theorem d_MD_swap_40 : decode b_MD_swap 40 = .ok (.iload_n 2, 1) := by decide +kernel
theorem d_MD_swap_41 : decode b_MD_swap 41 = .ok (.iadd, 1) := by decide +kernel
theorem d_MD_swap_42 : decode b_MD_swap 42 = .ok (.aload_n 0, 1) := by decide +kernel
theorem d_MD_swap_43 : decode b_MD_swap 43 = .ok (.getfield 20, 3) := by decide +kernel
theorem d_MD_swap_46 : decode b_MD_swap 46 = .ok (.iconst 4, 1) := by decide +kernel
theorem d_MD_swap_47 : decode b_MD_swap 47 = .ok (.iload_n 3, 1) := by decide +kernel
theorem d_MD_swap_48 : decode b_MD_swap 48 = .ok (.imul, 1) := by decide +kernel
theorem d_MD_swap_49 : decode b_MD_swap 49 = .ok (.iload 4, 2) := by decide +kernel
theorem d_MD_swap_51 : decode b_MD_swap 51 = .ok (.iadd, 1) := by decide +kernel
theorem d_MD_swap_52 : decode b_MD_swap 52 = .ok (.iaload, 1) := by decide +kernel
theorem d_MD_swap_53 : decode b_MD_swap 53 = .ok (.iastore, 1) := by decide +kernel
theorem d_MD_swap_54 : decode b_MD_swap 54 = .ok (.aload_n 0, 1) := by decide +kernel
theorem d_MD_swap_55 : decode b_MD_swap 55 = .ok (.getfield 20, 3) := by decide +kernel
theorem d_MD_swap_58 : decode b_MD_swap 58 = .ok (.iconst 4, 1) := by decide +kernel
theorem d_MD_swap_59 : decode b_MD_swap 59 = .ok (.iload_n 3, 1) := by decide +kernel
theorem d_MD_swap_60 : decode b_MD_swap 60 = .ok (.imul, 1) := by decide +kernel
theorem d_MD_swap_61 : decode b_MD_swap 61 = .ok (.iload 4, 2) := by decide +kernel
theorem d_MD_swap_63 : decode b_MD_swap 63 = .ok (.iadd, 1) := by decide +kernel
theorem d_MD_swap_64 : decode b_MD_swap 64 = .ok (.iload 5, 2) := by decide +kernel
theorem d_MD_swap_66 : decode b_MD_swap 66 = .ok (.iastore, 1) := by decide +kernel
theorem d_MD_swap_67 : decode b_MD_swap 67 = .ok (.iconst 0, 1) := by decide +kernel
theorem d_MD_swap_68 : decode b_MD_swap 68 = .ok (.ireturn, 1) := by decide +kernel
theorem d_MD_setNumber_0 : decode b_MD_setNumber 0 = .ok (.aload_n 0, 1) := by decide +kernel
theorem d_MD_setNumber_1 : decode b_MD_setNumber 1 = .ok (.iload_n 1, 1) := by decide +kernel
theorem d_MD_setNumber_2 : decode b_MD_setNumber 2 = .ok (.iload_n 2, 1) := by decide +kernel
theorem d_MD_setNumber_3 : decode b_MD_setNumber 3 = .ok (.invokevirtual 33, 3) := by decide +kernel
theorem d_MD_setNumber_6 : decode b_MD_setNumber 6 = .ok (.ifCond .ne 5, 3) := by decide +kernel
theorem d_MD_setNumber_9 : decode b_MD_setNumber 9 = .ok (.iconst (-1), 1) := by decide +kernel
theorem d_MD_setNumber_10 : decode b_MD_setNumber 10 = .ok (.ireturn, 1) := by decide +kernel
theorem d_MD_setNumber_11 : decode b_MD_setNumber 11 = .ok (.aload_n 0, 1) := by decide +kernel
theorem d_MD_setNumber_12 : decode b_MD_setNumber 12 = .ok (.getfield 20, 3) := by decide +kernel
theorem d_MD_setNumber_15 : decode b_MD_setNumber 15 = .ok (.iconst 4, 1) := by decide +kernel
theorem d_MD_setNumber_16 : decode b_MD_setNumber 16 = .ok (.iload_n 1, 1) := by decide +kernel
theorem d_MD_setNumber_17 : decode b_MD_setNumber 17 = .ok (.imul, 1) := by decide +kernel
theorem d_MD_setNumber_18 : decode b_MD_setNumber 18 = .ok (.iload_n 2, 1) := by decide +kernel
theorem d_MD_setNumber_19 : decode b_MD_setNumber 19 = .ok (.iadd, 1) := by decide +kernel
theorem d_MD_setNumber_20 : decode b_MD_setNumber 20 = .ok (.iaload, 1) := by decide +kernel
theorem d_MD_setNumber_21 : decode b_MD_setNumber 21 = .ok (.istore 4, 2) := by decide +kernel
theorem d_MD_setNumber_23 : decode b_MD_setNumber 23 = .ok (.iload 4, 2) := by decide +kernel
theorem d_MD_setNumber_25 : decode b_MD_setNumber 25 = .ok (.ifCond .ne 6, 3) := by decide +kernel
theorem d_MD_setNumber_28 : decode b_MD_setNumber 28 = .ok (.bipush (-3), 2) := by decide +kernel
theorem d_MD_setNumber_30 : decode b_MD_setNumber 30 = .ok (.ireturn, 1) := by decide +kernel
theorem d_MD_setNumber_31 : decode b_MD_setNumber 31 = .ok (.aload_n 0, 1) := by decide +kernel
theorem d_MD_setNumber_32 : decode b_MD_setNumber 32 = .ok (.getfield 13, 3) := by decide +kernel
theorem d_MD_setNumber_35 : decode b_MD_setNumber 35 = .ok (.iload 4, 2) := by decide +kernel
theorem d_MD_setNumber_37 : decode b_MD_setNumber 37 = .ok (.iload_n 3, 1) := by decide +kernel
theorem d_MD_setNumber_38 : decode b_MD_setNumber 38 = .ok (.iastore, 1) := by decide +kernel
theorem d_MD_setNumber_39 : decode b_MD_setNumber 39 = .ok (.iconst 0, 1) := by decide +kernel
theorem d_MD_setNumber_40 : decode b_MD_setNumber 40 = .ok (.ireturn, 1) := by decide +kernel
theorem d_MD_number_0 : decode b_MD_number 0 = .ok (.aload_n 0, 1) := by decide +kernel
theorem d_MD_number_1 : decode b_MD_number 1 = .ok (.iload_n 1, 1) := by decide +kernel
theorem d_MD_number_2 : decode b_MD_number 2 = .ok (.iload_n 2, 1) := by decide +kernel
theorem d_MD_number_3 : decode b_MD_number 3 = .ok (.invokevirtual 33, 3) := by decide +kernel
theorem d_MD_number_6 : decode b_MD_number 6 = .ok (.ifCond .eq 16, 3) := by decide +kernel
theorem d_MD_number_9 : decode b_MD_number 9 = .ok (.aload_n 0, 1) := by decide +kernel
theorem d_MD_number_10 : decode b_MD_number 10 = .ok (.getfield 20, 3) := by decide +kernel
theorem d_MD_number_13 : decode b_MD_number 13 = .ok (.iconst 4, 1) := by decide +kernel
theorem d_MD_number_14 : decode b_MD_number 14 = .ok (.iload_n 1, 1) := by decide +kernel
theorem d_MD_number_15 : decode b_MD_number 15 = .ok (.imul, 1) := by decide +kernel
theorem d_MD_number_16 : decode b_MD_number 16 = .ok (.iload_n 2, 1) := by decide +kernel
theorem d_MD_number_17 : decode b_MD_number 17 = .ok (.iadd, 1) := by decide +kernel
theorem d_MD_number_18 : decode b_MD_number 18 = .ok (.iaload, 1) := by decide +kernel
theorem d_MD_number_19 : decode b_MD_number 19 = .ok (.ifCond .ne 5, 3) := by decide +kernel
theorem d_MD_number_22 : decode b_MD_number 22 = .ok (.iconst 0, 1) := by decide +kernel
theorem d_MD_number_23 : decode b_MD_number 23 = .ok (.ireturn, 1) := by decide +kernel
theorem d_MD_number_24 : decode b_MD_number 24 = .ok (.aload_n 0, 1) := by decide +kernel
theorem d_MD_number_25 : decode b_MD_number 25 = .ok (.getfield 13, 3) := by decide +kernel
theorem d_MD_number_28 : decode b_MD_number 28 = .ok (.aload_n 0, 1) := by decide +kernel
theorem d_MD_number_29 : decode b_MD_number 29 = .ok (.getfield 20, 3) := by decide +kernel
theorem d_MD_number_32 : decode b_MD_number 32 = .ok (.iconst 4, 1) := by decide +kernel
theorem d_MD_number_33 : decode b_MD_number 33 = .ok (.iload_n 1, 1) := by decide +kernel
theorem d_MD_number_34 : decode b_MD_number 34 = .ok (.imul, 1) := by decide +kernel
theorem d_MD_number_35 : decode b_MD_number 35 = .ok (.iload_n 2, 1) := by decide +kernel
theorem d_MD_number_36 : decode b_MD_number 36 = .ok (.iadd, 1) := by decide +kernel
theorem d_MD_number_37 : decode b_MD_number 37 = .ok (.iaload, 1) := by decide +kernel
theorem d_MD_number_38 : decode b_MD_number 38 = .ok (.iaload, 1) := by decide +kernel
theorem d_MD_number_39 : decode b_MD_number 39 = .ok (.ireturn, 1) := by decide +kernel
theorem d_MD_serial_0 : decode b_MD_serial 0 = .ok (.aload_n 0, 1) := by decide +kernel
theorem d_MD_serial_1 : decode b_MD_serial 1 = .ok (.iload_n 1, 1) := by decide +kernel
theorem d_MD_serial_2 : decode b_MD_serial 2 = .ok (.iload_n 2, 1) := by decide +kernel
theorem d_MD_serial_3 : decode b_MD_serial 3 = .ok (.invokevirtual 33, 3) := by decide +kernel
theorem d_MD_serial_6 : decode b_MD_serial 6 = .ok (.ifCond .eq 16, 3) := by decide +kernel
theorem d_MD_serial_9 : decode b_MD_serial 9 = .ok (.aload_n 0, 1) := by decide +kernel
theorem d_MD_serial_10 : decode b_MD_serial 10 = .ok (.getfield 20, 3) := by decide +kernel
theorem d_MD_serial_13 : decode b_MD_serial 13 = .ok (.iconst 4, 1) := by decide +kernel
theorem d_MD_serial_14 : decode b_MD_serial 14 = .ok (.iload_n 1, 1) := by decide +kernel
theorem d_MD_serial_15 : decode b_MD_serial 15 = .ok (.imul, 1) := by decide +kernel
theorem d_MD_serial_16 : decode b_MD_serial 16 = .ok (.iload_n 2, 1) := by decide +kernel
theorem d_MD_serial_17 : decode b_MD_serial 17 = .ok (.iadd, 1) := by decide +kernel
theorem d_MD_serial_18 : decode b_MD_serial 18 = .ok (.iaload, 1) := by decide +kernel
theorem d_MD_serial_19 : decode b_MD_serial 19 = .ok (.goto 4, 3) := by decide +kernel
theorem d_MD_serial_22 : decode b_MD_serial 22 = .ok (.iconst (-1), 1) := by decide +kernel
theorem d_MD_serial_23 : decode b_MD_serial 23 = .ok (.ireturn, 1) := by decide +kernel
theorem d_MD_serialIn_0 : decode b_MD_serialIn 0 = .ok (.aload_n 0, 1) := by decide +kernel
theorem d_MD_serialIn_1 : decode b_MD_serialIn 1 = .ok (.iload_n 1, 1) := by decide +kernel
theorem d_MD_serialIn_2 : decode b_MD_serialIn 2 = .ok (.iload_n 2, 1) := by decide +kernel
theorem d_MD_serialIn_3 : decode b_MD_serialIn 3 = .ok (.invokevirtual 33, 3) := by decide +kernel
theorem d_MD_serialIn_6 : decode b_MD_serialIn 6 = .ok (.ifCond .eq 11, 3) := by decide +kernel
theorem d_MD_serialIn_9 : decode b_MD_serialIn 9 = .ok (.aload_n 0, 1) := by decide +kernel
theorem d_MD_serialIn_10 : decode b_MD_serialIn 10 = .ok (.iload_n 3, 1) := by decide +kernel
theorem d_MD_serialIn_11 : decode b_MD_serialIn 11 = .ok (.invokevirtual 41, 3) := by decide +kernel
theorem d_MD_serialIn_14 : decode b_MD_serialIn 14 = .ok (.ifCond .ne 5, 3) := by decide +kernel
theorem d_MD_serialIn_17 : decode b_MD_serialIn 17 = .ok (.iconst (-1), 1) := by decide +kernel
theorem d_MD_serialIn_18 : decode b_MD_serialIn 18 = .ok (.ireturn, 1) := by decide +kernel
theorem d_MD_serialIn_19 : decode b_MD_serialIn 19 = .ok (.aload_n 0, 1) := by decide +kernel
theorem d_MD_serialIn_20 : decode b_MD_serialIn 20 = .ok (.getfield 20, 3) := by decide +kernel
theorem d_MD_serialIn_23 : decode b_MD_serialIn 23 = .ok (.iconst 4, 1) := by decide +kernel
theorem d_MD_serialIn_24 : decode b_MD_serialIn 24 = .ok (.iload_n 1, 1) := by decide +kernel
theorem d_MD_serialIn_25 : decode b_MD_serialIn 25 = .ok (.imul, 1) := by decide +kernel
theorem d_MD_serialIn_26 : decode b_MD_serialIn 26 = .ok (.iload_n 2, 1) := by decide +kernel
theorem d_MD_serialIn_27 : decode b_MD_serialIn 27 = .ok (.iadd, 1) := by decide +kernel
theorem d_MD_serialIn_28 : decode b_MD_serialIn 28 = .ok (.iaload, 1) := by decide +kernel
theorem d_MD_serialIn_29 : decode b_MD_serialIn 29 = .ok (.istore 4, 2) := by decide +kernel
theorem d_MD_serialIn_31 : decode b_MD_serialIn 31 = .ok (.iload 4, 2) := by decide +kernel
theorem d_MD_serialIn_33 : decode b_MD_serialIn 33 = .ok (.ifCond .ne 8, 3) := by decide +kernel
theorem d_MD_serialIn_36 : decode b_MD_serialIn 36 = .ok (.bipush (-3), 2) := by decide +kernel
theorem d_MD_serialIn_38 : decode b_MD_serialIn 38 = .ok (.goto 14, 3) := by decide +kernel
theorem d_MD_serialIn_41 : decode b_MD_serialIn 41 = .ok (.aload_n 0, 1) := by decide +kernel
theorem d_MD_serialIn_42 : decode b_MD_serialIn 42 = .ok (.getfield 7, 3) := by decide +kernel
theorem d_MD_serialIn_45 : decode b_MD_serialIn 45 = .ok (.iconst 2, 1) := by decide +kernel
theorem d_MD_serialIn_46 : decode b_MD_serialIn 46 = .ok (.iload 4, 2) := by decide +kernel
theorem d_MD_serialIn_48 : decode b_MD_serialIn 48 = .ok (.imul, 1) := by decide +kernel
theorem d_MD_serialIn_49 : decode b_MD_serialIn 49 = .ok (.iload_n 3, 1) := by decide +kernel
theorem d_MD_serialIn_50 : decode b_MD_serialIn 50 = .ok (.iadd, 1) := by decide +kernel
theorem d_MD_serialIn_51 : decode b_MD_serialIn 51 = .ok (.iaload, 1) := by decide +kernel
theorem d_MD_serialIn_52 : decode b_MD_serialIn 52 = .ok (.ireturn, 1) := by decide +kernel
theorem d_MD_serialOf_0 : decode b_MD_serialOf 0 = .ok (.aload_n 0, 1) := by decide +kernel
theorem d_MD_serialOf_1 : decode b_MD_serialOf 1 = .ok (.iload_n 1, 1) := by decide +kernel
theorem d_MD_serialOf_2 : decode b_MD_serialOf 2 = .ok (.invokevirtual 41, 3) := by decide +kernel
theorem d_MD_serialOf_5 : decode b_MD_serialOf 5 = .ok (.ifCond .eq 12, 3) := by decide +kernel
theorem d_MD_serialOf_8 : decode b_MD_serialOf 8 = .ok (.aload_n 0, 1) := by decide +kernel
theorem d_MD_serialOf_9 : decode b_MD_serialOf 9 = .ok (.getfield 23, 3) := by decide +kernel
theorem d_MD_serialOf_12 : decode b_MD_serialOf 12 = .ok (.iload_n 1, 1) := by decide +kernel
theorem d_MD_serialOf_13 : decode b_MD_serialOf 13 = .ok (.iaload, 1) := by decide +kernel
theorem d_MD_serialOf_14 : decode b_MD_serialOf 14 = .ok (.goto 4, 3) := by decide +kernel
theorem d_MD_serialOf_17 : decode b_MD_serialOf 17 = .ok (.iconst (-1), 1) := by decide +kernel
theorem d_MD_serialOf_18 : decode b_MD_serialOf 18 = .ok (.ireturn, 1) := by decide +kernel
theorem d_MD_made_0 : decode b_MD_made 0 = .ok (.aload_n 0, 1) := by decide +kernel
theorem d_MD_made_1 : decode b_MD_made 1 = .ok (.getfield 30, 3) := by decide +kernel
theorem d_MD_made_4 : decode b_MD_made 4 = .ok (.ireturn, 1) := by decide +kernel
theorem d_MD_live_0 : decode b_MD_live 0 = .ok (.aload_n 0, 1) := by decide +kernel
theorem d_MD_live_1 : decode b_MD_live 1 = .ok (.invokevirtual 45, 3) := by decide +kernel
theorem d_MD_live_4 : decode b_MD_live 4 = .ok (.aload_n 0, 1) := by decide +kernel
theorem d_MD_live_5 : decode b_MD_live 5 = .ok (.getfield 16, 3) := by decide +kernel
theorem d_MD_live_8 : decode b_MD_live 8 = .ok (.iconst 0, 1) := by decide +kernel
theorem d_MD_live_9 : decode b_MD_live 9 = .ok (.iconst 1, 1) := by decide +kernel
theorem d_MD_live_10 : decode b_MD_live 10 = .ok (.bastore, 1) := by decide +kernel
theorem d_MD_live_11 : decode b_MD_live 11 = .ok (.iconst 1, 1) := by decide +kernel
theorem d_MD_live_12 : decode b_MD_live 12 = .ok (.istore_n 1, 1) := by decide +kernel
theorem d_MD_live_13 : decode b_MD_live 13 = .ok (.iconst 0, 1) := by decide +kernel
theorem d_MD_live_14 : decode b_MD_live 14 = .ok (.istore_n 2, 1) := by decide +kernel
theorem d_MD_live_15 : decode b_MD_live 15 = .ok (.iload_n 2, 1) := by decide +kernel
theorem d_MD_live_16 : decode b_MD_live 16 = .ok (.sipush 512, 3) := by decide +kernel
theorem d_MD_live_19 : decode b_MD_live 19 = .ok (.if_icmp .ge 18, 3) := by decide +kernel
theorem d_MD_live_22 : decode b_MD_live 22 = .ok (.iload_n 1, 1) := by decide +kernel
theorem d_MD_live_23 : decode b_MD_live 23 = .ok (.ifCond .eq 14, 3) := by decide +kernel
theorem d_MD_live_26 : decode b_MD_live 26 = .ok (.aload_n 0, 1) := by decide +kernel
theorem d_MD_live_27 : decode b_MD_live 27 = .ok (.invokevirtual 48, 3) := by decide +kernel
theorem d_MD_live_30 : decode b_MD_live 30 = .ok (.istore_n 1, 1) := by decide +kernel
theorem d_MD_live_31 : decode b_MD_live 31 = .ok (.iinc 2 1, 3) := by decide +kernel
theorem d_MD_live_34 : decode b_MD_live 34 = .ok (.goto (-19), 3) := by decide +kernel
theorem d_MD_live_37 : decode b_MD_live 37 = .ok (.iconst 0, 1) := by decide +kernel
theorem d_MD_live_38 : decode b_MD_live 38 = .ok (.istore_n 2, 1) := by decide +kernel
theorem d_MD_live_39 : decode b_MD_live 39 = .ok (.iconst 1, 1) := by decide +kernel
theorem d_MD_live_40 : decode b_MD_live 40 = .ok (.istore_n 3, 1) := by decide +kernel
theorem d_MD_live_41 : decode b_MD_live 41 = .ok (.iload_n 3, 1) := by decide +kernel
theorem d_MD_live_42 : decode b_MD_live 42 = .ok (.aload_n 0, 1) := by decide +kernel
theorem d_MD_live_43 : decode b_MD_live 43 = .ok (.getfield 30, 3) := by decide +kernel
theorem d_MD_live_46 : decode b_MD_live 46 = .ok (.if_icmp .gt 21, 3) := by decide +kernel
theorem d_MD_live_49 : decode b_MD_live 49 = .ok (.aload_n 0, 1) := by decide +kernel
theorem d_MD_live_50 : decode b_MD_live 50 = .ok (.getfield 16, 3) := by decide +kernel
theorem d_MD_live_53 : decode b_MD_live 53 = .ok (.iload_n 3, 1) := by decide +kernel
theorem d_MD_live_54 : decode b_MD_live 54 = .ok (.baload, 1) := by decide +kernel
theorem d_MD_live_55 : decode b_MD_live 55 = .ok (.ifCond .eq 6, 3) := by decide +kernel
theorem d_MD_live_58 : decode b_MD_live 58 = .ok (.iinc 2 1, 3) := by decide +kernel
theorem d_MD_live_61 : decode b_MD_live 61 = .ok (.iinc 3 1, 3) := by decide +kernel
theorem d_MD_live_64 : decode b_MD_live 64 = .ok (.goto (-23), 3) := by decide +kernel
theorem d_MD_live_67 : decode b_MD_live 67 = .ok (.iload_n 2, 1) := by decide +kernel
theorem d_MD_live_68 : decode b_MD_live 68 = .ok (.ireturn, 1) := by decide +kernel
theorem d_MD_rest_0 : decode b_MD_rest 0 = .ok (.return_, 1) := by decide +kernel
theorem d_MD_pause_0 : decode b_MD_pause 0 = .ok (.iload_n 1, 1) := by decide +kernel
theorem d_MD_pause_1 : decode b_MD_pause 1 = .ok (.ifCond .lt 8, 3) := by decide +kernel
theorem d_MD_pause_4 : decode b_MD_pause 4 = .ok (.iload_n 1, 1) := by decide +kernel
theorem d_MD_pause_5 : decode b_MD_pause 5 = .ok (.iconst 2, 1) := by decide +kernel
theorem d_MD_pause_6 : decode b_MD_pause 6 = .ok (.if_icmp .le 7, 3) := by decide +kernel
theorem d_MD_pause_9 : decode b_MD_pause 9 = .ok (.iconst (-1), 1) := by decide +kernel
theorem d_MD_pause_10 : decode b_MD_pause 10 = .ok (.goto 4, 3) := by decide +kernel
theorem d_MD_pause_13 : decode b_MD_pause 13 = .ok (.iconst 0, 1) := by decide +kernel
theorem d_MD_pause_14 : decode b_MD_pause 14 = .ok (.ireturn, 1) := by decide +kernel
theorem d_LW_cell_0 : decode b_LW_cell 0 = .ok (.iload_n 1, 1) := by decide +kernel
theorem d_LW_cell_1 : decode b_LW_cell 1 = .ok (.aload_n 0, 1) := by decide +kernel
theorem d_LW_cell_2 : decode b_LW_cell 2 = .ok (.arraylength, 1) := by decide +kernel
theorem d_LW_cell_3 : decode b_LW_cell 3 = .ok (.if_icmp .ge 9, 3) := by decide +kernel
theorem d_LW_cell_6 : decode b_LW_cell 6 = .ok (.aload_n 0, 1) := by decide +kernel
theorem d_LW_cell_7 : decode b_LW_cell 7 = .ok (.iload_n 1, 1) := by decide +kernel
theorem d_LW_cell_8 : decode b_LW_cell 8 = .ok (.iaload, 1) := by decide +kernel
theorem d_LW_cell_9 : decode b_LW_cell 9 = .ok (.goto 4, 3) := by decide +kernel
theorem d_LW_cell_12 : decode b_LW_cell 12 = .ok (.iconst 0, 1) := by decide +kernel
theorem d_LW_cell_13 : decode b_LW_cell 13 = .ok (.ireturn, 1) := by decide +kernel
end
section
-- decode rows, printed by names.py
theorem d_LW_law_0 : decode code 0 = .ok (.new 7, 3) := by decide +kernel
theorem d_LW_law_3 : decode code 3 = .ok (.dup, 1) := by decide +kernel
theorem d_LW_law_4 : decode code 4 = .ok (.aload_n 0, 1) := by decide +kernel
theorem d_LW_law_5 : decode code 5 = .ok (.iconst 0, 1) := by decide +kernel
theorem d_LW_law_6 : decode code 6 = .ok (.invokestatic 9, 3) := by decide +kernel
theorem d_LW_law_9 : decode code 9 = .ok (.invokespecial 15, 3) := by decide +kernel
theorem d_LW_law_12 : decode code 12 = .ok (.astore_n 1, 1) := by decide +kernel
theorem d_LW_law_13 : decode code 13 = .ok (.new 18, 3) := by decide +kernel
theorem d_LW_law_16 : decode code 16 = .ok (.dup, 1) := by decide +kernel
theorem d_LW_law_17 : decode code 17 = .ok (.aload_n 0, 1) := by decide +kernel
theorem d_LW_law_18 : decode code 18 = .ok (.iconst 0, 1) := by decide +kernel
theorem d_LW_law_19 : decode code 19 = .ok (.invokestatic 9, 3) := by decide +kernel
theorem d_LW_law_22 : decode code 22 = .ok (.invokespecial 20, 3) := by decide +kernel
theorem d_LW_law_25 : decode code 25 = .ok (.astore_n 2, 1) := by decide +kernel
theorem d_LW_law_26 : decode code 26 = .ok (.iconst 1, 1) := by decide +kernel
theorem d_LW_law_27 : decode code 27 = .ok (.istore_n 3, 1) := by decide +kernel
theorem d_LW_law_28 : decode code 28 = .ok (.iload_n 3, 1) := by decide +kernel
theorem d_LW_law_29 : decode code 29 = .ok (.aload_n 0, 1) := by decide +kernel
theorem d_LW_law_30 : decode code 30 = .ok (.arraylength, 1) := by decide +kernel
theorem d_LW_law_31 : decode code 31 = .ok (.iconst 5, 1) := by decide +kernel
theorem d_LW_law_32 : decode code 32 = .ok (.isub, 1) := by decide +kernel
theorem d_LW_law_33 : decode code 33 = .ok (.if_icmp .gt 706, 3) := by decide +kernel
theorem d_LW_law_36 : decode code 36 = .ok (.aload_n 0, 1) := by decide +kernel
theorem d_LW_law_37 : decode code 37 = .ok (.iload_n 3, 1) := by decide +kernel
theorem d_LW_law_38 : decode code 38 = .ok (.iaload, 1) := by decide +kernel
theorem d_LW_law_39 : decode code 39 = .ok (.bipush 31, 2) := by decide +kernel
theorem d_LW_law_41 : decode code 41 = .ok (.iand, 1) := by decide +kernel
theorem d_LW_law_42 : decode code 42 = .ok (.tableswitch 691 0 16 #[82, 125, 168, 201, 254, 307, 350, 393, 446, 489, 522, 555, 598, 621, 634, 647, 668], 82) := by decide +kernel
theorem d_LW_law_124 : decode code 124 = .ok (.aload_n 1, 1) := by decide +kernel
theorem d_LW_law_125 : decode code 125 = .ok (.aload_n 0, 1) := by decide +kernel
theorem d_LW_law_126 : decode code 126 = .ok (.iload_n 3, 1) := by decide +kernel
theorem d_LW_law_127 : decode code 127 = .ok (.iconst 1, 1) := by decide +kernel
theorem d_LW_law_128 : decode code 128 = .ok (.iadd, 1) := by decide +kernel
theorem d_LW_law_129 : decode code 129 = .ok (.iaload, 1) := by decide +kernel
theorem d_LW_law_130 : decode code 130 = .ok (.aload_n 0, 1) := by decide +kernel
theorem d_LW_law_131 : decode code 131 = .ok (.iload_n 3, 1) := by decide +kernel
theorem d_LW_law_132 : decode code 132 = .ok (.iconst 2, 1) := by decide +kernel
theorem d_LW_law_133 : decode code 133 = .ok (.iadd, 1) := by decide +kernel
theorem d_LW_law_134 : decode code 134 = .ok (.iaload, 1) := by decide +kernel
theorem d_LW_law_135 : decode code 135 = .ok (.aload_n 0, 1) := by decide +kernel
theorem d_LW_law_136 : decode code 136 = .ok (.iload_n 3, 1) := by decide +kernel
theorem d_LW_law_137 : decode code 137 = .ok (.iconst 3, 1) := by decide +kernel
theorem d_LW_law_138 : decode code 138 = .ok (.iadd, 1) := by decide +kernel
theorem d_LW_law_139 : decode code 139 = .ok (.iaload, 1) := by decide +kernel
theorem d_LW_law_140 : decode code 140 = .ok (.invokevirtual 21, 3) := by decide +kernel
theorem d_LW_law_143 : decode code 143 = .ok (.aload_n 2, 1) := by decide +kernel
theorem d_LW_law_144 : decode code 144 = .ok (.aload_n 0, 1) := by decide +kernel
theorem d_LW_law_145 : decode code 145 = .ok (.iload_n 3, 1) := by decide +kernel
theorem d_LW_law_146 : decode code 146 = .ok (.iconst 1, 1) := by decide +kernel
theorem d_LW_law_147 : decode code 147 = .ok (.iadd, 1) := by decide +kernel
theorem d_LW_law_148 : decode code 148 = .ok (.iaload, 1) := by decide +kernel
theorem d_LW_law_149 : decode code 149 = .ok (.aload_n 0, 1) := by decide +kernel
theorem d_LW_law_150 : decode code 150 = .ok (.iload_n 3, 1) := by decide +kernel
theorem d_LW_law_151 : decode code 151 = .ok (.iconst 2, 1) := by decide +kernel
theorem d_LW_law_152 : decode code 152 = .ok (.iadd, 1) := by decide +kernel
theorem d_LW_law_153 : decode code 153 = .ok (.iaload, 1) := by decide +kernel
theorem d_LW_law_154 : decode code 154 = .ok (.aload_n 0, 1) := by decide +kernel
theorem d_LW_law_155 : decode code 155 = .ok (.iload_n 3, 1) := by decide +kernel
theorem d_LW_law_156 : decode code 156 = .ok (.iconst 3, 1) := by decide +kernel
theorem d_LW_law_157 : decode code 157 = .ok (.iadd, 1) := by decide +kernel
theorem d_LW_law_158 : decode code 158 = .ok (.iaload, 1) := by decide +kernel
theorem d_LW_law_159 : decode code 159 = .ok (.invokevirtual 25, 3) := by decide +kernel
theorem d_LW_law_162 : decode code 162 = .ok (.if_icmp .eq 571, 3) := by decide +kernel
theorem d_LW_law_165 : decode code 165 = .ok (.iconst 0, 1) := by decide +kernel
theorem d_LW_law_166 : decode code 166 = .ok (.ireturn, 1) := by decide +kernel
theorem d_LW_law_167 : decode code 167 = .ok (.aload_n 1, 1) := by decide +kernel
theorem d_LW_law_168 : decode code 168 = .ok (.aload_n 0, 1) := by decide +kernel
theorem d_LW_law_169 : decode code 169 = .ok (.iload_n 3, 1) := by decide +kernel
theorem d_LW_law_170 : decode code 170 = .ok (.iconst 1, 1) := by decide +kernel
theorem d_LW_law_171 : decode code 171 = .ok (.iadd, 1) := by decide +kernel
theorem d_LW_law_172 : decode code 172 = .ok (.iaload, 1) := by decide +kernel
theorem d_LW_law_173 : decode code 173 = .ok (.aload_n 0, 1) := by decide +kernel
theorem d_LW_law_174 : decode code 174 = .ok (.iload_n 3, 1) := by decide +kernel
theorem d_LW_law_175 : decode code 175 = .ok (.iconst 2, 1) := by decide +kernel
theorem d_LW_law_176 : decode code 176 = .ok (.iadd, 1) := by decide +kernel
theorem d_LW_law_177 : decode code 177 = .ok (.iaload, 1) := by decide +kernel
theorem d_LW_law_178 : decode code 178 = .ok (.aload_n 0, 1) := by decide +kernel
theorem d_LW_law_179 : decode code 179 = .ok (.iload_n 3, 1) := by decide +kernel
theorem d_LW_law_180 : decode code 180 = .ok (.iconst 3, 1) := by decide +kernel
theorem d_LW_law_181 : decode code 181 = .ok (.iadd, 1) := by decide +kernel
theorem d_LW_law_182 : decode code 182 = .ok (.iaload, 1) := by decide +kernel
theorem d_LW_law_183 : decode code 183 = .ok (.invokevirtual 26, 3) := by decide +kernel
theorem d_LW_law_186 : decode code 186 = .ok (.aload_n 2, 1) := by decide +kernel
theorem d_LW_law_187 : decode code 187 = .ok (.aload_n 0, 1) := by decide +kernel
theorem d_LW_law_188 : decode code 188 = .ok (.iload_n 3, 1) := by decide +kernel
theorem d_LW_law_189 : decode code 189 = .ok (.iconst 1, 1) := by decide +kernel
theorem d_LW_law_190 : decode code 190 = .ok (.iadd, 1) := by decide +kernel
theorem d_LW_law_191 : decode code 191 = .ok (.iaload, 1) := by decide +kernel
theorem d_LW_law_192 : decode code 192 = .ok (.aload_n 0, 1) := by decide +kernel
theorem d_LW_law_193 : decode code 193 = .ok (.iload_n 3, 1) := by decide +kernel
theorem d_LW_law_194 : decode code 194 = .ok (.iconst 2, 1) := by decide +kernel
theorem d_LW_law_195 : decode code 195 = .ok (.iadd, 1) := by decide +kernel
theorem d_LW_law_196 : decode code 196 = .ok (.iaload, 1) := by decide +kernel
theorem d_LW_law_197 : decode code 197 = .ok (.aload_n 0, 1) := by decide +kernel
theorem d_LW_law_198 : decode code 198 = .ok (.iload_n 3, 1) := by decide +kernel
theorem d_LW_law_199 : decode code 199 = .ok (.iconst 3, 1) := by decide +kernel
theorem d_LW_law_200 : decode code 200 = .ok (.iadd, 1) := by decide +kernel
theorem d_LW_law_201 : decode code 201 = .ok (.iaload, 1) := by decide +kernel
theorem d_LW_law_202 : decode code 202 = .ok (.invokevirtual 29, 3) := by decide +kernel
theorem d_LW_law_205 : decode code 205 = .ok (.if_icmp .eq 528, 3) := by decide +kernel
theorem d_LW_law_208 : decode code 208 = .ok (.iconst 0, 1) := by decide +kernel
theorem d_LW_law_209 : decode code 209 = .ok (.ireturn, 1) := by decide +kernel
theorem d_LW_law_210 : decode code 210 = .ok (.aload_n 1, 1) := by decide +kernel
theorem d_LW_law_211 : decode code 211 = .ok (.aload_n 0, 1) := by decide +kernel
theorem d_LW_law_212 : decode code 212 = .ok (.iload_n 3, 1) := by decide +kernel
theorem d_LW_law_213 : decode code 213 = .ok (.iconst 1, 1) := by decide +kernel
theorem d_LW_law_214 : decode code 214 = .ok (.iadd, 1) := by decide +kernel
theorem d_LW_law_215 : decode code 215 = .ok (.iaload, 1) := by decide +kernel
theorem d_LW_law_216 : decode code 216 = .ok (.aload_n 0, 1) := by decide +kernel
theorem d_LW_law_217 : decode code 217 = .ok (.iload_n 3, 1) := by decide +kernel
theorem d_LW_law_218 : decode code 218 = .ok (.iconst 2, 1) := by decide +kernel
theorem d_LW_law_219 : decode code 219 = .ok (.iadd, 1) := by decide +kernel
theorem d_LW_law_220 : decode code 220 = .ok (.iaload, 1) := by decide +kernel
theorem d_LW_law_221 : decode code 221 = .ok (.invokevirtual 30, 3) := by decide +kernel
theorem d_LW_law_224 : decode code 224 = .ok (.aload_n 2, 1) := by decide +kernel
theorem d_LW_law_225 : decode code 225 = .ok (.aload_n 0, 1) := by decide +kernel
theorem d_LW_law_226 : decode code 226 = .ok (.iload_n 3, 1) := by decide +kernel
theorem d_LW_law_227 : decode code 227 = .ok (.iconst 1, 1) := by decide +kernel
theorem d_LW_law_228 : decode code 228 = .ok (.iadd, 1) := by decide +kernel
theorem d_LW_law_229 : decode code 229 = .ok (.iaload, 1) := by decide +kernel
theorem d_LW_law_230 : decode code 230 = .ok (.aload_n 0, 1) := by decide +kernel
theorem d_LW_law_231 : decode code 231 = .ok (.iload_n 3, 1) := by decide +kernel
theorem d_LW_law_232 : decode code 232 = .ok (.iconst 2, 1) := by decide +kernel
theorem d_LW_law_233 : decode code 233 = .ok (.iadd, 1) := by decide +kernel
theorem d_LW_law_234 : decode code 234 = .ok (.iaload, 1) := by decide +kernel
theorem d_LW_law_235 : decode code 235 = .ok (.invokevirtual 34, 3) := by decide +kernel
theorem d_LW_law_238 : decode code 238 = .ok (.if_icmp .eq 495, 3) := by decide +kernel
theorem d_LW_law_241 : decode code 241 = .ok (.iconst 0, 1) := by decide +kernel
theorem d_LW_law_242 : decode code 242 = .ok (.ireturn, 1) := by decide +kernel
theorem d_LW_law_243 : decode code 243 = .ok (.aload_n 1, 1) := by decide +kernel
theorem d_LW_law_244 : decode code 244 = .ok (.aload_n 0, 1) := by decide +kernel
theorem d_LW_law_245 : decode code 245 = .ok (.iload_n 3, 1) := by decide +kernel
theorem d_LW_law_246 : decode code 246 = .ok (.iconst 1, 1) := by decide +kernel
theorem d_LW_law_247 : decode code 247 = .ok (.iadd, 1) := by decide +kernel
theorem d_LW_law_248 : decode code 248 = .ok (.iaload, 1) := by decide +kernel
theorem d_LW_law_249 : decode code 249 = .ok (.aload_n 0, 1) := by decide +kernel
theorem d_LW_law_250 : decode code 250 = .ok (.iload_n 3, 1) := by decide +kernel
theorem d_LW_law_251 : decode code 251 = .ok (.iconst 2, 1) := by decide +kernel
theorem d_LW_law_252 : decode code 252 = .ok (.iadd, 1) := by decide +kernel
theorem d_LW_law_253 : decode code 253 = .ok (.iaload, 1) := by decide +kernel
theorem d_LW_law_254 : decode code 254 = .ok (.aload_n 0, 1) := by decide +kernel
theorem d_LW_law_255 : decode code 255 = .ok (.iload_n 3, 1) := by decide +kernel
theorem d_LW_law_256 : decode code 256 = .ok (.iconst 3, 1) := by decide +kernel
theorem d_LW_law_257 : decode code 257 = .ok (.iadd, 1) := by decide +kernel
theorem d_LW_law_258 : decode code 258 = .ok (.iaload, 1) := by decide +kernel
theorem d_LW_law_259 : decode code 259 = .ok (.aload_n 0, 1) := by decide +kernel
theorem d_LW_law_260 : decode code 260 = .ok (.iload_n 3, 1) := by decide +kernel
theorem d_LW_law_261 : decode code 261 = .ok (.iconst 4, 1) := by decide +kernel
theorem d_LW_law_262 : decode code 262 = .ok (.iadd, 1) := by decide +kernel
theorem d_LW_law_263 : decode code 263 = .ok (.iaload, 1) := by decide +kernel
theorem d_LW_law_264 : decode code 264 = .ok (.invokevirtual 35, 3) := by decide +kernel
theorem d_LW_law_267 : decode code 267 = .ok (.aload_n 2, 1) := by decide +kernel
theorem d_LW_law_268 : decode code 268 = .ok (.aload_n 0, 1) := by decide +kernel
theorem d_LW_law_269 : decode code 269 = .ok (.iload_n 3, 1) := by decide +kernel
theorem d_LW_law_270 : decode code 270 = .ok (.iconst 1, 1) := by decide +kernel
theorem d_LW_law_271 : decode code 271 = .ok (.iadd, 1) := by decide +kernel
theorem d_LW_law_272 : decode code 272 = .ok (.iaload, 1) := by decide +kernel
theorem d_LW_law_273 : decode code 273 = .ok (.aload_n 0, 1) := by decide +kernel
theorem d_LW_law_274 : decode code 274 = .ok (.iload_n 3, 1) := by decide +kernel
theorem d_LW_law_275 : decode code 275 = .ok (.iconst 2, 1) := by decide +kernel
theorem d_LW_law_276 : decode code 276 = .ok (.iadd, 1) := by decide +kernel
theorem d_LW_law_277 : decode code 277 = .ok (.iaload, 1) := by decide +kernel
theorem d_LW_law_278 : decode code 278 = .ok (.aload_n 0, 1) := by decide +kernel
theorem d_LW_law_279 : decode code 279 = .ok (.iload_n 3, 1) := by decide +kernel
theorem d_LW_law_280 : decode code 280 = .ok (.iconst 3, 1) := by decide +kernel
theorem d_LW_law_281 : decode code 281 = .ok (.iadd, 1) := by decide +kernel
theorem d_LW_law_282 : decode code 282 = .ok (.iaload, 1) := by decide +kernel
theorem d_LW_law_283 : decode code 283 = .ok (.aload_n 0, 1) := by decide +kernel
theorem d_LW_law_284 : decode code 284 = .ok (.iload_n 3, 1) := by decide +kernel
theorem d_LW_law_285 : decode code 285 = .ok (.iconst 4, 1) := by decide +kernel
theorem d_LW_law_286 : decode code 286 = .ok (.iadd, 1) := by decide +kernel
theorem d_LW_law_287 : decode code 287 = .ok (.iaload, 1) := by decide +kernel
theorem d_LW_law_288 : decode code 288 = .ok (.invokevirtual 39, 3) := by decide +kernel
theorem d_LW_law_291 : decode code 291 = .ok (.if_icmp .eq 442, 3) := by decide +kernel
theorem d_LW_law_294 : decode code 294 = .ok (.iconst 0, 1) := by decide +kernel
theorem d_LW_law_295 : decode code 295 = .ok (.ireturn, 1) := by decide +kernel
theorem d_LW_law_296 : decode code 296 = .ok (.aload_n 1, 1) := by decide +kernel
theorem d_LW_law_297 : decode code 297 = .ok (.aload_n 0, 1) := by decide +kernel
theorem d_LW_law_298 : decode code 298 = .ok (.iload_n 3, 1) := by decide +kernel
theorem d_LW_law_299 : decode code 299 = .ok (.iconst 1, 1) := by decide +kernel
end
section
-- decode rows, printed by names.py
theorem d_LW_law_300 : decode code 300 = .ok (.iadd, 1) := by decide +kernel
theorem d_LW_law_301 : decode code 301 = .ok (.iaload, 1) := by decide +kernel
theorem d_LW_law_302 : decode code 302 = .ok (.aload_n 0, 1) := by decide +kernel
theorem d_LW_law_303 : decode code 303 = .ok (.iload_n 3, 1) := by decide +kernel
theorem d_LW_law_304 : decode code 304 = .ok (.iconst 2, 1) := by decide +kernel
theorem d_LW_law_305 : decode code 305 = .ok (.iadd, 1) := by decide +kernel
theorem d_LW_law_306 : decode code 306 = .ok (.iaload, 1) := by decide +kernel
theorem d_LW_law_307 : decode code 307 = .ok (.aload_n 0, 1) := by decide +kernel
theorem d_LW_law_308 : decode code 308 = .ok (.iload_n 3, 1) := by decide +kernel
theorem d_LW_law_309 : decode code 309 = .ok (.iconst 3, 1) := by decide +kernel
theorem d_LW_law_310 : decode code 310 = .ok (.iadd, 1) := by decide +kernel
theorem d_LW_law_311 : decode code 311 = .ok (.iaload, 1) := by decide +kernel
theorem d_LW_law_312 : decode code 312 = .ok (.aload_n 0, 1) := by decide +kernel
theorem d_LW_law_313 : decode code 313 = .ok (.iload_n 3, 1) := by decide +kernel
theorem d_LW_law_314 : decode code 314 = .ok (.iconst 4, 1) := by decide +kernel
theorem d_LW_law_315 : decode code 315 = .ok (.iadd, 1) := by decide +kernel
theorem d_LW_law_316 : decode code 316 = .ok (.iaload, 1) := by decide +kernel
theorem d_LW_law_317 : decode code 317 = .ok (.invokevirtual 40, 3) := by decide +kernel
theorem d_LW_law_320 : decode code 320 = .ok (.aload_n 2, 1) := by decide +kernel
theorem d_LW_law_321 : decode code 321 = .ok (.aload_n 0, 1) := by decide +kernel
theorem d_LW_law_322 : decode code 322 = .ok (.iload_n 3, 1) := by decide +kernel
theorem d_LW_law_323 : decode code 323 = .ok (.iconst 1, 1) := by decide +kernel
theorem d_LW_law_324 : decode code 324 = .ok (.iadd, 1) := by decide +kernel
theorem d_LW_law_325 : decode code 325 = .ok (.iaload, 1) := by decide +kernel
theorem d_LW_law_326 : decode code 326 = .ok (.aload_n 0, 1) := by decide +kernel
theorem d_LW_law_327 : decode code 327 = .ok (.iload_n 3, 1) := by decide +kernel
theorem d_LW_law_328 : decode code 328 = .ok (.iconst 2, 1) := by decide +kernel
theorem d_LW_law_329 : decode code 329 = .ok (.iadd, 1) := by decide +kernel
theorem d_LW_law_330 : decode code 330 = .ok (.iaload, 1) := by decide +kernel
theorem d_LW_law_331 : decode code 331 = .ok (.aload_n 0, 1) := by decide +kernel
theorem d_LW_law_332 : decode code 332 = .ok (.iload_n 3, 1) := by decide +kernel
theorem d_LW_law_333 : decode code 333 = .ok (.iconst 3, 1) := by decide +kernel
theorem d_LW_law_334 : decode code 334 = .ok (.iadd, 1) := by decide +kernel
theorem d_LW_law_335 : decode code 335 = .ok (.iaload, 1) := by decide +kernel
theorem d_LW_law_336 : decode code 336 = .ok (.aload_n 0, 1) := by decide +kernel
theorem d_LW_law_337 : decode code 337 = .ok (.iload_n 3, 1) := by decide +kernel
theorem d_LW_law_338 : decode code 338 = .ok (.iconst 4, 1) := by decide +kernel
theorem d_LW_law_339 : decode code 339 = .ok (.iadd, 1) := by decide +kernel
theorem d_LW_law_340 : decode code 340 = .ok (.iaload, 1) := by decide +kernel
theorem d_LW_law_341 : decode code 341 = .ok (.invokevirtual 43, 3) := by decide +kernel
theorem d_LW_law_344 : decode code 344 = .ok (.if_icmp .eq 389, 3) := by decide +kernel
theorem d_LW_law_347 : decode code 347 = .ok (.iconst 0, 1) := by decide +kernel
theorem d_LW_law_348 : decode code 348 = .ok (.ireturn, 1) := by decide +kernel
theorem d_LW_law_349 : decode code 349 = .ok (.aload_n 1, 1) := by decide +kernel
theorem d_LW_law_350 : decode code 350 = .ok (.aload_n 0, 1) := by decide +kernel
theorem d_LW_law_351 : decode code 351 = .ok (.iload_n 3, 1) := by decide +kernel
theorem d_LW_law_352 : decode code 352 = .ok (.iconst 1, 1) := by decide +kernel
theorem d_LW_law_353 : decode code 353 = .ok (.iadd, 1) := by decide +kernel
theorem d_LW_law_354 : decode code 354 = .ok (.iaload, 1) := by decide +kernel
theorem d_LW_law_355 : decode code 355 = .ok (.aload_n 0, 1) := by decide +kernel
theorem d_LW_law_356 : decode code 356 = .ok (.iload_n 3, 1) := by decide +kernel
theorem d_LW_law_357 : decode code 357 = .ok (.iconst 2, 1) := by decide +kernel
theorem d_LW_law_358 : decode code 358 = .ok (.iadd, 1) := by decide +kernel
theorem d_LW_law_359 : decode code 359 = .ok (.iaload, 1) := by decide +kernel
theorem d_LW_law_360 : decode code 360 = .ok (.aload_n 0, 1) := by decide +kernel
theorem d_LW_law_361 : decode code 361 = .ok (.iload_n 3, 1) := by decide +kernel
theorem d_LW_law_362 : decode code 362 = .ok (.iconst 3, 1) := by decide +kernel
theorem d_LW_law_363 : decode code 363 = .ok (.iadd, 1) := by decide +kernel
theorem d_LW_law_364 : decode code 364 = .ok (.iaload, 1) := by decide +kernel
theorem d_LW_law_365 : decode code 365 = .ok (.invokevirtual 44, 3) := by decide +kernel
theorem d_LW_law_368 : decode code 368 = .ok (.aload_n 2, 1) := by decide +kernel
theorem d_LW_law_369 : decode code 369 = .ok (.aload_n 0, 1) := by decide +kernel
theorem d_LW_law_370 : decode code 370 = .ok (.iload_n 3, 1) := by decide +kernel
theorem d_LW_law_371 : decode code 371 = .ok (.iconst 1, 1) := by decide +kernel
theorem d_LW_law_372 : decode code 372 = .ok (.iadd, 1) := by decide +kernel
theorem d_LW_law_373 : decode code 373 = .ok (.iaload, 1) := by decide +kernel
theorem d_LW_law_374 : decode code 374 = .ok (.aload_n 0, 1) := by decide +kernel
theorem d_LW_law_375 : decode code 375 = .ok (.iload_n 3, 1) := by decide +kernel
theorem d_LW_law_376 : decode code 376 = .ok (.iconst 2, 1) := by decide +kernel
theorem d_LW_law_377 : decode code 377 = .ok (.iadd, 1) := by decide +kernel
theorem d_LW_law_378 : decode code 378 = .ok (.iaload, 1) := by decide +kernel
theorem d_LW_law_379 : decode code 379 = .ok (.aload_n 0, 1) := by decide +kernel
theorem d_LW_law_380 : decode code 380 = .ok (.iload_n 3, 1) := by decide +kernel
theorem d_LW_law_381 : decode code 381 = .ok (.iconst 3, 1) := by decide +kernel
theorem d_LW_law_382 : decode code 382 = .ok (.iadd, 1) := by decide +kernel
theorem d_LW_law_383 : decode code 383 = .ok (.iaload, 1) := by decide +kernel
theorem d_LW_law_384 : decode code 384 = .ok (.invokevirtual 47, 3) := by decide +kernel
theorem d_LW_law_387 : decode code 387 = .ok (.if_icmp .eq 346, 3) := by decide +kernel
theorem d_LW_law_390 : decode code 390 = .ok (.iconst 0, 1) := by decide +kernel
theorem d_LW_law_391 : decode code 391 = .ok (.ireturn, 1) := by decide +kernel
theorem d_LW_law_392 : decode code 392 = .ok (.aload_n 1, 1) := by decide +kernel
theorem d_LW_law_393 : decode code 393 = .ok (.aload_n 0, 1) := by decide +kernel
theorem d_LW_law_394 : decode code 394 = .ok (.iload_n 3, 1) := by decide +kernel
theorem d_LW_law_395 : decode code 395 = .ok (.iconst 1, 1) := by decide +kernel
theorem d_LW_law_396 : decode code 396 = .ok (.iadd, 1) := by decide +kernel
theorem d_LW_law_397 : decode code 397 = .ok (.iaload, 1) := by decide +kernel
theorem d_LW_law_398 : decode code 398 = .ok (.aload_n 0, 1) := by decide +kernel
theorem d_LW_law_399 : decode code 399 = .ok (.iload_n 3, 1) := by decide +kernel
theorem d_LW_law_400 : decode code 400 = .ok (.iconst 2, 1) := by decide +kernel
theorem d_LW_law_401 : decode code 401 = .ok (.iadd, 1) := by decide +kernel
theorem d_LW_law_402 : decode code 402 = .ok (.iaload, 1) := by decide +kernel
theorem d_LW_law_403 : decode code 403 = .ok (.aload_n 0, 1) := by decide +kernel
theorem d_LW_law_404 : decode code 404 = .ok (.iload_n 3, 1) := by decide +kernel
theorem d_LW_law_405 : decode code 405 = .ok (.iconst 3, 1) := by decide +kernel
theorem d_LW_law_406 : decode code 406 = .ok (.iadd, 1) := by decide +kernel
theorem d_LW_law_407 : decode code 407 = .ok (.iaload, 1) := by decide +kernel
theorem d_LW_law_408 : decode code 408 = .ok (.invokevirtual 48, 3) := by decide +kernel
theorem d_LW_law_411 : decode code 411 = .ok (.aload_n 2, 1) := by decide +kernel
theorem d_LW_law_412 : decode code 412 = .ok (.aload_n 0, 1) := by decide +kernel
theorem d_LW_law_413 : decode code 413 = .ok (.iload_n 3, 1) := by decide +kernel
theorem d_LW_law_414 : decode code 414 = .ok (.iconst 1, 1) := by decide +kernel
theorem d_LW_law_415 : decode code 415 = .ok (.iadd, 1) := by decide +kernel
theorem d_LW_law_416 : decode code 416 = .ok (.iaload, 1) := by decide +kernel
theorem d_LW_law_417 : decode code 417 = .ok (.aload_n 0, 1) := by decide +kernel
theorem d_LW_law_418 : decode code 418 = .ok (.iload_n 3, 1) := by decide +kernel
theorem d_LW_law_419 : decode code 419 = .ok (.iconst 2, 1) := by decide +kernel
theorem d_LW_law_420 : decode code 420 = .ok (.iadd, 1) := by decide +kernel
theorem d_LW_law_421 : decode code 421 = .ok (.iaload, 1) := by decide +kernel
theorem d_LW_law_422 : decode code 422 = .ok (.aload_n 0, 1) := by decide +kernel
theorem d_LW_law_423 : decode code 423 = .ok (.iload_n 3, 1) := by decide +kernel
theorem d_LW_law_424 : decode code 424 = .ok (.iconst 3, 1) := by decide +kernel
theorem d_LW_law_425 : decode code 425 = .ok (.iadd, 1) := by decide +kernel
theorem d_LW_law_426 : decode code 426 = .ok (.iaload, 1) := by decide +kernel
theorem d_LW_law_427 : decode code 427 = .ok (.invokevirtual 51, 3) := by decide +kernel
theorem d_LW_law_430 : decode code 430 = .ok (.if_icmp .eq 303, 3) := by decide +kernel
theorem d_LW_law_433 : decode code 433 = .ok (.iconst 0, 1) := by decide +kernel
theorem d_LW_law_434 : decode code 434 = .ok (.ireturn, 1) := by decide +kernel
theorem d_LW_law_435 : decode code 435 = .ok (.aload_n 1, 1) := by decide +kernel
theorem d_LW_law_436 : decode code 436 = .ok (.aload_n 0, 1) := by decide +kernel
theorem d_LW_law_437 : decode code 437 = .ok (.iload_n 3, 1) := by decide +kernel
theorem d_LW_law_438 : decode code 438 = .ok (.iconst 1, 1) := by decide +kernel
theorem d_LW_law_439 : decode code 439 = .ok (.iadd, 1) := by decide +kernel
theorem d_LW_law_440 : decode code 440 = .ok (.iaload, 1) := by decide +kernel
theorem d_LW_law_441 : decode code 441 = .ok (.aload_n 0, 1) := by decide +kernel
theorem d_LW_law_442 : decode code 442 = .ok (.iload_n 3, 1) := by decide +kernel
theorem d_LW_law_443 : decode code 443 = .ok (.iconst 2, 1) := by decide +kernel
theorem d_LW_law_444 : decode code 444 = .ok (.iadd, 1) := by decide +kernel
theorem d_LW_law_445 : decode code 445 = .ok (.iaload, 1) := by decide +kernel
theorem d_LW_law_446 : decode code 446 = .ok (.aload_n 0, 1) := by decide +kernel
theorem d_LW_law_447 : decode code 447 = .ok (.iload_n 3, 1) := by decide +kernel
theorem d_LW_law_448 : decode code 448 = .ok (.iconst 3, 1) := by decide +kernel
theorem d_LW_law_449 : decode code 449 = .ok (.iadd, 1) := by decide +kernel
theorem d_LW_law_450 : decode code 450 = .ok (.iaload, 1) := by decide +kernel
theorem d_LW_law_451 : decode code 451 = .ok (.aload_n 0, 1) := by decide +kernel
theorem d_LW_law_452 : decode code 452 = .ok (.iload_n 3, 1) := by decide +kernel
theorem d_LW_law_453 : decode code 453 = .ok (.iconst 4, 1) := by decide +kernel
theorem d_LW_law_454 : decode code 454 = .ok (.iadd, 1) := by decide +kernel
theorem d_LW_law_455 : decode code 455 = .ok (.iaload, 1) := by decide +kernel
theorem d_LW_law_456 : decode code 456 = .ok (.invokevirtual 52, 3) := by decide +kernel
theorem d_LW_law_459 : decode code 459 = .ok (.aload_n 2, 1) := by decide +kernel
theorem d_LW_law_460 : decode code 460 = .ok (.aload_n 0, 1) := by decide +kernel
theorem d_LW_law_461 : decode code 461 = .ok (.iload_n 3, 1) := by decide +kernel
theorem d_LW_law_462 : decode code 462 = .ok (.iconst 1, 1) := by decide +kernel
theorem d_LW_law_463 : decode code 463 = .ok (.iadd, 1) := by decide +kernel
theorem d_LW_law_464 : decode code 464 = .ok (.iaload, 1) := by decide +kernel
theorem d_LW_law_465 : decode code 465 = .ok (.aload_n 0, 1) := by decide +kernel
theorem d_LW_law_466 : decode code 466 = .ok (.iload_n 3, 1) := by decide +kernel
theorem d_LW_law_467 : decode code 467 = .ok (.iconst 2, 1) := by decide +kernel
theorem d_LW_law_468 : decode code 468 = .ok (.iadd, 1) := by decide +kernel
theorem d_LW_law_469 : decode code 469 = .ok (.iaload, 1) := by decide +kernel
theorem d_LW_law_470 : decode code 470 = .ok (.aload_n 0, 1) := by decide +kernel
theorem d_LW_law_471 : decode code 471 = .ok (.iload_n 3, 1) := by decide +kernel
theorem d_LW_law_472 : decode code 472 = .ok (.iconst 3, 1) := by decide +kernel
theorem d_LW_law_473 : decode code 473 = .ok (.iadd, 1) := by decide +kernel
theorem d_LW_law_474 : decode code 474 = .ok (.iaload, 1) := by decide +kernel
theorem d_LW_law_475 : decode code 475 = .ok (.aload_n 0, 1) := by decide +kernel
theorem d_LW_law_476 : decode code 476 = .ok (.iload_n 3, 1) := by decide +kernel
theorem d_LW_law_477 : decode code 477 = .ok (.iconst 4, 1) := by decide +kernel
theorem d_LW_law_478 : decode code 478 = .ok (.iadd, 1) := by decide +kernel
theorem d_LW_law_479 : decode code 479 = .ok (.iaload, 1) := by decide +kernel
theorem d_LW_law_480 : decode code 480 = .ok (.invokevirtual 55, 3) := by decide +kernel
theorem d_LW_law_483 : decode code 483 = .ok (.if_icmp .eq 250, 3) := by decide +kernel
theorem d_LW_law_486 : decode code 486 = .ok (.iconst 0, 1) := by decide +kernel
theorem d_LW_law_487 : decode code 487 = .ok (.ireturn, 1) := by decide +kernel
theorem d_LW_law_488 : decode code 488 = .ok (.aload_n 1, 1) := by decide +kernel
theorem d_LW_law_489 : decode code 489 = .ok (.aload_n 0, 1) := by decide +kernel
theorem d_LW_law_490 : decode code 490 = .ok (.iload_n 3, 1) := by decide +kernel
theorem d_LW_law_491 : decode code 491 = .ok (.iconst 1, 1) := by decide +kernel
theorem d_LW_law_492 : decode code 492 = .ok (.iadd, 1) := by decide +kernel
theorem d_LW_law_493 : decode code 493 = .ok (.iaload, 1) := by decide +kernel
theorem d_LW_law_494 : decode code 494 = .ok (.aload_n 0, 1) := by decide +kernel
theorem d_LW_law_495 : decode code 495 = .ok (.iload_n 3, 1) := by decide +kernel
theorem d_LW_law_496 : decode code 496 = .ok (.iconst 2, 1) := by decide +kernel
theorem d_LW_law_497 : decode code 497 = .ok (.iadd, 1) := by decide +kernel
theorem d_LW_law_498 : decode code 498 = .ok (.iaload, 1) := by decide +kernel
theorem d_LW_law_499 : decode code 499 = .ok (.aload_n 0, 1) := by decide +kernel
theorem d_LW_law_500 : decode code 500 = .ok (.iload_n 3, 1) := by decide +kernel
theorem d_LW_law_501 : decode code 501 = .ok (.iconst 3, 1) := by decide +kernel
theorem d_LW_law_502 : decode code 502 = .ok (.iadd, 1) := by decide +kernel
theorem d_LW_law_503 : decode code 503 = .ok (.iaload, 1) := by decide +kernel
end
section
-- decode rows, printed by names.py
theorem d_LW_law_504 : decode code 504 = .ok (.invokevirtual 56, 3) := by decide +kernel
theorem d_LW_law_507 : decode code 507 = .ok (.aload_n 2, 1) := by decide +kernel
theorem d_LW_law_508 : decode code 508 = .ok (.aload_n 0, 1) := by decide +kernel
theorem d_LW_law_509 : decode code 509 = .ok (.iload_n 3, 1) := by decide +kernel
theorem d_LW_law_510 : decode code 510 = .ok (.iconst 1, 1) := by decide +kernel
theorem d_LW_law_511 : decode code 511 = .ok (.iadd, 1) := by decide +kernel
theorem d_LW_law_512 : decode code 512 = .ok (.iaload, 1) := by decide +kernel
theorem d_LW_law_513 : decode code 513 = .ok (.aload_n 0, 1) := by decide +kernel
theorem d_LW_law_514 : decode code 514 = .ok (.iload_n 3, 1) := by decide +kernel
theorem d_LW_law_515 : decode code 515 = .ok (.iconst 2, 1) := by decide +kernel
theorem d_LW_law_516 : decode code 516 = .ok (.iadd, 1) := by decide +kernel
theorem d_LW_law_517 : decode code 517 = .ok (.iaload, 1) := by decide +kernel
theorem d_LW_law_518 : decode code 518 = .ok (.aload_n 0, 1) := by decide +kernel
theorem d_LW_law_519 : decode code 519 = .ok (.iload_n 3, 1) := by decide +kernel
theorem d_LW_law_520 : decode code 520 = .ok (.iconst 3, 1) := by decide +kernel
theorem d_LW_law_521 : decode code 521 = .ok (.iadd, 1) := by decide +kernel
theorem d_LW_law_522 : decode code 522 = .ok (.iaload, 1) := by decide +kernel
theorem d_LW_law_523 : decode code 523 = .ok (.invokevirtual 59, 3) := by decide +kernel
theorem d_LW_law_526 : decode code 526 = .ok (.if_icmp .eq 207, 3) := by decide +kernel
theorem d_LW_law_529 : decode code 529 = .ok (.iconst 0, 1) := by decide +kernel
theorem d_LW_law_530 : decode code 530 = .ok (.ireturn, 1) := by decide +kernel
theorem d_LW_law_531 : decode code 531 = .ok (.aload_n 1, 1) := by decide +kernel
theorem d_LW_law_532 : decode code 532 = .ok (.aload_n 0, 1) := by decide +kernel
theorem d_LW_law_533 : decode code 533 = .ok (.iload_n 3, 1) := by decide +kernel
theorem d_LW_law_534 : decode code 534 = .ok (.iconst 1, 1) := by decide +kernel
theorem d_LW_law_535 : decode code 535 = .ok (.iadd, 1) := by decide +kernel
theorem d_LW_law_536 : decode code 536 = .ok (.iaload, 1) := by decide +kernel
theorem d_LW_law_537 : decode code 537 = .ok (.aload_n 0, 1) := by decide +kernel
theorem d_LW_law_538 : decode code 538 = .ok (.iload_n 3, 1) := by decide +kernel
theorem d_LW_law_539 : decode code 539 = .ok (.iconst 2, 1) := by decide +kernel
theorem d_LW_law_540 : decode code 540 = .ok (.iadd, 1) := by decide +kernel
theorem d_LW_law_541 : decode code 541 = .ok (.iaload, 1) := by decide +kernel
theorem d_LW_law_542 : decode code 542 = .ok (.invokevirtual 60, 3) := by decide +kernel
theorem d_LW_law_545 : decode code 545 = .ok (.aload_n 2, 1) := by decide +kernel
theorem d_LW_law_546 : decode code 546 = .ok (.aload_n 0, 1) := by decide +kernel
theorem d_LW_law_547 : decode code 547 = .ok (.iload_n 3, 1) := by decide +kernel
theorem d_LW_law_548 : decode code 548 = .ok (.iconst 1, 1) := by decide +kernel
theorem d_LW_law_549 : decode code 549 = .ok (.iadd, 1) := by decide +kernel
theorem d_LW_law_550 : decode code 550 = .ok (.iaload, 1) := by decide +kernel
theorem d_LW_law_551 : decode code 551 = .ok (.aload_n 0, 1) := by decide +kernel
theorem d_LW_law_552 : decode code 552 = .ok (.iload_n 3, 1) := by decide +kernel
theorem d_LW_law_553 : decode code 553 = .ok (.iconst 2, 1) := by decide +kernel
theorem d_LW_law_554 : decode code 554 = .ok (.iadd, 1) := by decide +kernel
theorem d_LW_law_555 : decode code 555 = .ok (.iaload, 1) := by decide +kernel
theorem d_LW_law_556 : decode code 556 = .ok (.invokevirtual 63, 3) := by decide +kernel
theorem d_LW_law_559 : decode code 559 = .ok (.if_icmp .eq 174, 3) := by decide +kernel
theorem d_LW_law_562 : decode code 562 = .ok (.iconst 0, 1) := by decide +kernel
theorem d_LW_law_563 : decode code 563 = .ok (.ireturn, 1) := by decide +kernel
theorem d_LW_law_564 : decode code 564 = .ok (.aload_n 1, 1) := by decide +kernel
theorem d_LW_law_565 : decode code 565 = .ok (.aload_n 0, 1) := by decide +kernel
theorem d_LW_law_566 : decode code 566 = .ok (.iload_n 3, 1) := by decide +kernel
theorem d_LW_law_567 : decode code 567 = .ok (.iconst 1, 1) := by decide +kernel
theorem d_LW_law_568 : decode code 568 = .ok (.iadd, 1) := by decide +kernel
theorem d_LW_law_569 : decode code 569 = .ok (.iaload, 1) := by decide +kernel
theorem d_LW_law_570 : decode code 570 = .ok (.aload_n 0, 1) := by decide +kernel
theorem d_LW_law_571 : decode code 571 = .ok (.iload_n 3, 1) := by decide +kernel
theorem d_LW_law_572 : decode code 572 = .ok (.iconst 2, 1) := by decide +kernel
theorem d_LW_law_573 : decode code 573 = .ok (.iadd, 1) := by decide +kernel
theorem d_LW_law_574 : decode code 574 = .ok (.iaload, 1) := by decide +kernel
theorem d_LW_law_575 : decode code 575 = .ok (.invokevirtual 64, 3) := by decide +kernel
theorem d_LW_law_578 : decode code 578 = .ok (.aload_n 2, 1) := by decide +kernel
theorem d_LW_law_579 : decode code 579 = .ok (.aload_n 0, 1) := by decide +kernel
theorem d_LW_law_580 : decode code 580 = .ok (.iload_n 3, 1) := by decide +kernel
theorem d_LW_law_581 : decode code 581 = .ok (.iconst 1, 1) := by decide +kernel
theorem d_LW_law_582 : decode code 582 = .ok (.iadd, 1) := by decide +kernel
theorem d_LW_law_583 : decode code 583 = .ok (.iaload, 1) := by decide +kernel
theorem d_LW_law_584 : decode code 584 = .ok (.aload_n 0, 1) := by decide +kernel
theorem d_LW_law_585 : decode code 585 = .ok (.iload_n 3, 1) := by decide +kernel
theorem d_LW_law_586 : decode code 586 = .ok (.iconst 2, 1) := by decide +kernel
theorem d_LW_law_587 : decode code 587 = .ok (.iadd, 1) := by decide +kernel
theorem d_LW_law_588 : decode code 588 = .ok (.iaload, 1) := by decide +kernel
theorem d_LW_law_589 : decode code 589 = .ok (.invokevirtual 67, 3) := by decide +kernel
theorem d_LW_law_592 : decode code 592 = .ok (.if_icmp .eq 141, 3) := by decide +kernel
theorem d_LW_law_595 : decode code 595 = .ok (.iconst 0, 1) := by decide +kernel
theorem d_LW_law_596 : decode code 596 = .ok (.ireturn, 1) := by decide +kernel
theorem d_LW_law_597 : decode code 597 = .ok (.aload_n 1, 1) := by decide +kernel
theorem d_LW_law_598 : decode code 598 = .ok (.aload_n 0, 1) := by decide +kernel
theorem d_LW_law_599 : decode code 599 = .ok (.iload_n 3, 1) := by decide +kernel
theorem d_LW_law_600 : decode code 600 = .ok (.iconst 1, 1) := by decide +kernel
theorem d_LW_law_601 : decode code 601 = .ok (.iadd, 1) := by decide +kernel
theorem d_LW_law_602 : decode code 602 = .ok (.iaload, 1) := by decide +kernel
theorem d_LW_law_603 : decode code 603 = .ok (.aload_n 0, 1) := by decide +kernel
theorem d_LW_law_604 : decode code 604 = .ok (.iload_n 3, 1) := by decide +kernel
theorem d_LW_law_605 : decode code 605 = .ok (.iconst 2, 1) := by decide +kernel
theorem d_LW_law_606 : decode code 606 = .ok (.iadd, 1) := by decide +kernel
theorem d_LW_law_607 : decode code 607 = .ok (.iaload, 1) := by decide +kernel
theorem d_LW_law_608 : decode code 608 = .ok (.aload_n 0, 1) := by decide +kernel
theorem d_LW_law_609 : decode code 609 = .ok (.iload_n 3, 1) := by decide +kernel
theorem d_LW_law_610 : decode code 610 = .ok (.iconst 3, 1) := by decide +kernel
theorem d_LW_law_611 : decode code 611 = .ok (.iadd, 1) := by decide +kernel
theorem d_LW_law_612 : decode code 612 = .ok (.iaload, 1) := by decide +kernel
theorem d_LW_law_613 : decode code 613 = .ok (.invokevirtual 68, 3) := by decide +kernel
theorem d_LW_law_616 : decode code 616 = .ok (.aload_n 2, 1) := by decide +kernel
theorem d_LW_law_617 : decode code 617 = .ok (.aload_n 0, 1) := by decide +kernel
theorem d_LW_law_618 : decode code 618 = .ok (.iload_n 3, 1) := by decide +kernel
theorem d_LW_law_619 : decode code 619 = .ok (.iconst 1, 1) := by decide +kernel
theorem d_LW_law_620 : decode code 620 = .ok (.iadd, 1) := by decide +kernel
theorem d_LW_law_621 : decode code 621 = .ok (.iaload, 1) := by decide +kernel
theorem d_LW_law_622 : decode code 622 = .ok (.aload_n 0, 1) := by decide +kernel
theorem d_LW_law_623 : decode code 623 = .ok (.iload_n 3, 1) := by decide +kernel
theorem d_LW_law_624 : decode code 624 = .ok (.iconst 2, 1) := by decide +kernel
theorem d_LW_law_625 : decode code 625 = .ok (.iadd, 1) := by decide +kernel
theorem d_LW_law_626 : decode code 626 = .ok (.iaload, 1) := by decide +kernel
theorem d_LW_law_627 : decode code 627 = .ok (.aload_n 0, 1) := by decide +kernel
theorem d_LW_law_628 : decode code 628 = .ok (.iload_n 3, 1) := by decide +kernel
theorem d_LW_law_629 : decode code 629 = .ok (.iconst 3, 1) := by decide +kernel
theorem d_LW_law_630 : decode code 630 = .ok (.iadd, 1) := by decide +kernel
theorem d_LW_law_631 : decode code 631 = .ok (.iaload, 1) := by decide +kernel
theorem d_LW_law_632 : decode code 632 = .ok (.invokevirtual 71, 3) := by decide +kernel
theorem d_LW_law_635 : decode code 635 = .ok (.if_icmp .eq 98, 3) := by decide +kernel
theorem d_LW_law_638 : decode code 638 = .ok (.iconst 0, 1) := by decide +kernel
theorem d_LW_law_639 : decode code 639 = .ok (.ireturn, 1) := by decide +kernel
theorem d_LW_law_640 : decode code 640 = .ok (.aload_n 1, 1) := by decide +kernel
theorem d_LW_law_641 : decode code 641 = .ok (.aload_n 0, 1) := by decide +kernel
theorem d_LW_law_642 : decode code 642 = .ok (.iload_n 3, 1) := by decide +kernel
theorem d_LW_law_643 : decode code 643 = .ok (.iconst 1, 1) := by decide +kernel
theorem d_LW_law_644 : decode code 644 = .ok (.iadd, 1) := by decide +kernel
theorem d_LW_law_645 : decode code 645 = .ok (.iaload, 1) := by decide +kernel
theorem d_LW_law_646 : decode code 646 = .ok (.invokevirtual 72, 3) := by decide +kernel
theorem d_LW_law_649 : decode code 649 = .ok (.aload_n 2, 1) := by decide +kernel
theorem d_LW_law_650 : decode code 650 = .ok (.aload_n 0, 1) := by decide +kernel
theorem d_LW_law_651 : decode code 651 = .ok (.iload_n 3, 1) := by decide +kernel
theorem d_LW_law_652 : decode code 652 = .ok (.iconst 1, 1) := by decide +kernel
theorem d_LW_law_653 : decode code 653 = .ok (.iadd, 1) := by decide +kernel
theorem d_LW_law_654 : decode code 654 = .ok (.iaload, 1) := by decide +kernel
theorem d_LW_law_655 : decode code 655 = .ok (.invokevirtual 76, 3) := by decide +kernel
theorem d_LW_law_658 : decode code 658 = .ok (.if_icmp .eq 75, 3) := by decide +kernel
theorem d_LW_law_661 : decode code 661 = .ok (.iconst 0, 1) := by decide +kernel
theorem d_LW_law_662 : decode code 662 = .ok (.ireturn, 1) := by decide +kernel
theorem d_LW_law_663 : decode code 663 = .ok (.aload_n 1, 1) := by decide +kernel
theorem d_LW_law_664 : decode code 664 = .ok (.invokevirtual 77, 3) := by decide +kernel
theorem d_LW_law_667 : decode code 667 = .ok (.aload_n 2, 1) := by decide +kernel
theorem d_LW_law_668 : decode code 668 = .ok (.invokevirtual 81, 3) := by decide +kernel
theorem d_LW_law_671 : decode code 671 = .ok (.if_icmp .eq 62, 3) := by decide +kernel
theorem d_LW_law_674 : decode code 674 = .ok (.iconst 0, 1) := by decide +kernel
theorem d_LW_law_675 : decode code 675 = .ok (.ireturn, 1) := by decide +kernel
theorem d_LW_law_676 : decode code 676 = .ok (.aload_n 1, 1) := by decide +kernel
theorem d_LW_law_677 : decode code 677 = .ok (.invokevirtual 82, 3) := by decide +kernel
theorem d_LW_law_680 : decode code 680 = .ok (.aload_n 2, 1) := by decide +kernel
theorem d_LW_law_681 : decode code 681 = .ok (.invokevirtual 85, 3) := by decide +kernel
theorem d_LW_law_684 : decode code 684 = .ok (.if_icmp .eq 49, 3) := by decide +kernel
theorem d_LW_law_687 : decode code 687 = .ok (.iconst 0, 1) := by decide +kernel
theorem d_LW_law_688 : decode code 688 = .ok (.ireturn, 1) := by decide +kernel
theorem d_LW_law_689 : decode code 689 = .ok (.aload_n 1, 1) := by decide +kernel
theorem d_LW_law_690 : decode code 690 = .ok (.aload_n 0, 1) := by decide +kernel
theorem d_LW_law_691 : decode code 691 = .ok (.iload_n 3, 1) := by decide +kernel
theorem d_LW_law_692 : decode code 692 = .ok (.iconst 1, 1) := by decide +kernel
theorem d_LW_law_693 : decode code 693 = .ok (.iadd, 1) := by decide +kernel
theorem d_LW_law_694 : decode code 694 = .ok (.iaload, 1) := by decide +kernel
theorem d_LW_law_695 : decode code 695 = .ok (.invokevirtual 86, 3) := by decide +kernel
theorem d_LW_law_698 : decode code 698 = .ok (.aload_n 2, 1) := by decide +kernel
theorem d_LW_law_699 : decode code 699 = .ok (.aload_n 0, 1) := by decide +kernel
theorem d_LW_law_700 : decode code 700 = .ok (.iload_n 3, 1) := by decide +kernel
theorem d_LW_law_701 : decode code 701 = .ok (.iconst 1, 1) := by decide +kernel
theorem d_LW_law_702 : decode code 702 = .ok (.iadd, 1) := by decide +kernel
theorem d_LW_law_703 : decode code 703 = .ok (.iaload, 1) := by decide +kernel
theorem d_LW_law_704 : decode code 704 = .ok (.invokevirtual 89, 3) := by decide +kernel
theorem d_LW_law_707 : decode code 707 = .ok (.goto 26, 3) := by decide +kernel
theorem d_LW_law_710 : decode code 710 = .ok (.aload_n 1, 1) := by decide +kernel
theorem d_LW_law_711 : decode code 711 = .ok (.aload_n 0, 1) := by decide +kernel
theorem d_LW_law_712 : decode code 712 = .ok (.iload_n 3, 1) := by decide +kernel
theorem d_LW_law_713 : decode code 713 = .ok (.iconst 1, 1) := by decide +kernel
theorem d_LW_law_714 : decode code 714 = .ok (.iadd, 1) := by decide +kernel
theorem d_LW_law_715 : decode code 715 = .ok (.iaload, 1) := by decide +kernel
theorem d_LW_law_716 : decode code 716 = .ok (.invokevirtual 90, 3) := by decide +kernel
theorem d_LW_law_719 : decode code 719 = .ok (.aload_n 2, 1) := by decide +kernel
theorem d_LW_law_720 : decode code 720 = .ok (.aload_n 0, 1) := by decide +kernel
theorem d_LW_law_721 : decode code 721 = .ok (.iload_n 3, 1) := by decide +kernel
theorem d_LW_law_722 : decode code 722 = .ok (.iconst 1, 1) := by decide +kernel
theorem d_LW_law_723 : decode code 723 = .ok (.iadd, 1) := by decide +kernel
theorem d_LW_law_724 : decode code 724 = .ok (.iaload, 1) := by decide +kernel
theorem d_LW_law_725 : decode code 725 = .ok (.invokevirtual 93, 3) := by decide +kernel
theorem d_LW_law_728 : decode code 728 = .ok (.if_icmp .eq 5, 3) := by decide +kernel
theorem d_LW_law_731 : decode code 731 = .ok (.iconst 0, 1) := by decide +kernel
theorem d_LW_law_732 : decode code 732 = .ok (.ireturn, 1) := by decide +kernel
theorem d_LW_law_733 : decode code 733 = .ok (.iinc 3 5, 3) := by decide +kernel
theorem d_LW_law_736 : decode code 736 = .ok (.goto (-708), 3) := by decide +kernel
theorem d_LW_law_739 : decode code 739 = .ok (.iconst 1, 1) := by decide +kernel
theorem d_LW_law_740 : decode code 740 = .ok (.ireturn, 1) := by decide +kernel
end
section
-- what the methods compute, in plain functions; conditions stand as the bytecode asks them
def th_bd (t r : Int32) : Int32 := if t < 0 then 1 else if 2 < t then 1 else if r < 0 then 1 else if r ≤ 3 then 0 else 1
def th_bb (g : Int32) : Int32 := if g < 0 then 1 else if g ≤ 1 then 0 else 1
def th_rc (b : Int32) (f : Nat → Int32) (k : Int32) : Nat → Int32 := if k < 0 then f else if ¬ f k.toNatClampNeg = 3 - b then f else upd f k.toNatClampNeg 3
def th_reach (u : TS) (k : Int32) : TS := sCol u (th_rc (tBl u) (tCol u) k)
def th_rcs (b : Int32) (f g : Nat → Int32) (t : Int32) : Nat → Nat → Int32
  | 0 => f
  | k + 1 => th_rc b (th_rcs b f g t k) (g (t * 4 + nI k).toNatClampNeg)
def th_ans1 (u : TS) (t : Int32) : TS := sSt (sAns u (tAns u ||| 1 <<< (t &&& 31))) (upd (tSt u) t.toNatClampNeg (tPh u))
def th_answer (u : TS) (t : Int32) : TS := if tPh u < 1 then u else if 3 < tPh u then u else if ¬ tAns u >>> (t &&& 31) &&& 1 = 1 then (if ¬ tPh u = 3 then th_ans1 u t else sCol (th_ans1 u t) (th_rcs (tBl u) (tCol u) (tReg u) t 4)) else u
def th_watch (u : TS) (t o f : Int32) : TS := if tSt u t.toNatClampNeg = 1 then th_reach (th_reach u o) f else if ¬ tSt u t.toNatClampNeg = 2 then th_reach u o else th_reach (th_reach u o) f
def th_sig1 (u : TS) : TS := sPh (sAns u 0) (tPh u + 1)
def th_signal (u : TS) : TS := if tAns u = 7 then (if ¬ tPh u + 1 = 4 then th_sig1 u else th_reach (th_reach (th_sig1 u) (tGl u (0 : Int32).toNatClampNeg)) (tGl u (1 : Int32).toNatClampNeg)) else u
def th_fg (f : Nat → Int32) : Nat → Int32
  | 0 => -1
  | k + 1 => if ¬ f k = 3 then th_fg f k else nI k
def th_trc1 (u : TS) (g : Int32) : TS := th_reach (th_reach u (tL0 u g.toNatClampNeg)) (tL1 u g.toNatClampNeg)
def th_trc2 (u : TS) (g : Int32) : TS := sCol (th_trc1 u g) (upd (tCol (th_trc1 u g)) g.toNatClampNeg (tBl u))
def th_trace (u : TS) : TS := if 0 ≤ th_fg (tCol u) (tN u).toNatClampNeg then th_trc2 u (th_fg (tCol u) (tN u).toNatClampNeg) else sSw (sPh u 5) 0
def th_swp1 (u : TS) : TS := sCol u (if ¬ tCol u (tSw u).toNatClampNeg = 3 - tBl u then tCol u else upd (tCol u) (tSw u).toNatClampNeg 0)
def th_sweep (u : TS) : TS := if ¬ tSw u + 1 = tN u then sSw (th_swp1 u) (tSw u + 1) else sPh (sSw (th_swp1 u) 0) 0
def th_step (u : TS) : TS := if ¬ tPh u = 0 then (if 3 < tPh u then (if ¬ tPh u = 4 then th_sweep u else th_trace u) else th_signal u) else sAns (sPh (sBl u (3 - tBl u)) 1) 0
def th_drive (u : TS) : TS := th_step (th_answer (th_answer (th_answer u 0) 1) 2)
def th_dl : Nat → TS → TS
  | 0, u => u
  | k + 1, u => if tPh u = 0 then u else th_dl k (th_drive u)
def th_collect (u : TS) : TS := th_dl 80 (th_step (th_dl 80 u))
def th_fc (f : Nat → Int32) : Nat → Nat → Int32
  | 0, _ => -1
  | k + 1, i => if ¬ f i = 0 then th_fc f k (i + 1) else nI i
def th_free (u : TS) : Int32 := th_fc (tCol u) (tN u).toNatClampNeg 0
def th_ncol (u : TS) (k : Int32) : Nat → Int32 := if tPh u < 1 then upd (tCol u) k.toNatClampNeg (tBl u) else if 4 < tPh u then upd (tCol u) k.toNatClampNeg (tBl u) else upd (upd (tCol u) k.toNatClampNeg (tBl u)) k.toNatClampNeg 3
def th_new (u : TS) (k t r n : Int32) : TS :=
  sReg (sTag (sVal (sL1 (sL0 (sCol (sCnt u (tCnt u + 1)) (th_ncol u k)) (upd (tL0 u) k.toNatClampNeg (-1))) (upd (tL1 u) k.toNatClampNeg (-1))) (upd (tVal u) k.toNatClampNeg n)) (upd (tTag u) k.toNatClampNeg (tCnt u + 1))) (upd (tReg u) (t * 4 + r).toNatClampNeg k)
def th_make2 (u : TS) (t r n : Int32) : TS × Int32 := if 0 ≤ th_free u then (th_new u (th_free u) t r n, tCnt u + 1) else (u, -2)
def th_make (u : TS) (t r n : Int32) : TS × Int32 :=
  if th_bd t r = 0 then (if 0 ≤ th_free (th_answer u t) then (th_new (th_answer u t) (th_free (th_answer u t)) t r n, tCnt (th_answer u t) + 1) else th_make2 (th_collect (th_answer u t)) t r n) else (u, -1)
def th_copy (u : TS) (t r q : Int32) : TS × Int32 :=
  if ¬ th_bd t r = 0 then (u, -1) else if th_bd t q = 0 then (sReg (th_answer u t) (upd (tReg (th_answer u t)) (t * 4 + r).toNatClampNeg (tReg (th_answer u t) (t * 4 + q).toNatClampNeg)), 0) else (u, -1)
def th_drop (u : TS) (t r : Int32) : TS × Int32 :=
  if th_bd t r = 0 then (sReg (th_answer u t) (upd (tReg (th_answer u t)) (t * 4 + r).toNatClampNeg (-1)), 0) else (u, -1)
def th_load2 (u : TS) (t r k f : Int32) : TS × Int32 :=
  if 0 ≤ k then (if ¬ f = 0 then (sReg u (upd (tReg u) (t * 4 + r).toNatClampNeg (tL1 u k.toNatClampNeg)), 0) else (sReg u (upd (tReg u) (t * 4 + r).toNatClampNeg (tL0 u k.toNatClampNeg)), 0)) else (u, -3)
def th_load (u : TS) (t r q f : Int32) : TS × Int32 :=
  if ¬ th_bd t r = 0 then (u, -1) else if ¬ th_bd t q = 0 then (u, -1) else if th_bb f = 0 then th_load2 (th_answer u t) t r (tReg (th_answer u t) (t * 4 + q).toNatClampNeg) f else (u, -1)
def th_store2 (u : TS) (t k f n : Int32) : TS × Int32 :=
  if 0 ≤ k then (if ¬ f = 0 then (sL1 (th_watch u t (tL1 u k.toNatClampNeg) n) (upd (tL1 (th_watch u t (tL1 u k.toNatClampNeg) n)) k.toNatClampNeg n), 0) else (sL0 (th_watch u t (tL0 u k.toNatClampNeg) n) (upd (tL0 (th_watch u t (tL0 u k.toNatClampNeg) n)) k.toNatClampNeg n), 0)) else (u, -3)
def th_store (u : TS) (t q f r : Int32) : TS × Int32 :=
  if ¬ th_bd t q = 0 then (u, -1) else if ¬ th_bd t r = 0 then (u, -1) else if th_bb f = 0 then th_store2 (th_answer u t) t (tReg (th_answer u t) (t * 4 + q).toNatClampNeg) f (tReg (th_answer u t) (t * 4 + r).toNatClampNeg) else (u, -1)
def th_put2 (u : TS) (t g n : Int32) : TS × Int32 := (sGl (th_watch u t (tGl u g.toNatClampNeg) n) (upd (tGl (th_watch u t (tGl u g.toNatClampNeg) n)) g.toNatClampNeg n), 0)
def th_put (u : TS) (t g r : Int32) : TS × Int32 :=
  if ¬ th_bd t r = 0 then (u, -1) else if th_bb g = 0 then th_put2 (th_answer u t) t g (tReg (th_answer u t) (t * 4 + r).toNatClampNeg) else (u, -1)
def th_get (u : TS) (t r g : Int32) : TS × Int32 :=
  if ¬ th_bd t r = 0 then (u, -1) else if th_bb g = 0 then (sReg (th_answer u t) (upd (tReg (th_answer u t)) (t * 4 + r).toNatClampNeg (tGl (th_answer u t) g.toNatClampNeg)), 0) else (u, -1)
def th_swap2 (u : TS) (t r w q : Int32) : TS := sReg u (upd (upd (tReg u) (t * 4 + r).toNatClampNeg (tReg u (w * 4 + q).toNatClampNeg)) (w * 4 + q).toNatClampNeg (tReg u (t * 4 + r).toNatClampNeg))
def th_swap (u : TS) (t r w q : Int32) : TS × Int32 :=
  if ¬ th_bd t r = 0 then (u, -1) else if th_bd w q = 0 then (th_swap2 (th_answer (th_answer u t) w) t r w q, 0) else (u, -1)
def th_setn2 (u : TS) (k n : Int32) : TS × Int32 := if 0 ≤ k then (sVal u (upd (tVal u) k.toNatClampNeg n), 0) else (u, -3)
def th_setNumber (u : TS) (t r n : Int32) : TS × Int32 :=
  if th_bd t r = 0 then th_setn2 (th_answer u t) (tReg (th_answer u t) (t * 4 + r).toNatClampNeg) n else (u, -1)
def th_number (u : TS) (t r : Int32) : TS × Int32 :=
  if th_bd t r = 0 then (if 0 ≤ tReg u (t * 4 + r).toNatClampNeg then (u, tVal u (tReg u (t * 4 + r).toNatClampNeg).toNatClampNeg) else (u, 0)) else (u, 0)
def th_tag (u : TS) (k : Int32) : Int32 := if 0 ≤ k then tTag u k.toNatClampNeg else 0
def th_serial (u : TS) (t r : Int32) : TS × Int32 := if th_bd t r = 0 then (u, th_tag u (tReg u (t * 4 + r).toNatClampNeg)) else (u, -1)
def th_serialIn (u : TS) (t r f : Int32) : TS × Int32 :=
  if ¬ th_bd t r = 0 then (u, -1) else if th_bb f = 0 then (if 0 ≤ tReg u (t * 4 + r).toNatClampNeg then (if ¬ f = 0 then (u, th_tag u (tL1 u (tReg u (t * 4 + r).toNatClampNeg).toNatClampNeg)) else (u, th_tag u (tL0 u (tReg u (t * 4 + r).toNatClampNeg).toNatClampNeg))) else (u, -3)) else (u, -1)
def th_serialOf (u : TS) (g : Int32) : TS × Int32 := if th_bb g = 0 then (u, th_tag u (tGl u g.toNatClampNeg)) else (u, -1)
def th_cn (f : Nat → Int32) : Nat → Int32
  | 0 => 0
  | k + 1 => if f k = 0 then th_cn f k else th_cn f k + 1
def th_live (u : TS) : TS × Int32 := (th_collect u, th_cn (tCol (th_collect u)) (tN (th_collect u)).toNatClampNeg)
def th_it : Nat → TS → TS
  | 0, u => u
  | k + 1, u => th_it k (th_step u)
def th_rest (u : TS) (k : Int32) : TS := if k ≤ 63 then th_it k.toNatClampNeg u else th_it 63 u
def th_pause (u : TS) (t : Int32) : TS × Int32 := if t < 0 then (u, -1) else if t ≤ 2 then (th_answer u t, 0) else (u, -1)
def th_init (n : Int32) : TS := (if n < 4 then 4 else if 16 < n then 16 else n, fun _ => 0, fun _ => 0, fun _ => 0, fun _ => 0, fun _ => 0, fun _ => -1, fun _ => -1, fun _ => 0, 0, 0, 1, 0, 0)
-- the reference
def md_isR (t r : Int32) : Int32 := if t < 0 then 0 else if 2 < t then 0 else if r < 0 then 0 else if 3 < r then 0 else 1
def md_isB (f : Int32) : Int32 := if f = 0 then 1 else if ¬ f = 1 then 0 else 1
def md_clr (f : Nat → Int32) : Nat → Nat → Int32
  | 0 => f
  | k + 1 => upd (md_clr f k) k 0
def md_rts (f g : Nat → Int32) : Nat → Nat → Int32
  | 0 => f
  | k + 1 => upd (md_rts f g k) (g k).toNatClampNeg 1
def md_rt (v : MS) : Nat → Int32 := upd (upd (md_rts (md_clr (mRch v) ((mMade v).toNatClampNeg + 1)) (mReg v) 12) (mGl v (0 : Int32).toNatClampNeg).toNatClampNeg 1) (mGl v (1 : Int32).toNatClampNeg).toNatClampNeg 1
def md_roots (v : MS) : MS := eRch v (md_rt v)
def md_rf1 (f : Nat → Int32) (a b : Int32) : Nat → Int32 := upd (upd f a.toNatClampNeg 1) b.toNatClampNeg 1
def md_rfs (g f : Nat → Int32) : Nat → (Nat → Int32) × Int32
  | 0 => (f, 0)
  | k + 1 => if (md_rfs g f k).1 (k + 1) = 0 then md_rfs g f k else if (md_rfs g f k).1 (g (2 * (k + 1))).toNatClampNeg = 0 then (md_rf1 (md_rfs g f k).1 (g (2 * (k + 1))) (g (2 * (k + 1) + 1)), 1) else if ¬ (md_rfs g f k).1 (g (2 * (k + 1) + 1)).toNatClampNeg = 0 then md_rfs g f k else (md_rf1 (md_rfs g f k).1 (g (2 * (k + 1))) (g (2 * (k + 1) + 1)), 1)
def md_fields (v : MS) : MS × Int32 := (eRch v (md_rfs (mFld v) (mRch v) (mMade v).toNatClampNeg).1, (md_rfs (mFld v) (mRch v) (mMade v).toNatClampNeg).2)
def md_ll : Nat → Int32 → MS → MS
  | 0, _, v => v
  | k + 1, more, v => if more = 0 then v else md_ll k (md_fields v).2 (md_fields v).1
def md_cn (f : Nat → Int32) : Nat → Int32
  | 0 => 0
  | k + 1 => if f (k + 1) = 0 then md_cn f k else md_cn f k + 1
def md_lv0 (v : MS) : MS := eRch v (upd (md_rt v) (0 : Int32).toNatClampNeg 1)
def md_lv (v : MS) : MS := md_ll 512 1 (md_lv0 v)
def md_live (v : MS) : MS × Int32 := (md_lv v, md_cn (mRch (md_lv v)) (mMade (md_lv v)).toNatClampNeg)
def md_new (v : MS) (t r n : Int32) : MS :=
  eReg (eNum (eFld (eMade v (mMade v + 1)) (upd (upd (mFld v) (2 * (mMade v + 1)).toNatClampNeg 0) (2 * (mMade v + 1) + 1).toNatClampNeg 0)) (upd (mNum v) (mMade v + 1).toNatClampNeg n)) (upd (mReg v) (4 * t + r).toNatClampNeg (mMade v + 1))
def md_make (v : MS) (t r n : Int32) : MS × Int32 :=
  if ¬ md_isR t r = 0 then (if mRoom (md_live v).1 ≤ (md_live v).2 then ((md_live v).1, -2) else if ¬ mMade (md_live v).1 = 512 then (md_new (md_live v).1 t r n, mMade (md_live v).1 + 1) else ((md_live v).1, -2)) else (v, -1)
def md_copy (v : MS) (t r q : Int32) : MS × Int32 :=
  if md_isR t r = 0 then (v, -1) else if ¬ md_isR t q = 0 then (eReg v (upd (mReg v) (4 * t + r).toNatClampNeg (mReg v (4 * t + q).toNatClampNeg)), 0) else (v, -1)
def md_drop (v : MS) (t r : Int32) : MS × Int32 := if ¬ md_isR t r = 0 then (eReg v (upd (mReg v) (4 * t + r).toNatClampNeg 0), 0) else (v, -1)
def md_load2 (v : MS) (t r k f : Int32) : MS × Int32 := if ¬ k = 0 then (eReg v (upd (mReg v) (4 * t + r).toNatClampNeg (mFld v (2 * k + f).toNatClampNeg)), 0) else (v, -3)
def md_load (v : MS) (t r q f : Int32) : MS × Int32 :=
  if md_isR t r = 0 then (v, -1) else if md_isR t q = 0 then (v, -1) else if ¬ md_isB f = 0 then md_load2 v t r (mReg v (4 * t + q).toNatClampNeg) f else (v, -1)
def md_store2 (v : MS) (k f n : Int32) : MS × Int32 := if ¬ k = 0 then (eFld v (upd (mFld v) (2 * k + f).toNatClampNeg n), 0) else (v, -3)
def md_store (v : MS) (t q f r : Int32) : MS × Int32 :=
  if md_isR t r = 0 then (v, -1) else if md_isR t q = 0 then (v, -1) else if ¬ md_isB f = 0 then md_store2 v (mReg v (4 * t + q).toNatClampNeg) f (mReg v (4 * t + r).toNatClampNeg) else (v, -1)
def md_put (v : MS) (t g r : Int32) : MS × Int32 :=
  if md_isR t r = 0 then (v, -1) else if ¬ md_isB g = 0 then (eGl v (upd (mGl v) g.toNatClampNeg (mReg v (4 * t + r).toNatClampNeg)), 0) else (v, -1)
def md_get (v : MS) (t r g : Int32) : MS × Int32 :=
  if md_isR t r = 0 then (v, -1) else if ¬ md_isB g = 0 then (eReg v (upd (mReg v) (4 * t + r).toNatClampNeg (mGl v g.toNatClampNeg)), 0) else (v, -1)
def md_swap2 (v : MS) (t r w q : Int32) : MS := eReg v (upd (upd (mReg v) (4 * t + r).toNatClampNeg (mReg v (4 * w + q).toNatClampNeg)) (4 * w + q).toNatClampNeg (mReg v (4 * t + r).toNatClampNeg))
def md_swap (v : MS) (t r w q : Int32) : MS × Int32 :=
  if md_isR t r = 0 then (v, -1) else if ¬ md_isR w q = 0 then (md_swap2 v t r w q, 0) else (v, -1)
def md_setNumber (v : MS) (t r n : Int32) : MS × Int32 :=
  if ¬ md_isR t r = 0 then (if ¬ mReg v (4 * t + r).toNatClampNeg = 0 then (eNum v (upd (mNum v) (mReg v (4 * t + r).toNatClampNeg).toNatClampNeg n), 0) else (v, -3)) else (v, -1)
def md_number (v : MS) (t r : Int32) : MS × Int32 :=
  if md_isR t r = 0 then (v, 0) else if ¬ mReg v (4 * t + r).toNatClampNeg = 0 then (v, mNum v (mReg v (4 * t + r).toNatClampNeg).toNatClampNeg) else (v, 0)
def md_serial (v : MS) (t r : Int32) : MS × Int32 := if md_isR t r = 0 then (v, -1) else (v, mReg v (4 * t + r).toNatClampNeg)
def md_serialIn (v : MS) (t r f : Int32) : MS × Int32 :=
  if md_isR t r = 0 then (v, -1) else if ¬ md_isB f = 0 then (if ¬ mReg v (4 * t + r).toNatClampNeg = 0 then (v, mFld v (2 * mReg v (4 * t + r).toNatClampNeg + f).toNatClampNeg) else (v, -3)) else (v, -1)
def md_serialOf (v : MS) (g : Int32) : MS × Int32 := if md_isB g = 0 then (v, -1) else (v, mGl v g.toNatClampNeg)
def md_pause (v : MS) (t : Int32) : MS × Int32 := if t < 0 then (v, -1) else if t ≤ 2 then (v, 0) else (v, -1)
def md_init (n : Int32) : MS := (fun _ => 0, fun _ => 0, fun _ => 0, fun _ => 0, fun _ => 0, 0, if n < 4 then 4 else if 16 < n then 16 else n)
end
section
-- small facts about ranges; the plain safety of a picture (every place that is read lies in its array)
theorem vp_lt {i : Int32} {n : Nat} (h : vp_in i n) : i.toNatClampNeg < n := Nat.not_le.mp fun q => h (Or.inr q)
theorem th_rng {t r : Int32} (h : th_bd t r = 0) : ∃ j k : Nat, j < 3 ∧ k < 4 ∧ t = nI j ∧ r = nI k := by
  unfold th_bd at h
  split at h
  · exact absurd h (by decide)
  · rename_i h1
    split at h
    · exact absurd h (by decide)
    · rename_i h2
      split at h
      · exact absurd h (by decide)
      · rename_i h3
        split at h
        · rename_i h4
          obtain ⟨j, hj, rfl⟩ := nI_of2 (M := 2) (n := 2) (by decide) h1 (Int32.not_lt.mp h2)
          obtain ⟨k, hk, rfl⟩ := nI_of2 (M := 3) (n := 3) (by decide) h3 h4
          exact ⟨j, k, by omega, by omega, rfl, rfl⟩
        · exact absurd h (by decide)
theorem th_rngB {g : Int32} (h : th_bb g = 0) : ∃ j : Nat, j < 2 ∧ g = nI j := by
  unfold th_bb at h
  split at h
  · exact absurd h (by decide)
  · rename_i h1
    split at h
    · rename_i h2
      obtain ⟨j, hj, rfl⟩ := nI_of2 (M := 1) (n := 1) (by decide) h1 h2
      exact ⟨j, by omega, rfl⟩
    · exact absurd h (by decide)
theorem md_rng {t r : Int32} (h : ¬ md_isR t r = 0) : ∃ j k : Nat, j < 3 ∧ k < 4 ∧ t = nI j ∧ r = nI k := by
  unfold md_isR at h
  split at h
  · exact absurd rfl h
  · rename_i h1
    split at h
    · exact absurd rfl h
    · rename_i h2
      split at h
      · exact absurd rfl h
      · rename_i h3
        split at h
        · exact absurd rfl h
        · rename_i h4
          obtain ⟨j, hj, rfl⟩ := nI_of2 (M := 2) (n := 2) (by decide) h1 (Int32.not_lt.mp h2)
          obtain ⟨k, hk, rfl⟩ := nI_of2 (M := 3) (n := 3) (by decide) h3 (Int32.not_lt.mp h4)
          exact ⟨j, k, by omega, by omega, rfl, rfl⟩
theorem md_rngB {g : Int32} (h : ¬ md_isB g = 0) : ∃ j : Nat, j < 2 ∧ g = nI j := by
  unfold md_isB at h
  split at h
  · rename_i h1
    exact ⟨0, by omega, h1⟩
  · split at h
    · exact absurd rfl h
    · rename_i h1
      exact ⟨1, by omega, Decidable.not_not.mp h1⟩
theorem th_ix (j k : Nat) : nI j * 4 + nI k = nI (j * 4 + k) := by
  rw [show (4 : Int32) = nI 4 from rfl, pk_mul, nI_add]
theorem md_ix (j k : Nat) : 4 * nI j + nI k = nI (4 * j + k) := by
  rw [show (4 : Int32) = nI 4 from rfl, pk_mul, nI_add]
theorem md_ix2 (j k : Nat) : 2 * nI j + nI k = nI (2 * j + k) := by
  rw [show (2 : Int32) = nI 2 from rfl, pk_mul, nI_add]
theorem th_in12 {t r : Int32} (h : th_bd t r = 0) : vp_in (t * 4 + r) 12 := by
  obtain ⟨j, k, hj, hk, rfl, rfl⟩ := th_rng h
  rw [th_ix]
  exact vp_in_nI (by omega) (by omega)
theorem md_in12 {t r : Int32} (h : ¬ md_isR t r = 0) : vp_in (4 * t + r) 12 := by
  obtain ⟨j, k, hj, hk, rfl, rfl⟩ := md_rng h
  rw [md_ix]
  exact vp_in_nI (by omega) (by omega)
def th_thr (t : Int32) : Prop := ∃ j : Nat, j < 3 ∧ t = nI j
theorem th_thr_bd {t r : Int32} (h : th_bd t r = 0) : th_thr t := by
  obtain ⟨j, k, hj, hk, rfl, rfl⟩ := th_rng h
  exact ⟨j, hj, rfl⟩
theorem th_in3 {t : Int32} (h : th_thr t) : vp_in t 3 := by
  obtain ⟨j, hj, rfl⟩ := h
  exact vp_in_nI hj (by omega)
theorem th_in12k {t : Int32} {k : Nat} (h : th_thr t) (hk : k < 4) : vp_in (t * 4 + nI k) 12 := by
  obtain ⟨j, hj, rfl⟩ := h
  rw [th_ix]
  exact vp_in_nI (by omega) (by omega)
theorem th_in2 {g : Int32} (h : th_bb g = 0) : vp_in g 2 := by
  obtain ⟨j, hj, rfl⟩ := th_rngB h
  exact vp_in_nI hj (by omega)
theorem md_in2 {g : Int32} (h : ¬ md_isB g = 0) : vp_in g 2 := by
  obtain ⟨j, hj, rfl⟩ := md_rngB h
  exact vp_in_nI hj (by omega)
/-- a content: nothing, or a cell's number -/
def th_rf (k : Int32) : Prop := k < 0 ∨ vp_in k 16
theorem th_rf_in {k : Int32} (h : th_rf k) (h0 : ¬ k < 0) : vp_in k 16 := h.resolve_left h0
theorem th_rf_ge {k : Int32} (h : th_rf k) (h0 : 0 ≤ k) : vp_in k 16 := h.resolve_left (Int32.not_lt.mpr h0)
theorem th_rf_m1 : th_rf (-1) := Or.inl (by decide)
def th_ok (u : TS) : Prop := (∃ n k : Nat, 4 ≤ n ∧ n ≤ 16 ∧ k < n ∧ tN u = nI n ∧ tSw u = nI k) ∧ (∀ i, i < 12 → th_rf (tReg u i)) ∧ (∀ i, i < 2 → th_rf (tGl u i)) ∧ (∀ i, i < 16 → th_rf (tL0 u i)) ∧ (∀ i, i < 16 → th_rf (tL1 u i))
theorem th_answer_eq (u : TS) (t : Int32) : ∃ (f : Nat → Int32) (a : Int32) (w : Nat → Int32), th_answer u t = sCol (sSt (sAns u a) w) f := by
  unfold th_answer
  split
  · exact ⟨tCol u, tAns u, tSt u, rfl⟩
  · split
    · exact ⟨tCol u, tAns u, tSt u, rfl⟩
    · split
      · split
        · exact ⟨tCol u, tAns u ||| 1 <<< (t &&& 31), upd (tSt u) t.toNatClampNeg (tPh u), rfl⟩
        · exact ⟨th_rcs (tBl u) (tCol u) (tReg u) t 4, tAns u ||| 1 <<< (t &&& 31), upd (tSt u) t.toNatClampNeg (tPh u), rfl⟩
      · exact ⟨tCol u, tAns u, tSt u, rfl⟩
theorem th_ok_answer {u : TS} (t : Int32) (h : th_ok u) : th_ok (th_answer u t) := by
  obtain ⟨f, a, w, e⟩ := th_answer_eq u t
  rw [e]
  exact h
theorem th_ok_signal {u : TS} (h : th_ok u) : th_ok (th_signal u) := by
  unfold th_signal
  split
  · split
    · exact h
    · exact h
  · exact h
theorem th_ok_trace {u : TS} (h : th_ok u) : th_ok (th_trace u) := by
  unfold th_trace
  split
  · exact h
  · obtain ⟨⟨n, k, h1, h2, h3, h4, h5⟩, h6⟩ := h
    exact ⟨⟨n, 0, h1, h2, by omega, h4, nI_0.symm⟩, h6⟩
theorem th_ok_sweep {u : TS} (h : th_ok u) : th_ok (th_sweep u) := by
  unfold th_sweep
  obtain ⟨⟨n, k, h1, h2, h3, h4, h5⟩, h6⟩ := h
  split
  · rename_i h7
    rw [h4, h5, nI_1] at h7
    have h8 : k + 1 ≠ n := fun q => h7 (by rw [q])
    exact ⟨⟨n, k + 1, h1, h2, by omega, h4, by show tSw u + 1 = _; rw [h5, nI_1]⟩, h6⟩
  · exact ⟨⟨n, 0, h1, h2, by omega, h4, nI_0.symm⟩, h6⟩
theorem th_ok_step {u : TS} (h : th_ok u) : th_ok (th_step u) := by
  unfold th_step
  split
  · split
    · split
      · exact th_ok_sweep h
      · exact th_ok_trace h
    · exact th_ok_signal h
  · exact h
theorem th_ok_drive {u : TS} (h : th_ok u) : th_ok (th_drive u) := th_ok_step (th_ok_answer 2 (th_ok_answer 1 (th_ok_answer 0 h)))
theorem th_ok_dl {u : TS} (k : Nat) (h : th_ok u) : th_ok (th_dl k u) := by
  induction k generalizing u with
  | zero => exact h
  | succ k ih =>
    unfold th_dl
    split
    · exact h
    · exact ih (th_ok_drive h)
theorem th_ok_collect {u : TS} (h : th_ok u) : th_ok (th_collect u) := th_ok_dl 80 (th_ok_step (th_ok_dl 80 h))
theorem th_ok_n {u : TS} (h : th_ok u) : ∃ n : Nat, 4 ≤ n ∧ n ≤ 16 ∧ tN u = nI n ∧ (tN u).toNatClampNeg = n := by
  obtain ⟨⟨n, k, h1, h2, h3, h4, h5⟩, h6⟩ := h
  exact ⟨n, h1, h2, h4, by rw [h4]; exact nI_clamp (by omega)⟩
theorem th_ok_sw {u : TS} (h : th_ok u) : vp_in (tSw u) 16 := by
  obtain ⟨⟨n, k, h1, h2, h3, h4, h5⟩, h6⟩ := h
  rw [h5]
  exact vp_in_nI (by omega) (by omega)
theorem th_fg_rf (f : Nat → Int32) : ∀ n : Nat, n ≤ 16 → 0 ≤ th_fg f n → vp_in (th_fg f n) 16
  | 0, _, h => absurd (show (0 : Int32) ≤ -1 from h) (by decide)
  | n + 1, hn, h => by
    unfold th_fg at h ⊢
    split
    · rename_i h1
      rw [if_pos h1] at h
      exact th_fg_rf f n (by omega) h
    · exact vp_in_nI (by omega) (by omega)
theorem th_fc_rf (f : Nat → Int32) : ∀ k i : Nat, i + k ≤ 16 → 0 ≤ th_fc f k i → vp_in (th_fc f k i) 16
  | 0, _, _, h => absurd (show (0 : Int32) ≤ -1 from h) (by decide)
  | k + 1, i, hn, h => by
    unfold th_fc at h ⊢
    split
    · rename_i h1
      rw [if_pos h1] at h
      exact th_fc_rf f k (i + 1) (by omega) h
    · exact vp_in_nI (by omega) (by omega)
theorem th_free_in {u : TS} (h : th_ok u) (h0 : 0 ≤ th_free u) : vp_in (th_free u) 16 := by
  obtain ⟨n, h1, h2, h3, h4⟩ := th_ok_n h
  unfold th_free at h0 ⊢
  rw [h4] at h0 ⊢
  exact th_fc_rf _ _ _ (by omega) h0
end
section
-- contracts, printed by th.py
set_option maxHeartbeats 4000000 in
set_option maxRecDepth 100000 in
theorem c_TH_bad (l : Launch) (D : va_G) (cI cZ : ClassId) (ad : Nat → Nat) (u : TS) (t r : Int32) : ct_I l D cI cZ (th_W cI cZ ad) y_TH_bad b_TH_bad 3 (some .boolean) 0 [.ref (ad 0), .int t, .int r] u (u, th_bd t r) := by
  refine ct_I.mk (by decide) (Nat.le_of_ble_eq_true rfl) ?_
  intro p e s m below meth c A Q ls F hI hl hret
  have F : CallFix p m c b_TH_bad 3 s ([.ref (ad 0), .int t, .int r] : List Value).toArray lw_tb R_TH := F
  obtain ⟨hx, hb, hml, hown, hts⟩ := id F
  have hl : lv_has ls 3 [(0, .ref (ad 0)), (1, .int t), (2, .int r)] := hl
  refine lv_iload_n hx hb d_TH_bad_0 rfl (lv_at hl 1 rfl) ?_
  refine lv_if_lt (tgt := 18) hx hb d_TH_bad_1 (by decide) (fun c_1 => ?_) (fun c_1 => ?_)
  · refine lv_iconst (v := 1) hx hb d_TH_bad_18 (by decide) ?_
    refine lv_goto (tgt := 23) hx hb d_TH_bad_19 (by decide) ?_
    exact hret hI d_TH_bad_23 (by decide) (by (unfold th_bd; first | ((rw [if_pos c_1]) <;> rfl) | exact ((if_pos c_1).trans (rfl)).symm))
  · refine lv_iload_n hx hb d_TH_bad_4 rfl (lv_at hl 1 rfl) ?_
    refine lv_iconst (v := 2) hx hb d_TH_bad_5 (by decide) ?_
    refine lv_icmp_gt (tgt := 18) hx hb d_TH_bad_6 (by decide) (fun c_6 => ?_) (fun c_6 => ?_)
    · refine lv_iconst (v := 1) hx hb d_TH_bad_18 (by decide) ?_
      refine lv_goto (tgt := 23) hx hb d_TH_bad_19 (by decide) ?_
      exact hret hI d_TH_bad_23 (by decide) (by (unfold th_bd; first | ((rw [if_neg c_1, if_pos c_6]) <;> rfl) | exact ((if_neg c_1).trans ((if_pos c_6).trans (rfl))).symm))
    · refine lv_iload_n hx hb d_TH_bad_9 rfl (lv_at hl 2 rfl) ?_
      refine lv_if_lt (tgt := 18) hx hb d_TH_bad_10 (by decide) (fun c_10 => ?_) (fun c_10 => ?_)
      · refine lv_iconst (v := 1) hx hb d_TH_bad_18 (by decide) ?_
        refine lv_goto (tgt := 23) hx hb d_TH_bad_19 (by decide) ?_
        exact hret hI d_TH_bad_23 (by decide) (by (unfold th_bd; first | ((rw [if_neg c_1, if_neg c_6, if_pos c_10]) <;> rfl) | exact ((if_neg c_1).trans ((if_neg c_6).trans ((if_pos c_10).trans (rfl)))).symm))
      · refine lv_iload_n hx hb d_TH_bad_13 rfl (lv_at hl 2 rfl) ?_
        refine lv_iconst (v := 3) hx hb d_TH_bad_14 (by decide) ?_
        refine lv_icmp_le (tgt := 22) hx hb d_TH_bad_15 (by decide) (fun c_15 => ?_) (fun c_15 => ?_)
        · refine lv_iconst (v := 0) hx hb d_TH_bad_22 (by decide) ?_
          exact hret hI d_TH_bad_23 (by decide) (by (unfold th_bd; first | ((rw [if_neg c_1, if_neg c_6, if_neg c_10, if_pos c_15]) <;> rfl) | exact ((if_neg c_1).trans ((if_neg c_6).trans ((if_neg c_10).trans ((if_pos c_15).trans (rfl))))).symm))
        · refine lv_iconst (v := 1) hx hb d_TH_bad_18 (by decide) ?_
          refine lv_goto (tgt := 23) hx hb d_TH_bad_19 (by decide) ?_
          exact hret hI d_TH_bad_23 (by decide) (by (unfold th_bd; first | ((rw [if_neg c_1, if_neg c_6, if_neg c_10, if_neg c_15]) <;> rfl) | exact ((if_neg c_1).trans ((if_neg c_6).trans ((if_neg c_10).trans ((if_neg c_15).trans (rfl))))).symm))
set_option maxHeartbeats 4000000 in
set_option maxRecDepth 100000 in
theorem c_TH_badBit (l : Launch) (D : va_G) (cI cZ : ClassId) (ad : Nat → Nat) (u : TS) (g : Int32) : ct_I l D cI cZ (th_W cI cZ ad) y_TH_badBit b_TH_badBit 2 (some .boolean) 0 [.ref (ad 0), .int g] u (u, th_bb g) := by
  refine ct_I.mk (by decide) (Nat.le_of_ble_eq_true rfl) ?_
  intro p e s m below meth c A Q ls F hI hl hret
  have F : CallFix p m c b_TH_badBit 2 s ([.ref (ad 0), .int g] : List Value).toArray lw_tb R_TH := F
  obtain ⟨hx, hb, hml, hown, hts⟩ := id F
  have hl : lv_has ls 2 [(0, .ref (ad 0)), (1, .int g)] := hl
  refine lv_iload_n hx hb d_TH_badBit_0 rfl (lv_at hl 1 rfl) ?_
  refine lv_if_lt (tgt := 9) hx hb d_TH_badBit_1 (by decide) (fun c_1 => ?_) (fun c_1 => ?_)
  · refine lv_iconst (v := 1) hx hb d_TH_badBit_9 (by decide) ?_
    refine lv_goto (tgt := 14) hx hb d_TH_badBit_10 (by decide) ?_
    exact hret hI d_TH_badBit_14 (by decide) (by (unfold th_bb; first | ((rw [if_pos c_1]) <;> rfl) | exact ((if_pos c_1).trans (rfl)).symm))
  · refine lv_iload_n hx hb d_TH_badBit_4 rfl (lv_at hl 1 rfl) ?_
    refine lv_iconst (v := 1) hx hb d_TH_badBit_5 (by decide) ?_
    refine lv_icmp_le (tgt := 13) hx hb d_TH_badBit_6 (by decide) (fun c_6 => ?_) (fun c_6 => ?_)
    · refine lv_iconst (v := 0) hx hb d_TH_badBit_13 (by decide) ?_
      exact hret hI d_TH_badBit_14 (by decide) (by (unfold th_bb; first | ((rw [if_neg c_1, if_pos c_6]) <;> rfl) | exact ((if_neg c_1).trans ((if_pos c_6).trans (rfl))).symm))
    · refine lv_iconst (v := 1) hx hb d_TH_badBit_9 (by decide) ?_
      refine lv_goto (tgt := 14) hx hb d_TH_badBit_10 (by decide) ?_
      exact hret hI d_TH_badBit_14 (by decide) (by (unfold th_bb; first | ((rw [if_neg c_1, if_neg c_6]) <;> rfl) | exact ((if_neg c_1).trans ((if_neg c_6).trans (rfl))).symm))
set_option maxHeartbeats 4000000 in
set_option maxRecDepth 100000 in
theorem c_TH_reach (l : Launch) (D : va_G) (cI cZ : ClassId) (ad : Nat → Nat) (u : TS) (k : Int32) (hk : th_rf k) : ct_V l D cI cZ (th_W cI cZ ad) y_TH_reach b_TH_reach 2 none 0 [.ref (ad 0), .int k] u (th_reach u k) := by
  refine ct_V.mk (by decide) (Nat.le_of_ble_eq_true rfl) ?_
  intro p e s m below meth c A Q ls F hI hl hret
  have F : CallFix p m c b_TH_reach 2 s ([.ref (ad 0), .int k] : List Value).toArray lw_tb R_TH := F
  obtain ⟨hx, hb, hml, hown, hts⟩ := id F
  have hl : lv_has ls 2 [(0, .ref (ad 0)), (1, .int k)] := hl
  refine lv_iload_n hx hb d_TH_reach_0 rfl (lv_at hl 1 rfl) ?_
  refine lv_if_lt (tgt := 26) hx hb d_TH_reach_1 (by decide) (fun c_1 => ?_) (fun c_1 => ?_)
  · exact hret hI d_TH_reach_26 (by (unfold th_reach th_rc; first | ((rw [if_pos c_1]) <;> rfl) | exact ((if_pos c_1).trans (rfl)).symm))
  · refine lv_aload_n hx hb d_TH_reach_4 rfl (lv_at hl 0 rfl) ?_
    refine th_get_colour F hI d_TH_reach_5 ?_
    refine lv_iload_n hx hb d_TH_reach_8 rfl (lv_at hl 1 rfl) ?_
    refine th_ald_colour F hI (th_rf_in hk c_1) d_TH_reach_9 ?_
    refine lv_iconst (v := 3) hx hb d_TH_reach_10 (by decide) ?_
    refine lv_aload_n hx hb d_TH_reach_11 rfl (lv_at hl 0 rfl) ?_
    refine th_get_black F hI d_TH_reach_12 ?_
    refine lv_isub hx hb d_TH_reach_15 ?_
    refine lv_icmp_ne (tgt := 26) hx hb d_TH_reach_16 (by decide) (fun c_16 => ?_) (fun c_16 => ?_)
    · exact hret hI d_TH_reach_26 (by (unfold th_reach th_rc; first | ((rw [if_neg c_1, if_pos c_16]) <;> rfl) | exact ((if_neg c_1).trans ((if_pos c_16).trans (rfl))).symm))
    · refine lv_aload_n hx hb d_TH_reach_19 rfl (lv_at hl 0 rfl) ?_
      refine th_get_colour F hI d_TH_reach_20 ?_
      refine lv_iload_n hx hb d_TH_reach_23 rfl (lv_at hl 1 rfl) ?_
      refine lv_iconst (v := 3) hx hb d_TH_reach_24 (by decide) ?_
      refine th_ast_colour F hI (th_rf_in hk c_1) d_TH_reach_25 (fun H locs hI => ?_)
      exact hret hI d_TH_reach_26 (by (unfold th_reach th_rc; first | ((rw [if_neg c_1, if_neg (not_not_intro c_16)]) <;> rfl) | exact ((if_neg c_1).trans ((if_neg (not_not_intro c_16)).trans (rfl))).symm))
set_option maxHeartbeats 4000000 in
set_option maxRecDepth 100000 in
theorem c_TH_tagOf (l : Launch) (D : va_G) (cI cZ : ClassId) (ad : Nat → Nat) (u : TS) (k : Int32) (hk : th_rf k) : ct_I l D cI cZ (th_W cI cZ ad) y_TH_tagOf b_TH_tagOf 2 (some .int) 0 [.ref (ad 0), .int k] u (u, th_tag u k) := by
  refine ct_I.mk (by decide) (Nat.le_of_ble_eq_true rfl) ?_
  intro p e s m below meth c A Q ls F hI hl hret
  have F : CallFix p m c b_TH_tagOf 2 s ([.ref (ad 0), .int k] : List Value).toArray lw_tb R_TH := F
  obtain ⟨hx, hb, hml, hown, hts⟩ := id F
  have hl : lv_has ls 2 [(0, .ref (ad 0)), (1, .int k)] := hl
  refine lv_iload_n hx hb d_TH_tagOf_0 rfl (lv_at hl 1 rfl) ?_
  refine lv_if_ge (tgt := 8) hx hb d_TH_tagOf_1 (by decide) (fun c_1 => ?_) (fun c_1 => ?_)
  · refine lv_aload_n hx hb d_TH_tagOf_8 rfl (lv_at hl 0 rfl) ?_
    refine th_get_tag F hI d_TH_tagOf_9 ?_
    refine lv_iload_n hx hb d_TH_tagOf_12 rfl (lv_at hl 1 rfl) ?_
    refine th_ald_tag F hI (th_rf_ge hk c_1) d_TH_tagOf_13 ?_
    exact hret hI d_TH_tagOf_14 (rfl) (by (unfold th_tag; first | ((rw [if_pos c_1]) <;> rfl) | exact ((if_pos c_1).trans (rfl)).symm))
  · refine lv_iconst (v := 0) hx hb d_TH_tagOf_4 (by decide) ?_
    refine lv_goto (tgt := 14) hx hb d_TH_tagOf_5 (by decide) ?_
    exact hret hI d_TH_tagOf_14 (rfl) (by (unfold th_tag; first | ((rw [if_neg c_1]) <;> rfl) | exact ((if_neg c_1).trans (rfl)).symm))
set_option maxHeartbeats 4000000 in
set_option maxRecDepth 100000 in
theorem c_TH_made (l : Launch) (D : va_G) (cI cZ : ClassId) (ad : Nat → Nat) (u : TS) : ct_I l D cI cZ (th_W cI cZ ad) y_TH_made b_TH_made 1 (some .int) 5 [.ref (ad 0)] u (u, tCnt u) := by
  refine ct_I.mk (by decide) (Nat.le_of_ble_eq_true rfl) ?_
  intro p e s m below meth c A Q ls F hI hl hret
  have F : CallFix p m c b_TH_made 1 s ([.ref (ad 0)] : List Value).toArray lw_tb R_TH := F
  obtain ⟨hx, hb, hml, hown, hts⟩ := id F
  have hl : lv_has ls 1 [(0, .ref (ad 0))] := hl
  refine lv_aload_n hx hb d_TH_made_0 rfl (lv_at hl 0 rfl) ?_
  refine th_get_count F hI d_TH_made_1 ?_
  exact hret hI d_TH_made_4 (rfl) (rfl)
set_option maxHeartbeats 4000000 in
set_option maxRecDepth 100000 in
theorem c_TH_sweepStep (l : Launch) (D : va_G) (cI cZ : ClassId) (ad : Nat → Nat) (u : TS) (ok : th_ok u) : ct_V l D cI cZ (th_W cI cZ ad) y_TH_sweepStep b_TH_sweepStep 1 none 0 [.ref (ad 0)] u (th_sweep u) := by
  refine ct_V.mk (by decide) (Nat.le_of_ble_eq_true rfl) ?_
  intro p e s m below meth c A Q ls F hI hl hret
  have F : CallFix p m c b_TH_sweepStep 1 s ([.ref (ad 0)] : List Value).toArray lw_tb R_TH := F
  obtain ⟨hx, hb, hml, hown, hts⟩ := id F
  have hl : lv_has ls 1 [(0, .ref (ad 0))] := hl
  refine lv_aload_n hx hb d_TH_sweepStep_0 rfl (lv_at hl 0 rfl) ?_
  refine th_get_colour F hI d_TH_sweepStep_1 ?_
  refine lv_aload_n hx hb d_TH_sweepStep_4 rfl (lv_at hl 0 rfl) ?_
  refine th_get_sweepAt F hI d_TH_sweepStep_5 ?_
  refine th_ald_colour F hI (th_ok_sw ok) d_TH_sweepStep_8 ?_
  refine lv_iconst (v := 3) hx hb d_TH_sweepStep_9 (by decide) ?_
  refine lv_aload_n hx hb d_TH_sweepStep_10 rfl (lv_at hl 0 rfl) ?_
  refine th_get_black F hI d_TH_sweepStep_11 ?_
  refine lv_isub hx hb d_TH_sweepStep_14 ?_
  refine lv_icmp_ne (tgt := 28) hx hb d_TH_sweepStep_15 (by decide) (fun c_15 => ?_) (fun c_15 => ?_)
  · refine lv_aload_n hx hb d_TH_sweepStep_28 rfl (lv_at hl 0 rfl) ?_
    refine lv_dup hx hb d_TH_sweepStep_29 rfl ?_
    refine th_get_sweepAt F hI d_TH_sweepStep_30 ?_
    refine lv_iconst (v := 1) hx hb d_TH_sweepStep_33 (by decide) ?_
    refine lv_iadd hx hb d_TH_sweepStep_34 ?_
    refine th_put_sweepAt F hI d_TH_sweepStep_35 (fun H locs hI => ?_)
    refine lv_aload_n hx hb d_TH_sweepStep_38 rfl (lv_at hl 0 rfl) ?_
    refine th_get_sweepAt F hI d_TH_sweepStep_39 ?_
    refine lv_aload_n hx hb d_TH_sweepStep_42 rfl (lv_at hl 0 rfl) ?_
    refine th_get_cells F hI d_TH_sweepStep_43 ?_
    refine lv_icmp_ne (tgt := 59) hx hb d_TH_sweepStep_46 (by decide) (fun c_46 => ?_) (fun c_46 => ?_)
    · exact hret hI d_TH_sweepStep_59 (by (unfold th_sweep th_swp1; first | ((rw [if_pos c_46, if_pos c_15]) <;> rfl) | exact ((if_pos c_46).trans ((if_pos c_15).trans (rfl))).symm))
    · refine lv_aload_n hx hb d_TH_sweepStep_49 rfl (lv_at hl 0 rfl) ?_
      refine lv_iconst (v := 0) hx hb d_TH_sweepStep_50 (by decide) ?_
      refine th_put_sweepAt F hI d_TH_sweepStep_51 (fun H locs hI => ?_)
      refine lv_aload_n hx hb d_TH_sweepStep_54 rfl (lv_at hl 0 rfl) ?_
      refine lv_iconst (v := 0) hx hb d_TH_sweepStep_55 (by decide) ?_
      refine th_put_phase F hI d_TH_sweepStep_56 (fun H locs hI => ?_)
      exact hret hI d_TH_sweepStep_59 (by (unfold th_sweep th_swp1; first | ((rw [if_neg (not_not_intro c_46), if_pos c_15]) <;> rfl) | exact ((if_neg (not_not_intro c_46)).trans ((if_pos c_15).trans (rfl))).symm))
  · refine lv_aload_n hx hb d_TH_sweepStep_18 rfl (lv_at hl 0 rfl) ?_
    refine th_get_colour F hI d_TH_sweepStep_19 ?_
    refine lv_aload_n hx hb d_TH_sweepStep_22 rfl (lv_at hl 0 rfl) ?_
    refine th_get_sweepAt F hI d_TH_sweepStep_23 ?_
    refine lv_iconst (v := 0) hx hb d_TH_sweepStep_26 (by decide) ?_
    refine th_ast_colour F hI (th_ok_sw ok) d_TH_sweepStep_27 (fun H locs hI => ?_)
    refine lv_aload_n hx hb d_TH_sweepStep_28 rfl (lv_at hl 0 rfl) ?_
    refine lv_dup hx hb d_TH_sweepStep_29 rfl ?_
    refine th_get_sweepAt F hI d_TH_sweepStep_30 ?_
    refine lv_iconst (v := 1) hx hb d_TH_sweepStep_33 (by decide) ?_
    refine lv_iadd hx hb d_TH_sweepStep_34 ?_
    refine th_put_sweepAt F hI d_TH_sweepStep_35 (fun H locs hI => ?_)
    refine lv_aload_n hx hb d_TH_sweepStep_38 rfl (lv_at hl 0 rfl) ?_
    refine th_get_sweepAt F hI d_TH_sweepStep_39 ?_
    refine lv_aload_n hx hb d_TH_sweepStep_42 rfl (lv_at hl 0 rfl) ?_
    refine th_get_cells F hI d_TH_sweepStep_43 ?_
    refine lv_icmp_ne (tgt := 59) hx hb d_TH_sweepStep_46 (by decide) (fun c_46 => ?_) (fun c_46 => ?_)
    · exact hret hI d_TH_sweepStep_59 (by (unfold th_sweep th_swp1; first | ((rw [if_pos c_46, if_neg (not_not_intro c_15)]) <;> rfl) | exact ((if_pos c_46).trans ((if_neg (not_not_intro c_15)).trans (rfl))).symm))
    · refine lv_aload_n hx hb d_TH_sweepStep_49 rfl (lv_at hl 0 rfl) ?_
      refine lv_iconst (v := 0) hx hb d_TH_sweepStep_50 (by decide) ?_
      refine th_put_sweepAt F hI d_TH_sweepStep_51 (fun H locs hI => ?_)
      refine lv_aload_n hx hb d_TH_sweepStep_54 rfl (lv_at hl 0 rfl) ?_
      refine lv_iconst (v := 0) hx hb d_TH_sweepStep_55 (by decide) ?_
      refine th_put_phase F hI d_TH_sweepStep_56 (fun H locs hI => ?_)
      exact hret hI d_TH_sweepStep_59 (by (unfold th_sweep th_swp1; first | ((rw [if_neg (not_not_intro c_46), if_neg (not_not_intro c_15)]) <;> rfl) | exact ((if_neg (not_not_intro c_46)).trans ((if_neg (not_not_intro c_15)).trans (rfl))).symm))
set_option maxHeartbeats 4000000 in
set_option maxRecDepth 100000 in
theorem c_TH_freeCell (l : Launch) (D : va_G) (cI cZ : ClassId) (ad : Nat → Nat) (u : TS) (ok : th_ok u) : ct_I l D cI cZ (th_W cI cZ ad) y_TH_freeCell b_TH_freeCell 2 (some .int) 0 [.ref (ad 0)] u (u, th_free u) := by
  refine ct_I.mk (by decide) (Nat.le_of_ble_eq_true rfl) ?_
  intro p e s m below meth c A Q ls F hI hl hret
  have F : CallFix p m c b_TH_freeCell 2 s ([.ref (ad 0)] : List Value).toArray lw_tb R_TH := F
  obtain ⟨hx, hb, hml, hown, hts⟩ := id F
  have hl : lv_has ls 2 [(0, .ref (ad 0))] := hl
  obtain ⟨n, hn1, hn2, hn3, hn4⟩ := th_ok_n ok
  refine lv_iconst (v := 0) hx hb d_TH_freeCell_0 (by decide) ?_
  refine lv_topi (fun v_1 e_1 => ?_)
  refine lv_istore_n (lv' := [(1, .int v_1), (0, .ref (ad 0))]) hx hb d_TH_freeCell_1 rfl hl (by decide) rfl (fun ls hl => ?_)
  have e_1 := e_1.symm; subst e_1
  have loop : ∀ (k i : Nat) (ls : Array Slot), i + k = n → th_fc (tCol u) k i = th_free u → lv_has ls 2 [(1, .int (nI i)), (0, .ref (ad 0))] → W p l e (cw_rm 0) s m ([.ref (ad 0)] : List Value).toArray below meth c s.heap [] 0 0 Q (F0 m 2 ls []) := by
    intro k
    induction k with
    | zero =>
      intro i ls hi hf hl
      refine lv_iload_n hx hb d_TH_freeCell_2 rfl (lv_at hl 0 rfl) ?_
      refine lv_aload_n hx hb d_TH_freeCell_3 rfl (lv_at hl 1 rfl) ?_
      refine th_get_cells F hI d_TH_freeCell_4 ?_
      refine lv_icmp_ge (tgt := 27) hx hb d_TH_freeCell_7 (by decide) (fun c_7 => ?_) (fun c_7 => ?_)
      · refine lv_iconst (v := (-1)) hx hb d_TH_freeCell_27 (by decide) ?_
        exact hret hI d_TH_freeCell_28 (rfl) (by rw [← hf]; rfl)
      · exact absurd (by rw [hn3, show i = n by omega]; exact Int32.le_refl _) c_7
    | succ k ih =>
      intro i ls hi hf hl
      refine lv_iload_n hx hb d_TH_freeCell_2 rfl (lv_at hl 0 rfl) ?_
      refine lv_aload_n hx hb d_TH_freeCell_3 rfl (lv_at hl 1 rfl) ?_
      refine th_get_cells F hI d_TH_freeCell_4 ?_
      refine lv_icmp_ge (tgt := 27) hx hb d_TH_freeCell_7 (by decide) (fun c_7 => ?_) (fun c_7 => ?_)
      · exact absurd c_7 (by rw [hn3]; exact nI_ge (by omega) (by omega))
      · refine lv_aload_n hx hb d_TH_freeCell_10 rfl (lv_at hl 1 rfl) ?_
        refine th_get_colour F hI d_TH_freeCell_11 ?_
        refine lv_iload_n hx hb d_TH_freeCell_14 rfl (lv_at hl 0 rfl) ?_
        refine th_ald_colour F hI (vp_in_nI (by omega) (by omega)) d_TH_freeCell_15 ?_
        refine lv_if_ne (tgt := 21) hx hb d_TH_freeCell_16 (by decide) (fun c_16 => ?_) (fun c_16 => ?_)
        · obtain ⟨v_21, e_21⟩ : ∃ y : Int32, y = (nI i) + 1 := ⟨_, rfl⟩
          refine lv_iinc (v := v_21) (lv' := [(1, .int v_21), (0, .ref (ad 0))]) hx hb d_TH_freeCell_21 hl (k := 0) rfl (by rw [e_21]; rfl) (by decide) rfl (fun ls hl => ?_)
          refine lv_goto (tgt := 2) hx hb d_TH_freeCell_24 (by decide) ?_
          rw [nI_1] at e_21
          have e_21 := e_21.symm; subst e_21
          rw [nI_clamp (by omega)] at c_16
          exact ih (i + 1) ls (by omega) (by rw [← hf, th_fc, if_pos c_16]) hl
        · refine lv_iload_n hx hb d_TH_freeCell_19 rfl (lv_at hl 0 rfl) ?_
          exact hret hI d_TH_freeCell_20 (rfl) (by rw [nI_clamp (by omega)] at c_16; rw [← hf, th_fc, if_neg (not_not_intro c_16)])
  exact loop n 0 ls (by omega) (by unfold th_free; rw [hn4]) hl
end
section
-- contracts, printed by th.py
set_option maxHeartbeats 4000000 in
set_option maxRecDepth 100000 in
theorem c_TH_answer (l : Launch) (D : va_G) (cI cZ : ClassId) (ad : Nat → Nat) (u : TS) (t : Int32) (ht : th_thr t) (ok : th_ok u) : ct_V l D cI cZ (th_W cI cZ ad) y_TH_answer b_TH_answer 3 none 1 [.ref (ad 0), .int t] u (th_answer u t) := by
  refine ct_V.mk (by decide) (Nat.le_of_ble_eq_true rfl) ?_
  intro p e s m below meth c A Q ls F hI hl hret
  have F : CallFix p m c b_TH_answer 3 s ([.ref (ad 0), .int t] : List Value).toArray lw_tb R_TH := F
  obtain ⟨hx, hb, hml, hown, hts⟩ := id F
  have hl : lv_has ls 3 [(0, .ref (ad 0)), (1, .int t)] := hl
  refine lv_aload_n hx hb d_TH_answer_0 rfl (lv_at hl 0 rfl) ?_
  refine th_get_phase F hI d_TH_answer_1 ?_
  refine lv_iconst (v := 1) hx hb d_TH_answer_4 (by decide) ?_
  refine lv_icmp_lt (tgt := 28) hx hb d_TH_answer_5 (by decide) (fun c_5 => ?_) (fun c_5 => ?_)
  · exact hret hI d_TH_answer_28 (by (unfold th_answer; first | ((rw [if_pos c_5]) <;> rfl) | exact ((if_pos c_5).trans (rfl)).symm))
  · refine lv_aload_n hx hb d_TH_answer_8 rfl (lv_at hl 0 rfl) ?_
    refine th_get_phase F hI d_TH_answer_9 ?_
    refine lv_iconst (v := 3) hx hb d_TH_answer_12 (by decide) ?_
    refine lv_icmp_gt (tgt := 28) hx hb d_TH_answer_13 (by decide) (fun c_13 => ?_) (fun c_13 => ?_)
    · exact hret hI d_TH_answer_28 (by (unfold th_answer; first | ((rw [if_neg c_5, if_pos c_13]) <;> rfl) | exact ((if_neg c_5).trans ((if_pos c_13).trans (rfl))).symm))
    · refine lv_aload_n hx hb d_TH_answer_16 rfl (lv_at hl 0 rfl) ?_
      refine th_get_answered F hI d_TH_answer_17 ?_
      refine lv_iload_n hx hb d_TH_answer_20 rfl (lv_at hl 1 rfl) ?_
      refine lv_ishr hx hb d_TH_answer_21 ?_
      refine lv_iconst (v := 1) hx hb d_TH_answer_22 (by decide) ?_
      refine lv_iand hx hb d_TH_answer_23 ?_
      refine lv_iconst (v := 1) hx hb d_TH_answer_24 (by decide) ?_
      refine lv_icmp_ne (tgt := 29) hx hb d_TH_answer_25 (by decide) (fun c_25 => ?_) (fun c_25 => ?_)
      · refine lv_aload_n hx hb d_TH_answer_29 rfl (lv_at hl 0 rfl) ?_
        refine lv_aload_n hx hb d_TH_answer_30 rfl (lv_at hl 0 rfl) ?_
        refine th_get_answered F hI d_TH_answer_31 ?_
        refine lv_iconst (v := 1) hx hb d_TH_answer_34 (by decide) ?_
        refine lv_iload_n hx hb d_TH_answer_35 rfl (lv_at hl 1 rfl) ?_
        refine lv_ishl hx hb d_TH_answer_36 ?_
        refine lv_ior hx hb d_TH_answer_37 ?_
        refine th_put_answered F hI d_TH_answer_38 (fun H locs hI => ?_)
        refine lv_aload_n hx hb d_TH_answer_41 rfl (lv_at hl 0 rfl) ?_
        refine th_get_status F hI d_TH_answer_42 ?_
        refine lv_iload_n hx hb d_TH_answer_45 rfl (lv_at hl 1 rfl) ?_
        refine lv_aload_n hx hb d_TH_answer_46 rfl (lv_at hl 0 rfl) ?_
        refine th_get_phase F hI d_TH_answer_47 ?_
        refine th_ast_status F hI (th_in3 ht) d_TH_answer_50 (fun H locs hI => ?_)
        refine lv_aload_n hx hb d_TH_answer_51 rfl (lv_at hl 0 rfl) ?_
        refine th_get_phase F hI d_TH_answer_52 ?_
        refine lv_iconst (v := 3) hx hb d_TH_answer_55 (by decide) ?_
        refine lv_icmp_ne (tgt := 86) hx hb d_TH_answer_56 (by decide) (fun c_56 => ?_) (fun c_56 => ?_)
        · exact hret hI d_TH_answer_86 (by (unfold th_answer; first | ((rw [if_neg c_5, if_neg c_13, if_pos c_25, if_pos c_56]) <;> rfl) | exact ((if_neg c_5).trans ((if_neg c_13).trans ((if_pos c_25).trans ((if_pos c_56).trans (rfl))))).symm))
        · refine lv_iconst (v := 0) hx hb d_TH_answer_59 (by decide) ?_
          refine lv_topi (fun v_60 e_60 => ?_)
          refine lv_istore_n (lv' := [(2, .int v_60), (0, .ref (ad 0)), (1, .int t)]) hx hb d_TH_answer_60 rfl hl (by decide) rfl (fun ls hl => ?_)
          have e_60 := e_60.symm; subst e_60
          have loop : ∀ (k i : Nat) (H : Heap) (locs : List Loc) (ls : Array Slot), i + k = 4 → cw_I D cI cZ A s.heap s (th_W cI cZ ad (sCol (th_ans1 u t) (th_rcs (tBl u) (tCol u) (tReg u) t i))) H locs → lv_has ls 3 [(2, .int (nI i)), (0, .ref (ad 0)), (1, .int t)] → W p l e (cw_rm 1) s m ([.ref (ad 0), .int t] : List Value).toArray below meth c H locs 0 0 Q (F0 m 61 ls []) := by
            intro k
            induction k with
            | zero =>
              intro i H locs ls hi hI hl
              have hi : i = 4 := by omega
              subst hi
              refine lv_iload_n hx hb d_TH_answer_61 rfl (lv_at hl 0 rfl) ?_
              refine lv_iconst (v := 4) hx hb d_TH_answer_62 (by decide) ?_
              refine lv_icmp_ge (tgt := 86) hx hb d_TH_answer_63 (by decide) (fun c_63 => ?_) (fun c_63 => ?_)
              · exact hret hI d_TH_answer_86 (by (unfold th_answer; first | ((rw [if_neg c_5, if_neg c_13, if_pos c_25, if_neg (not_not_intro c_56)]) <;> rfl) | exact ((if_neg c_5).trans ((if_neg c_13).trans ((if_pos c_25).trans ((if_neg (not_not_intro c_56)).trans (rfl))))).symm))
              · exact absurd (by decide) c_63
            | succ k ih =>
              intro i H locs ls hi hI hl
              refine lv_iload_n hx hb d_TH_answer_61 rfl (lv_at hl 0 rfl) ?_
              refine lv_iconst (v := 4) hx hb d_TH_answer_62 (by decide) ?_
              refine lv_icmp_ge (tgt := 86) hx hb d_TH_answer_63 (by decide) (fun c_63 => ?_) (fun c_63 => ?_)
              · exact absurd c_63 (nI_ge (a := i) (b := 4) (by omega) (by decide))
              · refine lv_aload_n hx hb d_TH_answer_66 rfl (lv_at hl 1 rfl) ?_
                refine lv_aload_n hx hb d_TH_answer_67 rfl (lv_at hl 1 rfl) ?_
                refine th_get_reg F hI d_TH_answer_68 ?_
                refine lv_iload_n hx hb d_TH_answer_71 rfl (lv_at hl 2 rfl) ?_
                refine lv_iconst (v := 4) hx hb d_TH_answer_72 (by decide) ?_
                refine lv_imul hx hb d_TH_answer_73 ?_
                refine lv_iload_n hx hb d_TH_answer_74 rfl (lv_at hl 0 rfl) ?_
                refine lv_iadd hx hb d_TH_answer_75 ?_
                refine th_ald_reg F hI (th_in12k ht (by omega)) d_TH_answer_76 ?_
                refine th_callV1 F hI (c_TH_reach l D cI cZ ad _ _ (ok.2.1 _ (vp_lt (th_in12k ht (by omega))))) wk_TH_47 rfl ⟨Nat.le_of_ble_eq_true rfl, Nat.le_of_ble_eq_true rfl⟩ hl.1 (Nat.le_of_ble_eq_true rfl) ⟨Nat.zero_le _, Nat.zero_le _⟩ d_TH_answer_77 (fun H locs hI => ?_)
                obtain ⟨v_80, e_80⟩ : ∃ y : Int32, y = (nI i) + 1 := ⟨_, rfl⟩
                refine lv_iinc (v := v_80) (lv' := [(2, .int v_80), (0, .ref (ad 0)), (1, .int t)]) hx hb d_TH_answer_80 hl (k := 0) rfl (by rw [e_80]; rfl) (by decide) rfl (fun ls hl => ?_)
                refine lv_goto (tgt := 61) hx hb d_TH_answer_83 (by decide) ?_
                rw [nI_1] at e_80
                have e_80 := e_80.symm; subst e_80
                exact ih (i + 1) H locs ls (by omega) hI hl
          exact loop 4 0 H locs ls rfl hI hl
      · exact hret hI d_TH_answer_28 (by (unfold th_answer; first | ((rw [if_neg c_5, if_neg c_13, if_neg (not_not_intro c_25)]) <;> rfl) | exact ((if_neg c_5).trans ((if_neg c_13).trans ((if_neg (not_not_intro c_25)).trans (rfl)))).symm))
set_option maxHeartbeats 4000000 in
set_option maxRecDepth 100000 in
theorem c_TH_watch (l : Launch) (D : va_G) (cI cZ : ClassId) (ad : Nat → Nat) (u : TS) (t o f : Int32) (ht : th_thr t) (ho : th_rf o) (hf : th_rf f) : ct_V l D cI cZ (th_W cI cZ ad) y_TH_watch b_TH_watch 4 none 1 [.ref (ad 0), .int t, .int o, .int f] u (th_watch u t o f) := by
  refine ct_V.mk (by decide) (Nat.le_of_ble_eq_true rfl) ?_
  intro p e s m below meth c A Q ls F hI hl hret
  have F : CallFix p m c b_TH_watch 4 s ([.ref (ad 0), .int t, .int o, .int f] : List Value).toArray lw_tb R_TH := F
  obtain ⟨hx, hb, hml, hown, hts⟩ := id F
  have hl : lv_has ls 4 [(0, .ref (ad 0)), (1, .int t), (2, .int o), (3, .int f)] := hl
  refine lv_aload_n hx hb d_TH_watch_0 rfl (lv_at hl 0 rfl) ?_
  refine lv_iload_n hx hb d_TH_watch_1 rfl (lv_at hl 2 rfl) ?_
  refine th_callV1 F hI (c_TH_reach l D cI cZ ad _ _ ho) wk_TH_47 rfl ⟨Nat.le_of_ble_eq_true rfl, Nat.le_of_ble_eq_true rfl⟩ hl.1 (Nat.le_of_ble_eq_true rfl) ⟨Nat.zero_le _, Nat.zero_le _⟩ d_TH_watch_2 (fun H locs hI => ?_)
  refine lv_aload_n hx hb d_TH_watch_5 rfl (lv_at hl 0 rfl) ?_
  refine th_get_status F hI d_TH_watch_6 ?_
  refine lv_iload_n hx hb d_TH_watch_9 rfl (lv_at hl 1 rfl) ?_
  refine th_ald_status F hI (th_in3 ht) d_TH_watch_10 ?_
  refine lv_iconst (v := 1) hx hb d_TH_watch_11 (by decide) ?_
  refine lv_icmp_eq (tgt := 25) hx hb d_TH_watch_12 (by decide) (fun c_12 => ?_) (fun c_12 => ?_)
  · refine lv_aload_n hx hb d_TH_watch_25 rfl (lv_at hl 0 rfl) ?_
    refine lv_iload_n hx hb d_TH_watch_26 rfl (lv_at hl 3 rfl) ?_
    refine th_callV1 F hI (c_TH_reach l D cI cZ ad _ _ hf) wk_TH_47 rfl ⟨Nat.le_of_ble_eq_true rfl, Nat.le_of_ble_eq_true rfl⟩ hl.1 (Nat.le_of_ble_eq_true rfl) ⟨Nat.zero_le _, Nat.zero_le _⟩ d_TH_watch_27 (fun H locs hI => ?_)
    exact hret hI d_TH_watch_30 (by (unfold th_watch; first | ((rw [if_pos c_12]) <;> rfl) | exact ((if_pos c_12).trans (rfl)).symm))
  · refine lv_aload_n hx hb d_TH_watch_15 rfl (lv_at hl 0 rfl) ?_
    refine th_get_status F hI d_TH_watch_16 ?_
    refine lv_iload_n hx hb d_TH_watch_19 rfl (lv_at hl 1 rfl) ?_
    refine th_ald_status F hI (th_in3 ht) d_TH_watch_20 ?_
    refine lv_iconst (v := 2) hx hb d_TH_watch_21 (by decide) ?_
    refine lv_icmp_ne (tgt := 30) hx hb d_TH_watch_22 (by decide) (fun c_22 => ?_) (fun c_22 => ?_)
    · exact hret hI d_TH_watch_30 (by (unfold th_watch; first | ((rw [if_neg c_12, if_pos c_22]) <;> rfl) | exact ((if_neg c_12).trans ((if_pos c_22).trans (rfl))).symm))
    · refine lv_aload_n hx hb d_TH_watch_25 rfl (lv_at hl 0 rfl) ?_
      refine lv_iload_n hx hb d_TH_watch_26 rfl (lv_at hl 3 rfl) ?_
      refine th_callV1 F hI (c_TH_reach l D cI cZ ad _ _ hf) wk_TH_47 rfl ⟨Nat.le_of_ble_eq_true rfl, Nat.le_of_ble_eq_true rfl⟩ hl.1 (Nat.le_of_ble_eq_true rfl) ⟨Nat.zero_le _, Nat.zero_le _⟩ d_TH_watch_27 (fun H locs hI => ?_)
      exact hret hI d_TH_watch_30 (by (unfold th_watch; first | ((rw [if_neg c_12, if_neg (not_not_intro c_22)]) <;> rfl) | exact ((if_neg c_12).trans ((if_neg (not_not_intro c_22)).trans (rfl))).symm))
set_option maxHeartbeats 4000000 in
set_option maxRecDepth 100000 in
theorem c_TH_signalStep (l : Launch) (D : va_G) (cI cZ : ClassId) (ad : Nat → Nat) (u : TS) (ok : th_ok u) : ct_V l D cI cZ (th_W cI cZ ad) y_TH_signalStep b_TH_signalStep 1 none 1 [.ref (ad 0)] u (th_signal u) := by
  refine ct_V.mk (by decide) (Nat.le_of_ble_eq_true rfl) ?_
  intro p e s m below meth c A Q ls F hI hl hret
  have F : CallFix p m c b_TH_signalStep 1 s ([.ref (ad 0)] : List Value).toArray lw_tb R_TH := F
  obtain ⟨hx, hb, hml, hown, hts⟩ := id F
  have hl : lv_has ls 1 [(0, .ref (ad 0))] := hl
  refine lv_aload_n hx hb d_TH_signalStep_0 rfl (lv_at hl 0 rfl) ?_
  refine th_get_answered F hI d_TH_signalStep_1 ?_
  refine lv_bipush (v := 7) hx hb d_TH_signalStep_4 (by decide) ?_
  refine lv_icmp_eq (tgt := 10) hx hb d_TH_signalStep_6 (by decide) (fun c_6 => ?_) (fun c_6 => ?_)
  · refine lv_aload_n hx hb d_TH_signalStep_10 rfl (lv_at hl 0 rfl) ?_
    refine lv_iconst (v := 0) hx hb d_TH_signalStep_11 (by decide) ?_
    refine th_put_answered F hI d_TH_signalStep_12 (fun H locs hI => ?_)
    refine lv_aload_n hx hb d_TH_signalStep_15 rfl (lv_at hl 0 rfl) ?_
    refine lv_dup hx hb d_TH_signalStep_16 rfl ?_
    refine th_get_phase F hI d_TH_signalStep_17 ?_
    refine lv_iconst (v := 1) hx hb d_TH_signalStep_20 (by decide) ?_
    refine lv_iadd hx hb d_TH_signalStep_21 ?_
    refine th_put_phase F hI d_TH_signalStep_22 (fun H locs hI => ?_)
    refine lv_aload_n hx hb d_TH_signalStep_25 rfl (lv_at hl 0 rfl) ?_
    refine th_get_phase F hI d_TH_signalStep_26 ?_
    refine lv_iconst (v := 4) hx hb d_TH_signalStep_29 (by decide) ?_
    refine lv_icmp_ne (tgt := 53) hx hb d_TH_signalStep_30 (by decide) (fun c_30 => ?_) (fun c_30 => ?_)
    · exact hret hI d_TH_signalStep_53 (by (unfold th_signal; first | ((rw [if_pos c_6, if_pos c_30]) <;> rfl) | exact ((if_pos c_6).trans ((if_pos c_30).trans (rfl))).symm))
    · refine lv_aload_n hx hb d_TH_signalStep_33 rfl (lv_at hl 0 rfl) ?_
      refine lv_aload_n hx hb d_TH_signalStep_34 rfl (lv_at hl 0 rfl) ?_
      refine th_get_global F hI d_TH_signalStep_35 ?_
      refine lv_iconst (v := 0) hx hb d_TH_signalStep_38 (by decide) ?_
      refine th_ald_global F hI (by unfold vp_in; decide) d_TH_signalStep_39 ?_
      refine th_callV1 F hI (c_TH_reach l D cI cZ ad _ _ (ok.2.2.1 _ (by decide))) wk_TH_47 rfl ⟨Nat.le_of_ble_eq_true rfl, Nat.le_of_ble_eq_true rfl⟩ hl.1 (Nat.le_of_ble_eq_true rfl) ⟨Nat.zero_le _, Nat.zero_le _⟩ d_TH_signalStep_40 (fun H locs hI => ?_)
      refine lv_aload_n hx hb d_TH_signalStep_43 rfl (lv_at hl 0 rfl) ?_
      refine lv_aload_n hx hb d_TH_signalStep_44 rfl (lv_at hl 0 rfl) ?_
      refine th_get_global F hI d_TH_signalStep_45 ?_
      refine lv_iconst (v := 1) hx hb d_TH_signalStep_48 (by decide) ?_
      refine th_ald_global F hI (by unfold vp_in; decide) d_TH_signalStep_49 ?_
      refine th_callV1 F hI (c_TH_reach l D cI cZ ad _ _ (ok.2.2.1 _ (by decide))) wk_TH_47 rfl ⟨Nat.le_of_ble_eq_true rfl, Nat.le_of_ble_eq_true rfl⟩ hl.1 (Nat.le_of_ble_eq_true rfl) ⟨Nat.zero_le _, Nat.zero_le _⟩ d_TH_signalStep_50 (fun H locs hI => ?_)
      exact hret hI d_TH_signalStep_53 (by (unfold th_signal; first | ((rw [if_pos c_6, if_neg (not_not_intro c_30)]) <;> rfl) | exact ((if_pos c_6).trans ((if_neg (not_not_intro c_30)).trans (rfl))).symm))
  · exact hret hI d_TH_signalStep_9 (by (unfold th_signal; first | ((rw [if_neg c_6]) <;> rfl) | exact ((if_neg c_6).trans (rfl)).symm))
set_option maxHeartbeats 4000000 in
set_option maxRecDepth 100000 in
theorem c_TH_traceStep (l : Launch) (D : va_G) (cI cZ : ClassId) (ad : Nat → Nat) (u : TS) (ok : th_ok u) : ct_V l D cI cZ (th_W cI cZ ad) y_TH_traceStep b_TH_traceStep 3 none 1 [.ref (ad 0)] u (th_trace u) := by
  refine ct_V.mk (by decide) (Nat.le_of_ble_eq_true rfl) ?_
  intro p e s m below meth c A Q ls F hI hl hret
  have F : CallFix p m c b_TH_traceStep 3 s ([.ref (ad 0)] : List Value).toArray lw_tb R_TH := F
  obtain ⟨hx, hb, hml, hown, hts⟩ := id F
  have hl : lv_has ls 3 [(0, .ref (ad 0))] := hl
  obtain ⟨n, hn1, hn2, hn3, hn4⟩ := th_ok_n ok
  refine lv_iconst (v := (-1)) hx hb d_TH_traceStep_0 (by decide) ?_
  refine lv_topi (fun v_1 e_1 => ?_)
  refine lv_istore_n (lv' := [(1, .int v_1), (0, .ref (ad 0))]) hx hb d_TH_traceStep_1 rfl hl (by decide) rfl (fun ls hl => ?_)
  refine lv_iconst (v := 0) hx hb d_TH_traceStep_2 (by decide) ?_
  refine lv_topi (fun v_3 e_3 => ?_)
  refine lv_istore_n (lv' := [(2, .int v_3), (1, .int v_1), (0, .ref (ad 0))]) hx hb d_TH_traceStep_3 rfl hl (by decide) rfl (fun ls hl => ?_)
  have e_3 := e_3.symm; subst e_3
  have e_1 := e_1.symm; subst e_1
  have hg := th_fg_rf (tCol u) n (by omega)
  have hz : th_fg (tCol u) (tN u).toNatClampNeg = th_fg (tCol u) n := by rw [hn4]
  have loop : ∀ (k i : Nat) (ls : Array Slot), i + k = n → lv_has ls 3 [(2, .int (nI i)), (1, .int (th_fg (tCol u) i)), (0, .ref (ad 0))] → W p l e (cw_rm 1) s m ([.ref (ad 0)] : List Value).toArray below meth c s.heap [] 0 0 Q (F0 m 4 ls []) := by
    intro k
    induction k with
    | zero =>
      intro i ls hi hl
      have hi : i = n := by omega
      subst hi
      refine lv_iload_n hx hb d_TH_traceStep_4 rfl (lv_at hl 0 rfl) ?_
      refine lv_aload_n hx hb d_TH_traceStep_5 rfl (lv_at hl 2 rfl) ?_
      refine th_get_cells F hI d_TH_traceStep_6 ?_
      refine lv_icmp_ge (tgt := 30) hx hb d_TH_traceStep_9 (by decide) (fun c_9 => ?_) (fun c_9 => ?_)
      · refine lv_iload_n hx hb d_TH_traceStep_30 rfl (lv_at hl 1 rfl) ?_
        refine lv_if_ge (tgt := 45) hx hb d_TH_traceStep_31 (by decide) (fun c_31 => ?_) (fun c_31 => ?_)
        · refine lv_aload_n hx hb d_TH_traceStep_45 rfl (lv_at hl 2 rfl) ?_
          refine lv_aload_n hx hb d_TH_traceStep_46 rfl (lv_at hl 2 rfl) ?_
          refine th_get_link0 F hI d_TH_traceStep_47 ?_
          refine lv_iload_n hx hb d_TH_traceStep_50 rfl (lv_at hl 1 rfl) ?_
          refine th_ald_link0 F hI (hg c_31) d_TH_traceStep_51 ?_
          refine th_callV1 F hI (c_TH_reach l D cI cZ ad _ _ (ok.2.2.2.1 _ (vp_lt (hg c_31)))) wk_TH_47 rfl ⟨Nat.le_of_ble_eq_true rfl, Nat.le_of_ble_eq_true rfl⟩ hl.1 (Nat.le_of_ble_eq_true rfl) ⟨Nat.zero_le _, Nat.zero_le _⟩ d_TH_traceStep_52 (fun H locs hI => ?_)
          refine lv_aload_n hx hb d_TH_traceStep_55 rfl (lv_at hl 2 rfl) ?_
          refine lv_aload_n hx hb d_TH_traceStep_56 rfl (lv_at hl 2 rfl) ?_
          refine th_get_link1 F hI d_TH_traceStep_57 ?_
          refine lv_iload_n hx hb d_TH_traceStep_60 rfl (lv_at hl 1 rfl) ?_
          refine th_ald_link1 F hI (hg c_31) d_TH_traceStep_61 ?_
          refine th_callV1 F hI (c_TH_reach l D cI cZ ad _ _ (ok.2.2.2.2 _ (vp_lt (hg c_31)))) wk_TH_47 rfl ⟨Nat.le_of_ble_eq_true rfl, Nat.le_of_ble_eq_true rfl⟩ hl.1 (Nat.le_of_ble_eq_true rfl) ⟨Nat.zero_le _, Nat.zero_le _⟩ d_TH_traceStep_62 (fun H locs hI => ?_)
          refine lv_aload_n hx hb d_TH_traceStep_65 rfl (lv_at hl 2 rfl) ?_
          refine th_get_colour F hI d_TH_traceStep_66 ?_
          refine lv_iload_n hx hb d_TH_traceStep_69 rfl (lv_at hl 1 rfl) ?_
          refine lv_aload_n hx hb d_TH_traceStep_70 rfl (lv_at hl 2 rfl) ?_
          refine th_get_black F hI d_TH_traceStep_71 ?_
          refine th_ast_colour F hI (hg c_31) d_TH_traceStep_74 (fun H locs hI => ?_)
          exact hret hI d_TH_traceStep_75 (by (unfold th_trace; (rw [hz, if_pos c_31]) <;> rfl))
        · refine lv_aload_n hx hb d_TH_traceStep_34 rfl (lv_at hl 2 rfl) ?_
          refine lv_iconst (v := 5) hx hb d_TH_traceStep_35 (by decide) ?_
          refine th_put_phase F hI d_TH_traceStep_36 (fun H locs hI => ?_)
          refine lv_aload_n hx hb d_TH_traceStep_39 rfl (lv_at hl 2 rfl) ?_
          refine lv_iconst (v := 0) hx hb d_TH_traceStep_40 (by decide) ?_
          refine th_put_sweepAt F hI d_TH_traceStep_41 (fun H locs hI => ?_)
          exact hret hI d_TH_traceStep_44 (by (unfold th_trace; (rw [hz, if_neg c_31]) <;> rfl))
      · exact absurd (by rw [hn3]; exact Int32.le_refl _) c_9
    | succ k ih =>
      intro i ls hi hl
      refine lv_iload_n hx hb d_TH_traceStep_4 rfl (lv_at hl 0 rfl) ?_
      refine lv_aload_n hx hb d_TH_traceStep_5 rfl (lv_at hl 2 rfl) ?_
      refine th_get_cells F hI d_TH_traceStep_6 ?_
      refine lv_icmp_ge (tgt := 30) hx hb d_TH_traceStep_9 (by decide) (fun c_9 => ?_) (fun c_9 => ?_)
      · exact absurd c_9 (by rw [hn3]; exact nI_ge (by omega) (by omega))
      · refine lv_aload_n hx hb d_TH_traceStep_12 rfl (lv_at hl 2 rfl) ?_
        refine th_get_colour F hI d_TH_traceStep_13 ?_
        refine lv_iload_n hx hb d_TH_traceStep_16 rfl (lv_at hl 0 rfl) ?_
        refine th_ald_colour F hI (vp_in_nI (by omega) (by omega)) d_TH_traceStep_17 ?_
        refine lv_iconst (v := 3) hx hb d_TH_traceStep_18 (by decide) ?_
        refine lv_icmp_ne (tgt := 24) hx hb d_TH_traceStep_19 (by decide) (fun c_19 => ?_) (fun c_19 => ?_)
        · obtain ⟨v_24, e_24⟩ : ∃ y : Int32, y = (nI i) + 1 := ⟨_, rfl⟩
          refine lv_iinc (v := v_24) (lv' := [(2, .int v_24), (1, .int (th_fg (tCol u) i)), (0, .ref (ad 0))]) hx hb d_TH_traceStep_24 hl (k := 0) rfl (by rw [e_24]; rfl) (by decide) rfl (fun ls hl => ?_)
          refine lv_goto (tgt := 4) hx hb d_TH_traceStep_27 (by decide) ?_
          rw [nI_1] at e_24
          have e_24 := e_24.symm; subst e_24
          rw [nI_clamp (by omega)] at c_19
          exact ih (i + 1) ls (by omega) (by rw [th_fg, if_pos c_19]; exact hl)
        · refine lv_iload_n hx hb d_TH_traceStep_22 rfl (lv_at hl 0 rfl) ?_
          refine lv_topi (fun v_23 e_23 => ?_)
          refine lv_istore_n (lv' := [(1, .int v_23), (2, .int (nI i)), (0, .ref (ad 0))]) hx hb d_TH_traceStep_23 rfl hl (by decide) rfl (fun ls hl => ?_)
          obtain ⟨v_24, e_24⟩ : ∃ y : Int32, y = (nI i) + 1 := ⟨_, rfl⟩
          refine lv_iinc (v := v_24) (lv' := [(2, .int v_24), (1, .int v_23), (0, .ref (ad 0))]) hx hb d_TH_traceStep_24 hl (k := 1) rfl (by rw [e_24]; rfl) (by decide) rfl (fun ls hl => ?_)
          refine lv_goto (tgt := 4) hx hb d_TH_traceStep_27 (by decide) ?_
          rw [nI_1] at e_24
          have e_24 := e_24.symm; subst e_24
          rw [nI_clamp (by omega)] at c_19
          have e_23 := e_23.symm; subst e_23
          exact ih (i + 1) ls (by omega) (by rw [th_fg, if_neg (not_not_intro c_19)]; exact hl)
  exact loop n 0 ls (by omega) hl
set_option maxHeartbeats 4000000 in
set_option maxRecDepth 100000 in
theorem c_TH_step (l : Launch) (D : va_G) (cI cZ : ClassId) (ad : Nat → Nat) (u : TS) (ok : th_ok u) : ct_V l D cI cZ (th_W cI cZ ad) y_TH_step b_TH_step 1 none 2 [.ref (ad 0)] u (th_step u) := by
  refine ct_V.mk (by decide) (Nat.le_of_ble_eq_true rfl) ?_
  intro p e s m below meth c A Q ls F hI hl hret
  have F : CallFix p m c b_TH_step 1 s ([.ref (ad 0)] : List Value).toArray lw_tb R_TH := F
  obtain ⟨hx, hb, hml, hown, hts⟩ := id F
  have hl : lv_has ls 1 [(0, .ref (ad 0))] := hl
  refine lv_aload_n hx hb d_TH_step_0 rfl (lv_at hl 0 rfl) ?_
  refine th_get_phase F hI d_TH_step_1 ?_
  refine lv_if_ne (tgt := 30) hx hb d_TH_step_4 (by decide) (fun c_4 => ?_) (fun c_4 => ?_)
  · refine lv_aload_n hx hb d_TH_step_30 rfl (lv_at hl 0 rfl) ?_
    refine th_get_phase F hI d_TH_step_31 ?_
    refine lv_iconst (v := 3) hx hb d_TH_step_34 (by decide) ?_
    refine lv_icmp_gt (tgt := 45) hx hb d_TH_step_35 (by decide) (fun c_35 => ?_) (fun c_35 => ?_)
    · refine lv_aload_n hx hb d_TH_step_45 rfl (lv_at hl 0 rfl) ?_
      refine th_get_phase F hI d_TH_step_46 ?_
      refine lv_iconst (v := 4) hx hb d_TH_step_49 (by decide) ?_
      refine lv_icmp_ne (tgt := 60) hx hb d_TH_step_50 (by decide) (fun c_50 => ?_) (fun c_50 => ?_)
      · refine lv_aload_n hx hb d_TH_step_60 rfl (lv_at hl 0 rfl) ?_
        refine th_callV0 F hI (c_TH_sweepStep l D cI cZ ad _ ok) wk_TH_57 rfl ⟨Nat.le_of_ble_eq_true rfl, Nat.le_of_ble_eq_true rfl⟩ hl.1 (Nat.le_of_ble_eq_true rfl) ⟨Nat.zero_le _, Nat.zero_le _⟩ d_TH_step_61 (fun H locs hI => ?_)
        exact hret hI d_TH_step_64 (by (unfold th_step; first | ((rw [if_pos c_4, if_pos c_35, if_pos c_50]) <;> rfl) | exact ((if_pos c_4).trans ((if_pos c_35).trans ((if_pos c_50).trans (rfl)))).symm))
      · refine lv_aload_n hx hb d_TH_step_53 rfl (lv_at hl 0 rfl) ?_
        refine th_callV0 F hI (c_TH_traceStep l D cI cZ ad _ ok) wk_TH_54 rfl ⟨Nat.le_of_ble_eq_true rfl, Nat.le_of_ble_eq_true rfl⟩ hl.1 (Nat.le_of_ble_eq_true rfl) ⟨Nat.zero_le _, Nat.zero_le _⟩ d_TH_step_54 (fun H locs hI => ?_)
        refine lv_goto (tgt := 64) hx hb d_TH_step_57 (by decide) ?_
        exact hret hI d_TH_step_64 (by (unfold th_step; first | ((rw [if_pos c_4, if_pos c_35, if_neg (not_not_intro c_50)]) <;> rfl) | exact ((if_pos c_4).trans ((if_pos c_35).trans ((if_neg (not_not_intro c_50)).trans (rfl)))).symm))
    · refine lv_aload_n hx hb d_TH_step_38 rfl (lv_at hl 0 rfl) ?_
      refine th_callV0 F hI (c_TH_signalStep l D cI cZ ad _ ok) wk_TH_51 rfl ⟨Nat.le_of_ble_eq_true rfl, Nat.le_of_ble_eq_true rfl⟩ hl.1 (Nat.le_of_ble_eq_true rfl) ⟨Nat.zero_le _, Nat.zero_le _⟩ d_TH_step_39 (fun H locs hI => ?_)
      refine lv_goto (tgt := 64) hx hb d_TH_step_42 (by decide) ?_
      exact hret hI d_TH_step_64 (by (unfold th_step; first | ((rw [if_pos c_4, if_neg c_35]) <;> rfl) | exact ((if_pos c_4).trans ((if_neg c_35).trans (rfl))).symm))
  · refine lv_aload_n hx hb d_TH_step_7 rfl (lv_at hl 0 rfl) ?_
    refine lv_iconst (v := 3) hx hb d_TH_step_8 (by decide) ?_
    refine lv_aload_n hx hb d_TH_step_9 rfl (lv_at hl 0 rfl) ?_
    refine th_get_black F hI d_TH_step_10 ?_
    refine lv_isub hx hb d_TH_step_13 ?_
    refine th_put_black F hI d_TH_step_14 (fun H locs hI => ?_)
    refine lv_aload_n hx hb d_TH_step_17 rfl (lv_at hl 0 rfl) ?_
    refine lv_iconst (v := 1) hx hb d_TH_step_18 (by decide) ?_
    refine th_put_phase F hI d_TH_step_19 (fun H locs hI => ?_)
    refine lv_aload_n hx hb d_TH_step_22 rfl (lv_at hl 0 rfl) ?_
    refine lv_iconst (v := 0) hx hb d_TH_step_23 (by decide) ?_
    refine th_put_answered F hI d_TH_step_24 (fun H locs hI => ?_)
    refine lv_goto (tgt := 64) hx hb d_TH_step_27 (by decide) ?_
    exact hret hI d_TH_step_64 (by (unfold th_step; first | ((rw [if_neg (not_not_intro c_4)]) <;> rfl) | exact ((if_neg (not_not_intro c_4)).trans (rfl)).symm))
set_option maxHeartbeats 4000000 in
set_option maxRecDepth 100000 in
theorem c_TH_drive (l : Launch) (D : va_G) (cI cZ : ClassId) (ad : Nat → Nat) (u : TS) (ok : th_ok u) : ct_V l D cI cZ (th_W cI cZ ad) y_TH_drive b_TH_drive 1 none 3 [.ref (ad 0)] u (th_drive u) := by
  refine ct_V.mk (by decide) (Nat.le_of_ble_eq_true rfl) ?_
  intro p e s m below meth c A Q ls F hI hl hret
  have F : CallFix p m c b_TH_drive 1 s ([.ref (ad 0)] : List Value).toArray lw_tb R_TH := F
  obtain ⟨hx, hb, hml, hown, hts⟩ := id F
  have hl : lv_has ls 1 [(0, .ref (ad 0))] := hl
  refine lv_aload_n hx hb d_TH_drive_0 rfl (lv_at hl 0 rfl) ?_
  refine lv_iconst (v := 0) hx hb d_TH_drive_1 (by decide) ?_
  refine th_callV1 F hI (c_TH_answer l D cI cZ ad _ _ ⟨0, by decide, rfl⟩ ok) wk_TH_63 rfl ⟨Nat.le_of_ble_eq_true rfl, Nat.le_of_ble_eq_true rfl⟩ hl.1 (Nat.le_of_ble_eq_true rfl) ⟨Nat.zero_le _, Nat.zero_le _⟩ d_TH_drive_2 (fun H locs hI => ?_)
  refine lv_aload_n hx hb d_TH_drive_5 rfl (lv_at hl 0 rfl) ?_
  refine lv_iconst (v := 1) hx hb d_TH_drive_6 (by decide) ?_
  refine th_callV1 F hI (c_TH_answer l D cI cZ ad _ _ ⟨1, by decide, rfl⟩ (th_ok_answer 0 ok)) wk_TH_63 rfl ⟨Nat.le_of_ble_eq_true rfl, Nat.le_of_ble_eq_true rfl⟩ hl.1 (Nat.le_of_ble_eq_true rfl) ⟨Nat.zero_le _, Nat.zero_le _⟩ d_TH_drive_7 (fun H locs hI => ?_)
  refine lv_aload_n hx hb d_TH_drive_10 rfl (lv_at hl 0 rfl) ?_
  refine lv_iconst (v := 2) hx hb d_TH_drive_11 (by decide) ?_
  refine th_callV1 F hI (c_TH_answer l D cI cZ ad _ _ ⟨2, by decide, rfl⟩ (th_ok_answer 1 (th_ok_answer 0 ok))) wk_TH_63 rfl ⟨Nat.le_of_ble_eq_true rfl, Nat.le_of_ble_eq_true rfl⟩ hl.1 (Nat.le_of_ble_eq_true rfl) ⟨Nat.zero_le _, Nat.zero_le _⟩ d_TH_drive_12 (fun H locs hI => ?_)
  refine lv_aload_n hx hb d_TH_drive_15 rfl (lv_at hl 0 rfl) ?_
  refine th_callV0 F hI (c_TH_step l D cI cZ ad _ (th_ok_answer 2 (th_ok_answer 1 (th_ok_answer 0 ok)))) wk_TH_66 rfl ⟨Nat.le_of_ble_eq_true rfl, Nat.le_of_ble_eq_true rfl⟩ hl.1 (Nat.le_of_ble_eq_true rfl) ⟨Nat.zero_le _, Nat.zero_le _⟩ d_TH_drive_16 (fun H locs hI => ?_)
  exact hret hI d_TH_drive_19 (by (unfold th_drive; rfl))
end
section
-- contracts, printed by th2.py
theorem cl_63 {n : Int32} (h : n ≤ 63) : n.toNatClampNeg ≤ 63 := by
  have h1 : n.toInt ≤ (63 : Int32).toInt := Int32.le_iff_toInt_le.mp h
  have h2 : (63 : Int32).toInt = 63 := by decide
  have h3 : n.toNatClampNeg = n.toInt.toNat := rfl
  omega
theorem cl_le {n : Int32} {i : Nat} (hi : i < 2 ^ 31) : n ≤ nI i ↔ n.toNatClampNeg ≤ i := by
  have h1 : n ≤ nI i ↔ n.toInt ≤ (nI i).toInt := Int32.le_iff_toInt_le
  have h3 : n.toNatClampNeg = n.toInt.toNat := rfl
  rw [h1, nI_toInt hi, h3]
  omega
theorem th_thr_of {t : Int32} (h1 : ¬ t < 0) (h2 : t ≤ 2) : th_thr t := by
  obtain ⟨j, hj, rfl⟩ := nI_of2 (M := 2) (n := 2) (by decide) h1 h2
  exact ⟨j, by omega, rfl⟩
set_option maxHeartbeats 4000000 in
set_option maxRecDepth 100000 in
theorem c_TH_collectAll (l : Launch) (D : va_G) (cI cZ : ClassId) (ad : Nat → Nat) (u : TS) (ok : th_ok u) : ct_V l D cI cZ (th_W cI cZ ad) y_TH_collectAll b_TH_collectAll 2 none 4 [.ref (ad 0)] u (th_collect u) := by
  refine ct_V.mk (by decide) (Nat.le_of_ble_eq_true rfl) ?_
  intro p e s m below meth c A Q ls F hI hl hret
  have F : CallFix p m c b_TH_collectAll 2 s ([.ref (ad 0)] : List Value).toArray lw_tb R_TH := F
  obtain ⟨hx, hb, hml, hown, hts⟩ := id F
  have hl : lv_has ls 2 [(0, .ref (ad 0))] := hl
  have k2 : ∀ (H : Heap) (locs : List Loc) (ls : Array Slot), cw_I D cI cZ A s.heap s (th_W cI cZ ad (th_dl 80 (th_step (th_dl 80 u)))) H locs → lv_has ls 2 [(0, .ref (ad 0))] → W p l e (cw_rm 4) s m ([.ref (ad 0)] : List Value).toArray below meth c H locs 0 0 Q (F0 m 54 ls []) := by
    intro H locs ls hI hl
    exact hret hI d_TH_collectAll_54 (rfl)
  have lp31 : ∀ (k i : Nat) (v : TS) (H : Heap) (locs : List Loc) (ls : Array Slot), i + k = 80 → th_dl k v = th_dl 80 (th_step (th_dl 80 u)) → th_ok v → cw_I D cI cZ A s.heap s (th_W cI cZ ad v) H locs → lv_has ls 2 [(1, .int (nI i)), (0, .ref (ad 0))] → W p l e (cw_rm 4) s m ([.ref (ad 0)] : List Value).toArray below meth c H locs 0 0 Q (F0 m 31 ls []) := by
    intro k
    induction k with
    | zero =>
      intro i v H locs ls hi hv okv hI hl
      have hi : i = 80 := by omega
      subst hi
      refine lv_iload_n hx hb d_TH_collectAll_31 rfl (lv_at hl 0 rfl) ?_
      refine lv_bipush (v := 80) hx hb d_TH_collectAll_32 (by decide) ?_
      refine lv_icmp_ge (tgt := 54) hx hb d_TH_collectAll_34 (by decide) (fun c_34 => ?_) (fun c_34 => ?_)
      · have hv : v = th_dl 80 (th_step (th_dl 80 u)) := hv
        rw [hv] at hI
        exact k2 H locs ls hI (lv_sub hl [1] rfl)
      · exact absurd (by decide) c_34
    | succ k ih =>
      intro i v H locs ls hi hv okv hI hl
      refine lv_iload_n hx hb d_TH_collectAll_31 rfl (lv_at hl 0 rfl) ?_
      refine lv_bipush (v := 80) hx hb d_TH_collectAll_32 (by decide) ?_
      refine lv_icmp_ge (tgt := 54) hx hb d_TH_collectAll_34 (by decide) (fun c_34 => ?_) (fun c_34 => ?_)
      · exact absurd c_34 (nI_ge (a := i) (b := 80) (by omega) (by decide))
      · refine lv_aload_n hx hb d_TH_collectAll_37 rfl (lv_at hl 1 rfl) ?_
        refine th_get_phase F hI d_TH_collectAll_38 ?_
        refine lv_if_eq (tgt := 54) hx hb d_TH_collectAll_41 (by decide) (fun c_41 => ?_) (fun c_41 => ?_)
        · rw [th_dl, if_pos c_41] at hv
          rw [hv] at hI
          exact k2 H locs ls hI (lv_sub hl [1] rfl)
        · refine lv_aload_n hx hb d_TH_collectAll_44 rfl (lv_at hl 1 rfl) ?_
          refine th_callV0 F hI (c_TH_drive l D cI cZ ad _ okv) wk_TH_69 rfl ⟨Nat.le_of_ble_eq_true rfl, Nat.le_of_ble_eq_true rfl⟩ hl.1 (Nat.le_of_ble_eq_true rfl) ⟨Nat.zero_le _, Nat.zero_le _⟩ d_TH_collectAll_45 (fun H locs hI => ?_)
          obtain ⟨v_48, e_48⟩ : ∃ y : Int32, y = (nI i) + 1 := ⟨_, rfl⟩
          refine lv_iinc (v := v_48) (lv' := [(1, .int v_48), (0, .ref (ad 0))]) hx hb d_TH_collectAll_48 hl (k := 0) rfl (by rw [e_48]; rfl) (by decide) rfl (fun ls hl => ?_)
          refine lv_goto (tgt := 31) hx hb d_TH_collectAll_51 (by decide) ?_
          rw [nI_1] at e_48
          subst e_48
          rw [th_dl, if_neg c_41] at hv
          exact ih (i + 1) _ H locs ls (by omega) hv (th_ok_drive okv) hI hl
  have k1 : ∀ (H : Heap) (locs : List Loc) (ls : Array Slot), cw_I D cI cZ A s.heap s (th_W cI cZ ad (th_dl 80 u)) H locs → lv_has ls 2 [(0, .ref (ad 0))] → W p l e (cw_rm 4) s m ([.ref (ad 0)] : List Value).toArray below meth c H locs 0 0 Q (F0 m 25 ls []) := by
    intro H locs ls hI hl
    refine lv_aload_n hx hb d_TH_collectAll_25 rfl (lv_at hl 0 rfl) ?_
    refine th_callV0 F hI (c_TH_step l D cI cZ ad _ (th_ok_dl 80 ok)) wk_TH_66 rfl ⟨Nat.le_of_ble_eq_true rfl, Nat.le_of_ble_eq_true rfl⟩ hl.1 (Nat.le_of_ble_eq_true rfl) ⟨Nat.zero_le _, Nat.zero_le _⟩ d_TH_collectAll_26 (fun H locs hI => ?_)
    refine lv_iconst (v := 0) hx hb d_TH_collectAll_29 (by decide) ?_
    refine lv_topi (fun v_30 e_30 => ?_)
    refine lv_istore_n (lv' := [(1, .int v_30), (0, .ref (ad 0))]) hx hb d_TH_collectAll_30 rfl hl (by decide) rfl (fun ls hl => ?_)
    have e_30 := e_30.symm; subst e_30
    exact lp31 80 0 _ H locs ls rfl rfl (th_ok_step (th_ok_dl 80 ok)) hI hl
  have lp2 : ∀ (k i : Nat) (v : TS) (H : Heap) (locs : List Loc) (ls : Array Slot), i + k = 80 → th_dl k v = th_dl 80 u → th_ok v → cw_I D cI cZ A s.heap s (th_W cI cZ ad v) H locs → lv_has ls 2 [(1, .int (nI i)), (0, .ref (ad 0))] → W p l e (cw_rm 4) s m ([.ref (ad 0)] : List Value).toArray below meth c H locs 0 0 Q (F0 m 2 ls []) := by
    intro k
    induction k with
    | zero =>
      intro i v H locs ls hi hv okv hI hl
      have hi : i = 80 := by omega
      subst hi
      refine lv_iload_n hx hb d_TH_collectAll_2 rfl (lv_at hl 0 rfl) ?_
      refine lv_bipush (v := 80) hx hb d_TH_collectAll_3 (by decide) ?_
      refine lv_icmp_ge (tgt := 25) hx hb d_TH_collectAll_5 (by decide) (fun c_5 => ?_) (fun c_5 => ?_)
      · have hv : v = th_dl 80 u := hv
        rw [hv] at hI
        exact k1 H locs ls hI (lv_sub hl [1] rfl)
      · exact absurd (by decide) c_5
    | succ k ih =>
      intro i v H locs ls hi hv okv hI hl
      refine lv_iload_n hx hb d_TH_collectAll_2 rfl (lv_at hl 0 rfl) ?_
      refine lv_bipush (v := 80) hx hb d_TH_collectAll_3 (by decide) ?_
      refine lv_icmp_ge (tgt := 25) hx hb d_TH_collectAll_5 (by decide) (fun c_5 => ?_) (fun c_5 => ?_)
      · exact absurd c_5 (nI_ge (a := i) (b := 80) (by omega) (by decide))
      · refine lv_aload_n hx hb d_TH_collectAll_8 rfl (lv_at hl 1 rfl) ?_
        refine th_get_phase F hI d_TH_collectAll_9 ?_
        refine lv_if_eq (tgt := 25) hx hb d_TH_collectAll_12 (by decide) (fun c_12 => ?_) (fun c_12 => ?_)
        · rw [th_dl, if_pos c_12] at hv
          rw [hv] at hI
          exact k1 H locs ls hI (lv_sub hl [1] rfl)
        · refine lv_aload_n hx hb d_TH_collectAll_15 rfl (lv_at hl 1 rfl) ?_
          refine th_callV0 F hI (c_TH_drive l D cI cZ ad _ okv) wk_TH_69 rfl ⟨Nat.le_of_ble_eq_true rfl, Nat.le_of_ble_eq_true rfl⟩ hl.1 (Nat.le_of_ble_eq_true rfl) ⟨Nat.zero_le _, Nat.zero_le _⟩ d_TH_collectAll_16 (fun H locs hI => ?_)
          obtain ⟨v_19, e_19⟩ : ∃ y : Int32, y = (nI i) + 1 := ⟨_, rfl⟩
          refine lv_iinc (v := v_19) (lv' := [(1, .int v_19), (0, .ref (ad 0))]) hx hb d_TH_collectAll_19 hl (k := 0) rfl (by rw [e_19]; rfl) (by decide) rfl (fun ls hl => ?_)
          refine lv_goto (tgt := 2) hx hb d_TH_collectAll_22 (by decide) ?_
          rw [nI_1] at e_19
          subst e_19
          rw [th_dl, if_neg c_12] at hv
          exact ih (i + 1) _ H locs ls (by omega) hv (th_ok_drive okv) hI hl
  refine lv_iconst (v := 0) hx hb d_TH_collectAll_0 (by decide) ?_
  refine lv_topi (fun v_1 e_1 => ?_)
  refine lv_istore_n (lv' := [(1, .int v_1), (0, .ref (ad 0))]) hx hb d_TH_collectAll_1 rfl hl (by decide) rfl (fun ls hl => ?_)
  have e_1 := e_1.symm; subst e_1
  exact lp2 80 0 u s.heap [] ls rfl rfl ok hI hl
set_option maxHeartbeats 4000000 in
set_option maxRecDepth 100000 in
theorem c_TH_live (l : Launch) (D : va_G) (cI cZ : ClassId) (ad : Nat → Nat) (u : TS) (ok : th_ok u) : ct_I l D cI cZ (th_W cI cZ ad) y_TH_live b_TH_live 3 (some .int) 5 [.ref (ad 0)] u (th_live u) := by
  refine ct_I.mk (by decide) (Nat.le_of_ble_eq_true rfl) ?_
  intro p e s m below meth c A Q ls F hI hl hret
  have F : CallFix p m c b_TH_live 3 s ([.ref (ad 0)] : List Value).toArray lw_tb R_TH := F
  obtain ⟨hx, hb, hml, hown, hts⟩ := id F
  have hl : lv_has ls 3 [(0, .ref (ad 0))] := hl
  have okv := th_ok_collect ok
  obtain ⟨n, hn1, hn2, hn3, hn4⟩ := th_ok_n okv
  refine lv_aload_n hx hb d_TH_live_0 rfl (lv_at hl 0 rfl) ?_
  refine th_callV0 F hI (c_TH_collectAll l D cI cZ ad _ ok) wk_TH_80 rfl ⟨Nat.le_of_ble_eq_true rfl, Nat.le_of_ble_eq_true rfl⟩ hl.1 (Nat.le_of_ble_eq_true rfl) ⟨Nat.zero_le _, Nat.zero_le _⟩ d_TH_live_1 (fun H locs hI => ?_)
  refine lv_iconst (v := 0) hx hb d_TH_live_4 (by decide) ?_
  refine lv_topi (fun v_5 e_5 => ?_)
  refine lv_istore_n (lv' := [(1, .int v_5), (0, .ref (ad 0))]) hx hb d_TH_live_5 rfl hl (by decide) rfl (fun ls hl => ?_)
  refine lv_iconst (v := 0) hx hb d_TH_live_6 (by decide) ?_
  refine lv_topi (fun v_7 e_7 => ?_)
  refine lv_istore_n (lv' := [(2, .int v_7), (1, .int v_5), (0, .ref (ad 0))]) hx hb d_TH_live_7 rfl hl (by decide) rfl (fun ls hl => ?_)
  have e_7 := e_7.symm; subst e_7
  have e_5 := e_5.symm; subst e_5
  have loop : ∀ (k i : Nat) (ls : Array Slot), i + k = n → lv_has ls 3 [(2, .int (nI i)), (1, .int (th_cn (tCol (th_collect u)) i)), (0, .ref (ad 0))] → W p l e (cw_rm 5) s m ([.ref (ad 0)] : List Value).toArray below meth c H locs 0 0 Q (F0 m 8 ls []) := by
    intro k
    induction k with
    | zero =>
      intro i ls hi hl
      have hi : i = n := by omega
      subst hi
      refine lv_iload_n hx hb d_TH_live_8 rfl (lv_at hl 0 rfl) ?_
      refine lv_aload_n hx hb d_TH_live_9 rfl (lv_at hl 2 rfl) ?_
      refine th_get_cells F hI d_TH_live_10 ?_
      refine lv_icmp_ge (tgt := 34) hx hb d_TH_live_13 (by decide) (fun c_13 => ?_) (fun c_13 => ?_)
      · refine lv_iload_n hx hb d_TH_live_34 rfl (lv_at hl 1 rfl) ?_
        exact hret hI d_TH_live_35 (rfl) (by unfold th_live; rw [hn4])
      · exact absurd (by rw [hn3]; exact Int32.le_refl _) c_13
    | succ k ih =>
      intro i ls hi hl
      refine lv_iload_n hx hb d_TH_live_8 rfl (lv_at hl 0 rfl) ?_
      refine lv_aload_n hx hb d_TH_live_9 rfl (lv_at hl 2 rfl) ?_
      refine th_get_cells F hI d_TH_live_10 ?_
      refine lv_icmp_ge (tgt := 34) hx hb d_TH_live_13 (by decide) (fun c_13 => ?_) (fun c_13 => ?_)
      · exact absurd c_13 (by rw [hn3]; exact nI_ge (by omega) (by omega))
      · refine lv_aload_n hx hb d_TH_live_16 rfl (lv_at hl 2 rfl) ?_
        refine th_get_colour F hI d_TH_live_17 ?_
        refine lv_iload_n hx hb d_TH_live_20 rfl (lv_at hl 0 rfl) ?_
        refine th_ald_colour F hI (vp_in_nI (by omega) (by omega)) d_TH_live_21 ?_
        refine lv_if_eq (tgt := 28) hx hb d_TH_live_22 (by decide) (fun c_22 => ?_) (fun c_22 => ?_)
        · obtain ⟨v_28, e_28⟩ : ∃ y : Int32, y = (nI i) + 1 := ⟨_, rfl⟩
          refine lv_iinc (v := v_28) (lv' := [(2, .int v_28), (1, .int (th_cn (tCol (th_collect u)) i)), (0, .ref (ad 0))]) hx hb d_TH_live_28 hl (k := 0) rfl (by rw [e_28]; rfl) (by decide) rfl (fun ls hl => ?_)
          refine lv_goto (tgt := 8) hx hb d_TH_live_31 (by decide) ?_
          rw [nI_1] at e_28
          have e_28 := e_28.symm; subst e_28
          rw [nI_clamp (by omega)] at c_22
          exact ih (i + 1) ls (by omega) (by rw [th_cn, if_pos c_22]; exact hl)
        · obtain ⟨v_25, e_25⟩ : ∃ y : Int32, y = (th_cn (tCol (th_collect u)) i) + 1 := ⟨_, rfl⟩
          refine lv_iinc (v := v_25) (lv' := [(1, .int v_25), (2, .int (nI i)), (0, .ref (ad 0))]) hx hb d_TH_live_25 hl (k := 1) rfl (by rw [e_25]; rfl) (by decide) rfl (fun ls hl => ?_)
          obtain ⟨v_28, e_28⟩ : ∃ y : Int32, y = (nI i) + 1 := ⟨_, rfl⟩
          refine lv_iinc (v := v_28) (lv' := [(2, .int v_28), (1, .int v_25), (0, .ref (ad 0))]) hx hb d_TH_live_28 hl (k := 1) rfl (by rw [e_28]; rfl) (by decide) rfl (fun ls hl => ?_)
          refine lv_goto (tgt := 8) hx hb d_TH_live_31 (by decide) ?_
          rw [nI_1] at e_28
          have e_28 := e_28.symm; subst e_28
          rw [nI_clamp (by omega)] at c_22
          have e_25 := e_25.symm; subst e_25
          exact ih (i + 1) ls (by omega) (by rw [th_cn, if_neg c_22]; exact hl)
  exact loop n 0 ls (by omega) hl
set_option maxHeartbeats 4000000 in
set_option maxRecDepth 100000 in
theorem c_TH_rest (l : Launch) (D : va_G) (cI cZ : ClassId) (ad : Nat → Nat) (u : TS) (k : Int32) (ok : th_ok u) : ct_V l D cI cZ (th_W cI cZ ad) y_TH_rest b_TH_rest 4 none 5 [.ref (ad 0), .int k] u (th_rest u k) := by
  refine ct_V.mk (by decide) (Nat.le_of_ble_eq_true rfl) ?_
  intro p e s m below meth c A Q ls F hI hl hret
  have F : CallFix p m c b_TH_rest 4 s ([.ref (ad 0), .int k] : List Value).toArray lw_tb R_TH := F
  obtain ⟨hx, hb, hml, hown, hts⟩ := id F
  have hl : lv_has ls 4 [(0, .ref (ad 0)), (1, .int k)] := hl
  have loop : ∀ (j i : Nat) (n : Int32) (v : TS) (H : Heap) (locs : List Loc) (ls : Array Slot), i + j = n.toNatClampNeg → n ≤ 63 → th_it j v = th_rest u k → th_ok v → cw_I D cI cZ A s.heap s (th_W cI cZ ad v) H locs → lv_has ls 4 [(3, .int (nI i)), (2, .int n), (0, .ref (ad 0))] → W p l e (cw_rm 5) s m ([.ref (ad 0), .int k] : List Value).toArray below meth c H locs 0 0 Q (F0 m 15 ls []) := by
    intro j
    induction j with
    | zero =>
      intro i n v H locs ls hi hn hv okv hI hl
      have h63 := cl_63 hn
      refine lv_iload_n hx hb d_TH_rest_15 rfl (lv_at hl 0 rfl) ?_
      refine lv_iload_n hx hb d_TH_rest_16 rfl (lv_at hl 1 rfl) ?_
      refine lv_icmp_ge (tgt := 30) hx hb d_TH_rest_17 (by decide) (fun c_17 => ?_) (fun c_17 => ?_)
      · exact hret hI d_TH_rest_30 (hv)
      · exact absurd ((cl_le (by omega)).mpr (by omega)) c_17
    | succ j ih =>
      intro i n v H locs ls hi hn hv okv hI hl
      have h63 := cl_63 hn
      refine lv_iload_n hx hb d_TH_rest_15 rfl (lv_at hl 0 rfl) ?_
      refine lv_iload_n hx hb d_TH_rest_16 rfl (lv_at hl 1 rfl) ?_
      refine lv_icmp_ge (tgt := 30) hx hb d_TH_rest_17 (by decide) (fun c_17 => ?_) (fun c_17 => ?_)
      · exact absurd ((cl_le (by omega)).mp c_17) (by omega)
      · refine lv_aload_n hx hb d_TH_rest_20 rfl (lv_at hl 2 rfl) ?_
        refine th_callV0 F hI (c_TH_step l D cI cZ ad _ okv) wk_TH_66 rfl ⟨Nat.le_of_ble_eq_true rfl, Nat.le_of_ble_eq_true rfl⟩ hl.1 (Nat.le_of_ble_eq_true rfl) ⟨Nat.zero_le _, Nat.zero_le _⟩ d_TH_rest_21 (fun H locs hI => ?_)
        obtain ⟨v_24, e_24⟩ : ∃ y : Int32, y = (nI i) + 1 := ⟨_, rfl⟩
        refine lv_iinc (v := v_24) (lv' := [(3, .int v_24), (2, .int n), (0, .ref (ad 0))]) hx hb d_TH_rest_24 hl (k := 0) rfl (by rw [e_24]; rfl) (by decide) rfl (fun ls hl => ?_)
        refine lv_goto (tgt := 15) hx hb d_TH_rest_27 (by decide) ?_
        rw [nI_1] at e_24
        have e_24 := e_24.symm; subst e_24
        exact ih (i + 1) n _ H locs ls (by omega) hn hv (th_ok_step okv) hI hl
  refine lv_iload_n hx hb d_TH_rest_0 rfl (lv_at hl 1 rfl) ?_
  refine lv_bipush (v := 63) hx hb d_TH_rest_1 (by decide) ?_
  refine lv_icmp_le (tgt := 11) hx hb d_TH_rest_3 (by decide) (fun c_3 => ?_) (fun c_3 => ?_)
  · refine lv_iload_n hx hb d_TH_rest_11 rfl (lv_at hl 1 rfl) ?_
    refine lv_topi (fun v_12 e_12 => ?_)
    refine lv_istore_n (lv' := [(2, .int v_12), (0, .ref (ad 0)), (1, .int k)]) hx hb d_TH_rest_12 rfl hl (by decide) rfl (fun ls hl => ?_)
    refine lv_iconst (v := 0) hx hb d_TH_rest_13 (by decide) ?_
    refine lv_topi (fun v_14 e_14 => ?_)
    refine lv_istore_n (lv' := [(3, .int v_14), (2, .int v_12), (0, .ref (ad 0)), (1, .int k)]) hx hb d_TH_rest_14 rfl hl (by decide) rfl (fun ls hl => ?_)
    have e_14 := e_14.symm; subst e_14
    have e_12 := e_12.symm; subst e_12
    exact loop k.toNatClampNeg 0 k u _ _ ls (by omega) c_3 (by unfold th_rest; rw [if_pos c_3]) ok hI (lv_sub hl [0, 1, 2] rfl)
  · refine lv_bipush (v := 63) hx hb d_TH_rest_6 (by decide) ?_
    refine lv_goto (tgt := 12) hx hb d_TH_rest_8 (by decide) ?_
    refine lv_topi (fun v_12 e_12 => ?_)
    refine lv_istore_n (lv' := [(2, .int v_12), (0, .ref (ad 0)), (1, .int k)]) hx hb d_TH_rest_12 rfl hl (by decide) rfl (fun ls hl => ?_)
    refine lv_iconst (v := 0) hx hb d_TH_rest_13 (by decide) ?_
    refine lv_topi (fun v_14 e_14 => ?_)
    refine lv_istore_n (lv' := [(3, .int v_14), (2, .int v_12), (0, .ref (ad 0)), (1, .int k)]) hx hb d_TH_rest_14 rfl hl (by decide) rfl (fun ls hl => ?_)
    have e_14 := e_14.symm; subst e_14
    have e_12 := e_12.symm; subst e_12
    exact loop 63 0 63 u _ _ ls (by decide) (by decide) (by unfold th_rest; rw [if_neg c_3]) ok hI (lv_sub hl [0, 1, 2] rfl)
set_option maxHeartbeats 4000000 in
set_option maxRecDepth 100000 in
theorem c_TH_make (l : Launch) (D : va_G) (cI cZ : ClassId) (ad : Nat → Nat) (u : TS) (t r n : Int32) (ok : th_ok u) : ct_I l D cI cZ (th_W cI cZ ad) y_TH_make b_TH_make 5 (some .int) 5 [.ref (ad 0), .int t, .int r, .int n] u (th_make u t r n) := by
  refine ct_I.mk (by decide) (Nat.le_of_ble_eq_true rfl) ?_
  intro p e s m below meth c A Q ls F hI hl hret
  have F : CallFix p m c b_TH_make 5 s ([.ref (ad 0), .int t, .int r, .int n] : List Value).toArray lw_tb R_TH := F
  obtain ⟨hx, hb, hml, hown, hts⟩ := id F
  have hl : lv_has ls 5 [(0, .ref (ad 0)), (1, .int t), (2, .int r), (3, .int n)] := hl
  have tail : ∀ (v : TS) (H : Heap) (locs : List Loc) (ls : Array Slot), th_bd t r = 0 → th_ok v → cw_I D cI cZ A s.heap s (th_W cI cZ ad v) H locs → lv_has ls 5 [(4, .int (th_free v)), (0, .ref (ad 0)), (1, .int t), (2, .int r), (3, .int n)] → th_make2 v t r n = th_make u t r n → W p l e (cw_rm 5) s m ([.ref (ad 0), .int t, .int r, .int n] : List Value).toArray below meth c H locs 0 0 Q (F0 m 37 ls []) := by
    intro v H locs ls hbd okv hI hl heq
    refine lv_iload hx hb d_TH_make_37 (lv_at hl 0 rfl) ?_
    refine lv_if_ge (tgt := 45) hx hb d_TH_make_39 (by decide) (fun c_39 => ?_) (fun c_39 => ?_)
    · refine lv_aload_n hx hb d_TH_make_45 rfl (lv_at hl 1 rfl) ?_
      refine lv_dup hx hb d_TH_make_46 rfl ?_
      refine th_get_count F hI d_TH_make_47 ?_
      refine lv_iconst (v := 1) hx hb d_TH_make_50 (by decide) ?_
      refine lv_iadd hx hb d_TH_make_51 ?_
      refine th_put_count F hI d_TH_make_52 (fun H locs hI => ?_)
      refine lv_aload_n hx hb d_TH_make_55 rfl (lv_at hl 1 rfl) ?_
      refine th_get_colour F hI d_TH_make_56 ?_
      refine lv_iload hx hb d_TH_make_59 (lv_at hl 0 rfl) ?_
      refine lv_aload_n hx hb d_TH_make_61 rfl (lv_at hl 1 rfl) ?_
      refine th_get_black F hI d_TH_make_62 ?_
      refine th_ast_colour F hI (th_free_in okv c_39) d_TH_make_65 (fun H locs hI => ?_)
      refine lv_aload_n hx hb d_TH_make_66 rfl (lv_at hl 1 rfl) ?_
      refine th_get_phase F hI d_TH_make_67 ?_
      refine lv_iconst (v := 1) hx hb d_TH_make_70 (by decide) ?_
      refine lv_icmp_lt (tgt := 90) hx hb d_TH_make_71 (by decide) (fun c_71 => ?_) (fun c_71 => ?_)
      · refine lv_aload_n hx hb d_TH_make_90 rfl (lv_at hl 1 rfl) ?_
        refine th_get_link0 F hI d_TH_make_91 ?_
        refine lv_iload hx hb d_TH_make_94 (lv_at hl 0 rfl) ?_
        refine lv_iconst (v := (-1)) hx hb d_TH_make_96 (by decide) ?_
        refine th_ast_link0 F hI (th_free_in okv c_39) d_TH_make_97 (fun H locs hI => ?_)
        refine lv_aload_n hx hb d_TH_make_98 rfl (lv_at hl 1 rfl) ?_
        refine th_get_link1 F hI d_TH_make_99 ?_
        refine lv_iload hx hb d_TH_make_102 (lv_at hl 0 rfl) ?_
        refine lv_iconst (v := (-1)) hx hb d_TH_make_104 (by decide) ?_
        refine th_ast_link1 F hI (th_free_in okv c_39) d_TH_make_105 (fun H locs hI => ?_)
        refine lv_aload_n hx hb d_TH_make_106 rfl (lv_at hl 1 rfl) ?_
        refine th_get_value F hI d_TH_make_107 ?_
        refine lv_iload hx hb d_TH_make_110 (lv_at hl 0 rfl) ?_
        refine lv_iload_n hx hb d_TH_make_112 rfl (lv_at hl 4 rfl) ?_
        refine th_ast_value F hI (th_free_in okv c_39) d_TH_make_113 (fun H locs hI => ?_)
        refine lv_aload_n hx hb d_TH_make_114 rfl (lv_at hl 1 rfl) ?_
        refine th_get_tag F hI d_TH_make_115 ?_
        refine lv_iload hx hb d_TH_make_118 (lv_at hl 0 rfl) ?_
        refine lv_aload_n hx hb d_TH_make_120 rfl (lv_at hl 1 rfl) ?_
        refine th_get_count F hI d_TH_make_121 ?_
        refine th_ast_tag F hI (th_free_in okv c_39) d_TH_make_124 (fun H locs hI => ?_)
        refine lv_aload_n hx hb d_TH_make_125 rfl (lv_at hl 1 rfl) ?_
        refine th_get_reg F hI d_TH_make_126 ?_
        refine lv_iload_n hx hb d_TH_make_129 rfl (lv_at hl 2 rfl) ?_
        refine lv_iconst (v := 4) hx hb d_TH_make_130 (by decide) ?_
        refine lv_imul hx hb d_TH_make_131 ?_
        refine lv_iload_n hx hb d_TH_make_132 rfl (lv_at hl 3 rfl) ?_
        refine lv_iadd hx hb d_TH_make_133 ?_
        refine lv_iload hx hb d_TH_make_134 (lv_at hl 0 rfl) ?_
        refine th_ast_reg F hI (th_in12 hbd) d_TH_make_136 (fun H locs hI => ?_)
        refine lv_aload_n hx hb d_TH_make_137 rfl (lv_at hl 1 rfl) ?_
        refine th_get_count F hI d_TH_make_138 ?_
        exact hret hI d_TH_make_141 (rfl) ((show _ = th_make2 v t r n from by (unfold th_make2 th_new th_ncol; first | ((rw [if_pos c_39, if_pos c_71]) <;> rfl) | exact ((if_pos c_39).trans ((if_pos c_71).trans (rfl))).symm)).trans heq)
      · refine lv_aload_n hx hb d_TH_make_74 rfl (lv_at hl 1 rfl) ?_
        refine th_get_phase F hI d_TH_make_75 ?_
        refine lv_iconst (v := 4) hx hb d_TH_make_78 (by decide) ?_
        refine lv_icmp_gt (tgt := 90) hx hb d_TH_make_79 (by decide) (fun c_79 => ?_) (fun c_79 => ?_)
        · refine lv_aload_n hx hb d_TH_make_90 rfl (lv_at hl 1 rfl) ?_
          refine th_get_link0 F hI d_TH_make_91 ?_
          refine lv_iload hx hb d_TH_make_94 (lv_at hl 0 rfl) ?_
          refine lv_iconst (v := (-1)) hx hb d_TH_make_96 (by decide) ?_
          refine th_ast_link0 F hI (th_free_in okv c_39) d_TH_make_97 (fun H locs hI => ?_)
          refine lv_aload_n hx hb d_TH_make_98 rfl (lv_at hl 1 rfl) ?_
          refine th_get_link1 F hI d_TH_make_99 ?_
          refine lv_iload hx hb d_TH_make_102 (lv_at hl 0 rfl) ?_
          refine lv_iconst (v := (-1)) hx hb d_TH_make_104 (by decide) ?_
          refine th_ast_link1 F hI (th_free_in okv c_39) d_TH_make_105 (fun H locs hI => ?_)
          refine lv_aload_n hx hb d_TH_make_106 rfl (lv_at hl 1 rfl) ?_
          refine th_get_value F hI d_TH_make_107 ?_
          refine lv_iload hx hb d_TH_make_110 (lv_at hl 0 rfl) ?_
          refine lv_iload_n hx hb d_TH_make_112 rfl (lv_at hl 4 rfl) ?_
          refine th_ast_value F hI (th_free_in okv c_39) d_TH_make_113 (fun H locs hI => ?_)
          refine lv_aload_n hx hb d_TH_make_114 rfl (lv_at hl 1 rfl) ?_
          refine th_get_tag F hI d_TH_make_115 ?_
          refine lv_iload hx hb d_TH_make_118 (lv_at hl 0 rfl) ?_
          refine lv_aload_n hx hb d_TH_make_120 rfl (lv_at hl 1 rfl) ?_
          refine th_get_count F hI d_TH_make_121 ?_
          refine th_ast_tag F hI (th_free_in okv c_39) d_TH_make_124 (fun H locs hI => ?_)
          refine lv_aload_n hx hb d_TH_make_125 rfl (lv_at hl 1 rfl) ?_
          refine th_get_reg F hI d_TH_make_126 ?_
          refine lv_iload_n hx hb d_TH_make_129 rfl (lv_at hl 2 rfl) ?_
          refine lv_iconst (v := 4) hx hb d_TH_make_130 (by decide) ?_
          refine lv_imul hx hb d_TH_make_131 ?_
          refine lv_iload_n hx hb d_TH_make_132 rfl (lv_at hl 3 rfl) ?_
          refine lv_iadd hx hb d_TH_make_133 ?_
          refine lv_iload hx hb d_TH_make_134 (lv_at hl 0 rfl) ?_
          refine th_ast_reg F hI (th_in12 hbd) d_TH_make_136 (fun H locs hI => ?_)
          refine lv_aload_n hx hb d_TH_make_137 rfl (lv_at hl 1 rfl) ?_
          refine th_get_count F hI d_TH_make_138 ?_
          exact hret hI d_TH_make_141 (rfl) ((show _ = th_make2 v t r n from by (unfold th_make2 th_new th_ncol; first | ((rw [if_pos c_39, if_neg c_71, if_pos c_79]) <;> rfl) | exact ((if_pos c_39).trans ((if_neg c_71).trans ((if_pos c_79).trans (rfl)))).symm)).trans heq)
        · refine lv_aload_n hx hb d_TH_make_82 rfl (lv_at hl 1 rfl) ?_
          refine th_get_colour F hI d_TH_make_83 ?_
          refine lv_iload hx hb d_TH_make_86 (lv_at hl 0 rfl) ?_
          refine lv_iconst (v := 3) hx hb d_TH_make_88 (by decide) ?_
          refine th_ast_colour F hI (th_free_in okv c_39) d_TH_make_89 (fun H locs hI => ?_)
          refine lv_aload_n hx hb d_TH_make_90 rfl (lv_at hl 1 rfl) ?_
          refine th_get_link0 F hI d_TH_make_91 ?_
          refine lv_iload hx hb d_TH_make_94 (lv_at hl 0 rfl) ?_
          refine lv_iconst (v := (-1)) hx hb d_TH_make_96 (by decide) ?_
          refine th_ast_link0 F hI (th_free_in okv c_39) d_TH_make_97 (fun H locs hI => ?_)
          refine lv_aload_n hx hb d_TH_make_98 rfl (lv_at hl 1 rfl) ?_
          refine th_get_link1 F hI d_TH_make_99 ?_
          refine lv_iload hx hb d_TH_make_102 (lv_at hl 0 rfl) ?_
          refine lv_iconst (v := (-1)) hx hb d_TH_make_104 (by decide) ?_
          refine th_ast_link1 F hI (th_free_in okv c_39) d_TH_make_105 (fun H locs hI => ?_)
          refine lv_aload_n hx hb d_TH_make_106 rfl (lv_at hl 1 rfl) ?_
          refine th_get_value F hI d_TH_make_107 ?_
          refine lv_iload hx hb d_TH_make_110 (lv_at hl 0 rfl) ?_
          refine lv_iload_n hx hb d_TH_make_112 rfl (lv_at hl 4 rfl) ?_
          refine th_ast_value F hI (th_free_in okv c_39) d_TH_make_113 (fun H locs hI => ?_)
          refine lv_aload_n hx hb d_TH_make_114 rfl (lv_at hl 1 rfl) ?_
          refine th_get_tag F hI d_TH_make_115 ?_
          refine lv_iload hx hb d_TH_make_118 (lv_at hl 0 rfl) ?_
          refine lv_aload_n hx hb d_TH_make_120 rfl (lv_at hl 1 rfl) ?_
          refine th_get_count F hI d_TH_make_121 ?_
          refine th_ast_tag F hI (th_free_in okv c_39) d_TH_make_124 (fun H locs hI => ?_)
          refine lv_aload_n hx hb d_TH_make_125 rfl (lv_at hl 1 rfl) ?_
          refine th_get_reg F hI d_TH_make_126 ?_
          refine lv_iload_n hx hb d_TH_make_129 rfl (lv_at hl 2 rfl) ?_
          refine lv_iconst (v := 4) hx hb d_TH_make_130 (by decide) ?_
          refine lv_imul hx hb d_TH_make_131 ?_
          refine lv_iload_n hx hb d_TH_make_132 rfl (lv_at hl 3 rfl) ?_
          refine lv_iadd hx hb d_TH_make_133 ?_
          refine lv_iload hx hb d_TH_make_134 (lv_at hl 0 rfl) ?_
          refine th_ast_reg F hI (th_in12 hbd) d_TH_make_136 (fun H locs hI => ?_)
          refine lv_aload_n hx hb d_TH_make_137 rfl (lv_at hl 1 rfl) ?_
          refine th_get_count F hI d_TH_make_138 ?_
          exact hret hI d_TH_make_141 (rfl) ((show _ = th_make2 v t r n from by (unfold th_make2 th_new th_ncol; first | ((rw [if_pos c_39, if_neg c_71, if_neg c_79]) <;> rfl) | exact ((if_pos c_39).trans ((if_neg c_71).trans ((if_neg c_79).trans (rfl)))).symm)).trans heq)
    · refine lv_bipush (v := (-2)) hx hb d_TH_make_42 (by decide) ?_
      exact hret hI d_TH_make_44 (rfl) ((show _ = th_make2 v t r n from by (unfold th_make2 th_new th_ncol; first | ((rw [if_neg c_39]) <;> rfl) | exact ((if_neg c_39).trans (rfl)).symm)).trans heq)
  refine lv_aload_n hx hb d_TH_make_0 rfl (lv_at hl 0 rfl) ?_
  refine lv_iload_n hx hb d_TH_make_1 rfl (lv_at hl 1 rfl) ?_
  refine lv_iload_n hx hb d_TH_make_2 rfl (lv_at hl 2 rfl) ?_
  refine th_callP2 F hI (c_TH_bad l D cI cZ ad _ _ _) wk_TH_72 rfl ⟨Nat.le_of_ble_eq_true rfl, Nat.le_of_ble_eq_true rfl⟩ hl.1 (Nat.le_of_ble_eq_true rfl) ⟨Nat.zero_le _, Nat.zero_le _⟩ d_TH_make_3 (fun H locs hI => ?_)
  refine lv_if_eq (tgt := 11) hx hb d_TH_make_6 (by decide) (fun c_6 => ?_) (fun c_6 => ?_)
  · refine lv_aload_n hx hb d_TH_make_11 rfl (lv_at hl 0 rfl) ?_
    refine lv_iload_n hx hb d_TH_make_12 rfl (lv_at hl 1 rfl) ?_
    refine th_callV1 F hI (c_TH_answer l D cI cZ ad _ _ (th_thr_bd c_6) ok) wk_TH_63 rfl ⟨Nat.le_of_ble_eq_true rfl, Nat.le_of_ble_eq_true rfl⟩ hl.1 (Nat.le_of_ble_eq_true rfl) ⟨Nat.zero_le _, Nat.zero_le _⟩ d_TH_make_13 (fun H locs hI => ?_)
    refine lv_aload_n hx hb d_TH_make_16 rfl (lv_at hl 0 rfl) ?_
    refine th_callP0 F hI (c_TH_freeCell l D cI cZ ad _ (th_ok_answer t ok)) wk_TH_76 rfl ⟨Nat.le_of_ble_eq_true rfl, Nat.le_of_ble_eq_true rfl⟩ hl.1 (Nat.le_of_ble_eq_true rfl) ⟨Nat.zero_le _, Nat.zero_le _⟩ d_TH_make_17 (fun H locs hI => ?_)
    refine lv_topi (fun v_20 e_20 => ?_)
    refine lv_istore (lv' := [(4, .int v_20), (0, .ref (ad 0)), (1, .int t), (2, .int r), (3, .int n)]) hx hb d_TH_make_20 hl (by decide) rfl (fun ls hl => ?_)
    refine lv_iload hx hb d_TH_make_22 (lv_at hl 0 rfl) ?_
    refine lv_if_ge (tgt := 37) hx hb d_TH_make_24 (by decide) (fun c_24 => ?_) (fun c_24 => ?_)
    · have e_20 := e_20.symm; subst e_20
      exact tail _ H locs ls c_6 (th_ok_answer t ok) hI hl (by unfold th_make th_make2; rw [if_pos c_6, if_pos c_24, if_pos c_24])
    · refine lv_aload_n hx hb d_TH_make_27 rfl (lv_at hl 1 rfl) ?_
      refine th_callV0 F hI (c_TH_collectAll l D cI cZ ad _ (th_ok_answer t ok)) wk_TH_80 rfl ⟨Nat.le_of_ble_eq_true rfl, Nat.le_of_ble_eq_true rfl⟩ hl.1 (Nat.le_of_ble_eq_true rfl) ⟨Nat.zero_le _, Nat.zero_le _⟩ d_TH_make_28 (fun H locs hI => ?_)
      refine lv_aload_n hx hb d_TH_make_31 rfl (lv_at hl 1 rfl) ?_
      refine th_callP0 F hI (c_TH_freeCell l D cI cZ ad _ (th_ok_collect (th_ok_answer t ok))) wk_TH_76 rfl ⟨Nat.le_of_ble_eq_true rfl, Nat.le_of_ble_eq_true rfl⟩ hl.1 (Nat.le_of_ble_eq_true rfl) ⟨Nat.zero_le _, Nat.zero_le _⟩ d_TH_make_32 (fun H locs hI => ?_)
      refine lv_topi (fun v_35 e_35 => ?_)
      refine lv_istore (lv' := [(4, .int v_35), (0, .ref (ad 0)), (1, .int t), (2, .int r), (3, .int n)]) hx hb d_TH_make_35 hl (by decide) rfl (fun ls hl => ?_)
      have e_35 := e_35.symm; subst e_35
      exact tail _ H locs ls c_6 (th_ok_collect (th_ok_answer t ok)) hI hl (by rw [e_20] at c_24; unfold th_make; rw [if_pos c_6, if_neg c_24])
  · refine lv_iconst (v := (-1)) hx hb d_TH_make_9 (by decide) ?_
    exact hret hI d_TH_make_10 (rfl) (by (unfold th_make; first | ((rw [if_neg c_6]) <;> rfl) | exact ((if_neg c_6).trans (rfl)).symm))
end
section
-- contracts, printed by th2.py
set_option maxHeartbeats 4000000 in
set_option maxRecDepth 100000 in
theorem c_TH_copy (l : Launch) (D : va_G) (cI cZ : ClassId) (ad : Nat → Nat) (u : TS) (t r q : Int32) (ok : th_ok u) : ct_I l D cI cZ (th_W cI cZ ad) y_TH_copy b_TH_copy 4 (some .int) 5 [.ref (ad 0), .int t, .int r, .int q] u (th_copy u t r q) := by
  refine ct_I.mk (by decide) (Nat.le_of_ble_eq_true rfl) ?_
  intro p e s m below meth c A Q ls F hI hl hret
  have F : CallFix p m c b_TH_copy 4 s ([.ref (ad 0), .int t, .int r, .int q] : List Value).toArray lw_tb R_TH := F
  obtain ⟨hx, hb, hml, hown, hts⟩ := id F
  have hl : lv_has ls 4 [(0, .ref (ad 0)), (1, .int t), (2, .int r), (3, .int q)] := hl
  refine lv_aload_n hx hb d_TH_copy_0 rfl (lv_at hl 0 rfl) ?_
  refine lv_iload_n hx hb d_TH_copy_1 rfl (lv_at hl 1 rfl) ?_
  refine lv_iload_n hx hb d_TH_copy_2 rfl (lv_at hl 2 rfl) ?_
  refine th_callP2 F hI (c_TH_bad l D cI cZ ad _ _ _) wk_TH_72 rfl ⟨Nat.le_of_ble_eq_true rfl, Nat.le_of_ble_eq_true rfl⟩ hl.1 (Nat.le_of_ble_eq_true rfl) ⟨Nat.zero_le _, Nat.zero_le _⟩ d_TH_copy_3 (fun H locs hI => ?_)
  refine lv_if_ne (tgt := 18) hx hb d_TH_copy_6 (by decide) (fun c_6 => ?_) (fun c_6 => ?_)
  · refine lv_iconst (v := (-1)) hx hb d_TH_copy_18 (by decide) ?_
    exact hret hI d_TH_copy_19 (rfl) (by (unfold th_copy; first | ((rw [if_pos c_6]) <;> rfl) | exact ((if_pos c_6).trans (rfl)).symm))
  · refine lv_aload_n hx hb d_TH_copy_9 rfl (lv_at hl 0 rfl) ?_
    refine lv_iload_n hx hb d_TH_copy_10 rfl (lv_at hl 1 rfl) ?_
    refine lv_iload_n hx hb d_TH_copy_11 rfl (lv_at hl 3 rfl) ?_
    refine th_callP2 F hI (c_TH_bad l D cI cZ ad _ _ _) wk_TH_72 rfl ⟨Nat.le_of_ble_eq_true rfl, Nat.le_of_ble_eq_true rfl⟩ hl.1 (Nat.le_of_ble_eq_true rfl) ⟨Nat.zero_le _, Nat.zero_le _⟩ d_TH_copy_12 (fun H locs hI => ?_)
    refine lv_if_eq (tgt := 20) hx hb d_TH_copy_15 (by decide) (fun c_15 => ?_) (fun c_15 => ?_)
    · refine lv_aload_n hx hb d_TH_copy_20 rfl (lv_at hl 0 rfl) ?_
      refine lv_iload_n hx hb d_TH_copy_21 rfl (lv_at hl 1 rfl) ?_
      refine th_callV1 F hI (c_TH_answer l D cI cZ ad _ _ (th_thr_bd c_6) ok) wk_TH_63 rfl ⟨Nat.le_of_ble_eq_true rfl, Nat.le_of_ble_eq_true rfl⟩ hl.1 (Nat.le_of_ble_eq_true rfl) ⟨Nat.zero_le _, Nat.zero_le _⟩ d_TH_copy_22 (fun H locs hI => ?_)
      refine lv_aload_n hx hb d_TH_copy_25 rfl (lv_at hl 0 rfl) ?_
      refine th_get_reg F hI d_TH_copy_26 ?_
      refine lv_iload_n hx hb d_TH_copy_29 rfl (lv_at hl 1 rfl) ?_
      refine lv_iconst (v := 4) hx hb d_TH_copy_30 (by decide) ?_
      refine lv_imul hx hb d_TH_copy_31 ?_
      refine lv_iload_n hx hb d_TH_copy_32 rfl (lv_at hl 2 rfl) ?_
      refine lv_iadd hx hb d_TH_copy_33 ?_
      refine lv_aload_n hx hb d_TH_copy_34 rfl (lv_at hl 0 rfl) ?_
      refine th_get_reg F hI d_TH_copy_35 ?_
      refine lv_iload_n hx hb d_TH_copy_38 rfl (lv_at hl 1 rfl) ?_
      refine lv_iconst (v := 4) hx hb d_TH_copy_39 (by decide) ?_
      refine lv_imul hx hb d_TH_copy_40 ?_
      refine lv_iload_n hx hb d_TH_copy_41 rfl (lv_at hl 3 rfl) ?_
      refine lv_iadd hx hb d_TH_copy_42 ?_
      refine th_ald_reg F hI (th_in12 c_15) d_TH_copy_43 ?_
      refine th_ast_reg F hI (th_in12 c_6) d_TH_copy_44 (fun H locs hI => ?_)
      refine lv_iconst (v := 0) hx hb d_TH_copy_45 (by decide) ?_
      exact hret hI d_TH_copy_46 (rfl) (by (unfold th_copy; first | ((rw [if_neg (not_not_intro c_6), if_pos c_15]) <;> rfl) | exact ((if_neg (not_not_intro c_6)).trans ((if_pos c_15).trans (rfl))).symm))
    · refine lv_iconst (v := (-1)) hx hb d_TH_copy_18 (by decide) ?_
      exact hret hI d_TH_copy_19 (rfl) (by (unfold th_copy; first | ((rw [if_neg (not_not_intro c_6), if_neg c_15]) <;> rfl) | exact ((if_neg (not_not_intro c_6)).trans ((if_neg c_15).trans (rfl))).symm))
set_option maxHeartbeats 4000000 in
set_option maxRecDepth 100000 in
theorem c_TH_drop (l : Launch) (D : va_G) (cI cZ : ClassId) (ad : Nat → Nat) (u : TS) (t r : Int32) (ok : th_ok u) : ct_I l D cI cZ (th_W cI cZ ad) y_TH_drop b_TH_drop 3 (some .int) 5 [.ref (ad 0), .int t, .int r] u (th_drop u t r) := by
  refine ct_I.mk (by decide) (Nat.le_of_ble_eq_true rfl) ?_
  intro p e s m below meth c A Q ls F hI hl hret
  have F : CallFix p m c b_TH_drop 3 s ([.ref (ad 0), .int t, .int r] : List Value).toArray lw_tb R_TH := F
  obtain ⟨hx, hb, hml, hown, hts⟩ := id F
  have hl : lv_has ls 3 [(0, .ref (ad 0)), (1, .int t), (2, .int r)] := hl
  refine lv_aload_n hx hb d_TH_drop_0 rfl (lv_at hl 0 rfl) ?_
  refine lv_iload_n hx hb d_TH_drop_1 rfl (lv_at hl 1 rfl) ?_
  refine lv_iload_n hx hb d_TH_drop_2 rfl (lv_at hl 2 rfl) ?_
  refine th_callP2 F hI (c_TH_bad l D cI cZ ad _ _ _) wk_TH_72 rfl ⟨Nat.le_of_ble_eq_true rfl, Nat.le_of_ble_eq_true rfl⟩ hl.1 (Nat.le_of_ble_eq_true rfl) ⟨Nat.zero_le _, Nat.zero_le _⟩ d_TH_drop_3 (fun H locs hI => ?_)
  refine lv_if_eq (tgt := 11) hx hb d_TH_drop_6 (by decide) (fun c_6 => ?_) (fun c_6 => ?_)
  · refine lv_aload_n hx hb d_TH_drop_11 rfl (lv_at hl 0 rfl) ?_
    refine lv_iload_n hx hb d_TH_drop_12 rfl (lv_at hl 1 rfl) ?_
    refine th_callV1 F hI (c_TH_answer l D cI cZ ad _ _ (th_thr_bd c_6) ok) wk_TH_63 rfl ⟨Nat.le_of_ble_eq_true rfl, Nat.le_of_ble_eq_true rfl⟩ hl.1 (Nat.le_of_ble_eq_true rfl) ⟨Nat.zero_le _, Nat.zero_le _⟩ d_TH_drop_13 (fun H locs hI => ?_)
    refine lv_aload_n hx hb d_TH_drop_16 rfl (lv_at hl 0 rfl) ?_
    refine th_get_reg F hI d_TH_drop_17 ?_
    refine lv_iload_n hx hb d_TH_drop_20 rfl (lv_at hl 1 rfl) ?_
    refine lv_iconst (v := 4) hx hb d_TH_drop_21 (by decide) ?_
    refine lv_imul hx hb d_TH_drop_22 ?_
    refine lv_iload_n hx hb d_TH_drop_23 rfl (lv_at hl 2 rfl) ?_
    refine lv_iadd hx hb d_TH_drop_24 ?_
    refine lv_iconst (v := (-1)) hx hb d_TH_drop_25 (by decide) ?_
    refine th_ast_reg F hI (th_in12 c_6) d_TH_drop_26 (fun H locs hI => ?_)
    refine lv_iconst (v := 0) hx hb d_TH_drop_27 (by decide) ?_
    exact hret hI d_TH_drop_28 (rfl) (by (unfold th_drop; first | ((rw [if_pos c_6]) <;> rfl) | exact ((if_pos c_6).trans (rfl)).symm))
  · refine lv_iconst (v := (-1)) hx hb d_TH_drop_9 (by decide) ?_
    exact hret hI d_TH_drop_10 (rfl) (by (unfold th_drop; first | ((rw [if_neg c_6]) <;> rfl) | exact ((if_neg c_6).trans (rfl)).symm))
set_option maxHeartbeats 4000000 in
set_option maxRecDepth 100000 in
theorem c_TH_load (l : Launch) (D : va_G) (cI cZ : ClassId) (ad : Nat → Nat) (u : TS) (t r q f : Int32) (ok : th_ok u) : ct_I l D cI cZ (th_W cI cZ ad) y_TH_load b_TH_load 6 (some .int) 5 [.ref (ad 0), .int t, .int r, .int q, .int f] u (th_load u t r q f) := by
  refine ct_I.mk (by decide) (Nat.le_of_ble_eq_true rfl) ?_
  intro p e s m below meth c A Q ls F hI hl hret
  have F : CallFix p m c b_TH_load 6 s ([.ref (ad 0), .int t, .int r, .int q, .int f] : List Value).toArray lw_tb R_TH := F
  obtain ⟨hx, hb, hml, hown, hts⟩ := id F
  have hl : lv_has ls 6 [(0, .ref (ad 0)), (1, .int t), (2, .int r), (3, .int q), (4, .int f)] := hl
  refine lv_aload_n hx hb d_TH_load_0 rfl (lv_at hl 0 rfl) ?_
  refine lv_iload_n hx hb d_TH_load_1 rfl (lv_at hl 1 rfl) ?_
  refine lv_iload_n hx hb d_TH_load_2 rfl (lv_at hl 2 rfl) ?_
  refine th_callP2 F hI (c_TH_bad l D cI cZ ad _ _ _) wk_TH_72 rfl ⟨Nat.le_of_ble_eq_true rfl, Nat.le_of_ble_eq_true rfl⟩ hl.1 (Nat.le_of_ble_eq_true rfl) ⟨Nat.zero_le _, Nat.zero_le _⟩ d_TH_load_3 (fun H locs hI => ?_)
  refine lv_if_ne (tgt := 27) hx hb d_TH_load_6 (by decide) (fun c_6 => ?_) (fun c_6 => ?_)
  · refine lv_iconst (v := (-1)) hx hb d_TH_load_27 (by decide) ?_
    exact hret hI d_TH_load_28 (rfl) (by (unfold th_load th_load2; first | ((rw [if_pos c_6]) <;> rfl) | exact ((if_pos c_6).trans (rfl)).symm))
  · refine lv_aload_n hx hb d_TH_load_9 rfl (lv_at hl 0 rfl) ?_
    refine lv_iload_n hx hb d_TH_load_10 rfl (lv_at hl 1 rfl) ?_
    refine lv_iload_n hx hb d_TH_load_11 rfl (lv_at hl 3 rfl) ?_
    refine th_callP2 F hI (c_TH_bad l D cI cZ ad _ _ _) wk_TH_72 rfl ⟨Nat.le_of_ble_eq_true rfl, Nat.le_of_ble_eq_true rfl⟩ hl.1 (Nat.le_of_ble_eq_true rfl) ⟨Nat.zero_le _, Nat.zero_le _⟩ d_TH_load_12 (fun H locs hI => ?_)
    refine lv_if_ne (tgt := 27) hx hb d_TH_load_15 (by decide) (fun c_15 => ?_) (fun c_15 => ?_)
    · refine lv_iconst (v := (-1)) hx hb d_TH_load_27 (by decide) ?_
      exact hret hI d_TH_load_28 (rfl) (by (unfold th_load th_load2; first | ((rw [if_neg (not_not_intro c_6), if_pos c_15]) <;> rfl) | exact ((if_neg (not_not_intro c_6)).trans ((if_pos c_15).trans (rfl))).symm))
    · refine lv_aload_n hx hb d_TH_load_18 rfl (lv_at hl 0 rfl) ?_
      refine lv_iload hx hb d_TH_load_19 (lv_at hl 4 rfl) ?_
      refine th_callP1 F hI (c_TH_badBit l D cI cZ ad _ _) wk_TH_86 rfl ⟨Nat.le_of_ble_eq_true rfl, Nat.le_of_ble_eq_true rfl⟩ hl.1 (Nat.le_of_ble_eq_true rfl) ⟨Nat.zero_le _, Nat.zero_le _⟩ d_TH_load_21 (fun H locs hI => ?_)
      refine lv_if_eq (tgt := 29) hx hb d_TH_load_24 (by decide) (fun c_24 => ?_) (fun c_24 => ?_)
      · refine lv_aload_n hx hb d_TH_load_29 rfl (lv_at hl 0 rfl) ?_
        refine lv_iload_n hx hb d_TH_load_30 rfl (lv_at hl 1 rfl) ?_
        refine th_callV1 F hI (c_TH_answer l D cI cZ ad _ _ (th_thr_bd c_6) ok) wk_TH_63 rfl ⟨Nat.le_of_ble_eq_true rfl, Nat.le_of_ble_eq_true rfl⟩ hl.1 (Nat.le_of_ble_eq_true rfl) ⟨Nat.zero_le _, Nat.zero_le _⟩ d_TH_load_31 (fun H locs hI => ?_)
        refine lv_aload_n hx hb d_TH_load_34 rfl (lv_at hl 0 rfl) ?_
        refine th_get_reg F hI d_TH_load_35 ?_
        refine lv_iload_n hx hb d_TH_load_38 rfl (lv_at hl 1 rfl) ?_
        refine lv_iconst (v := 4) hx hb d_TH_load_39 (by decide) ?_
        refine lv_imul hx hb d_TH_load_40 ?_
        refine lv_iload_n hx hb d_TH_load_41 rfl (lv_at hl 3 rfl) ?_
        refine lv_iadd hx hb d_TH_load_42 ?_
        refine th_ald_reg F hI (th_in12 c_15) d_TH_load_43 ?_
        refine lv_topi (fun v_44 e_44 => ?_)
        refine lv_istore (lv' := [(5, .int v_44), (0, .ref (ad 0)), (1, .int t), (2, .int r), (3, .int q), (4, .int f)]) hx hb d_TH_load_44 hl (by decide) rfl (fun ls hl => ?_)
        refine lv_iload hx hb d_TH_load_46 (lv_at hl 0 rfl) ?_
        refine lv_if_ge (tgt := 54) hx hb d_TH_load_48 (by decide) (fun c_48 => ?_) (fun c_48 => ?_)
        · refine lv_aload_n hx hb d_TH_load_54 rfl (lv_at hl 1 rfl) ?_
          refine th_get_reg F hI d_TH_load_55 ?_
          refine lv_iload_n hx hb d_TH_load_58 rfl (lv_at hl 2 rfl) ?_
          refine lv_iconst (v := 4) hx hb d_TH_load_59 (by decide) ?_
          refine lv_imul hx hb d_TH_load_60 ?_
          refine lv_iload_n hx hb d_TH_load_61 rfl (lv_at hl 3 rfl) ?_
          refine lv_iadd hx hb d_TH_load_62 ?_
          refine lv_iload hx hb d_TH_load_63 (lv_at hl 5 rfl) ?_
          refine lv_if_ne (tgt := 78) hx hb d_TH_load_65 (by decide) (fun c_65 => ?_) (fun c_65 => ?_)
          · refine lv_aload_n hx hb d_TH_load_78 rfl (lv_at hl 1 rfl) ?_
            refine th_get_link1 F hI d_TH_load_79 ?_
            refine lv_iload hx hb d_TH_load_82 (lv_at hl 0 rfl) ?_
            refine th_ald_link1 F hI (th_rf_ge (by rw [e_44]; exact (th_ok_answer t ok).2.1 _ (vp_lt (th_in12 c_15))) c_48) d_TH_load_84 ?_
            refine th_ast_reg F hI (th_in12 c_6) d_TH_load_85 (fun H locs hI => ?_)
            refine lv_iconst (v := 0) hx hb d_TH_load_86 (by decide) ?_
            have e_44 := e_44.symm; subst e_44
            exact hret hI d_TH_load_87 (rfl) (by (unfold th_load th_load2; first | ((rw [if_neg (not_not_intro c_6), if_neg (not_not_intro c_15), if_pos c_24, if_pos c_48, if_pos c_65]) <;> rfl) | exact ((if_neg (not_not_intro c_6)).trans ((if_neg (not_not_intro c_15)).trans ((if_pos c_24).trans ((if_pos c_48).trans ((if_pos c_65).trans (rfl)))))).symm))
          · refine lv_aload_n hx hb d_TH_load_68 rfl (lv_at hl 1 rfl) ?_
            refine th_get_link0 F hI d_TH_load_69 ?_
            refine lv_iload hx hb d_TH_load_72 (lv_at hl 0 rfl) ?_
            refine th_ald_link0 F hI (th_rf_ge (by rw [e_44]; exact (th_ok_answer t ok).2.1 _ (vp_lt (th_in12 c_15))) c_48) d_TH_load_74 ?_
            refine lv_goto (tgt := 85) hx hb d_TH_load_75 (by decide) ?_
            refine th_ast_reg F hI (th_in12 c_6) d_TH_load_85 (fun H locs hI => ?_)
            refine lv_iconst (v := 0) hx hb d_TH_load_86 (by decide) ?_
            have e_44 := e_44.symm; subst e_44
            exact hret hI d_TH_load_87 (rfl) (by (unfold th_load th_load2; first | ((rw [if_neg (not_not_intro c_6), if_neg (not_not_intro c_15), if_pos c_24, if_pos c_48, if_neg (not_not_intro c_65)]) <;> rfl) | exact ((if_neg (not_not_intro c_6)).trans ((if_neg (not_not_intro c_15)).trans ((if_pos c_24).trans ((if_pos c_48).trans ((if_neg (not_not_intro c_65)).trans (rfl)))))).symm))
        · refine lv_bipush (v := (-3)) hx hb d_TH_load_51 (by decide) ?_
          have e_44 := e_44.symm; subst e_44
          exact hret hI d_TH_load_53 (rfl) (by (unfold th_load th_load2; first | ((rw [if_neg (not_not_intro c_6), if_neg (not_not_intro c_15), if_pos c_24, if_neg c_48]) <;> rfl) | exact ((if_neg (not_not_intro c_6)).trans ((if_neg (not_not_intro c_15)).trans ((if_pos c_24).trans ((if_neg c_48).trans (rfl))))).symm))
      · refine lv_iconst (v := (-1)) hx hb d_TH_load_27 (by decide) ?_
        exact hret hI d_TH_load_28 (rfl) (by (unfold th_load th_load2; first | ((rw [if_neg (not_not_intro c_6), if_neg (not_not_intro c_15), if_neg c_24]) <;> rfl) | exact ((if_neg (not_not_intro c_6)).trans ((if_neg (not_not_intro c_15)).trans ((if_neg c_24).trans (rfl)))).symm))
set_option maxHeartbeats 4000000 in
set_option maxRecDepth 100000 in
theorem c_TH_store (l : Launch) (D : va_G) (cI cZ : ClassId) (ad : Nat → Nat) (u : TS) (t q f r : Int32) (ok : th_ok u) : ct_I l D cI cZ (th_W cI cZ ad) y_TH_store b_TH_store 7 (some .int) 5 [.ref (ad 0), .int t, .int q, .int f, .int r] u (th_store u t q f r) := by
  refine ct_I.mk (by decide) (Nat.le_of_ble_eq_true rfl) ?_
  intro p e s m below meth c A Q ls F hI hl hret
  have F : CallFix p m c b_TH_store 7 s ([.ref (ad 0), .int t, .int q, .int f, .int r] : List Value).toArray lw_tb R_TH := F
  obtain ⟨hx, hb, hml, hown, hts⟩ := id F
  have hl : lv_has ls 7 [(0, .ref (ad 0)), (1, .int t), (2, .int q), (3, .int f), (4, .int r)] := hl
  refine lv_aload_n hx hb d_TH_store_0 rfl (lv_at hl 0 rfl) ?_
  refine lv_iload_n hx hb d_TH_store_1 rfl (lv_at hl 1 rfl) ?_
  refine lv_iload_n hx hb d_TH_store_2 rfl (lv_at hl 2 rfl) ?_
  refine th_callP2 F hI (c_TH_bad l D cI cZ ad _ _ _) wk_TH_72 rfl ⟨Nat.le_of_ble_eq_true rfl, Nat.le_of_ble_eq_true rfl⟩ hl.1 (Nat.le_of_ble_eq_true rfl) ⟨Nat.zero_le _, Nat.zero_le _⟩ d_TH_store_3 (fun H locs hI => ?_)
  refine lv_if_ne (tgt := 27) hx hb d_TH_store_6 (by decide) (fun c_6 => ?_) (fun c_6 => ?_)
  · refine lv_iconst (v := (-1)) hx hb d_TH_store_27 (by decide) ?_
    exact hret hI d_TH_store_28 (rfl) (by (unfold th_store th_store2; first | ((rw [if_pos c_6]) <;> rfl) | exact ((if_pos c_6).trans (rfl)).symm))
  · refine lv_aload_n hx hb d_TH_store_9 rfl (lv_at hl 0 rfl) ?_
    refine lv_iload_n hx hb d_TH_store_10 rfl (lv_at hl 1 rfl) ?_
    refine lv_iload hx hb d_TH_store_11 (lv_at hl 4 rfl) ?_
    refine th_callP2 F hI (c_TH_bad l D cI cZ ad _ _ _) wk_TH_72 rfl ⟨Nat.le_of_ble_eq_true rfl, Nat.le_of_ble_eq_true rfl⟩ hl.1 (Nat.le_of_ble_eq_true rfl) ⟨Nat.zero_le _, Nat.zero_le _⟩ d_TH_store_13 (fun H locs hI => ?_)
    refine lv_if_ne (tgt := 27) hx hb d_TH_store_16 (by decide) (fun c_16 => ?_) (fun c_16 => ?_)
    · refine lv_iconst (v := (-1)) hx hb d_TH_store_27 (by decide) ?_
      exact hret hI d_TH_store_28 (rfl) (by (unfold th_store th_store2; first | ((rw [if_neg (not_not_intro c_6), if_pos c_16]) <;> rfl) | exact ((if_neg (not_not_intro c_6)).trans ((if_pos c_16).trans (rfl))).symm))
    · refine lv_aload_n hx hb d_TH_store_19 rfl (lv_at hl 0 rfl) ?_
      refine lv_iload_n hx hb d_TH_store_20 rfl (lv_at hl 3 rfl) ?_
      refine th_callP1 F hI (c_TH_badBit l D cI cZ ad _ _) wk_TH_86 rfl ⟨Nat.le_of_ble_eq_true rfl, Nat.le_of_ble_eq_true rfl⟩ hl.1 (Nat.le_of_ble_eq_true rfl) ⟨Nat.zero_le _, Nat.zero_le _⟩ d_TH_store_21 (fun H locs hI => ?_)
      refine lv_if_eq (tgt := 29) hx hb d_TH_store_24 (by decide) (fun c_24 => ?_) (fun c_24 => ?_)
      · refine lv_aload_n hx hb d_TH_store_29 rfl (lv_at hl 0 rfl) ?_
        refine lv_iload_n hx hb d_TH_store_30 rfl (lv_at hl 1 rfl) ?_
        refine th_callV1 F hI (c_TH_answer l D cI cZ ad _ _ (th_thr_bd c_6) ok) wk_TH_63 rfl ⟨Nat.le_of_ble_eq_true rfl, Nat.le_of_ble_eq_true rfl⟩ hl.1 (Nat.le_of_ble_eq_true rfl) ⟨Nat.zero_le _, Nat.zero_le _⟩ d_TH_store_31 (fun H locs hI => ?_)
        refine lv_aload_n hx hb d_TH_store_34 rfl (lv_at hl 0 rfl) ?_
        refine th_get_reg F hI d_TH_store_35 ?_
        refine lv_iload_n hx hb d_TH_store_38 rfl (lv_at hl 1 rfl) ?_
        refine lv_iconst (v := 4) hx hb d_TH_store_39 (by decide) ?_
        refine lv_imul hx hb d_TH_store_40 ?_
        refine lv_iload_n hx hb d_TH_store_41 rfl (lv_at hl 2 rfl) ?_
        refine lv_iadd hx hb d_TH_store_42 ?_
        refine th_ald_reg F hI (th_in12 c_6) d_TH_store_43 ?_
        refine lv_topi (fun v_44 e_44 => ?_)
        refine lv_istore (lv' := [(5, .int v_44), (0, .ref (ad 0)), (1, .int t), (2, .int q), (3, .int f), (4, .int r)]) hx hb d_TH_store_44 hl (by decide) rfl (fun ls hl => ?_)
        refine lv_iload hx hb d_TH_store_46 (lv_at hl 0 rfl) ?_
        refine lv_if_ge (tgt := 54) hx hb d_TH_store_48 (by decide) (fun c_48 => ?_) (fun c_48 => ?_)
        · refine lv_aload_n hx hb d_TH_store_54 rfl (lv_at hl 1 rfl) ?_
          refine th_get_reg F hI d_TH_store_55 ?_
          refine lv_iload_n hx hb d_TH_store_58 rfl (lv_at hl 2 rfl) ?_
          refine lv_iconst (v := 4) hx hb d_TH_store_59 (by decide) ?_
          refine lv_imul hx hb d_TH_store_60 ?_
          refine lv_iload hx hb d_TH_store_61 (lv_at hl 5 rfl) ?_
          refine lv_iadd hx hb d_TH_store_63 ?_
          refine th_ald_reg F hI (th_in12 c_16) d_TH_store_64 ?_
          refine lv_topi (fun v_65 e_65 => ?_)
          refine lv_istore (lv' := [(6, .int v_65), (5, .int v_44), (0, .ref (ad 0)), (1, .int t), (2, .int q), (3, .int f), (4, .int r)]) hx hb d_TH_store_65 hl (by decide) rfl (fun ls hl => ?_)
          refine lv_iload_n hx hb d_TH_store_67 rfl (lv_at hl 5 rfl) ?_
          refine lv_if_ne (tgt := 97) hx hb d_TH_store_68 (by decide) (fun c_68 => ?_) (fun c_68 => ?_)
          · refine lv_aload_n hx hb d_TH_store_97 rfl (lv_at hl 2 rfl) ?_
            refine lv_iload_n hx hb d_TH_store_98 rfl (lv_at hl 3 rfl) ?_
            refine lv_aload_n hx hb d_TH_store_99 rfl (lv_at hl 2 rfl) ?_
            refine th_get_link1 F hI d_TH_store_100 ?_
            refine lv_iload hx hb d_TH_store_103 (lv_at hl 1 rfl) ?_
            refine th_ald_link1 F hI (th_rf_ge (by rw [e_44]; exact (th_ok_answer t ok).2.1 _ (vp_lt (th_in12 c_6))) c_48) d_TH_store_105 ?_
            refine lv_iload hx hb d_TH_store_106 (lv_at hl 0 rfl) ?_
            refine th_callV3 F hI (c_TH_watch l D cI cZ ad _ _ _ _ (th_thr_bd c_6) ((th_ok_answer t ok).2.2.2.2 _ (vp_lt (th_rf_ge (by rw [e_44]; exact (th_ok_answer t ok).2.1 _ (vp_lt (th_in12 c_6))) c_48))) (by rw [e_65]; exact (th_ok_answer t ok).2.1 _ (vp_lt (th_in12 c_16)))) wk_TH_90 rfl ⟨Nat.le_of_ble_eq_true rfl, Nat.le_of_ble_eq_true rfl⟩ hl.1 (Nat.le_of_ble_eq_true rfl) ⟨Nat.zero_le _, Nat.zero_le _⟩ d_TH_store_108 (fun H locs hI => ?_)
            refine lv_aload_n hx hb d_TH_store_111 rfl (lv_at hl 2 rfl) ?_
            refine th_get_link1 F hI d_TH_store_112 ?_
            refine lv_iload hx hb d_TH_store_115 (lv_at hl 1 rfl) ?_
            refine lv_iload hx hb d_TH_store_117 (lv_at hl 0 rfl) ?_
            refine th_ast_link1 F hI (th_rf_ge (by rw [e_44]; exact (th_ok_answer t ok).2.1 _ (vp_lt (th_in12 c_6))) c_48) d_TH_store_119 (fun H locs hI => ?_)
            refine lv_iconst (v := 0) hx hb d_TH_store_120 (by decide) ?_
            have e_65 := e_65.symm; subst e_65
            have e_44 := e_44.symm; subst e_44
            exact hret hI d_TH_store_121 (rfl) (by (unfold th_store th_store2; first | ((rw [if_neg (not_not_intro c_6), if_neg (not_not_intro c_16), if_pos c_24, if_pos c_48, if_pos c_68]) <;> rfl) | exact ((if_neg (not_not_intro c_6)).trans ((if_neg (not_not_intro c_16)).trans ((if_pos c_24).trans ((if_pos c_48).trans ((if_pos c_68).trans (rfl)))))).symm))
          · refine lv_aload_n hx hb d_TH_store_71 rfl (lv_at hl 2 rfl) ?_
            refine lv_iload_n hx hb d_TH_store_72 rfl (lv_at hl 3 rfl) ?_
            refine lv_aload_n hx hb d_TH_store_73 rfl (lv_at hl 2 rfl) ?_
            refine th_get_link0 F hI d_TH_store_74 ?_
            refine lv_iload hx hb d_TH_store_77 (lv_at hl 1 rfl) ?_
            refine th_ald_link0 F hI (th_rf_ge (by rw [e_44]; exact (th_ok_answer t ok).2.1 _ (vp_lt (th_in12 c_6))) c_48) d_TH_store_79 ?_
            refine lv_iload hx hb d_TH_store_80 (lv_at hl 0 rfl) ?_
            refine th_callV3 F hI (c_TH_watch l D cI cZ ad _ _ _ _ (th_thr_bd c_6) ((th_ok_answer t ok).2.2.2.1 _ (vp_lt (th_rf_ge (by rw [e_44]; exact (th_ok_answer t ok).2.1 _ (vp_lt (th_in12 c_6))) c_48))) (by rw [e_65]; exact (th_ok_answer t ok).2.1 _ (vp_lt (th_in12 c_16)))) wk_TH_90 rfl ⟨Nat.le_of_ble_eq_true rfl, Nat.le_of_ble_eq_true rfl⟩ hl.1 (Nat.le_of_ble_eq_true rfl) ⟨Nat.zero_le _, Nat.zero_le _⟩ d_TH_store_82 (fun H locs hI => ?_)
            refine lv_aload_n hx hb d_TH_store_85 rfl (lv_at hl 2 rfl) ?_
            refine th_get_link0 F hI d_TH_store_86 ?_
            refine lv_iload hx hb d_TH_store_89 (lv_at hl 1 rfl) ?_
            refine lv_iload hx hb d_TH_store_91 (lv_at hl 0 rfl) ?_
            refine th_ast_link0 F hI (th_rf_ge (by rw [e_44]; exact (th_ok_answer t ok).2.1 _ (vp_lt (th_in12 c_6))) c_48) d_TH_store_93 (fun H locs hI => ?_)
            refine lv_goto (tgt := 120) hx hb d_TH_store_94 (by decide) ?_
            refine lv_iconst (v := 0) hx hb d_TH_store_120 (by decide) ?_
            have e_65 := e_65.symm; subst e_65
            have e_44 := e_44.symm; subst e_44
            exact hret hI d_TH_store_121 (rfl) (by (unfold th_store th_store2; first | ((rw [if_neg (not_not_intro c_6), if_neg (not_not_intro c_16), if_pos c_24, if_pos c_48, if_neg (not_not_intro c_68)]) <;> rfl) | exact ((if_neg (not_not_intro c_6)).trans ((if_neg (not_not_intro c_16)).trans ((if_pos c_24).trans ((if_pos c_48).trans ((if_neg (not_not_intro c_68)).trans (rfl)))))).symm))
        · refine lv_bipush (v := (-3)) hx hb d_TH_store_51 (by decide) ?_
          have e_44 := e_44.symm; subst e_44
          exact hret hI d_TH_store_53 (rfl) (by (unfold th_store th_store2; first | ((rw [if_neg (not_not_intro c_6), if_neg (not_not_intro c_16), if_pos c_24, if_neg c_48]) <;> rfl) | exact ((if_neg (not_not_intro c_6)).trans ((if_neg (not_not_intro c_16)).trans ((if_pos c_24).trans ((if_neg c_48).trans (rfl))))).symm))
      · refine lv_iconst (v := (-1)) hx hb d_TH_store_27 (by decide) ?_
        exact hret hI d_TH_store_28 (rfl) (by (unfold th_store th_store2; first | ((rw [if_neg (not_not_intro c_6), if_neg (not_not_intro c_16), if_neg c_24]) <;> rfl) | exact ((if_neg (not_not_intro c_6)).trans ((if_neg (not_not_intro c_16)).trans ((if_neg c_24).trans (rfl)))).symm))
set_option maxHeartbeats 4000000 in
set_option maxRecDepth 100000 in
theorem c_TH_put (l : Launch) (D : va_G) (cI cZ : ClassId) (ad : Nat → Nat) (u : TS) (t g r : Int32) (ok : th_ok u) : ct_I l D cI cZ (th_W cI cZ ad) y_TH_put b_TH_put 5 (some .int) 5 [.ref (ad 0), .int t, .int g, .int r] u (th_put u t g r) := by
  refine ct_I.mk (by decide) (Nat.le_of_ble_eq_true rfl) ?_
  intro p e s m below meth c A Q ls F hI hl hret
  have F : CallFix p m c b_TH_put 5 s ([.ref (ad 0), .int t, .int g, .int r] : List Value).toArray lw_tb R_TH := F
  obtain ⟨hx, hb, hml, hown, hts⟩ := id F
  have hl : lv_has ls 5 [(0, .ref (ad 0)), (1, .int t), (2, .int g), (3, .int r)] := hl
  refine lv_aload_n hx hb d_TH_put_0 rfl (lv_at hl 0 rfl) ?_
  refine lv_iload_n hx hb d_TH_put_1 rfl (lv_at hl 1 rfl) ?_
  refine lv_iload_n hx hb d_TH_put_2 rfl (lv_at hl 3 rfl) ?_
  refine th_callP2 F hI (c_TH_bad l D cI cZ ad _ _ _) wk_TH_72 rfl ⟨Nat.le_of_ble_eq_true rfl, Nat.le_of_ble_eq_true rfl⟩ hl.1 (Nat.le_of_ble_eq_true rfl) ⟨Nat.zero_le _, Nat.zero_le _⟩ d_TH_put_3 (fun H locs hI => ?_)
  refine lv_if_ne (tgt := 17) hx hb d_TH_put_6 (by decide) (fun c_6 => ?_) (fun c_6 => ?_)
  · refine lv_iconst (v := (-1)) hx hb d_TH_put_17 (by decide) ?_
    exact hret hI d_TH_put_18 (rfl) (by (unfold th_put th_put2; first | ((rw [if_pos c_6]) <;> rfl) | exact ((if_pos c_6).trans (rfl)).symm))
  · refine lv_aload_n hx hb d_TH_put_9 rfl (lv_at hl 0 rfl) ?_
    refine lv_iload_n hx hb d_TH_put_10 rfl (lv_at hl 2 rfl) ?_
    refine th_callP1 F hI (c_TH_badBit l D cI cZ ad _ _) wk_TH_86 rfl ⟨Nat.le_of_ble_eq_true rfl, Nat.le_of_ble_eq_true rfl⟩ hl.1 (Nat.le_of_ble_eq_true rfl) ⟨Nat.zero_le _, Nat.zero_le _⟩ d_TH_put_11 (fun H locs hI => ?_)
    refine lv_if_eq (tgt := 19) hx hb d_TH_put_14 (by decide) (fun c_14 => ?_) (fun c_14 => ?_)
    · refine lv_aload_n hx hb d_TH_put_19 rfl (lv_at hl 0 rfl) ?_
      refine lv_iload_n hx hb d_TH_put_20 rfl (lv_at hl 1 rfl) ?_
      refine th_callV1 F hI (c_TH_answer l D cI cZ ad _ _ (th_thr_bd c_6) ok) wk_TH_63 rfl ⟨Nat.le_of_ble_eq_true rfl, Nat.le_of_ble_eq_true rfl⟩ hl.1 (Nat.le_of_ble_eq_true rfl) ⟨Nat.zero_le _, Nat.zero_le _⟩ d_TH_put_21 (fun H locs hI => ?_)
      refine lv_aload_n hx hb d_TH_put_24 rfl (lv_at hl 0 rfl) ?_
      refine th_get_reg F hI d_TH_put_25 ?_
      refine lv_iload_n hx hb d_TH_put_28 rfl (lv_at hl 1 rfl) ?_
      refine lv_iconst (v := 4) hx hb d_TH_put_29 (by decide) ?_
      refine lv_imul hx hb d_TH_put_30 ?_
      refine lv_iload_n hx hb d_TH_put_31 rfl (lv_at hl 3 rfl) ?_
      refine lv_iadd hx hb d_TH_put_32 ?_
      refine th_ald_reg F hI (th_in12 c_6) d_TH_put_33 ?_
      refine lv_topi (fun v_34 e_34 => ?_)
      refine lv_istore (lv' := [(4, .int v_34), (0, .ref (ad 0)), (1, .int t), (2, .int g), (3, .int r)]) hx hb d_TH_put_34 hl (by decide) rfl (fun ls hl => ?_)
      refine lv_aload_n hx hb d_TH_put_36 rfl (lv_at hl 1 rfl) ?_
      refine lv_iload_n hx hb d_TH_put_37 rfl (lv_at hl 2 rfl) ?_
      refine lv_aload_n hx hb d_TH_put_38 rfl (lv_at hl 1 rfl) ?_
      refine th_get_global F hI d_TH_put_39 ?_
      refine lv_iload_n hx hb d_TH_put_42 rfl (lv_at hl 3 rfl) ?_
      refine th_ald_global F hI (th_in2 c_14) d_TH_put_43 ?_
      refine lv_iload hx hb d_TH_put_44 (lv_at hl 0 rfl) ?_
      refine th_callV3 F hI (c_TH_watch l D cI cZ ad _ _ _ _ (th_thr_bd c_6) ((th_ok_answer t ok).2.2.1 _ (vp_lt (th_in2 c_14))) (by rw [e_34]; exact (th_ok_answer t ok).2.1 _ (vp_lt (th_in12 c_6)))) wk_TH_90 rfl ⟨Nat.le_of_ble_eq_true rfl, Nat.le_of_ble_eq_true rfl⟩ hl.1 (Nat.le_of_ble_eq_true rfl) ⟨Nat.zero_le _, Nat.zero_le _⟩ d_TH_put_46 (fun H locs hI => ?_)
      refine lv_aload_n hx hb d_TH_put_49 rfl (lv_at hl 1 rfl) ?_
      refine th_get_global F hI d_TH_put_50 ?_
      refine lv_iload_n hx hb d_TH_put_53 rfl (lv_at hl 3 rfl) ?_
      refine lv_iload hx hb d_TH_put_54 (lv_at hl 0 rfl) ?_
      refine th_ast_global F hI (th_in2 c_14) d_TH_put_56 (fun H locs hI => ?_)
      refine lv_iconst (v := 0) hx hb d_TH_put_57 (by decide) ?_
      have e_34 := e_34.symm; subst e_34
      exact hret hI d_TH_put_58 (rfl) (by (unfold th_put th_put2; first | ((rw [if_neg (not_not_intro c_6), if_pos c_14]) <;> rfl) | exact ((if_neg (not_not_intro c_6)).trans ((if_pos c_14).trans (rfl))).symm))
    · refine lv_iconst (v := (-1)) hx hb d_TH_put_17 (by decide) ?_
      exact hret hI d_TH_put_18 (rfl) (by (unfold th_put th_put2; first | ((rw [if_neg (not_not_intro c_6), if_neg c_14]) <;> rfl) | exact ((if_neg (not_not_intro c_6)).trans ((if_neg c_14).trans (rfl))).symm))
set_option maxHeartbeats 4000000 in
set_option maxRecDepth 100000 in
theorem c_TH_get (l : Launch) (D : va_G) (cI cZ : ClassId) (ad : Nat → Nat) (u : TS) (t r g : Int32) (ok : th_ok u) : ct_I l D cI cZ (th_W cI cZ ad) y_TH_get b_TH_get 4 (some .int) 5 [.ref (ad 0), .int t, .int r, .int g] u (th_get u t r g) := by
  refine ct_I.mk (by decide) (Nat.le_of_ble_eq_true rfl) ?_
  intro p e s m below meth c A Q ls F hI hl hret
  have F : CallFix p m c b_TH_get 4 s ([.ref (ad 0), .int t, .int r, .int g] : List Value).toArray lw_tb R_TH := F
  obtain ⟨hx, hb, hml, hown, hts⟩ := id F
  have hl : lv_has ls 4 [(0, .ref (ad 0)), (1, .int t), (2, .int r), (3, .int g)] := hl
  refine lv_aload_n hx hb d_TH_get_0 rfl (lv_at hl 0 rfl) ?_
  refine lv_iload_n hx hb d_TH_get_1 rfl (lv_at hl 1 rfl) ?_
  refine lv_iload_n hx hb d_TH_get_2 rfl (lv_at hl 2 rfl) ?_
  refine th_callP2 F hI (c_TH_bad l D cI cZ ad _ _ _) wk_TH_72 rfl ⟨Nat.le_of_ble_eq_true rfl, Nat.le_of_ble_eq_true rfl⟩ hl.1 (Nat.le_of_ble_eq_true rfl) ⟨Nat.zero_le _, Nat.zero_le _⟩ d_TH_get_3 (fun H locs hI => ?_)
  refine lv_if_ne (tgt := 17) hx hb d_TH_get_6 (by decide) (fun c_6 => ?_) (fun c_6 => ?_)
  · refine lv_iconst (v := (-1)) hx hb d_TH_get_17 (by decide) ?_
    exact hret hI d_TH_get_18 (rfl) (by (unfold th_get; first | ((rw [if_pos c_6]) <;> rfl) | exact ((if_pos c_6).trans (rfl)).symm))
  · refine lv_aload_n hx hb d_TH_get_9 rfl (lv_at hl 0 rfl) ?_
    refine lv_iload_n hx hb d_TH_get_10 rfl (lv_at hl 3 rfl) ?_
    refine th_callP1 F hI (c_TH_badBit l D cI cZ ad _ _) wk_TH_86 rfl ⟨Nat.le_of_ble_eq_true rfl, Nat.le_of_ble_eq_true rfl⟩ hl.1 (Nat.le_of_ble_eq_true rfl) ⟨Nat.zero_le _, Nat.zero_le _⟩ d_TH_get_11 (fun H locs hI => ?_)
    refine lv_if_eq (tgt := 19) hx hb d_TH_get_14 (by decide) (fun c_14 => ?_) (fun c_14 => ?_)
    · refine lv_aload_n hx hb d_TH_get_19 rfl (lv_at hl 0 rfl) ?_
      refine lv_iload_n hx hb d_TH_get_20 rfl (lv_at hl 1 rfl) ?_
      refine th_callV1 F hI (c_TH_answer l D cI cZ ad _ _ (th_thr_bd c_6) ok) wk_TH_63 rfl ⟨Nat.le_of_ble_eq_true rfl, Nat.le_of_ble_eq_true rfl⟩ hl.1 (Nat.le_of_ble_eq_true rfl) ⟨Nat.zero_le _, Nat.zero_le _⟩ d_TH_get_21 (fun H locs hI => ?_)
      refine lv_aload_n hx hb d_TH_get_24 rfl (lv_at hl 0 rfl) ?_
      refine th_get_reg F hI d_TH_get_25 ?_
      refine lv_iload_n hx hb d_TH_get_28 rfl (lv_at hl 1 rfl) ?_
      refine lv_iconst (v := 4) hx hb d_TH_get_29 (by decide) ?_
      refine lv_imul hx hb d_TH_get_30 ?_
      refine lv_iload_n hx hb d_TH_get_31 rfl (lv_at hl 2 rfl) ?_
      refine lv_iadd hx hb d_TH_get_32 ?_
      refine lv_aload_n hx hb d_TH_get_33 rfl (lv_at hl 0 rfl) ?_
      refine th_get_global F hI d_TH_get_34 ?_
      refine lv_iload_n hx hb d_TH_get_37 rfl (lv_at hl 3 rfl) ?_
      refine th_ald_global F hI (th_in2 c_14) d_TH_get_38 ?_
      refine th_ast_reg F hI (th_in12 c_6) d_TH_get_39 (fun H locs hI => ?_)
      refine lv_iconst (v := 0) hx hb d_TH_get_40 (by decide) ?_
      exact hret hI d_TH_get_41 (rfl) (by (unfold th_get; first | ((rw [if_neg (not_not_intro c_6), if_pos c_14]) <;> rfl) | exact ((if_neg (not_not_intro c_6)).trans ((if_pos c_14).trans (rfl))).symm))
    · refine lv_iconst (v := (-1)) hx hb d_TH_get_17 (by decide) ?_
      exact hret hI d_TH_get_18 (rfl) (by (unfold th_get; first | ((rw [if_neg (not_not_intro c_6), if_neg c_14]) <;> rfl) | exact ((if_neg (not_not_intro c_6)).trans ((if_neg c_14).trans (rfl))).symm))
set_option maxHeartbeats 4000000 in
set_option maxRecDepth 100000 in
theorem c_TH_swap (l : Launch) (D : va_G) (cI cZ : ClassId) (ad : Nat → Nat) (u : TS) (t r w q : Int32) (ok : th_ok u) : ct_I l D cI cZ (th_W cI cZ ad) y_TH_swap b_TH_swap 6 (some .int) 5 [.ref (ad 0), .int t, .int r, .int w, .int q] u (th_swap u t r w q) := by
  refine ct_I.mk (by decide) (Nat.le_of_ble_eq_true rfl) ?_
  intro p e s m below meth c A Q ls F hI hl hret
  have F : CallFix p m c b_TH_swap 6 s ([.ref (ad 0), .int t, .int r, .int w, .int q] : List Value).toArray lw_tb R_TH := F
  obtain ⟨hx, hb, hml, hown, hts⟩ := id F
  have hl : lv_has ls 6 [(0, .ref (ad 0)), (1, .int t), (2, .int r), (3, .int w), (4, .int q)] := hl
  refine lv_aload_n hx hb d_TH_swap_0 rfl (lv_at hl 0 rfl) ?_
  refine lv_iload_n hx hb d_TH_swap_1 rfl (lv_at hl 1 rfl) ?_
  refine lv_iload_n hx hb d_TH_swap_2 rfl (lv_at hl 2 rfl) ?_
  refine th_callP2 F hI (c_TH_bad l D cI cZ ad _ _ _) wk_TH_72 rfl ⟨Nat.le_of_ble_eq_true rfl, Nat.le_of_ble_eq_true rfl⟩ hl.1 (Nat.le_of_ble_eq_true rfl) ⟨Nat.zero_le _, Nat.zero_le _⟩ d_TH_swap_3 (fun H locs hI => ?_)
  refine lv_if_ne (tgt := 19) hx hb d_TH_swap_6 (by decide) (fun c_6 => ?_) (fun c_6 => ?_)
  · refine lv_iconst (v := (-1)) hx hb d_TH_swap_19 (by decide) ?_
    exact hret hI d_TH_swap_20 (rfl) (by (unfold th_swap th_swap2; first | ((rw [if_pos c_6]) <;> rfl) | exact ((if_pos c_6).trans (rfl)).symm))
  · refine lv_aload_n hx hb d_TH_swap_9 rfl (lv_at hl 0 rfl) ?_
    refine lv_iload_n hx hb d_TH_swap_10 rfl (lv_at hl 3 rfl) ?_
    refine lv_iload hx hb d_TH_swap_11 (lv_at hl 4 rfl) ?_
    refine th_callP2 F hI (c_TH_bad l D cI cZ ad _ _ _) wk_TH_72 rfl ⟨Nat.le_of_ble_eq_true rfl, Nat.le_of_ble_eq_true rfl⟩ hl.1 (Nat.le_of_ble_eq_true rfl) ⟨Nat.zero_le _, Nat.zero_le _⟩ d_TH_swap_13 (fun H locs hI => ?_)
    refine lv_if_eq (tgt := 21) hx hb d_TH_swap_16 (by decide) (fun c_16 => ?_) (fun c_16 => ?_)
    · refine lv_aload_n hx hb d_TH_swap_21 rfl (lv_at hl 0 rfl) ?_
      refine lv_iload_n hx hb d_TH_swap_22 rfl (lv_at hl 1 rfl) ?_
      refine th_callV1 F hI (c_TH_answer l D cI cZ ad _ _ (th_thr_bd c_6) ok) wk_TH_63 rfl ⟨Nat.le_of_ble_eq_true rfl, Nat.le_of_ble_eq_true rfl⟩ hl.1 (Nat.le_of_ble_eq_true rfl) ⟨Nat.zero_le _, Nat.zero_le _⟩ d_TH_swap_23 (fun H locs hI => ?_)
      refine lv_aload_n hx hb d_TH_swap_26 rfl (lv_at hl 0 rfl) ?_
      refine lv_iload_n hx hb d_TH_swap_27 rfl (lv_at hl 3 rfl) ?_
      refine th_callV1 F hI (c_TH_answer l D cI cZ ad _ _ (th_thr_bd c_16) (th_ok_answer t ok)) wk_TH_63 rfl ⟨Nat.le_of_ble_eq_true rfl, Nat.le_of_ble_eq_true rfl⟩ hl.1 (Nat.le_of_ble_eq_true rfl) ⟨Nat.zero_le _, Nat.zero_le _⟩ d_TH_swap_28 (fun H locs hI => ?_)
      refine lv_aload_n hx hb d_TH_swap_31 rfl (lv_at hl 0 rfl) ?_
      refine th_get_reg F hI d_TH_swap_32 ?_
      refine lv_iload_n hx hb d_TH_swap_35 rfl (lv_at hl 1 rfl) ?_
      refine lv_iconst (v := 4) hx hb d_TH_swap_36 (by decide) ?_
      refine lv_imul hx hb d_TH_swap_37 ?_
      refine lv_iload_n hx hb d_TH_swap_38 rfl (lv_at hl 2 rfl) ?_
      refine lv_iadd hx hb d_TH_swap_39 ?_
      refine th_ald_reg F hI (th_in12 c_6) d_TH_swap_40 ?_
      refine lv_topi (fun v_41 e_41 => ?_)
      refine lv_istore (lv' := [(5, .int v_41), (0, .ref (ad 0)), (1, .int t), (2, .int r), (3, .int w), (4, .int q)]) hx hb d_TH_swap_41 hl (by decide) rfl (fun ls hl => ?_)
      refine lv_aload_n hx hb d_TH_swap_43 rfl (lv_at hl 1 rfl) ?_
      refine th_get_reg F hI d_TH_swap_44 ?_
      refine lv_iload_n hx hb d_TH_swap_47 rfl (lv_at hl 2 rfl) ?_
      refine lv_iconst (v := 4) hx hb d_TH_swap_48 (by decide) ?_
      refine lv_imul hx hb d_TH_swap_49 ?_
      refine lv_iload_n hx hb d_TH_swap_50 rfl (lv_at hl 3 rfl) ?_
      refine lv_iadd hx hb d_TH_swap_51 ?_
      refine lv_aload_n hx hb d_TH_swap_52 rfl (lv_at hl 1 rfl) ?_
      refine th_get_reg F hI d_TH_swap_53 ?_
      refine lv_iload_n hx hb d_TH_swap_56 rfl (lv_at hl 4 rfl) ?_
      refine lv_iconst (v := 4) hx hb d_TH_swap_57 (by decide) ?_
      refine lv_imul hx hb d_TH_swap_58 ?_
      refine lv_iload hx hb d_TH_swap_59 (lv_at hl 5 rfl) ?_
      refine lv_iadd hx hb d_TH_swap_61 ?_
      refine th_ald_reg F hI (th_in12 c_16) d_TH_swap_62 ?_
      refine th_ast_reg F hI (th_in12 c_6) d_TH_swap_63 (fun H locs hI => ?_)
      refine lv_aload_n hx hb d_TH_swap_64 rfl (lv_at hl 1 rfl) ?_
      refine th_get_reg F hI d_TH_swap_65 ?_
      refine lv_iload_n hx hb d_TH_swap_68 rfl (lv_at hl 4 rfl) ?_
      refine lv_iconst (v := 4) hx hb d_TH_swap_69 (by decide) ?_
      refine lv_imul hx hb d_TH_swap_70 ?_
      refine lv_iload hx hb d_TH_swap_71 (lv_at hl 5 rfl) ?_
      refine lv_iadd hx hb d_TH_swap_73 ?_
      refine lv_iload hx hb d_TH_swap_74 (lv_at hl 0 rfl) ?_
      refine th_ast_reg F hI (th_in12 c_16) d_TH_swap_76 (fun H locs hI => ?_)
      refine lv_iconst (v := 0) hx hb d_TH_swap_77 (by decide) ?_
      have e_41 := e_41.symm; subst e_41
      exact hret hI d_TH_swap_78 (rfl) (by (unfold th_swap th_swap2; first | ((rw [if_neg (not_not_intro c_6), if_pos c_16]) <;> rfl) | exact ((if_neg (not_not_intro c_6)).trans ((if_pos c_16).trans (rfl))).symm))
    · refine lv_iconst (v := (-1)) hx hb d_TH_swap_19 (by decide) ?_
      exact hret hI d_TH_swap_20 (rfl) (by (unfold th_swap th_swap2; first | ((rw [if_neg (not_not_intro c_6), if_neg c_16]) <;> rfl) | exact ((if_neg (not_not_intro c_6)).trans ((if_neg c_16).trans (rfl))).symm))
set_option maxHeartbeats 4000000 in
set_option maxRecDepth 100000 in
theorem c_TH_setNumber (l : Launch) (D : va_G) (cI cZ : ClassId) (ad : Nat → Nat) (u : TS) (t r n : Int32) (ok : th_ok u) : ct_I l D cI cZ (th_W cI cZ ad) y_TH_setNumber b_TH_setNumber 5 (some .int) 5 [.ref (ad 0), .int t, .int r, .int n] u (th_setNumber u t r n) := by
  refine ct_I.mk (by decide) (Nat.le_of_ble_eq_true rfl) ?_
  intro p e s m below meth c A Q ls F hI hl hret
  have F : CallFix p m c b_TH_setNumber 5 s ([.ref (ad 0), .int t, .int r, .int n] : List Value).toArray lw_tb R_TH := F
  obtain ⟨hx, hb, hml, hown, hts⟩ := id F
  have hl : lv_has ls 5 [(0, .ref (ad 0)), (1, .int t), (2, .int r), (3, .int n)] := hl
  refine lv_aload_n hx hb d_TH_setNumber_0 rfl (lv_at hl 0 rfl) ?_
  refine lv_iload_n hx hb d_TH_setNumber_1 rfl (lv_at hl 1 rfl) ?_
  refine lv_iload_n hx hb d_TH_setNumber_2 rfl (lv_at hl 2 rfl) ?_
  refine th_callP2 F hI (c_TH_bad l D cI cZ ad _ _ _) wk_TH_72 rfl ⟨Nat.le_of_ble_eq_true rfl, Nat.le_of_ble_eq_true rfl⟩ hl.1 (Nat.le_of_ble_eq_true rfl) ⟨Nat.zero_le _, Nat.zero_le _⟩ d_TH_setNumber_3 (fun H locs hI => ?_)
  refine lv_if_eq (tgt := 11) hx hb d_TH_setNumber_6 (by decide) (fun c_6 => ?_) (fun c_6 => ?_)
  · refine lv_aload_n hx hb d_TH_setNumber_11 rfl (lv_at hl 0 rfl) ?_
    refine lv_iload_n hx hb d_TH_setNumber_12 rfl (lv_at hl 1 rfl) ?_
    refine th_callV1 F hI (c_TH_answer l D cI cZ ad _ _ (th_thr_bd c_6) ok) wk_TH_63 rfl ⟨Nat.le_of_ble_eq_true rfl, Nat.le_of_ble_eq_true rfl⟩ hl.1 (Nat.le_of_ble_eq_true rfl) ⟨Nat.zero_le _, Nat.zero_le _⟩ d_TH_setNumber_13 (fun H locs hI => ?_)
    refine lv_aload_n hx hb d_TH_setNumber_16 rfl (lv_at hl 0 rfl) ?_
    refine th_get_reg F hI d_TH_setNumber_17 ?_
    refine lv_iload_n hx hb d_TH_setNumber_20 rfl (lv_at hl 1 rfl) ?_
    refine lv_iconst (v := 4) hx hb d_TH_setNumber_21 (by decide) ?_
    refine lv_imul hx hb d_TH_setNumber_22 ?_
    refine lv_iload_n hx hb d_TH_setNumber_23 rfl (lv_at hl 2 rfl) ?_
    refine lv_iadd hx hb d_TH_setNumber_24 ?_
    refine th_ald_reg F hI (th_in12 c_6) d_TH_setNumber_25 ?_
    refine lv_topi (fun v_26 e_26 => ?_)
    refine lv_istore (lv' := [(4, .int v_26), (0, .ref (ad 0)), (1, .int t), (2, .int r), (3, .int n)]) hx hb d_TH_setNumber_26 hl (by decide) rfl (fun ls hl => ?_)
    refine lv_iload hx hb d_TH_setNumber_28 (lv_at hl 0 rfl) ?_
    refine lv_if_ge (tgt := 36) hx hb d_TH_setNumber_30 (by decide) (fun c_30 => ?_) (fun c_30 => ?_)
    · refine lv_aload_n hx hb d_TH_setNumber_36 rfl (lv_at hl 1 rfl) ?_
      refine th_get_value F hI d_TH_setNumber_37 ?_
      refine lv_iload hx hb d_TH_setNumber_40 (lv_at hl 0 rfl) ?_
      refine lv_iload_n hx hb d_TH_setNumber_42 rfl (lv_at hl 4 rfl) ?_
      refine th_ast_value F hI (th_rf_ge (by rw [e_26]; exact (th_ok_answer t ok).2.1 _ (vp_lt (th_in12 c_6))) c_30) d_TH_setNumber_43 (fun H locs hI => ?_)
      refine lv_iconst (v := 0) hx hb d_TH_setNumber_44 (by decide) ?_
      have e_26 := e_26.symm; subst e_26
      exact hret hI d_TH_setNumber_45 (rfl) (by (unfold th_setNumber th_setn2; first | ((rw [if_pos c_6, if_pos c_30]) <;> rfl) | exact ((if_pos c_6).trans ((if_pos c_30).trans (rfl))).symm))
    · refine lv_bipush (v := (-3)) hx hb d_TH_setNumber_33 (by decide) ?_
      have e_26 := e_26.symm; subst e_26
      exact hret hI d_TH_setNumber_35 (rfl) (by (unfold th_setNumber th_setn2; first | ((rw [if_pos c_6, if_neg c_30]) <;> rfl) | exact ((if_pos c_6).trans ((if_neg c_30).trans (rfl))).symm))
  · refine lv_iconst (v := (-1)) hx hb d_TH_setNumber_9 (by decide) ?_
    exact hret hI d_TH_setNumber_10 (rfl) (by (unfold th_setNumber th_setn2; first | ((rw [if_neg c_6]) <;> rfl) | exact ((if_neg c_6).trans (rfl)).symm))
set_option maxHeartbeats 4000000 in
set_option maxRecDepth 100000 in
theorem c_TH_number (l : Launch) (D : va_G) (cI cZ : ClassId) (ad : Nat → Nat) (u : TS) (t r : Int32) (ok : th_ok u) : ct_I l D cI cZ (th_W cI cZ ad) y_TH_number b_TH_number 4 (some .int) 5 [.ref (ad 0), .int t, .int r] u (th_number u t r) := by
  refine ct_I.mk (by decide) (Nat.le_of_ble_eq_true rfl) ?_
  intro p e s m below meth c A Q ls F hI hl hret
  have F : CallFix p m c b_TH_number 4 s ([.ref (ad 0), .int t, .int r] : List Value).toArray lw_tb R_TH := F
  obtain ⟨hx, hb, hml, hown, hts⟩ := id F
  have hl : lv_has ls 4 [(0, .ref (ad 0)), (1, .int t), (2, .int r)] := hl
  refine lv_aload_n hx hb d_TH_number_0 rfl (lv_at hl 0 rfl) ?_
  refine lv_iload_n hx hb d_TH_number_1 rfl (lv_at hl 1 rfl) ?_
  refine lv_iload_n hx hb d_TH_number_2 rfl (lv_at hl 2 rfl) ?_
  refine th_callP2 F hI (c_TH_bad l D cI cZ ad _ _ _) wk_TH_72 rfl ⟨Nat.le_of_ble_eq_true rfl, Nat.le_of_ble_eq_true rfl⟩ hl.1 (Nat.le_of_ble_eq_true rfl) ⟨Nat.zero_le _, Nat.zero_le _⟩ d_TH_number_3 (fun H locs hI => ?_)
  refine lv_if_eq (tgt := 11) hx hb d_TH_number_6 (by decide) (fun c_6 => ?_) (fun c_6 => ?_)
  · refine lv_aload_n hx hb d_TH_number_11 rfl (lv_at hl 0 rfl) ?_
    refine th_get_reg F hI d_TH_number_12 ?_
    refine lv_iload_n hx hb d_TH_number_15 rfl (lv_at hl 1 rfl) ?_
    refine lv_iconst (v := 4) hx hb d_TH_number_16 (by decide) ?_
    refine lv_imul hx hb d_TH_number_17 ?_
    refine lv_iload_n hx hb d_TH_number_18 rfl (lv_at hl 2 rfl) ?_
    refine lv_iadd hx hb d_TH_number_19 ?_
    refine th_ald_reg F hI (th_in12 c_6) d_TH_number_20 ?_
    refine lv_topi (fun v_21 e_21 => ?_)
    refine lv_istore_n (lv' := [(3, .int v_21), (0, .ref (ad 0)), (1, .int t), (2, .int r)]) hx hb d_TH_number_21 rfl hl (by decide) rfl (fun ls hl => ?_)
    refine lv_iload_n hx hb d_TH_number_22 rfl (lv_at hl 0 rfl) ?_
    refine lv_if_ge (tgt := 30) hx hb d_TH_number_23 (by decide) (fun c_23 => ?_) (fun c_23 => ?_)
    · refine lv_aload_n hx hb d_TH_number_30 rfl (lv_at hl 1 rfl) ?_
      refine th_get_value F hI d_TH_number_31 ?_
      refine lv_iload_n hx hb d_TH_number_34 rfl (lv_at hl 0 rfl) ?_
      refine th_ald_value F hI (th_rf_ge (by rw [e_21]; exact ok.2.1 _ (vp_lt (th_in12 c_6))) c_23) d_TH_number_35 ?_
      have e_21 := e_21.symm; subst e_21
      exact hret hI d_TH_number_36 (rfl) (by (unfold th_number; first | ((rw [if_pos c_6, if_pos c_23]) <;> rfl) | exact ((if_pos c_6).trans ((if_pos c_23).trans (rfl))).symm))
    · refine lv_iconst (v := 0) hx hb d_TH_number_26 (by decide) ?_
      refine lv_goto (tgt := 36) hx hb d_TH_number_27 (by decide) ?_
      have e_21 := e_21.symm; subst e_21
      exact hret hI d_TH_number_36 (rfl) (by (unfold th_number; first | ((rw [if_pos c_6, if_neg c_23]) <;> rfl) | exact ((if_pos c_6).trans ((if_neg c_23).trans (rfl))).symm))
  · refine lv_iconst (v := 0) hx hb d_TH_number_9 (by decide) ?_
    exact hret hI d_TH_number_10 (rfl) (by (unfold th_number; first | ((rw [if_neg c_6]) <;> rfl) | exact ((if_neg c_6).trans (rfl)).symm))
set_option maxHeartbeats 4000000 in
set_option maxRecDepth 100000 in
theorem c_TH_serial (l : Launch) (D : va_G) (cI cZ : ClassId) (ad : Nat → Nat) (u : TS) (t r : Int32) (ok : th_ok u) : ct_I l D cI cZ (th_W cI cZ ad) y_TH_serial b_TH_serial 3 (some .int) 5 [.ref (ad 0), .int t, .int r] u (th_serial u t r) := by
  refine ct_I.mk (by decide) (Nat.le_of_ble_eq_true rfl) ?_
  intro p e s m below meth c A Q ls F hI hl hret
  have F : CallFix p m c b_TH_serial 3 s ([.ref (ad 0), .int t, .int r] : List Value).toArray lw_tb R_TH := F
  obtain ⟨hx, hb, hml, hown, hts⟩ := id F
  have hl : lv_has ls 3 [(0, .ref (ad 0)), (1, .int t), (2, .int r)] := hl
  refine lv_aload_n hx hb d_TH_serial_0 rfl (lv_at hl 0 rfl) ?_
  refine lv_iload_n hx hb d_TH_serial_1 rfl (lv_at hl 1 rfl) ?_
  refine lv_iload_n hx hb d_TH_serial_2 rfl (lv_at hl 2 rfl) ?_
  refine th_callP2 F hI (c_TH_bad l D cI cZ ad _ _ _) wk_TH_72 rfl ⟨Nat.le_of_ble_eq_true rfl, Nat.le_of_ble_eq_true rfl⟩ hl.1 (Nat.le_of_ble_eq_true rfl) ⟨Nat.zero_le _, Nat.zero_le _⟩ d_TH_serial_3 (fun H locs hI => ?_)
  refine lv_if_eq (tgt := 11) hx hb d_TH_serial_6 (by decide) (fun c_6 => ?_) (fun c_6 => ?_)
  · refine lv_aload_n hx hb d_TH_serial_11 rfl (lv_at hl 0 rfl) ?_
    refine lv_aload_n hx hb d_TH_serial_12 rfl (lv_at hl 0 rfl) ?_
    refine th_get_reg F hI d_TH_serial_13 ?_
    refine lv_iload_n hx hb d_TH_serial_16 rfl (lv_at hl 1 rfl) ?_
    refine lv_iconst (v := 4) hx hb d_TH_serial_17 (by decide) ?_
    refine lv_imul hx hb d_TH_serial_18 ?_
    refine lv_iload_n hx hb d_TH_serial_19 rfl (lv_at hl 2 rfl) ?_
    refine lv_iadd hx hb d_TH_serial_20 ?_
    refine th_ald_reg F hI (th_in12 c_6) d_TH_serial_21 ?_
    refine th_callP1 F hI (c_TH_tagOf l D cI cZ ad _ _ (ok.2.1 _ (vp_lt (th_in12 c_6)))) wk_TH_94 rfl ⟨Nat.le_of_ble_eq_true rfl, Nat.le_of_ble_eq_true rfl⟩ hl.1 (Nat.le_of_ble_eq_true rfl) ⟨Nat.zero_le _, Nat.zero_le _⟩ d_TH_serial_22 (fun H locs hI => ?_)
    exact hret hI d_TH_serial_25 (rfl) (by (unfold th_serial; first | ((rw [if_pos c_6]) <;> rfl) | exact ((if_pos c_6).trans (rfl)).symm))
  · refine lv_iconst (v := (-1)) hx hb d_TH_serial_9 (by decide) ?_
    exact hret hI d_TH_serial_10 (rfl) (by (unfold th_serial; first | ((rw [if_neg c_6]) <;> rfl) | exact ((if_neg c_6).trans (rfl)).symm))
set_option maxHeartbeats 4000000 in
set_option maxRecDepth 100000 in
theorem c_TH_serialIn (l : Launch) (D : va_G) (cI cZ : ClassId) (ad : Nat → Nat) (u : TS) (t r f : Int32) (ok : th_ok u) : ct_I l D cI cZ (th_W cI cZ ad) y_TH_serialIn b_TH_serialIn 5 (some .int) 5 [.ref (ad 0), .int t, .int r, .int f] u (th_serialIn u t r f) := by
  refine ct_I.mk (by decide) (Nat.le_of_ble_eq_true rfl) ?_
  intro p e s m below meth c A Q ls F hI hl hret
  have F : CallFix p m c b_TH_serialIn 5 s ([.ref (ad 0), .int t, .int r, .int f] : List Value).toArray lw_tb R_TH := F
  obtain ⟨hx, hb, hml, hown, hts⟩ := id F
  have hl : lv_has ls 5 [(0, .ref (ad 0)), (1, .int t), (2, .int r), (3, .int f)] := hl
  refine lv_aload_n hx hb d_TH_serialIn_0 rfl (lv_at hl 0 rfl) ?_
  refine lv_iload_n hx hb d_TH_serialIn_1 rfl (lv_at hl 1 rfl) ?_
  refine lv_iload_n hx hb d_TH_serialIn_2 rfl (lv_at hl 2 rfl) ?_
  refine th_callP2 F hI (c_TH_bad l D cI cZ ad _ _ _) wk_TH_72 rfl ⟨Nat.le_of_ble_eq_true rfl, Nat.le_of_ble_eq_true rfl⟩ hl.1 (Nat.le_of_ble_eq_true rfl) ⟨Nat.zero_le _, Nat.zero_le _⟩ d_TH_serialIn_3 (fun H locs hI => ?_)
  refine lv_if_ne (tgt := 17) hx hb d_TH_serialIn_6 (by decide) (fun c_6 => ?_) (fun c_6 => ?_)
  · refine lv_iconst (v := (-1)) hx hb d_TH_serialIn_17 (by decide) ?_
    exact hret hI d_TH_serialIn_18 (rfl) (by (unfold th_serialIn; first | ((rw [if_pos c_6]) <;> rfl) | exact ((if_pos c_6).trans (rfl)).symm))
  · refine lv_aload_n hx hb d_TH_serialIn_9 rfl (lv_at hl 0 rfl) ?_
    refine lv_iload_n hx hb d_TH_serialIn_10 rfl (lv_at hl 3 rfl) ?_
    refine th_callP1 F hI (c_TH_badBit l D cI cZ ad _ _) wk_TH_86 rfl ⟨Nat.le_of_ble_eq_true rfl, Nat.le_of_ble_eq_true rfl⟩ hl.1 (Nat.le_of_ble_eq_true rfl) ⟨Nat.zero_le _, Nat.zero_le _⟩ d_TH_serialIn_11 (fun H locs hI => ?_)
    refine lv_if_eq (tgt := 19) hx hb d_TH_serialIn_14 (by decide) (fun c_14 => ?_) (fun c_14 => ?_)
    · refine lv_aload_n hx hb d_TH_serialIn_19 rfl (lv_at hl 0 rfl) ?_
      refine th_get_reg F hI d_TH_serialIn_20 ?_
      refine lv_iload_n hx hb d_TH_serialIn_23 rfl (lv_at hl 1 rfl) ?_
      refine lv_iconst (v := 4) hx hb d_TH_serialIn_24 (by decide) ?_
      refine lv_imul hx hb d_TH_serialIn_25 ?_
      refine lv_iload_n hx hb d_TH_serialIn_26 rfl (lv_at hl 2 rfl) ?_
      refine lv_iadd hx hb d_TH_serialIn_27 ?_
      refine th_ald_reg F hI (th_in12 c_6) d_TH_serialIn_28 ?_
      refine lv_topi (fun v_29 e_29 => ?_)
      refine lv_istore (lv' := [(4, .int v_29), (0, .ref (ad 0)), (1, .int t), (2, .int r), (3, .int f)]) hx hb d_TH_serialIn_29 hl (by decide) rfl (fun ls hl => ?_)
      refine lv_iload hx hb d_TH_serialIn_31 (lv_at hl 0 rfl) ?_
      refine lv_if_ge (tgt := 39) hx hb d_TH_serialIn_33 (by decide) (fun c_33 => ?_) (fun c_33 => ?_)
      · refine lv_aload_n hx hb d_TH_serialIn_39 rfl (lv_at hl 1 rfl) ?_
        refine lv_iload_n hx hb d_TH_serialIn_40 rfl (lv_at hl 4 rfl) ?_
        refine lv_if_ne (tgt := 54) hx hb d_TH_serialIn_41 (by decide) (fun c_41 => ?_) (fun c_41 => ?_)
        · refine lv_aload_n hx hb d_TH_serialIn_54 rfl (lv_at hl 1 rfl) ?_
          refine th_get_link1 F hI d_TH_serialIn_55 ?_
          refine lv_iload hx hb d_TH_serialIn_58 (lv_at hl 0 rfl) ?_
          refine th_ald_link1 F hI (th_rf_ge (by rw [e_29]; exact ok.2.1 _ (vp_lt (th_in12 c_6))) c_33) d_TH_serialIn_60 ?_
          refine th_callP1 F hI (c_TH_tagOf l D cI cZ ad _ _ (ok.2.2.2.2 _ (vp_lt (th_rf_ge (by rw [e_29]; exact ok.2.1 _ (vp_lt (th_in12 c_6))) c_33)))) wk_TH_94 rfl ⟨Nat.le_of_ble_eq_true rfl, Nat.le_of_ble_eq_true rfl⟩ hl.1 (Nat.le_of_ble_eq_true rfl) ⟨Nat.zero_le _, Nat.zero_le _⟩ d_TH_serialIn_61 (fun H locs hI => ?_)
          have e_29 := e_29.symm; subst e_29
          exact hret hI d_TH_serialIn_64 (rfl) (by (unfold th_serialIn; first | ((rw [if_neg (not_not_intro c_6), if_pos c_14, if_pos c_33, if_pos c_41]) <;> rfl) | exact ((if_neg (not_not_intro c_6)).trans ((if_pos c_14).trans ((if_pos c_33).trans ((if_pos c_41).trans (rfl))))).symm))
        · refine lv_aload_n hx hb d_TH_serialIn_44 rfl (lv_at hl 1 rfl) ?_
          refine th_get_link0 F hI d_TH_serialIn_45 ?_
          refine lv_iload hx hb d_TH_serialIn_48 (lv_at hl 0 rfl) ?_
          refine th_ald_link0 F hI (th_rf_ge (by rw [e_29]; exact ok.2.1 _ (vp_lt (th_in12 c_6))) c_33) d_TH_serialIn_50 ?_
          refine lv_goto (tgt := 61) hx hb d_TH_serialIn_51 (by decide) ?_
          refine th_callP1 F hI (c_TH_tagOf l D cI cZ ad _ _ (ok.2.2.2.1 _ (vp_lt (th_rf_ge (by rw [e_29]; exact ok.2.1 _ (vp_lt (th_in12 c_6))) c_33)))) wk_TH_94 rfl ⟨Nat.le_of_ble_eq_true rfl, Nat.le_of_ble_eq_true rfl⟩ hl.1 (Nat.le_of_ble_eq_true rfl) ⟨Nat.zero_le _, Nat.zero_le _⟩ d_TH_serialIn_61 (fun H locs hI => ?_)
          have e_29 := e_29.symm; subst e_29
          exact hret hI d_TH_serialIn_64 (rfl) (by (unfold th_serialIn; first | ((rw [if_neg (not_not_intro c_6), if_pos c_14, if_pos c_33, if_neg (not_not_intro c_41)]) <;> rfl) | exact ((if_neg (not_not_intro c_6)).trans ((if_pos c_14).trans ((if_pos c_33).trans ((if_neg (not_not_intro c_41)).trans (rfl))))).symm))
      · refine lv_bipush (v := (-3)) hx hb d_TH_serialIn_36 (by decide) ?_
        have e_29 := e_29.symm; subst e_29
        exact hret hI d_TH_serialIn_38 (rfl) (by (unfold th_serialIn; first | ((rw [if_neg (not_not_intro c_6), if_pos c_14, if_neg c_33]) <;> rfl) | exact ((if_neg (not_not_intro c_6)).trans ((if_pos c_14).trans ((if_neg c_33).trans (rfl)))).symm))
    · refine lv_iconst (v := (-1)) hx hb d_TH_serialIn_17 (by decide) ?_
      exact hret hI d_TH_serialIn_18 (rfl) (by (unfold th_serialIn; first | ((rw [if_neg (not_not_intro c_6), if_neg c_14]) <;> rfl) | exact ((if_neg (not_not_intro c_6)).trans ((if_neg c_14).trans (rfl))).symm))
set_option maxHeartbeats 4000000 in
set_option maxRecDepth 100000 in
theorem c_TH_serialOf (l : Launch) (D : va_G) (cI cZ : ClassId) (ad : Nat → Nat) (u : TS) (g : Int32) (ok : th_ok u) : ct_I l D cI cZ (th_W cI cZ ad) y_TH_serialOf b_TH_serialOf 2 (some .int) 5 [.ref (ad 0), .int g] u (th_serialOf u g) := by
  refine ct_I.mk (by decide) (Nat.le_of_ble_eq_true rfl) ?_
  intro p e s m below meth c A Q ls F hI hl hret
  have F : CallFix p m c b_TH_serialOf 2 s ([.ref (ad 0), .int g] : List Value).toArray lw_tb R_TH := F
  obtain ⟨hx, hb, hml, hown, hts⟩ := id F
  have hl : lv_has ls 2 [(0, .ref (ad 0)), (1, .int g)] := hl
  refine lv_aload_n hx hb d_TH_serialOf_0 rfl (lv_at hl 0 rfl) ?_
  refine lv_iload_n hx hb d_TH_serialOf_1 rfl (lv_at hl 1 rfl) ?_
  refine th_callP1 F hI (c_TH_badBit l D cI cZ ad _ _) wk_TH_86 rfl ⟨Nat.le_of_ble_eq_true rfl, Nat.le_of_ble_eq_true rfl⟩ hl.1 (Nat.le_of_ble_eq_true rfl) ⟨Nat.zero_le _, Nat.zero_le _⟩ d_TH_serialOf_2 (fun H locs hI => ?_)
  refine lv_if_eq (tgt := 10) hx hb d_TH_serialOf_5 (by decide) (fun c_5 => ?_) (fun c_5 => ?_)
  · refine lv_aload_n hx hb d_TH_serialOf_10 rfl (lv_at hl 0 rfl) ?_
    refine lv_aload_n hx hb d_TH_serialOf_11 rfl (lv_at hl 0 rfl) ?_
    refine th_get_global F hI d_TH_serialOf_12 ?_
    refine lv_iload_n hx hb d_TH_serialOf_15 rfl (lv_at hl 1 rfl) ?_
    refine th_ald_global F hI (th_in2 c_5) d_TH_serialOf_16 ?_
    refine th_callP1 F hI (c_TH_tagOf l D cI cZ ad _ _ (ok.2.2.1 _ (vp_lt (th_in2 c_5)))) wk_TH_94 rfl ⟨Nat.le_of_ble_eq_true rfl, Nat.le_of_ble_eq_true rfl⟩ hl.1 (Nat.le_of_ble_eq_true rfl) ⟨Nat.zero_le _, Nat.zero_le _⟩ d_TH_serialOf_17 (fun H locs hI => ?_)
    exact hret hI d_TH_serialOf_20 (rfl) (by (unfold th_serialOf; first | ((rw [if_pos c_5]) <;> rfl) | exact ((if_pos c_5).trans (rfl)).symm))
  · refine lv_iconst (v := (-1)) hx hb d_TH_serialOf_8 (by decide) ?_
    exact hret hI d_TH_serialOf_9 (rfl) (by (unfold th_serialOf; first | ((rw [if_neg c_5]) <;> rfl) | exact ((if_neg c_5).trans (rfl)).symm))
set_option maxHeartbeats 4000000 in
set_option maxRecDepth 100000 in
theorem c_TH_pause (l : Launch) (D : va_G) (cI cZ : ClassId) (ad : Nat → Nat) (u : TS) (t : Int32) (ok : th_ok u) : ct_I l D cI cZ (th_W cI cZ ad) y_TH_pause b_TH_pause 2 (some .int) 5 [.ref (ad 0), .int t] u (th_pause u t) := by
  refine ct_I.mk (by decide) (Nat.le_of_ble_eq_true rfl) ?_
  intro p e s m below meth c A Q ls F hI hl hret
  have F : CallFix p m c b_TH_pause 2 s ([.ref (ad 0), .int t] : List Value).toArray lw_tb R_TH := F
  obtain ⟨hx, hb, hml, hown, hts⟩ := id F
  have hl : lv_has ls 2 [(0, .ref (ad 0)), (1, .int t)] := hl
  refine lv_iload_n hx hb d_TH_pause_0 rfl (lv_at hl 1 rfl) ?_
  refine lv_if_lt (tgt := 9) hx hb d_TH_pause_1 (by decide) (fun c_1 => ?_) (fun c_1 => ?_)
  · refine lv_iconst (v := (-1)) hx hb d_TH_pause_9 (by decide) ?_
    exact hret hI d_TH_pause_10 (rfl) (by (unfold th_pause; first | ((rw [if_pos c_1]) <;> rfl) | exact ((if_pos c_1).trans (rfl)).symm))
  · refine lv_iload_n hx hb d_TH_pause_4 rfl (lv_at hl 1 rfl) ?_
    refine lv_iconst (v := 2) hx hb d_TH_pause_5 (by decide) ?_
    refine lv_icmp_le (tgt := 11) hx hb d_TH_pause_6 (by decide) (fun c_6 => ?_) (fun c_6 => ?_)
    · refine lv_aload_n hx hb d_TH_pause_11 rfl (lv_at hl 0 rfl) ?_
      refine lv_iload_n hx hb d_TH_pause_12 rfl (lv_at hl 1 rfl) ?_
      refine th_callV1 F hI (c_TH_answer l D cI cZ ad _ _ (th_thr_of c_1 c_6) ok) wk_TH_63 rfl ⟨Nat.le_of_ble_eq_true rfl, Nat.le_of_ble_eq_true rfl⟩ hl.1 (Nat.le_of_ble_eq_true rfl) ⟨Nat.zero_le _, Nat.zero_le _⟩ d_TH_pause_13 (fun H locs hI => ?_)
      refine lv_iconst (v := 0) hx hb d_TH_pause_16 (by decide) ?_
      exact hret hI d_TH_pause_17 (rfl) (by (unfold th_pause; first | ((rw [if_neg c_1, if_pos c_6]) <;> rfl) | exact ((if_neg c_1).trans ((if_pos c_6).trans (rfl))).symm))
    · refine lv_iconst (v := (-1)) hx hb d_TH_pause_9 (by decide) ?_
      exact hret hI d_TH_pause_10 (rfl) (by (unfold th_pause; first | ((rw [if_neg c_1, if_neg c_6]) <;> rfl) | exact ((if_neg c_1).trans ((if_neg c_6).trans (rfl))).symm))
end
section
-- the plain safety of the reference's picture
def md_ok (v : MS) : Prop := ∃ n : Nat, n ≤ 512 ∧ mMade v = nI n ∧ (∀ i, i < 12 → vp_in (mReg v i) 513) ∧ (∀ i, i < 2 → vp_in (mGl v i) 513) ∧ ∀ i, i < 1026 → vp_in (mFld v i) 513
theorem md_ok_rch {v : MS} {f : Nat → Int32} (h : md_ok v) : md_ok (eRch v f) := h
theorem md_ll_eq : ∀ (k : Nat) (b : Int32) (v : MS), ∃ f, md_ll k b v = eRch v f
  | 0, _, v => ⟨mRch v, rfl⟩
  | k + 1, b, v => by
    unfold md_ll
    split
    · exact ⟨mRch v, rfl⟩
    · obtain ⟨f, hf⟩ := md_ll_eq k (md_fields v).2 (md_fields v).1
      exact ⟨f, hf⟩
theorem md_lv_eq (v : MS) : ∃ f, md_lv v = eRch v f := by
  obtain ⟨f, hf⟩ := md_ll_eq 512 1 (md_lv0 v)
  exact ⟨f, hf⟩
theorem md_ok_lv {v : MS} (h : md_ok v) : md_ok (md_lv v) := by
  obtain ⟨f, hf⟩ := md_lv_eq v
  rw [hf]
  exact h
theorem md_m2 (j : Nat) : 2 * nI j = nI (2 * j) := by
  rw [show (2 : Int32) = nI 2 from rfl, pk_mul]
theorem md_n0 : narrow .boolean (.int 0) = .int 0 := by decide
theorem md_n1 : narrow .boolean (.int 1) = .int 1 := by decide
theorem md_rfs_b (g f : Nat → Int32) : ∀ k : Nat, narrow .boolean (.int (md_rfs g f k).2) = .int (md_rfs g f k).2
  | 0 => md_n0
  | k + 1 => by
    have ih := md_rfs_b g f k
    unfold md_rfs
    split
    · exact ih
    · split
      · exact md_n1
      · split
        · exact ih
        · exact md_n1
theorem md_mk {k : Int32} {m : Nat} (h : k = nI m) (hm : m ≤ 512) (hk : ¬ k = 512) : vp_in (2 * (k + 1)) 1026 ∧ vp_in (2 * (k + 1) + 1) 1026 ∧ vp_in (k + 1) 513 := by
  have h1 : m ≠ 512 := fun q => hk (by rw [h, q]; rfl)
  rw [h, nI_1, md_m2, nI_1]
  exact ⟨vp_in_nI (by omega) (by omega), vp_in_nI (by omega) (by omega), vp_in_nI (by omega) (by omega)⟩
theorem md_inf {k f : Int32} (h : vp_in k 513) (hf : ¬ md_isB f = 0) : vp_in (2 * k + f) 1026 := by
  obtain ⟨j, hj, rfl⟩ := vp_in_of h (by omega)
  obtain ⟨b, hb, rfl⟩ := md_rngB hf
  rw [md_ix2]
  exact vp_in_nI (by omega) (by omega)
end
section
-- contracts, printed by md.py
set_option maxHeartbeats 4000000 in
set_option maxRecDepth 100000 in
theorem c_MD_isRegister (l : Launch) (D : va_G) (cI cZ : ClassId) (ad : Nat → Nat) (u : MS) (t r : Int32) : ct_I l D cI cZ (md_W cI cZ ad) y_MD_isRegister b_MD_isRegister 3 (some .boolean) 0 [.ref (ad 0), .int t, .int r] u (u, md_isR t r) := by
  refine ct_I.mk (by decide) (Nat.le_of_ble_eq_true rfl) ?_
  intro p e s m below meth c A Q ls F hI hl hret
  have F : CallFix p m c b_MD_isRegister 3 s ([.ref (ad 0), .int t, .int r] : List Value).toArray lw_tb R_MD := F
  obtain ⟨hx, hb, hml, hown, hts⟩ := id F
  have hl : lv_has ls 3 [(0, .ref (ad 0)), (1, .int t), (2, .int r)] := hl
  refine lv_iload_n hx hb d_MD_isRegister_0 rfl (lv_at hl 1 rfl) ?_
  refine lv_if_lt (tgt := 22) hx hb d_MD_isRegister_1 (by decide) (fun c_1 => ?_) (fun c_1 => ?_)
  · refine lv_iconst (v := 0) hx hb d_MD_isRegister_22 (by decide) ?_
    exact hret hI d_MD_isRegister_23 (by decide) (by (unfold md_isR; first | ((rw [if_pos c_1]) <;> rfl) | exact ((if_pos c_1).trans (rfl)).symm))
  · refine lv_iload_n hx hb d_MD_isRegister_4 rfl (lv_at hl 1 rfl) ?_
    refine lv_iconst (v := 2) hx hb d_MD_isRegister_5 (by decide) ?_
    refine lv_icmp_gt (tgt := 22) hx hb d_MD_isRegister_6 (by decide) (fun c_6 => ?_) (fun c_6 => ?_)
    · refine lv_iconst (v := 0) hx hb d_MD_isRegister_22 (by decide) ?_
      exact hret hI d_MD_isRegister_23 (by decide) (by (unfold md_isR; first | ((rw [if_neg c_1, if_pos c_6]) <;> rfl) | exact ((if_neg c_1).trans ((if_pos c_6).trans (rfl))).symm))
    · refine lv_iload_n hx hb d_MD_isRegister_9 rfl (lv_at hl 2 rfl) ?_
      refine lv_if_lt (tgt := 22) hx hb d_MD_isRegister_10 (by decide) (fun c_10 => ?_) (fun c_10 => ?_)
      · refine lv_iconst (v := 0) hx hb d_MD_isRegister_22 (by decide) ?_
        exact hret hI d_MD_isRegister_23 (by decide) (by (unfold md_isR; first | ((rw [if_neg c_1, if_neg c_6, if_pos c_10]) <;> rfl) | exact ((if_neg c_1).trans ((if_neg c_6).trans ((if_pos c_10).trans (rfl)))).symm))
      · refine lv_iload_n hx hb d_MD_isRegister_13 rfl (lv_at hl 2 rfl) ?_
        refine lv_iconst (v := 3) hx hb d_MD_isRegister_14 (by decide) ?_
        refine lv_icmp_gt (tgt := 22) hx hb d_MD_isRegister_15 (by decide) (fun c_15 => ?_) (fun c_15 => ?_)
        · refine lv_iconst (v := 0) hx hb d_MD_isRegister_22 (by decide) ?_
          exact hret hI d_MD_isRegister_23 (by decide) (by (unfold md_isR; first | ((rw [if_neg c_1, if_neg c_6, if_neg c_10, if_pos c_15]) <;> rfl) | exact ((if_neg c_1).trans ((if_neg c_6).trans ((if_neg c_10).trans ((if_pos c_15).trans (rfl))))).symm))
        · refine lv_iconst (v := 1) hx hb d_MD_isRegister_18 (by decide) ?_
          refine lv_goto (tgt := 23) hx hb d_MD_isRegister_19 (by decide) ?_
          exact hret hI d_MD_isRegister_23 (by decide) (by (unfold md_isR; first | ((rw [if_neg c_1, if_neg c_6, if_neg c_10, if_neg c_15]) <;> rfl) | exact ((if_neg c_1).trans ((if_neg c_6).trans ((if_neg c_10).trans ((if_neg c_15).trans (rfl))))).symm))
set_option maxHeartbeats 4000000 in
set_option maxRecDepth 100000 in
theorem c_MD_isBit (l : Launch) (D : va_G) (cI cZ : ClassId) (ad : Nat → Nat) (u : MS) (g : Int32) : ct_I l D cI cZ (md_W cI cZ ad) y_MD_isBit b_MD_isBit 2 (some .boolean) 0 [.ref (ad 0), .int g] u (u, md_isB g) := by
  refine ct_I.mk (by decide) (Nat.le_of_ble_eq_true rfl) ?_
  intro p e s m below meth c A Q ls F hI hl hret
  have F : CallFix p m c b_MD_isBit 2 s ([.ref (ad 0), .int g] : List Value).toArray lw_tb R_MD := F
  obtain ⟨hx, hb, hml, hown, hts⟩ := id F
  have hl : lv_has ls 2 [(0, .ref (ad 0)), (1, .int g)] := hl
  refine lv_iload_n hx hb d_MD_isBit_0 rfl (lv_at hl 1 rfl) ?_
  refine lv_if_eq (tgt := 9) hx hb d_MD_isBit_1 (by decide) (fun c_1 => ?_) (fun c_1 => ?_)
  · refine lv_iconst (v := 1) hx hb d_MD_isBit_9 (by decide) ?_
    refine lv_goto (tgt := 14) hx hb d_MD_isBit_10 (by decide) ?_
    exact hret hI d_MD_isBit_14 (by decide) (by (unfold md_isB; first | ((rw [if_pos c_1]) <;> rfl) | exact ((if_pos c_1).trans (rfl)).symm))
  · refine lv_iload_n hx hb d_MD_isBit_4 rfl (lv_at hl 1 rfl) ?_
    refine lv_iconst (v := 1) hx hb d_MD_isBit_5 (by decide) ?_
    refine lv_icmp_ne (tgt := 13) hx hb d_MD_isBit_6 (by decide) (fun c_6 => ?_) (fun c_6 => ?_)
    · refine lv_iconst (v := 0) hx hb d_MD_isBit_13 (by decide) ?_
      exact hret hI d_MD_isBit_14 (by decide) (by (unfold md_isB; first | ((rw [if_neg c_1, if_pos c_6]) <;> rfl) | exact ((if_neg c_1).trans ((if_pos c_6).trans (rfl))).symm))
    · refine lv_iconst (v := 1) hx hb d_MD_isBit_9 (by decide) ?_
      refine lv_goto (tgt := 14) hx hb d_MD_isBit_10 (by decide) ?_
      exact hret hI d_MD_isBit_14 (by decide) (by (unfold md_isB; first | ((rw [if_neg c_1, if_neg (not_not_intro c_6)]) <;> rfl) | exact ((if_neg c_1).trans ((if_neg (not_not_intro c_6)).trans (rfl))).symm))
set_option maxHeartbeats 4000000 in
set_option maxRecDepth 100000 in
theorem c_MD_made (l : Launch) (D : va_G) (cI cZ : ClassId) (ad : Nat → Nat) (u : MS) : ct_I l D cI cZ (md_W cI cZ ad) y_MD_made b_MD_made 1 (some .int) 2 [.ref (ad 0)] u (u, mMade u) := by
  refine ct_I.mk (by decide) (Nat.le_of_ble_eq_true rfl) ?_
  intro p e s m below meth c A Q ls F hI hl hret
  have F : CallFix p m c b_MD_made 1 s ([.ref (ad 0)] : List Value).toArray lw_tb R_MD := F
  obtain ⟨hx, hb, hml, hown, hts⟩ := id F
  have hl : lv_has ls 1 [(0, .ref (ad 0))] := hl
  refine lv_aload_n hx hb d_MD_made_0 rfl (lv_at hl 0 rfl) ?_
  refine md_get_made F hI d_MD_made_1 ?_
  exact hret hI d_MD_made_4 (rfl) (rfl)
set_option maxHeartbeats 4000000 in
set_option maxRecDepth 100000 in
theorem c_MD_rest (l : Launch) (D : va_G) (cI cZ : ClassId) (ad : Nat → Nat) (u : MS) (k : Int32) : ct_V l D cI cZ (md_W cI cZ ad) y_MD_rest b_MD_rest 2 none 2 [.ref (ad 0), .int k] u u := by
  refine ct_V.mk (by decide) (Nat.le_of_ble_eq_true rfl) ?_
  intro p e s m below meth c A Q ls F hI hl hret
  have F : CallFix p m c b_MD_rest 2 s ([.ref (ad 0), .int k] : List Value).toArray lw_tb R_MD := F
  obtain ⟨hx, hb, hml, hown, hts⟩ := id F
  have hl : lv_has ls 2 [(0, .ref (ad 0)), (1, .int k)] := hl
  exact hret hI d_MD_rest_0 (rfl)
set_option maxHeartbeats 4000000 in
set_option maxRecDepth 100000 in
theorem c_MD_pause (l : Launch) (D : va_G) (cI cZ : ClassId) (ad : Nat → Nat) (u : MS) (t : Int32) : ct_I l D cI cZ (md_W cI cZ ad) y_MD_pause b_MD_pause 2 (some .int) 2 [.ref (ad 0), .int t] u (md_pause u t) := by
  refine ct_I.mk (by decide) (Nat.le_of_ble_eq_true rfl) ?_
  intro p e s m below meth c A Q ls F hI hl hret
  have F : CallFix p m c b_MD_pause 2 s ([.ref (ad 0), .int t] : List Value).toArray lw_tb R_MD := F
  obtain ⟨hx, hb, hml, hown, hts⟩ := id F
  have hl : lv_has ls 2 [(0, .ref (ad 0)), (1, .int t)] := hl
  refine lv_iload_n hx hb d_MD_pause_0 rfl (lv_at hl 1 rfl) ?_
  refine lv_if_lt (tgt := 9) hx hb d_MD_pause_1 (by decide) (fun c_1 => ?_) (fun c_1 => ?_)
  · refine lv_iconst (v := (-1)) hx hb d_MD_pause_9 (by decide) ?_
    refine lv_goto (tgt := 14) hx hb d_MD_pause_10 (by decide) ?_
    exact hret hI d_MD_pause_14 (rfl) (by (unfold md_pause; first | ((rw [if_pos c_1]) <;> rfl) | exact ((if_pos c_1).trans (rfl)).symm))
  · refine lv_iload_n hx hb d_MD_pause_4 rfl (lv_at hl 1 rfl) ?_
    refine lv_iconst (v := 2) hx hb d_MD_pause_5 (by decide) ?_
    refine lv_icmp_le (tgt := 13) hx hb d_MD_pause_6 (by decide) (fun c_6 => ?_) (fun c_6 => ?_)
    · refine lv_iconst (v := 0) hx hb d_MD_pause_13 (by decide) ?_
      exact hret hI d_MD_pause_14 (rfl) (by (unfold md_pause; first | ((rw [if_neg c_1, if_pos c_6]) <;> rfl) | exact ((if_neg c_1).trans ((if_pos c_6).trans (rfl))).symm))
    · refine lv_iconst (v := (-1)) hx hb d_MD_pause_9 (by decide) ?_
      refine lv_goto (tgt := 14) hx hb d_MD_pause_10 (by decide) ?_
      exact hret hI d_MD_pause_14 (rfl) (by (unfold md_pause; first | ((rw [if_neg c_1, if_neg c_6]) <;> rfl) | exact ((if_neg c_1).trans ((if_neg c_6).trans (rfl))).symm))
set_option maxHeartbeats 4000000 in
set_option maxRecDepth 100000 in
theorem c_MD_reachRoots (l : Launch) (D : va_G) (cI cZ : ClassId) (ad : Nat → Nat) (u : MS) (ok : md_ok u) : ct_V l D cI cZ (md_W cI cZ ad) y_MD_reachRoots b_MD_reachRoots 2 none 0 [.ref (ad 0)] u (md_roots u) := by
  refine ct_V.mk (by decide) (Nat.le_of_ble_eq_true rfl) ?_
  intro p e s m below meth c A Q ls F hI hl hret
  have F : CallFix p m c b_MD_reachRoots 2 s ([.ref (ad 0)] : List Value).toArray lw_tb R_MD := F
  obtain ⟨hx, hb, hml, hown, hts⟩ := id F
  have hl : lv_has ls 2 [(0, .ref (ad 0))] := hl
  obtain ⟨n, hn, hm, okR, okG, okF⟩ := id ok
  have hmc : (mMade u).toNatClampNeg = n := by rw [hm]; exact nI_clamp (by omega)
  have k49 : ∀ (H : Heap) (locs : List Loc) (ls : Array Slot), cw_I D cI cZ A s.heap s (md_W cI cZ ad (eRch u (md_rts (md_clr (mRch u) (n + 1)) (mReg u) 12))) H locs → lv_has ls 2 [(0, .ref (ad 0))] → W p l e (cw_rm 0) s m ([.ref (ad 0)] : List Value).toArray below meth c H locs 0 0 Q (F0 m 49 ls []) := by
    intro H locs ls hI hl
    refine lv_aload_n hx hb d_MD_reachRoots_49 rfl (lv_at hl 0 rfl) ?_
    refine md_get_reached F hI d_MD_reachRoots_50 ?_
    refine lv_aload_n hx hb d_MD_reachRoots_53 rfl (lv_at hl 0 rfl) ?_
    refine md_get_globals F hI d_MD_reachRoots_54 ?_
    refine lv_iconst (v := 0) hx hb d_MD_reachRoots_57 (by decide) ?_
    refine md_ald_globals F hI (by unfold vp_in; decide) d_MD_reachRoots_58 ?_
    refine lv_iconst (v := 1) hx hb d_MD_reachRoots_59 (by decide) ?_
    refine md_ast_reached F hI (okG _ (by decide)) (by decide) d_MD_reachRoots_60 (fun H locs hI => ?_)
    refine lv_aload_n hx hb d_MD_reachRoots_61 rfl (lv_at hl 0 rfl) ?_
    refine md_get_reached F hI d_MD_reachRoots_62 ?_
    refine lv_aload_n hx hb d_MD_reachRoots_65 rfl (lv_at hl 0 rfl) ?_
    refine md_get_globals F hI d_MD_reachRoots_66 ?_
    refine lv_iconst (v := 1) hx hb d_MD_reachRoots_69 (by decide) ?_
    refine md_ald_globals F hI (by unfold vp_in; decide) d_MD_reachRoots_70 ?_
    refine lv_iconst (v := 1) hx hb d_MD_reachRoots_71 (by decide) ?_
    refine md_ast_reached F hI (okG _ (by decide)) (by decide) d_MD_reachRoots_72 (fun H locs hI => ?_)
    exact hret hI d_MD_reachRoots_73 (by unfold md_roots md_rt; rw [hmc])
  have lp25 : ∀ (k i : Nat) (H : Heap) (locs : List Loc) (ls : Array Slot), i + k = 12 → cw_I D cI cZ A s.heap s (md_W cI cZ ad (eRch u (md_rts (md_clr (mRch u) (n + 1)) (mReg u) i))) H locs → lv_has ls 2 [(1, .int (nI i)), (0, .ref (ad 0))] → W p l e (cw_rm 0) s m ([.ref (ad 0)] : List Value).toArray below meth c H locs 0 0 Q (F0 m 25 ls []) := by
    intro k
    induction k with
    | zero =>
      intro i H locs ls hi hI hl
      have hi : i = 12 := by omega
      subst hi
      refine lv_iload_n hx hb d_MD_reachRoots_25 rfl (lv_at hl 0 rfl) ?_
      refine lv_bipush (v := 12) hx hb d_MD_reachRoots_26 (by decide) ?_
      refine lv_icmp_ge (tgt := 49) hx hb d_MD_reachRoots_28 (by decide) (fun c_28 => ?_) (fun c_28 => ?_)
      · exact k49 H locs ls hI (lv_sub hl [1] rfl)
      · exact absurd (by decide) c_28
    | succ k ih =>
      intro i H locs ls hi hI hl
      refine lv_iload_n hx hb d_MD_reachRoots_25 rfl (lv_at hl 0 rfl) ?_
      refine lv_bipush (v := 12) hx hb d_MD_reachRoots_26 (by decide) ?_
      refine lv_icmp_ge (tgt := 49) hx hb d_MD_reachRoots_28 (by decide) (fun c_28 => ?_) (fun c_28 => ?_)
      · exact absurd c_28 (nI_ge (a := i) (b := 12) (by omega) (by decide))
      · refine lv_aload_n hx hb d_MD_reachRoots_31 rfl (lv_at hl 1 rfl) ?_
        refine md_get_reached F hI d_MD_reachRoots_32 ?_
        refine lv_aload_n hx hb d_MD_reachRoots_35 rfl (lv_at hl 1 rfl) ?_
        refine md_get_registers F hI d_MD_reachRoots_36 ?_
        refine lv_iload_n hx hb d_MD_reachRoots_39 rfl (lv_at hl 0 rfl) ?_
        refine md_ald_registers F hI (vp_in_nI (by omega) (by omega)) d_MD_reachRoots_40 ?_
        refine lv_iconst (v := 1) hx hb d_MD_reachRoots_41 (by decide) ?_
        refine md_ast_reached F hI (okR _ (by rw [nI_clamp (by omega)]; omega)) (by decide) d_MD_reachRoots_42 (fun H locs hI => ?_)
        obtain ⟨v_43, e_43⟩ : ∃ y : Int32, y = (nI i) + 1 := ⟨_, rfl⟩
        refine lv_iinc (v := v_43) (lv' := [(1, .int v_43), (0, .ref (ad 0))]) hx hb d_MD_reachRoots_43 hl (k := 0) rfl (by rw [e_43]; rfl) (by decide) rfl (fun ls hl => ?_)
        refine lv_goto (tgt := 25) hx hb d_MD_reachRoots_46 (by decide) ?_
        rw [nI_1] at e_43
        have e_43 := e_43.symm; subst e_43
        rw [nI_clamp (by omega)] at hI
        exact ih (i + 1) H locs ls (by omega) hI hl
  have lp2 : ∀ (k i : Nat) (H : Heap) (locs : List Loc) (ls : Array Slot), i + k = n + 1 → cw_I D cI cZ A s.heap s (md_W cI cZ ad (eRch u (md_clr (mRch u) i))) H locs → lv_has ls 2 [(1, .int (nI i)), (0, .ref (ad 0))] → W p l e (cw_rm 0) s m ([.ref (ad 0)] : List Value).toArray below meth c H locs 0 0 Q (F0 m 2 ls []) := by
    intro k
    induction k with
    | zero =>
      intro i H locs ls hi hI hl
      have hi : i = n + 1 := by omega
      subst hi
      refine lv_iload_n hx hb d_MD_reachRoots_2 rfl (lv_at hl 0 rfl) ?_
      refine lv_aload_n hx hb d_MD_reachRoots_3 rfl (lv_at hl 1 rfl) ?_
      refine md_get_made F hI d_MD_reachRoots_4 ?_
      refine lv_icmp_gt (tgt := 23) hx hb d_MD_reachRoots_7 (by decide) (fun c_7 => ?_) (fun c_7 => ?_)
      · refine lv_iconst (v := 0) hx hb d_MD_reachRoots_23 (by decide) ?_
        refine lv_topi (fun v_24 e_24 => ?_)
        refine lv_istore_n (lv' := [(1, .int v_24), (0, .ref (ad 0))]) hx hb d_MD_reachRoots_24 rfl hl (by decide) rfl (fun ls hl => ?_)
        have e_24 := e_24.symm; subst e_24
        exact lp25 12 0 H locs ls rfl hI (lv_sub hl [0, 1] rfl)
      · exact absurd (by rw [hm]; exact nI_lt (by omega) (by omega)) c_7
    | succ k ih =>
      intro i H locs ls hi hI hl
      refine lv_iload_n hx hb d_MD_reachRoots_2 rfl (lv_at hl 0 rfl) ?_
      refine lv_aload_n hx hb d_MD_reachRoots_3 rfl (lv_at hl 1 rfl) ?_
      refine md_get_made F hI d_MD_reachRoots_4 ?_
      refine lv_icmp_gt (tgt := 23) hx hb d_MD_reachRoots_7 (by decide) (fun c_7 => ?_) (fun c_7 => ?_)
      · exact absurd c_7 (by rw [hm]; exact nI_nlt (by omega) (by omega))
      · refine lv_aload_n hx hb d_MD_reachRoots_10 rfl (lv_at hl 1 rfl) ?_
        refine md_get_reached F hI d_MD_reachRoots_11 ?_
        refine lv_iload_n hx hb d_MD_reachRoots_14 rfl (lv_at hl 0 rfl) ?_
        refine lv_iconst (v := 0) hx hb d_MD_reachRoots_15 (by decide) ?_
        refine md_ast_reached F hI (vp_in_nI (by omega) (by omega)) (by decide) d_MD_reachRoots_16 (fun H locs hI => ?_)
        obtain ⟨v_17, e_17⟩ : ∃ y : Int32, y = (nI i) + 1 := ⟨_, rfl⟩
        refine lv_iinc (v := v_17) (lv' := [(1, .int v_17), (0, .ref (ad 0))]) hx hb d_MD_reachRoots_17 hl (k := 0) rfl (by rw [e_17]; rfl) (by decide) rfl (fun ls hl => ?_)
        refine lv_goto (tgt := 2) hx hb d_MD_reachRoots_20 (by decide) ?_
        rw [nI_1] at e_17
        have e_17 := e_17.symm; subst e_17
        rw [nI_clamp (by omega)] at hI
        exact ih (i + 1) H locs ls (by omega) hI hl
  refine lv_iconst (v := 0) hx hb d_MD_reachRoots_0 (by decide) ?_
  refine lv_topi (fun v_1 e_1 => ?_)
  refine lv_istore_n (lv' := [(1, .int v_1), (0, .ref (ad 0))]) hx hb d_MD_reachRoots_1 rfl hl (by decide) rfl (fun ls hl => ?_)
  have e_1 := e_1.symm; subst e_1
  exact lp2 (n + 1) 0 s.heap [] ls (by omega) hI hl
set_option maxHeartbeats 4000000 in
set_option maxRecDepth 100000 in
theorem c_MD_reachFields (l : Launch) (D : va_G) (cI cZ : ClassId) (ad : Nat → Nat) (u : MS) (ok : md_ok u) : ct_I l D cI cZ (md_W cI cZ ad) y_MD_reachFields b_MD_reachFields 5 (some .boolean) 0 [.ref (ad 0)] u (md_fields u) := by
  refine ct_I.mk (by decide) (Nat.le_of_ble_eq_true rfl) ?_
  intro p e s m below meth c A Q ls F hI hl hret
  have F : CallFix p m c b_MD_reachFields 5 s ([.ref (ad 0)] : List Value).toArray lw_tb R_MD := F
  obtain ⟨hx, hb, hml, hown, hts⟩ := id F
  have hl : lv_has ls 5 [(0, .ref (ad 0))] := hl
  obtain ⟨n, hn, hm, okR, okG, okF⟩ := id ok
  have hmc : (mMade u).toNatClampNeg = n := by rw [hm]; exact nI_clamp (by omega)
  have lp : ∀ (k j : Nat) (H : Heap) (locs : List Loc) (ls : Array Slot), j + k = n → cw_I D cI cZ A s.heap s (md_W cI cZ ad (eRch u (md_rfs (mFld u) (mRch u) j).1)) H locs → lv_has ls 5 [(2, .int (nI (j + 1))), (1, .int (md_rfs (mFld u) (mRch u) j).2), (0, .ref (ad 0))] → W p l e (cw_rm 0) s m ([.ref (ad 0)] : List Value).toArray below meth c H locs 0 0 Q (F0 m 4 ls []) := by
    intro k
    induction k with
    | zero =>
      intro j H locs ls hj hI hl
      have hj : j = n := by omega
      subst hj
      refine lv_iload_n hx hb d_MD_reachFields_4 rfl (lv_at hl 0 rfl) ?_
      refine lv_aload_n hx hb d_MD_reachFields_5 rfl (lv_at hl 2 rfl) ?_
      refine md_get_made F hI d_MD_reachFields_6 ?_
      refine lv_icmp_gt (tgt := 84) hx hb d_MD_reachFields_9 (by decide) (fun c_9 => ?_) (fun c_9 => ?_)
      · refine lv_iload_n hx hb d_MD_reachFields_84 rfl (lv_at hl 1 rfl) ?_
        exact hret hI d_MD_reachFields_85 (md_rfs_b _ _ _) (by unfold md_fields; rw [hmc])
      · exact absurd (by rw [hm]; exact nI_lt (by omega) (by omega)) c_9
    | succ k ih =>
      intro j H locs ls hj hI hl
      refine lv_iload_n hx hb d_MD_reachFields_4 rfl (lv_at hl 0 rfl) ?_
      refine lv_aload_n hx hb d_MD_reachFields_5 rfl (lv_at hl 2 rfl) ?_
      refine md_get_made F hI d_MD_reachFields_6 ?_
      refine lv_icmp_gt (tgt := 84) hx hb d_MD_reachFields_9 (by decide) (fun c_9 => ?_) (fun c_9 => ?_)
      · exact absurd c_9 (by rw [hm]; exact nI_nlt (by omega) (by omega))
      · refine lv_aload_n hx hb d_MD_reachFields_12 rfl (lv_at hl 2 rfl) ?_
        refine md_get_field F hI d_MD_reachFields_13 ?_
        refine lv_iconst (v := 2) hx hb d_MD_reachFields_16 (by decide) ?_
        refine lv_iload_n hx hb d_MD_reachFields_17 rfl (lv_at hl 0 rfl) ?_
        refine lv_imul hx hb d_MD_reachFields_18 ?_
        refine lv_topi (fun w_18 f_18 => ?_)
        have f_18 : nI (2 * (j + 1)) = w_18 := by rw [f_18]; exact (md_m2 _).symm
        subst f_18
        refine md_ald_field F hI (vp_in_nI (by omega) (by omega)) d_MD_reachFields_19 ?_
        refine lv_topi (fun v_20 e_20 => ?_)
        refine lv_istore_n (lv' := [(3, .int v_20), (2, .int (nI (j + 1))), (1, .int (md_rfs (mFld u) (mRch u) j).2), (0, .ref (ad 0))]) hx hb d_MD_reachFields_20 rfl hl (by decide) rfl (fun ls hl => ?_)
        rw [nI_clamp (by omega)] at e_20
        refine lv_aload_n hx hb d_MD_reachFields_21 rfl (lv_at hl 3 rfl) ?_
        refine md_get_field F hI d_MD_reachFields_22 ?_
        refine lv_iconst (v := 2) hx hb d_MD_reachFields_25 (by decide) ?_
        refine lv_iload_n hx hb d_MD_reachFields_26 rfl (lv_at hl 1 rfl) ?_
        refine lv_imul hx hb d_MD_reachFields_27 ?_
        refine lv_iconst (v := 1) hx hb d_MD_reachFields_28 (by decide) ?_
        refine lv_iadd hx hb d_MD_reachFields_29 ?_
        refine lv_topi (fun w_29 f_29 => ?_)
        have f_29 : nI (2 * (j + 1) + 1) = w_29 := by rw [f_29, md_m2]; exact (nI_1 _).symm
        subst f_29
        refine md_ald_field F hI (vp_in_nI (by omega) (by omega)) d_MD_reachFields_30 ?_
        refine lv_topi (fun v_31 e_31 => ?_)
        refine lv_istore (lv' := [(4, .int v_31), (3, .int v_20), (2, .int (nI (j + 1))), (1, .int (md_rfs (mFld u) (mRch u) j).2), (0, .ref (ad 0))]) hx hb d_MD_reachFields_31 hl (by decide) rfl (fun ls hl => ?_)
        rw [nI_clamp (by omega)] at e_31
        refine lv_aload_n hx hb d_MD_reachFields_33 rfl (lv_at hl 4 rfl) ?_
        refine md_get_reached F hI d_MD_reachFields_34 ?_
        refine lv_iload_n hx hb d_MD_reachFields_37 rfl (lv_at hl 2 rfl) ?_
        refine md_ald_reached F hI (vp_in_nI (by omega) (by omega)) d_MD_reachFields_38 ?_
        refine lv_if_eq (tgt := 78) hx hb d_MD_reachFields_39 (by decide) (fun c_39 => ?_) (fun c_39 => ?_)
        · rw [nI_clamp (by omega)] at c_39
          obtain ⟨v_78, e_78⟩ : ∃ y : Int32, y = (nI (j + 1)) + 1 := ⟨_, rfl⟩
          refine lv_iinc (v := v_78) (lv' := [(2, .int v_78), (4, .int v_31), (3, .int v_20), (1, .int (md_rfs (mFld u) (mRch u) j).2), (0, .ref (ad 0))]) hx hb d_MD_reachFields_78 hl (k := 2) rfl (by rw [e_78]; rfl) (by decide) rfl (fun ls hl => ?_)
          refine lv_goto (tgt := 4) hx hb d_MD_reachFields_81 (by decide) ?_
          rw [nI_1] at e_78
          have e_78 := e_78.symm; subst e_78
          have e_31 := e_31.symm; subst e_31
          have e_20 := e_20.symm; subst e_20
          have hz : md_rfs (mFld u) (mRch u) (j + 1) = md_rfs (mFld u) (mRch u) j := by rw [md_rfs, if_pos c_39]
          exact ih (j + 1) H locs ls (by omega) (by rw [hz]; exact hI) (by rw [hz]; exact lv_sub hl [0, 3, 4] rfl)
        · rw [nI_clamp (by omega)] at c_39
          refine lv_aload_n hx hb d_MD_reachFields_42 rfl (lv_at hl 4 rfl) ?_
          refine md_get_reached F hI d_MD_reachFields_43 ?_
          refine lv_iload_n hx hb d_MD_reachFields_46 rfl (lv_at hl 1 rfl) ?_
          refine md_ald_reached F hI (by rw [e_20]; exact okF _ (by omega)) d_MD_reachFields_47 ?_
          refine lv_if_eq (tgt := 61) hx hb d_MD_reachFields_48 (by decide) (fun c_48 => ?_) (fun c_48 => ?_)
          · refine lv_aload_n hx hb d_MD_reachFields_61 rfl (lv_at hl 4 rfl) ?_
            refine md_get_reached F hI d_MD_reachFields_62 ?_
            refine lv_iload_n hx hb d_MD_reachFields_65 rfl (lv_at hl 1 rfl) ?_
            refine lv_iconst (v := 1) hx hb d_MD_reachFields_66 (by decide) ?_
            refine md_ast_reached F hI (by rw [e_20]; exact okF _ (by omega)) (by decide) d_MD_reachFields_67 (fun H locs hI => ?_)
            refine lv_aload_n hx hb d_MD_reachFields_68 rfl (lv_at hl 4 rfl) ?_
            refine md_get_reached F hI d_MD_reachFields_69 ?_
            refine lv_iload hx hb d_MD_reachFields_72 (lv_at hl 0 rfl) ?_
            refine lv_iconst (v := 1) hx hb d_MD_reachFields_74 (by decide) ?_
            refine md_ast_reached F hI (by rw [e_31]; exact okF _ (by omega)) (by decide) d_MD_reachFields_75 (fun H locs hI => ?_)
            refine lv_iconst (v := 1) hx hb d_MD_reachFields_76 (by decide) ?_
            refine lv_topi (fun v_77 e_77 => ?_)
            refine lv_istore_n (lv' := [(1, .int v_77), (4, .int v_31), (3, .int v_20), (2, .int (nI (j + 1))), (0, .ref (ad 0))]) hx hb d_MD_reachFields_77 rfl hl (by decide) rfl (fun ls hl => ?_)
            obtain ⟨v_78, e_78⟩ : ∃ y : Int32, y = (nI (j + 1)) + 1 := ⟨_, rfl⟩
            refine lv_iinc (v := v_78) (lv' := [(2, .int v_78), (1, .int v_77), (4, .int v_31), (3, .int v_20), (0, .ref (ad 0))]) hx hb d_MD_reachFields_78 hl (k := 3) rfl (by rw [e_78]; rfl) (by decide) rfl (fun ls hl => ?_)
            refine lv_goto (tgt := 4) hx hb d_MD_reachFields_81 (by decide) ?_
            rw [nI_1] at e_78
            have e_78 := e_78.symm; subst e_78
            have e_31 := e_31.symm; subst e_31
            have e_20 := e_20.symm; subst e_20
            have e_77 := e_77.symm; subst e_77
            have hz : md_rfs (mFld u) (mRch u) (j + 1) = (md_rf1 (md_rfs (mFld u) (mRch u) j).1 (mFld u (2 * (j + 1))) (mFld u (2 * (j + 1) + 1)), 1) := by rw [md_rfs, if_neg c_39, if_pos c_48]
            exact ih (j + 1) H locs ls (by omega) (by rw [hz]; exact hI) (by rw [hz]; exact lv_sub hl [0, 1, 4] rfl)
          · refine lv_aload_n hx hb d_MD_reachFields_51 rfl (lv_at hl 4 rfl) ?_
            refine md_get_reached F hI d_MD_reachFields_52 ?_
            refine lv_iload hx hb d_MD_reachFields_55 (lv_at hl 0 rfl) ?_
            refine md_ald_reached F hI (by rw [e_31]; exact okF _ (by omega)) d_MD_reachFields_57 ?_
            refine lv_if_ne (tgt := 78) hx hb d_MD_reachFields_58 (by decide) (fun c_58 => ?_) (fun c_58 => ?_)
            · obtain ⟨v_78, e_78⟩ : ∃ y : Int32, y = (nI (j + 1)) + 1 := ⟨_, rfl⟩
              refine lv_iinc (v := v_78) (lv' := [(2, .int v_78), (4, .int v_31), (3, .int v_20), (1, .int (md_rfs (mFld u) (mRch u) j).2), (0, .ref (ad 0))]) hx hb d_MD_reachFields_78 hl (k := 2) rfl (by rw [e_78]; rfl) (by decide) rfl (fun ls hl => ?_)
              refine lv_goto (tgt := 4) hx hb d_MD_reachFields_81 (by decide) ?_
              rw [nI_1] at e_78
              have e_78 := e_78.symm; subst e_78
              have e_31 := e_31.symm; subst e_31
              have e_20 := e_20.symm; subst e_20
              have hz : md_rfs (mFld u) (mRch u) (j + 1) = md_rfs (mFld u) (mRch u) j := by rw [md_rfs, if_neg c_39, if_neg c_48, if_pos c_58]
              exact ih (j + 1) H locs ls (by omega) (by rw [hz]; exact hI) (by rw [hz]; exact lv_sub hl [0, 3, 4] rfl)
            · refine lv_aload_n hx hb d_MD_reachFields_61 rfl (lv_at hl 4 rfl) ?_
              refine md_get_reached F hI d_MD_reachFields_62 ?_
              refine lv_iload_n hx hb d_MD_reachFields_65 rfl (lv_at hl 1 rfl) ?_
              refine lv_iconst (v := 1) hx hb d_MD_reachFields_66 (by decide) ?_
              refine md_ast_reached F hI (by rw [e_20]; exact okF _ (by omega)) (by decide) d_MD_reachFields_67 (fun H locs hI => ?_)
              refine lv_aload_n hx hb d_MD_reachFields_68 rfl (lv_at hl 4 rfl) ?_
              refine md_get_reached F hI d_MD_reachFields_69 ?_
              refine lv_iload hx hb d_MD_reachFields_72 (lv_at hl 0 rfl) ?_
              refine lv_iconst (v := 1) hx hb d_MD_reachFields_74 (by decide) ?_
              refine md_ast_reached F hI (by rw [e_31]; exact okF _ (by omega)) (by decide) d_MD_reachFields_75 (fun H locs hI => ?_)
              refine lv_iconst (v := 1) hx hb d_MD_reachFields_76 (by decide) ?_
              refine lv_topi (fun v_77 e_77 => ?_)
              refine lv_istore_n (lv' := [(1, .int v_77), (4, .int v_31), (3, .int v_20), (2, .int (nI (j + 1))), (0, .ref (ad 0))]) hx hb d_MD_reachFields_77 rfl hl (by decide) rfl (fun ls hl => ?_)
              obtain ⟨v_78, e_78⟩ : ∃ y : Int32, y = (nI (j + 1)) + 1 := ⟨_, rfl⟩
              refine lv_iinc (v := v_78) (lv' := [(2, .int v_78), (1, .int v_77), (4, .int v_31), (3, .int v_20), (0, .ref (ad 0))]) hx hb d_MD_reachFields_78 hl (k := 3) rfl (by rw [e_78]; rfl) (by decide) rfl (fun ls hl => ?_)
              refine lv_goto (tgt := 4) hx hb d_MD_reachFields_81 (by decide) ?_
              rw [nI_1] at e_78
              have e_78 := e_78.symm; subst e_78
              have e_31 := e_31.symm; subst e_31
              have e_20 := e_20.symm; subst e_20
              have e_77 := e_77.symm; subst e_77
              have hz : md_rfs (mFld u) (mRch u) (j + 1) = (md_rf1 (md_rfs (mFld u) (mRch u) j).1 (mFld u (2 * (j + 1))) (mFld u (2 * (j + 1) + 1)), 1) := by rw [md_rfs, if_neg c_39, if_neg c_48, if_neg (not_not_intro c_58)]
              exact ih (j + 1) H locs ls (by omega) (by rw [hz]; exact hI) (by rw [hz]; exact lv_sub hl [0, 1, 4] rfl)
  refine lv_iconst (v := 0) hx hb d_MD_reachFields_0 (by decide) ?_
  refine lv_topi (fun v_1 e_1 => ?_)
  refine lv_istore_n (lv' := [(1, .int v_1), (0, .ref (ad 0))]) hx hb d_MD_reachFields_1 rfl hl (by decide) rfl (fun ls hl => ?_)
  refine lv_iconst (v := 1) hx hb d_MD_reachFields_2 (by decide) ?_
  refine lv_topi (fun v_3 e_3 => ?_)
  refine lv_istore_n (lv' := [(2, .int v_3), (1, .int v_1), (0, .ref (ad 0))]) hx hb d_MD_reachFields_3 rfl hl (by decide) rfl (fun ls hl => ?_)
  have e_3 := e_3.symm; subst e_3
  have e_1 := e_1.symm; subst e_1
  exact lp n 0 s.heap [] ls (by omega) hI hl
set_option maxHeartbeats 4000000 in
set_option maxRecDepth 100000 in
theorem c_MD_live (l : Launch) (D : va_G) (cI cZ : ClassId) (ad : Nat → Nat) (u : MS) (ok : md_ok u) : ct_I l D cI cZ (md_W cI cZ ad) y_MD_live b_MD_live 4 (some .int) 1 [.ref (ad 0)] u (md_live u) := by
  refine ct_I.mk (by decide) (Nat.le_of_ble_eq_true rfl) ?_
  intro p e s m below meth c A Q ls F hI hl hret
  have F : CallFix p m c b_MD_live 4 s ([.ref (ad 0)] : List Value).toArray lw_tb R_MD := F
  obtain ⟨hx, hb, hml, hown, hts⟩ := id F
  have hl : lv_has ls 4 [(0, .ref (ad 0))] := hl
  have okv : md_ok (md_lv u) := md_ok_lv ok
  obtain ⟨n, hn, hm, okR, okG, okF⟩ := id okv
  have hmc : (mMade (md_lv u)).toNatClampNeg = n := by rw [hm]; exact nI_clamp (by omega)
  have lp41 : ∀ (k j : Nat) (H : Heap) (locs : List Loc) (ls : Array Slot), j + k = n → cw_I D cI cZ A s.heap s (md_W cI cZ ad (md_lv u)) H locs → lv_has ls 4 [(3, .int (nI (j + 1))), (2, .int (md_cn (mRch (md_lv u)) j)), (0, .ref (ad 0))] → W p l e (cw_rm 1) s m ([.ref (ad 0)] : List Value).toArray below meth c H locs 0 0 Q (F0 m 41 ls []) := by
    intro k
    induction k with
    | zero =>
      intro j H locs ls hj hI hl
      have hj : j = n := by omega
      subst hj
      refine lv_iload_n hx hb d_MD_live_41 rfl (lv_at hl 0 rfl) ?_
      refine lv_aload_n hx hb d_MD_live_42 rfl (lv_at hl 2 rfl) ?_
      refine md_get_made F hI d_MD_live_43 ?_
      refine lv_icmp_gt (tgt := 67) hx hb d_MD_live_46 (by decide) (fun c_46 => ?_) (fun c_46 => ?_)
      · refine lv_iload_n hx hb d_MD_live_67 rfl (lv_at hl 1 rfl) ?_
        exact hret hI d_MD_live_68 (rfl) (by unfold md_live; rw [hmc])
      · exact absurd (by rw [hm]; exact nI_lt (by omega) (by omega)) c_46
    | succ k ih =>
      intro j H locs ls hj hI hl
      refine lv_iload_n hx hb d_MD_live_41 rfl (lv_at hl 0 rfl) ?_
      refine lv_aload_n hx hb d_MD_live_42 rfl (lv_at hl 2 rfl) ?_
      refine md_get_made F hI d_MD_live_43 ?_
      refine lv_icmp_gt (tgt := 67) hx hb d_MD_live_46 (by decide) (fun c_46 => ?_) (fun c_46 => ?_)
      · exact absurd c_46 (by rw [hm]; exact nI_nlt (by omega) (by omega))
      · refine lv_aload_n hx hb d_MD_live_49 rfl (lv_at hl 2 rfl) ?_
        refine md_get_reached F hI d_MD_live_50 ?_
        refine lv_iload_n hx hb d_MD_live_53 rfl (lv_at hl 0 rfl) ?_
        refine md_ald_reached F hI (vp_in_nI (by omega) (by omega)) d_MD_live_54 ?_
        refine lv_if_eq (tgt := 61) hx hb d_MD_live_55 (by decide) (fun c_55 => ?_) (fun c_55 => ?_)
        · obtain ⟨v_61, e_61⟩ : ∃ y : Int32, y = (nI (j + 1)) + 1 := ⟨_, rfl⟩
          refine lv_iinc (v := v_61) (lv' := [(3, .int v_61), (2, .int (md_cn (mRch (md_lv u)) j)), (0, .ref (ad 0))]) hx hb d_MD_live_61 hl (k := 0) rfl (by rw [e_61]; rfl) (by decide) rfl (fun ls hl => ?_)
          refine lv_goto (tgt := 41) hx hb d_MD_live_64 (by decide) ?_
          rw [nI_1] at e_61
          have e_61 := e_61.symm; subst e_61
          rw [nI_clamp (by omega)] at c_55
          exact ih (j + 1) H locs ls (by omega) hI (by rw [md_cn, if_pos c_55]; exact hl)
        · obtain ⟨v_58, e_58⟩ : ∃ y : Int32, y = (md_cn (mRch (md_lv u)) j) + 1 := ⟨_, rfl⟩
          refine lv_iinc (v := v_58) (lv' := [(2, .int v_58), (3, .int (nI (j + 1))), (0, .ref (ad 0))]) hx hb d_MD_live_58 hl (k := 1) rfl (by rw [e_58]; rfl) (by decide) rfl (fun ls hl => ?_)
          obtain ⟨v_61, e_61⟩ : ∃ y : Int32, y = (nI (j + 1)) + 1 := ⟨_, rfl⟩
          refine lv_iinc (v := v_61) (lv' := [(3, .int v_61), (2, .int v_58), (0, .ref (ad 0))]) hx hb d_MD_live_61 hl (k := 1) rfl (by rw [e_61]; rfl) (by decide) rfl (fun ls hl => ?_)
          refine lv_goto (tgt := 41) hx hb d_MD_live_64 (by decide) ?_
          rw [nI_1] at e_61
          have e_61 := e_61.symm; subst e_61
          rw [nI_clamp (by omega)] at c_55
          have e_58 := e_58.symm; subst e_58
          exact ih (j + 1) H locs ls (by omega) hI (by rw [md_cn, if_neg c_55]; exact hl)
  have k37 : ∀ (H : Heap) (locs : List Loc) (ls : Array Slot), cw_I D cI cZ A s.heap s (md_W cI cZ ad (md_lv u)) H locs → lv_has ls 4 [(0, .ref (ad 0))] → W p l e (cw_rm 1) s m ([.ref (ad 0)] : List Value).toArray below meth c H locs 0 0 Q (F0 m 37 ls []) := by
    intro H locs ls hI hl
    refine lv_iconst (v := 0) hx hb d_MD_live_37 (by decide) ?_
    refine lv_topi (fun v_38 e_38 => ?_)
    refine lv_istore_n (lv' := [(2, .int v_38), (0, .ref (ad 0))]) hx hb d_MD_live_38 rfl hl (by decide) rfl (fun ls hl => ?_)
    refine lv_iconst (v := 1) hx hb d_MD_live_39 (by decide) ?_
    refine lv_topi (fun v_40 e_40 => ?_)
    refine lv_istore_n (lv' := [(3, .int v_40), (2, .int v_38), (0, .ref (ad 0))]) hx hb d_MD_live_40 rfl hl (by decide) rfl (fun ls hl => ?_)
    have e_40 := e_40.symm; subst e_40
    have e_38 := e_38.symm; subst e_38
    exact lp41 n 0 H locs ls (by omega) hI hl
  have lp15 : ∀ (k i : Nat) (b : Int32) (v : MS) (H : Heap) (locs : List Loc) (ls : Array Slot), i + k = 512 → md_ll k b v = md_lv u → md_ok v → cw_I D cI cZ A s.heap s (md_W cI cZ ad (v)) H locs → lv_has ls 4 [(2, .int (nI i)), (1, .int b), (0, .ref (ad 0))] → W p l e (cw_rm 1) s m ([.ref (ad 0)] : List Value).toArray below meth c H locs 0 0 Q (F0 m 15 ls []) := by
    intro k
    induction k with
    | zero =>
      intro i b v H locs ls hi hv okw hI hl
      have hi : i = 512 := by omega
      subst hi
      refine lv_iload_n hx hb d_MD_live_15 rfl (lv_at hl 0 rfl) ?_
      refine lv_sipush (v := 512) hx hb d_MD_live_16 (by decide) ?_
      refine lv_icmp_ge (tgt := 37) hx hb d_MD_live_19 (by decide) (fun c_19 => ?_) (fun c_19 => ?_)
      · have hv : v = md_lv u := hv
        rw [hv] at hI
        exact k37 H locs ls hI (lv_sub hl [2] rfl)
      · exact absurd (by decide) c_19
    | succ k ih =>
      intro i b v H locs ls hi hv okw hI hl
      refine lv_iload_n hx hb d_MD_live_15 rfl (lv_at hl 0 rfl) ?_
      refine lv_sipush (v := 512) hx hb d_MD_live_16 (by decide) ?_
      refine lv_icmp_ge (tgt := 37) hx hb d_MD_live_19 (by decide) (fun c_19 => ?_) (fun c_19 => ?_)
      · exact absurd c_19 (nI_ge (a := i) (b := 512) (by omega) (by decide))
      · refine lv_iload_n hx hb d_MD_live_22 rfl (lv_at hl 1 rfl) ?_
        refine lv_if_eq (tgt := 37) hx hb d_MD_live_23 (by decide) (fun c_23 => ?_) (fun c_23 => ?_)
        · rw [md_ll, if_pos c_23] at hv
          rw [hv] at hI
          exact k37 H locs ls hI (lv_sub hl [2] rfl)
        · refine lv_aload_n hx hb d_MD_live_26 rfl (lv_at hl 2 rfl) ?_
          refine md_callI0 F hI (c_MD_reachFields l D cI cZ ad _ okw) wk_MD_48 rfl ⟨Nat.le_of_ble_eq_true rfl, Nat.le_of_ble_eq_true rfl⟩ hl.1 (Nat.le_of_ble_eq_true rfl) ⟨Nat.zero_le _, Nat.zero_le _⟩ d_MD_live_27 (fun H locs hI => ?_)
          refine lv_topi (fun v_30 e_30 => ?_)
          refine lv_istore_n (lv' := [(1, .int v_30), (2, .int (nI i)), (0, .ref (ad 0))]) hx hb d_MD_live_30 rfl hl (by decide) rfl (fun ls hl => ?_)
          obtain ⟨v_31, e_31⟩ : ∃ y : Int32, y = (nI i) + 1 := ⟨_, rfl⟩
          refine lv_iinc (v := v_31) (lv' := [(2, .int v_31), (1, .int v_30), (0, .ref (ad 0))]) hx hb d_MD_live_31 hl (k := 1) rfl (by rw [e_31]; rfl) (by decide) rfl (fun ls hl => ?_)
          refine lv_goto (tgt := 15) hx hb d_MD_live_34 (by decide) ?_
          rw [nI_1] at e_31
          have e_31 := e_31.symm; subst e_31
          have e_30 := e_30.symm; subst e_30
          rw [md_ll, if_neg c_23] at hv
          exact ih (i + 1) _ _ H locs ls (by omega) hv (md_ok_rch okw) hI hl
  refine lv_aload_n hx hb d_MD_live_0 rfl (lv_at hl 0 rfl) ?_
  refine md_callV0 F hI (c_MD_reachRoots l D cI cZ ad _ ok) wk_MD_45 rfl ⟨Nat.le_of_ble_eq_true rfl, Nat.le_of_ble_eq_true rfl⟩ hl.1 (Nat.le_of_ble_eq_true rfl) ⟨Nat.zero_le _, Nat.zero_le _⟩ d_MD_live_1 (fun H locs hI => ?_)
  refine lv_aload_n hx hb d_MD_live_4 rfl (lv_at hl 0 rfl) ?_
  refine md_get_reached F hI d_MD_live_5 ?_
  refine lv_iconst (v := 0) hx hb d_MD_live_8 (by decide) ?_
  refine lv_iconst (v := 1) hx hb d_MD_live_9 (by decide) ?_
  refine md_ast_reached F hI (by unfold vp_in; decide) (by decide) d_MD_live_10 (fun H locs hI => ?_)
  refine lv_iconst (v := 1) hx hb d_MD_live_11 (by decide) ?_
  refine lv_topi (fun v_12 e_12 => ?_)
  refine lv_istore_n (lv' := [(1, .int v_12), (0, .ref (ad 0))]) hx hb d_MD_live_12 rfl hl (by decide) rfl (fun ls hl => ?_)
  refine lv_iconst (v := 0) hx hb d_MD_live_13 (by decide) ?_
  refine lv_topi (fun v_14 e_14 => ?_)
  refine lv_istore_n (lv' := [(2, .int v_14), (1, .int v_12), (0, .ref (ad 0))]) hx hb d_MD_live_14 rfl hl (by decide) rfl (fun ls hl => ?_)
  have e_14 := e_14.symm; subst e_14
  have e_12 := e_12.symm; subst e_12
  exact lp15 512 0 1 (md_lv0 u) H locs ls rfl rfl (md_ok_rch ok) hI hl
end
section
-- contracts, printed by md.py
set_option maxHeartbeats 4000000 in
set_option maxRecDepth 100000 in
theorem c_MD_make (l : Launch) (D : va_G) (cI cZ : ClassId) (ad : Nat → Nat) (u : MS) (t r n : Int32) (ok : md_ok u) : ct_I l D cI cZ (md_W cI cZ ad) y_MD_make b_MD_make 4 (some .int) 2 [.ref (ad 0), .int t, .int r, .int n] u (md_make u t r n) := by
  refine ct_I.mk (by decide) (Nat.le_of_ble_eq_true rfl) ?_
  intro p e s m below meth c A Q ls F hI hl hret
  have F : CallFix p m c b_MD_make 4 s ([.ref (ad 0), .int t, .int r, .int n] : List Value).toArray lw_tb R_MD := F
  obtain ⟨hx, hb, hml, hown, hts⟩ := id F
  have hl : lv_has ls 4 [(0, .ref (ad 0)), (1, .int t), (2, .int r), (3, .int n)] := hl
  have okv : md_ok (md_live u).1 := md_ok_lv ok
  obtain ⟨z, hz, hm, okR, okG, okF⟩ := id okv
  refine lv_aload_n hx hb d_MD_make_0 rfl (lv_at hl 0 rfl) ?_
  refine lv_iload_n hx hb d_MD_make_1 rfl (lv_at hl 1 rfl) ?_
  refine lv_iload_n hx hb d_MD_make_2 rfl (lv_at hl 2 rfl) ?_
  refine md_callP2 F hI (c_MD_isRegister l D cI cZ ad _ _ _) wk_MD_33 rfl ⟨Nat.le_of_ble_eq_true rfl, Nat.le_of_ble_eq_true rfl⟩ hl.1 (Nat.le_of_ble_eq_true rfl) ⟨Nat.zero_le _, Nat.zero_le _⟩ d_MD_make_3 (fun H locs hI => ?_)
  refine lv_if_ne (tgt := 11) hx hb d_MD_make_6 (by decide) (fun c_6 => ?_) (fun c_6 => ?_)
  · refine lv_aload_n hx hb d_MD_make_11 rfl (lv_at hl 0 rfl) ?_
    refine md_callI0 F hI (c_MD_live l D cI cZ ad _ ok) wk_MD_37 rfl ⟨Nat.le_of_ble_eq_true rfl, Nat.le_of_ble_eq_true rfl⟩ hl.1 (Nat.le_of_ble_eq_true rfl) ⟨Nat.zero_le _, Nat.zero_le _⟩ d_MD_make_12 (fun H locs hI => ?_)
    refine lv_aload_n hx hb d_MD_make_15 rfl (lv_at hl 0 rfl) ?_
    refine md_get_room F hI d_MD_make_16 ?_
    refine lv_icmp_ge (tgt := 32) hx hb d_MD_make_19 (by decide) (fun c_19 => ?_) (fun c_19 => ?_)
    · refine lv_bipush (v := (-2)) hx hb d_MD_make_32 (by decide) ?_
      exact hret hI d_MD_make_34 (rfl) (by (unfold md_make md_new; first | ((rw [if_pos c_6, if_pos c_19]) <;> rfl) | exact ((if_pos c_6).trans ((if_pos c_19).trans (rfl))).symm))
    · refine lv_aload_n hx hb d_MD_make_22 rfl (lv_at hl 0 rfl) ?_
      refine md_get_made F hI d_MD_make_23 ?_
      refine lv_sipush (v := 512) hx hb d_MD_make_26 (by decide) ?_
      refine lv_icmp_ne (tgt := 35) hx hb d_MD_make_29 (by decide) (fun c_29 => ?_) (fun c_29 => ?_)
      · refine lv_aload_n hx hb d_MD_make_35 rfl (lv_at hl 0 rfl) ?_
        refine lv_dup hx hb d_MD_make_36 rfl ?_
        refine md_get_made F hI d_MD_make_37 ?_
        refine lv_iconst (v := 1) hx hb d_MD_make_40 (by decide) ?_
        refine lv_iadd hx hb d_MD_make_41 ?_
        refine md_put_made F hI d_MD_make_42 (fun H locs hI => ?_)
        refine lv_aload_n hx hb d_MD_make_45 rfl (lv_at hl 0 rfl) ?_
        refine md_get_field F hI d_MD_make_46 ?_
        refine lv_iconst (v := 2) hx hb d_MD_make_49 (by decide) ?_
        refine lv_aload_n hx hb d_MD_make_50 rfl (lv_at hl 0 rfl) ?_
        refine md_get_made F hI d_MD_make_51 ?_
        refine lv_imul hx hb d_MD_make_54 ?_
        refine lv_iconst (v := 0) hx hb d_MD_make_55 (by decide) ?_
        refine md_ast_field F hI ((md_mk hm hz c_29).1) d_MD_make_56 (fun H locs hI => ?_)
        refine lv_aload_n hx hb d_MD_make_57 rfl (lv_at hl 0 rfl) ?_
        refine md_get_field F hI d_MD_make_58 ?_
        refine lv_iconst (v := 2) hx hb d_MD_make_61 (by decide) ?_
        refine lv_aload_n hx hb d_MD_make_62 rfl (lv_at hl 0 rfl) ?_
        refine md_get_made F hI d_MD_make_63 ?_
        refine lv_imul hx hb d_MD_make_66 ?_
        refine lv_iconst (v := 1) hx hb d_MD_make_67 (by decide) ?_
        refine lv_iadd hx hb d_MD_make_68 ?_
        refine lv_iconst (v := 0) hx hb d_MD_make_69 (by decide) ?_
        refine md_ast_field F hI ((md_mk hm hz c_29).2.1) d_MD_make_70 (fun H locs hI => ?_)
        refine lv_aload_n hx hb d_MD_make_71 rfl (lv_at hl 0 rfl) ?_
        refine md_get_numbers F hI d_MD_make_72 ?_
        refine lv_aload_n hx hb d_MD_make_75 rfl (lv_at hl 0 rfl) ?_
        refine md_get_made F hI d_MD_make_76 ?_
        refine lv_iload_n hx hb d_MD_make_79 rfl (lv_at hl 3 rfl) ?_
        refine md_ast_numbers F hI ((md_mk hm hz c_29).2.2) d_MD_make_80 (fun H locs hI => ?_)
        refine lv_aload_n hx hb d_MD_make_81 rfl (lv_at hl 0 rfl) ?_
        refine md_get_registers F hI d_MD_make_82 ?_
        refine lv_iconst (v := 4) hx hb d_MD_make_85 (by decide) ?_
        refine lv_iload_n hx hb d_MD_make_86 rfl (lv_at hl 1 rfl) ?_
        refine lv_imul hx hb d_MD_make_87 ?_
        refine lv_iload_n hx hb d_MD_make_88 rfl (lv_at hl 2 rfl) ?_
        refine lv_iadd hx hb d_MD_make_89 ?_
        refine lv_aload_n hx hb d_MD_make_90 rfl (lv_at hl 0 rfl) ?_
        refine md_get_made F hI d_MD_make_91 ?_
        refine md_ast_registers F hI (md_in12 c_6) d_MD_make_94 (fun H locs hI => ?_)
        refine lv_aload_n hx hb d_MD_make_95 rfl (lv_at hl 0 rfl) ?_
        refine md_get_made F hI d_MD_make_96 ?_
        exact hret hI d_MD_make_99 (rfl) (by (unfold md_make md_new; first | ((rw [if_pos c_6, if_neg c_19, if_pos c_29]) <;> rfl) | exact ((if_pos c_6).trans ((if_neg c_19).trans ((if_pos c_29).trans (rfl)))).symm))
      · refine lv_bipush (v := (-2)) hx hb d_MD_make_32 (by decide) ?_
        exact hret hI d_MD_make_34 (rfl) (by (unfold md_make md_new; first | ((rw [if_pos c_6, if_neg c_19, if_neg (not_not_intro c_29)]) <;> rfl) | exact ((if_pos c_6).trans ((if_neg c_19).trans ((if_neg (not_not_intro c_29)).trans (rfl)))).symm))
  · refine lv_iconst (v := (-1)) hx hb d_MD_make_9 (by decide) ?_
    exact hret hI d_MD_make_10 (rfl) (by (unfold md_make md_new; first | ((rw [if_neg (not_not_intro c_6)]) <;> rfl) | exact ((if_neg (not_not_intro c_6)).trans (rfl)).symm))
set_option maxHeartbeats 4000000 in
set_option maxRecDepth 100000 in
theorem c_MD_copy (l : Launch) (D : va_G) (cI cZ : ClassId) (ad : Nat → Nat) (u : MS) (t r q : Int32) (ok : md_ok u) : ct_I l D cI cZ (md_W cI cZ ad) y_MD_copy b_MD_copy 4 (some .int) 2 [.ref (ad 0), .int t, .int r, .int q] u (md_copy u t r q) := by
  refine ct_I.mk (by decide) (Nat.le_of_ble_eq_true rfl) ?_
  intro p e s m below meth c A Q ls F hI hl hret
  have F : CallFix p m c b_MD_copy 4 s ([.ref (ad 0), .int t, .int r, .int q] : List Value).toArray lw_tb R_MD := F
  obtain ⟨hx, hb, hml, hown, hts⟩ := id F
  have hl : lv_has ls 4 [(0, .ref (ad 0)), (1, .int t), (2, .int r), (3, .int q)] := hl
  obtain ⟨z, hz, hm, okR, okG, okF⟩ := id ok
  refine lv_aload_n hx hb d_MD_copy_0 rfl (lv_at hl 0 rfl) ?_
  refine lv_iload_n hx hb d_MD_copy_1 rfl (lv_at hl 1 rfl) ?_
  refine lv_iload_n hx hb d_MD_copy_2 rfl (lv_at hl 2 rfl) ?_
  refine md_callP2 F hI (c_MD_isRegister l D cI cZ ad _ _ _) wk_MD_33 rfl ⟨Nat.le_of_ble_eq_true rfl, Nat.le_of_ble_eq_true rfl⟩ hl.1 (Nat.le_of_ble_eq_true rfl) ⟨Nat.zero_le _, Nat.zero_le _⟩ d_MD_copy_3 (fun H locs hI => ?_)
  refine lv_if_eq (tgt := 18) hx hb d_MD_copy_6 (by decide) (fun c_6 => ?_) (fun c_6 => ?_)
  · refine lv_iconst (v := (-1)) hx hb d_MD_copy_18 (by decide) ?_
    exact hret hI d_MD_copy_19 (rfl) (by (unfold md_copy; first | ((rw [if_pos c_6]) <;> rfl) | exact ((if_pos c_6).trans (rfl)).symm))
  · refine lv_aload_n hx hb d_MD_copy_9 rfl (lv_at hl 0 rfl) ?_
    refine lv_iload_n hx hb d_MD_copy_10 rfl (lv_at hl 1 rfl) ?_
    refine lv_iload_n hx hb d_MD_copy_11 rfl (lv_at hl 3 rfl) ?_
    refine md_callP2 F hI (c_MD_isRegister l D cI cZ ad _ _ _) wk_MD_33 rfl ⟨Nat.le_of_ble_eq_true rfl, Nat.le_of_ble_eq_true rfl⟩ hl.1 (Nat.le_of_ble_eq_true rfl) ⟨Nat.zero_le _, Nat.zero_le _⟩ d_MD_copy_12 (fun H locs hI => ?_)
    refine lv_if_ne (tgt := 20) hx hb d_MD_copy_15 (by decide) (fun c_15 => ?_) (fun c_15 => ?_)
    · refine lv_aload_n hx hb d_MD_copy_20 rfl (lv_at hl 0 rfl) ?_
      refine md_get_registers F hI d_MD_copy_21 ?_
      refine lv_iconst (v := 4) hx hb d_MD_copy_24 (by decide) ?_
      refine lv_iload_n hx hb d_MD_copy_25 rfl (lv_at hl 1 rfl) ?_
      refine lv_imul hx hb d_MD_copy_26 ?_
      refine lv_iload_n hx hb d_MD_copy_27 rfl (lv_at hl 2 rfl) ?_
      refine lv_iadd hx hb d_MD_copy_28 ?_
      refine lv_aload_n hx hb d_MD_copy_29 rfl (lv_at hl 0 rfl) ?_
      refine md_get_registers F hI d_MD_copy_30 ?_
      refine lv_iconst (v := 4) hx hb d_MD_copy_33 (by decide) ?_
      refine lv_iload_n hx hb d_MD_copy_34 rfl (lv_at hl 1 rfl) ?_
      refine lv_imul hx hb d_MD_copy_35 ?_
      refine lv_iload_n hx hb d_MD_copy_36 rfl (lv_at hl 3 rfl) ?_
      refine lv_iadd hx hb d_MD_copy_37 ?_
      refine md_ald_registers F hI (md_in12 c_15) d_MD_copy_38 ?_
      refine md_ast_registers F hI (md_in12 c_6) d_MD_copy_39 (fun H locs hI => ?_)
      refine lv_iconst (v := 0) hx hb d_MD_copy_40 (by decide) ?_
      exact hret hI d_MD_copy_41 (rfl) (by (unfold md_copy; first | ((rw [if_neg c_6, if_pos c_15]) <;> rfl) | exact ((if_neg c_6).trans ((if_pos c_15).trans (rfl))).symm))
    · refine lv_iconst (v := (-1)) hx hb d_MD_copy_18 (by decide) ?_
      exact hret hI d_MD_copy_19 (rfl) (by (unfold md_copy; first | ((rw [if_neg c_6, if_neg (not_not_intro c_15)]) <;> rfl) | exact ((if_neg c_6).trans ((if_neg (not_not_intro c_15)).trans (rfl))).symm))
set_option maxHeartbeats 4000000 in
set_option maxRecDepth 100000 in
theorem c_MD_drop (l : Launch) (D : va_G) (cI cZ : ClassId) (ad : Nat → Nat) (u : MS) (t r : Int32) (ok : md_ok u) : ct_I l D cI cZ (md_W cI cZ ad) y_MD_drop b_MD_drop 3 (some .int) 2 [.ref (ad 0), .int t, .int r] u (md_drop u t r) := by
  refine ct_I.mk (by decide) (Nat.le_of_ble_eq_true rfl) ?_
  intro p e s m below meth c A Q ls F hI hl hret
  have F : CallFix p m c b_MD_drop 3 s ([.ref (ad 0), .int t, .int r] : List Value).toArray lw_tb R_MD := F
  obtain ⟨hx, hb, hml, hown, hts⟩ := id F
  have hl : lv_has ls 3 [(0, .ref (ad 0)), (1, .int t), (2, .int r)] := hl
  obtain ⟨z, hz, hm, okR, okG, okF⟩ := id ok
  refine lv_aload_n hx hb d_MD_drop_0 rfl (lv_at hl 0 rfl) ?_
  refine lv_iload_n hx hb d_MD_drop_1 rfl (lv_at hl 1 rfl) ?_
  refine lv_iload_n hx hb d_MD_drop_2 rfl (lv_at hl 2 rfl) ?_
  refine md_callP2 F hI (c_MD_isRegister l D cI cZ ad _ _ _) wk_MD_33 rfl ⟨Nat.le_of_ble_eq_true rfl, Nat.le_of_ble_eq_true rfl⟩ hl.1 (Nat.le_of_ble_eq_true rfl) ⟨Nat.zero_le _, Nat.zero_le _⟩ d_MD_drop_3 (fun H locs hI => ?_)
  refine lv_if_ne (tgt := 11) hx hb d_MD_drop_6 (by decide) (fun c_6 => ?_) (fun c_6 => ?_)
  · refine lv_aload_n hx hb d_MD_drop_11 rfl (lv_at hl 0 rfl) ?_
    refine md_get_registers F hI d_MD_drop_12 ?_
    refine lv_iconst (v := 4) hx hb d_MD_drop_15 (by decide) ?_
    refine lv_iload_n hx hb d_MD_drop_16 rfl (lv_at hl 1 rfl) ?_
    refine lv_imul hx hb d_MD_drop_17 ?_
    refine lv_iload_n hx hb d_MD_drop_18 rfl (lv_at hl 2 rfl) ?_
    refine lv_iadd hx hb d_MD_drop_19 ?_
    refine lv_iconst (v := 0) hx hb d_MD_drop_20 (by decide) ?_
    refine md_ast_registers F hI (md_in12 c_6) d_MD_drop_21 (fun H locs hI => ?_)
    refine lv_iconst (v := 0) hx hb d_MD_drop_22 (by decide) ?_
    exact hret hI d_MD_drop_23 (rfl) (by (unfold md_drop; first | ((rw [if_pos c_6]) <;> rfl) | exact ((if_pos c_6).trans (rfl)).symm))
  · refine lv_iconst (v := (-1)) hx hb d_MD_drop_9 (by decide) ?_
    exact hret hI d_MD_drop_10 (rfl) (by (unfold md_drop; first | ((rw [if_neg (not_not_intro c_6)]) <;> rfl) | exact ((if_neg (not_not_intro c_6)).trans (rfl)).symm))
set_option maxHeartbeats 4000000 in
set_option maxRecDepth 100000 in
theorem c_MD_load (l : Launch) (D : va_G) (cI cZ : ClassId) (ad : Nat → Nat) (u : MS) (t r q f : Int32) (ok : md_ok u) : ct_I l D cI cZ (md_W cI cZ ad) y_MD_load b_MD_load 6 (some .int) 2 [.ref (ad 0), .int t, .int r, .int q, .int f] u (md_load u t r q f) := by
  refine ct_I.mk (by decide) (Nat.le_of_ble_eq_true rfl) ?_
  intro p e s m below meth c A Q ls F hI hl hret
  have F : CallFix p m c b_MD_load 6 s ([.ref (ad 0), .int t, .int r, .int q, .int f] : List Value).toArray lw_tb R_MD := F
  obtain ⟨hx, hb, hml, hown, hts⟩ := id F
  have hl : lv_has ls 6 [(0, .ref (ad 0)), (1, .int t), (2, .int r), (3, .int q), (4, .int f)] := hl
  obtain ⟨z, hz, hm, okR, okG, okF⟩ := id ok
  refine lv_aload_n hx hb d_MD_load_0 rfl (lv_at hl 0 rfl) ?_
  refine lv_iload_n hx hb d_MD_load_1 rfl (lv_at hl 1 rfl) ?_
  refine lv_iload_n hx hb d_MD_load_2 rfl (lv_at hl 2 rfl) ?_
  refine md_callP2 F hI (c_MD_isRegister l D cI cZ ad _ _ _) wk_MD_33 rfl ⟨Nat.le_of_ble_eq_true rfl, Nat.le_of_ble_eq_true rfl⟩ hl.1 (Nat.le_of_ble_eq_true rfl) ⟨Nat.zero_le _, Nat.zero_le _⟩ d_MD_load_3 (fun H locs hI => ?_)
  refine lv_if_eq (tgt := 27) hx hb d_MD_load_6 (by decide) (fun c_6 => ?_) (fun c_6 => ?_)
  · refine lv_iconst (v := (-1)) hx hb d_MD_load_27 (by decide) ?_
    exact hret hI d_MD_load_28 (rfl) (by (unfold md_load md_load2; first | ((rw [if_pos c_6]) <;> rfl) | exact ((if_pos c_6).trans (rfl)).symm))
  · refine lv_aload_n hx hb d_MD_load_9 rfl (lv_at hl 0 rfl) ?_
    refine lv_iload_n hx hb d_MD_load_10 rfl (lv_at hl 1 rfl) ?_
    refine lv_iload_n hx hb d_MD_load_11 rfl (lv_at hl 3 rfl) ?_
    refine md_callP2 F hI (c_MD_isRegister l D cI cZ ad _ _ _) wk_MD_33 rfl ⟨Nat.le_of_ble_eq_true rfl, Nat.le_of_ble_eq_true rfl⟩ hl.1 (Nat.le_of_ble_eq_true rfl) ⟨Nat.zero_le _, Nat.zero_le _⟩ d_MD_load_12 (fun H locs hI => ?_)
    refine lv_if_eq (tgt := 27) hx hb d_MD_load_15 (by decide) (fun c_15 => ?_) (fun c_15 => ?_)
    · refine lv_iconst (v := (-1)) hx hb d_MD_load_27 (by decide) ?_
      exact hret hI d_MD_load_28 (rfl) (by (unfold md_load md_load2; first | ((rw [if_neg c_6, if_pos c_15]) <;> rfl) | exact ((if_neg c_6).trans ((if_pos c_15).trans (rfl))).symm))
    · refine lv_aload_n hx hb d_MD_load_18 rfl (lv_at hl 0 rfl) ?_
      refine lv_iload hx hb d_MD_load_19 (lv_at hl 4 rfl) ?_
      refine md_callP1 F hI (c_MD_isBit l D cI cZ ad _ _) wk_MD_41 rfl ⟨Nat.le_of_ble_eq_true rfl, Nat.le_of_ble_eq_true rfl⟩ hl.1 (Nat.le_of_ble_eq_true rfl) ⟨Nat.zero_le _, Nat.zero_le _⟩ d_MD_load_21 (fun H locs hI => ?_)
      refine lv_if_ne (tgt := 29) hx hb d_MD_load_24 (by decide) (fun c_24 => ?_) (fun c_24 => ?_)
      · refine lv_aload_n hx hb d_MD_load_29 rfl (lv_at hl 0 rfl) ?_
        refine md_get_registers F hI d_MD_load_30 ?_
        refine lv_iconst (v := 4) hx hb d_MD_load_33 (by decide) ?_
        refine lv_iload_n hx hb d_MD_load_34 rfl (lv_at hl 1 rfl) ?_
        refine lv_imul hx hb d_MD_load_35 ?_
        refine lv_iload_n hx hb d_MD_load_36 rfl (lv_at hl 3 rfl) ?_
        refine lv_iadd hx hb d_MD_load_37 ?_
        refine md_ald_registers F hI (md_in12 c_15) d_MD_load_38 ?_
        refine lv_topi (fun v_39 e_39 => ?_)
        refine lv_istore (lv' := [(5, .int v_39), (0, .ref (ad 0)), (1, .int t), (2, .int r), (3, .int q), (4, .int f)]) hx hb d_MD_load_39 hl (by decide) rfl (fun ls hl => ?_)
        refine lv_iload hx hb d_MD_load_41 (lv_at hl 0 rfl) ?_
        refine lv_if_ne (tgt := 49) hx hb d_MD_load_43 (by decide) (fun c_43 => ?_) (fun c_43 => ?_)
        · refine lv_aload_n hx hb d_MD_load_49 rfl (lv_at hl 1 rfl) ?_
          refine md_get_registers F hI d_MD_load_50 ?_
          refine lv_iconst (v := 4) hx hb d_MD_load_53 (by decide) ?_
          refine lv_iload_n hx hb d_MD_load_54 rfl (lv_at hl 2 rfl) ?_
          refine lv_imul hx hb d_MD_load_55 ?_
          refine lv_iload_n hx hb d_MD_load_56 rfl (lv_at hl 3 rfl) ?_
          refine lv_iadd hx hb d_MD_load_57 ?_
          refine lv_aload_n hx hb d_MD_load_58 rfl (lv_at hl 1 rfl) ?_
          refine md_get_field F hI d_MD_load_59 ?_
          refine lv_iconst (v := 2) hx hb d_MD_load_62 (by decide) ?_
          refine lv_iload hx hb d_MD_load_63 (lv_at hl 0 rfl) ?_
          refine lv_imul hx hb d_MD_load_65 ?_
          refine lv_iload hx hb d_MD_load_66 (lv_at hl 5 rfl) ?_
          refine lv_iadd hx hb d_MD_load_68 ?_
          refine md_ald_field F hI (md_inf (by rw [e_39]; exact okR _ (vp_lt (md_in12 c_15))) c_24) d_MD_load_69 ?_
          refine md_ast_registers F hI (md_in12 c_6) d_MD_load_70 (fun H locs hI => ?_)
          refine lv_iconst (v := 0) hx hb d_MD_load_71 (by decide) ?_
          have e_39 := e_39.symm; subst e_39
          exact hret hI d_MD_load_72 (rfl) (by (unfold md_load md_load2; first | ((rw [if_neg c_6, if_neg c_15, if_pos c_24, if_pos c_43]) <;> rfl) | exact ((if_neg c_6).trans ((if_neg c_15).trans ((if_pos c_24).trans ((if_pos c_43).trans (rfl))))).symm))
        · refine lv_bipush (v := (-3)) hx hb d_MD_load_46 (by decide) ?_
          have e_39 := e_39.symm; subst e_39
          exact hret hI d_MD_load_48 (rfl) (by (unfold md_load md_load2; first | ((rw [if_neg c_6, if_neg c_15, if_pos c_24, if_neg (not_not_intro c_43)]) <;> rfl) | exact ((if_neg c_6).trans ((if_neg c_15).trans ((if_pos c_24).trans ((if_neg (not_not_intro c_43)).trans (rfl))))).symm))
      · refine lv_iconst (v := (-1)) hx hb d_MD_load_27 (by decide) ?_
        exact hret hI d_MD_load_28 (rfl) (by (unfold md_load md_load2; first | ((rw [if_neg c_6, if_neg c_15, if_neg (not_not_intro c_24)]) <;> rfl) | exact ((if_neg c_6).trans ((if_neg c_15).trans ((if_neg (not_not_intro c_24)).trans (rfl)))).symm))
set_option maxHeartbeats 4000000 in
set_option maxRecDepth 100000 in
theorem c_MD_store (l : Launch) (D : va_G) (cI cZ : ClassId) (ad : Nat → Nat) (u : MS) (t q f r : Int32) (ok : md_ok u) : ct_I l D cI cZ (md_W cI cZ ad) y_MD_store b_MD_store 6 (some .int) 2 [.ref (ad 0), .int t, .int q, .int f, .int r] u (md_store u t q f r) := by
  refine ct_I.mk (by decide) (Nat.le_of_ble_eq_true rfl) ?_
  intro p e s m below meth c A Q ls F hI hl hret
  have F : CallFix p m c b_MD_store 6 s ([.ref (ad 0), .int t, .int q, .int f, .int r] : List Value).toArray lw_tb R_MD := F
  obtain ⟨hx, hb, hml, hown, hts⟩ := id F
  have hl : lv_has ls 6 [(0, .ref (ad 0)), (1, .int t), (2, .int q), (3, .int f), (4, .int r)] := hl
  obtain ⟨z, hz, hm, okR, okG, okF⟩ := id ok
  refine lv_aload_n hx hb d_MD_store_0 rfl (lv_at hl 0 rfl) ?_
  refine lv_iload_n hx hb d_MD_store_1 rfl (lv_at hl 1 rfl) ?_
  refine lv_iload hx hb d_MD_store_2 (lv_at hl 4 rfl) ?_
  refine md_callP2 F hI (c_MD_isRegister l D cI cZ ad _ _ _) wk_MD_33 rfl ⟨Nat.le_of_ble_eq_true rfl, Nat.le_of_ble_eq_true rfl⟩ hl.1 (Nat.le_of_ble_eq_true rfl) ⟨Nat.zero_le _, Nat.zero_le _⟩ d_MD_store_4 (fun H locs hI => ?_)
  refine lv_if_eq (tgt := 27) hx hb d_MD_store_7 (by decide) (fun c_7 => ?_) (fun c_7 => ?_)
  · refine lv_iconst (v := (-1)) hx hb d_MD_store_27 (by decide) ?_
    exact hret hI d_MD_store_28 (rfl) (by (unfold md_store md_store2; first | ((rw [if_pos c_7]) <;> rfl) | exact ((if_pos c_7).trans (rfl)).symm))
  · refine lv_aload_n hx hb d_MD_store_10 rfl (lv_at hl 0 rfl) ?_
    refine lv_iload_n hx hb d_MD_store_11 rfl (lv_at hl 1 rfl) ?_
    refine lv_iload_n hx hb d_MD_store_12 rfl (lv_at hl 2 rfl) ?_
    refine md_callP2 F hI (c_MD_isRegister l D cI cZ ad _ _ _) wk_MD_33 rfl ⟨Nat.le_of_ble_eq_true rfl, Nat.le_of_ble_eq_true rfl⟩ hl.1 (Nat.le_of_ble_eq_true rfl) ⟨Nat.zero_le _, Nat.zero_le _⟩ d_MD_store_13 (fun H locs hI => ?_)
    refine lv_if_eq (tgt := 27) hx hb d_MD_store_16 (by decide) (fun c_16 => ?_) (fun c_16 => ?_)
    · refine lv_iconst (v := (-1)) hx hb d_MD_store_27 (by decide) ?_
      exact hret hI d_MD_store_28 (rfl) (by (unfold md_store md_store2; first | ((rw [if_neg c_7, if_pos c_16]) <;> rfl) | exact ((if_neg c_7).trans ((if_pos c_16).trans (rfl))).symm))
    · refine lv_aload_n hx hb d_MD_store_19 rfl (lv_at hl 0 rfl) ?_
      refine lv_iload_n hx hb d_MD_store_20 rfl (lv_at hl 3 rfl) ?_
      refine md_callP1 F hI (c_MD_isBit l D cI cZ ad _ _) wk_MD_41 rfl ⟨Nat.le_of_ble_eq_true rfl, Nat.le_of_ble_eq_true rfl⟩ hl.1 (Nat.le_of_ble_eq_true rfl) ⟨Nat.zero_le _, Nat.zero_le _⟩ d_MD_store_21 (fun H locs hI => ?_)
      refine lv_if_ne (tgt := 29) hx hb d_MD_store_24 (by decide) (fun c_24 => ?_) (fun c_24 => ?_)
      · refine lv_aload_n hx hb d_MD_store_29 rfl (lv_at hl 0 rfl) ?_
        refine md_get_registers F hI d_MD_store_30 ?_
        refine lv_iconst (v := 4) hx hb d_MD_store_33 (by decide) ?_
        refine lv_iload_n hx hb d_MD_store_34 rfl (lv_at hl 1 rfl) ?_
        refine lv_imul hx hb d_MD_store_35 ?_
        refine lv_iload_n hx hb d_MD_store_36 rfl (lv_at hl 2 rfl) ?_
        refine lv_iadd hx hb d_MD_store_37 ?_
        refine md_ald_registers F hI (md_in12 c_16) d_MD_store_38 ?_
        refine lv_topi (fun v_39 e_39 => ?_)
        refine lv_istore (lv' := [(5, .int v_39), (0, .ref (ad 0)), (1, .int t), (2, .int q), (3, .int f), (4, .int r)]) hx hb d_MD_store_39 hl (by decide) rfl (fun ls hl => ?_)
        refine lv_iload hx hb d_MD_store_41 (lv_at hl 0 rfl) ?_
        refine lv_if_ne (tgt := 49) hx hb d_MD_store_43 (by decide) (fun c_43 => ?_) (fun c_43 => ?_)
        · refine lv_aload_n hx hb d_MD_store_49 rfl (lv_at hl 1 rfl) ?_
          refine md_get_field F hI d_MD_store_50 ?_
          refine lv_iconst (v := 2) hx hb d_MD_store_53 (by decide) ?_
          refine lv_iload hx hb d_MD_store_54 (lv_at hl 0 rfl) ?_
          refine lv_imul hx hb d_MD_store_56 ?_
          refine lv_iload_n hx hb d_MD_store_57 rfl (lv_at hl 4 rfl) ?_
          refine lv_iadd hx hb d_MD_store_58 ?_
          refine lv_aload_n hx hb d_MD_store_59 rfl (lv_at hl 1 rfl) ?_
          refine md_get_registers F hI d_MD_store_60 ?_
          refine lv_iconst (v := 4) hx hb d_MD_store_63 (by decide) ?_
          refine lv_iload_n hx hb d_MD_store_64 rfl (lv_at hl 2 rfl) ?_
          refine lv_imul hx hb d_MD_store_65 ?_
          refine lv_iload hx hb d_MD_store_66 (lv_at hl 5 rfl) ?_
          refine lv_iadd hx hb d_MD_store_68 ?_
          refine md_ald_registers F hI (md_in12 c_7) d_MD_store_69 ?_
          refine md_ast_field F hI (md_inf (by rw [e_39]; exact okR _ (vp_lt (md_in12 c_16))) c_24) d_MD_store_70 (fun H locs hI => ?_)
          refine lv_iconst (v := 0) hx hb d_MD_store_71 (by decide) ?_
          have e_39 := e_39.symm; subst e_39
          exact hret hI d_MD_store_72 (rfl) (by (unfold md_store md_store2; first | ((rw [if_neg c_7, if_neg c_16, if_pos c_24, if_pos c_43]) <;> rfl) | exact ((if_neg c_7).trans ((if_neg c_16).trans ((if_pos c_24).trans ((if_pos c_43).trans (rfl))))).symm))
        · refine lv_bipush (v := (-3)) hx hb d_MD_store_46 (by decide) ?_
          have e_39 := e_39.symm; subst e_39
          exact hret hI d_MD_store_48 (rfl) (by (unfold md_store md_store2; first | ((rw [if_neg c_7, if_neg c_16, if_pos c_24, if_neg (not_not_intro c_43)]) <;> rfl) | exact ((if_neg c_7).trans ((if_neg c_16).trans ((if_pos c_24).trans ((if_neg (not_not_intro c_43)).trans (rfl))))).symm))
      · refine lv_iconst (v := (-1)) hx hb d_MD_store_27 (by decide) ?_
        exact hret hI d_MD_store_28 (rfl) (by (unfold md_store md_store2; first | ((rw [if_neg c_7, if_neg c_16, if_neg (not_not_intro c_24)]) <;> rfl) | exact ((if_neg c_7).trans ((if_neg c_16).trans ((if_neg (not_not_intro c_24)).trans (rfl)))).symm))
set_option maxHeartbeats 4000000 in
set_option maxRecDepth 100000 in
theorem c_MD_put (l : Launch) (D : va_G) (cI cZ : ClassId) (ad : Nat → Nat) (u : MS) (t g r : Int32) (ok : md_ok u) : ct_I l D cI cZ (md_W cI cZ ad) y_MD_put b_MD_put 4 (some .int) 2 [.ref (ad 0), .int t, .int g, .int r] u (md_put u t g r) := by
  refine ct_I.mk (by decide) (Nat.le_of_ble_eq_true rfl) ?_
  intro p e s m below meth c A Q ls F hI hl hret
  have F : CallFix p m c b_MD_put 4 s ([.ref (ad 0), .int t, .int g, .int r] : List Value).toArray lw_tb R_MD := F
  obtain ⟨hx, hb, hml, hown, hts⟩ := id F
  have hl : lv_has ls 4 [(0, .ref (ad 0)), (1, .int t), (2, .int g), (3, .int r)] := hl
  obtain ⟨z, hz, hm, okR, okG, okF⟩ := id ok
  refine lv_aload_n hx hb d_MD_put_0 rfl (lv_at hl 0 rfl) ?_
  refine lv_iload_n hx hb d_MD_put_1 rfl (lv_at hl 1 rfl) ?_
  refine lv_iload_n hx hb d_MD_put_2 rfl (lv_at hl 3 rfl) ?_
  refine md_callP2 F hI (c_MD_isRegister l D cI cZ ad _ _ _) wk_MD_33 rfl ⟨Nat.le_of_ble_eq_true rfl, Nat.le_of_ble_eq_true rfl⟩ hl.1 (Nat.le_of_ble_eq_true rfl) ⟨Nat.zero_le _, Nat.zero_le _⟩ d_MD_put_3 (fun H locs hI => ?_)
  refine lv_if_eq (tgt := 17) hx hb d_MD_put_6 (by decide) (fun c_6 => ?_) (fun c_6 => ?_)
  · refine lv_iconst (v := (-1)) hx hb d_MD_put_17 (by decide) ?_
    exact hret hI d_MD_put_18 (rfl) (by (unfold md_put; first | ((rw [if_pos c_6]) <;> rfl) | exact ((if_pos c_6).trans (rfl)).symm))
  · refine lv_aload_n hx hb d_MD_put_9 rfl (lv_at hl 0 rfl) ?_
    refine lv_iload_n hx hb d_MD_put_10 rfl (lv_at hl 2 rfl) ?_
    refine md_callP1 F hI (c_MD_isBit l D cI cZ ad _ _) wk_MD_41 rfl ⟨Nat.le_of_ble_eq_true rfl, Nat.le_of_ble_eq_true rfl⟩ hl.1 (Nat.le_of_ble_eq_true rfl) ⟨Nat.zero_le _, Nat.zero_le _⟩ d_MD_put_11 (fun H locs hI => ?_)
    refine lv_if_ne (tgt := 19) hx hb d_MD_put_14 (by decide) (fun c_14 => ?_) (fun c_14 => ?_)
    · refine lv_aload_n hx hb d_MD_put_19 rfl (lv_at hl 0 rfl) ?_
      refine md_get_globals F hI d_MD_put_20 ?_
      refine lv_iload_n hx hb d_MD_put_23 rfl (lv_at hl 2 rfl) ?_
      refine lv_aload_n hx hb d_MD_put_24 rfl (lv_at hl 0 rfl) ?_
      refine md_get_registers F hI d_MD_put_25 ?_
      refine lv_iconst (v := 4) hx hb d_MD_put_28 (by decide) ?_
      refine lv_iload_n hx hb d_MD_put_29 rfl (lv_at hl 1 rfl) ?_
      refine lv_imul hx hb d_MD_put_30 ?_
      refine lv_iload_n hx hb d_MD_put_31 rfl (lv_at hl 3 rfl) ?_
      refine lv_iadd hx hb d_MD_put_32 ?_
      refine md_ald_registers F hI (md_in12 c_6) d_MD_put_33 ?_
      refine md_ast_globals F hI (md_in2 c_14) d_MD_put_34 (fun H locs hI => ?_)
      refine lv_iconst (v := 0) hx hb d_MD_put_35 (by decide) ?_
      exact hret hI d_MD_put_36 (rfl) (by (unfold md_put; first | ((rw [if_neg c_6, if_pos c_14]) <;> rfl) | exact ((if_neg c_6).trans ((if_pos c_14).trans (rfl))).symm))
    · refine lv_iconst (v := (-1)) hx hb d_MD_put_17 (by decide) ?_
      exact hret hI d_MD_put_18 (rfl) (by (unfold md_put; first | ((rw [if_neg c_6, if_neg (not_not_intro c_14)]) <;> rfl) | exact ((if_neg c_6).trans ((if_neg (not_not_intro c_14)).trans (rfl))).symm))
set_option maxHeartbeats 4000000 in
set_option maxRecDepth 100000 in
theorem c_MD_get (l : Launch) (D : va_G) (cI cZ : ClassId) (ad : Nat → Nat) (u : MS) (t r g : Int32) (ok : md_ok u) : ct_I l D cI cZ (md_W cI cZ ad) y_MD_get b_MD_get 4 (some .int) 2 [.ref (ad 0), .int t, .int r, .int g] u (md_get u t r g) := by
  refine ct_I.mk (by decide) (Nat.le_of_ble_eq_true rfl) ?_
  intro p e s m below meth c A Q ls F hI hl hret
  have F : CallFix p m c b_MD_get 4 s ([.ref (ad 0), .int t, .int r, .int g] : List Value).toArray lw_tb R_MD := F
  obtain ⟨hx, hb, hml, hown, hts⟩ := id F
  have hl : lv_has ls 4 [(0, .ref (ad 0)), (1, .int t), (2, .int r), (3, .int g)] := hl
  obtain ⟨z, hz, hm, okR, okG, okF⟩ := id ok
  refine lv_aload_n hx hb d_MD_get_0 rfl (lv_at hl 0 rfl) ?_
  refine lv_iload_n hx hb d_MD_get_1 rfl (lv_at hl 1 rfl) ?_
  refine lv_iload_n hx hb d_MD_get_2 rfl (lv_at hl 2 rfl) ?_
  refine md_callP2 F hI (c_MD_isRegister l D cI cZ ad _ _ _) wk_MD_33 rfl ⟨Nat.le_of_ble_eq_true rfl, Nat.le_of_ble_eq_true rfl⟩ hl.1 (Nat.le_of_ble_eq_true rfl) ⟨Nat.zero_le _, Nat.zero_le _⟩ d_MD_get_3 (fun H locs hI => ?_)
  refine lv_if_eq (tgt := 17) hx hb d_MD_get_6 (by decide) (fun c_6 => ?_) (fun c_6 => ?_)
  · refine lv_iconst (v := (-1)) hx hb d_MD_get_17 (by decide) ?_
    exact hret hI d_MD_get_18 (rfl) (by (unfold md_get; first | ((rw [if_pos c_6]) <;> rfl) | exact ((if_pos c_6).trans (rfl)).symm))
  · refine lv_aload_n hx hb d_MD_get_9 rfl (lv_at hl 0 rfl) ?_
    refine lv_iload_n hx hb d_MD_get_10 rfl (lv_at hl 3 rfl) ?_
    refine md_callP1 F hI (c_MD_isBit l D cI cZ ad _ _) wk_MD_41 rfl ⟨Nat.le_of_ble_eq_true rfl, Nat.le_of_ble_eq_true rfl⟩ hl.1 (Nat.le_of_ble_eq_true rfl) ⟨Nat.zero_le _, Nat.zero_le _⟩ d_MD_get_11 (fun H locs hI => ?_)
    refine lv_if_ne (tgt := 19) hx hb d_MD_get_14 (by decide) (fun c_14 => ?_) (fun c_14 => ?_)
    · refine lv_aload_n hx hb d_MD_get_19 rfl (lv_at hl 0 rfl) ?_
      refine md_get_registers F hI d_MD_get_20 ?_
      refine lv_iconst (v := 4) hx hb d_MD_get_23 (by decide) ?_
      refine lv_iload_n hx hb d_MD_get_24 rfl (lv_at hl 1 rfl) ?_
      refine lv_imul hx hb d_MD_get_25 ?_
      refine lv_iload_n hx hb d_MD_get_26 rfl (lv_at hl 2 rfl) ?_
      refine lv_iadd hx hb d_MD_get_27 ?_
      refine lv_aload_n hx hb d_MD_get_28 rfl (lv_at hl 0 rfl) ?_
      refine md_get_globals F hI d_MD_get_29 ?_
      refine lv_iload_n hx hb d_MD_get_32 rfl (lv_at hl 3 rfl) ?_
      refine md_ald_globals F hI (md_in2 c_14) d_MD_get_33 ?_
      refine md_ast_registers F hI (md_in12 c_6) d_MD_get_34 (fun H locs hI => ?_)
      refine lv_iconst (v := 0) hx hb d_MD_get_35 (by decide) ?_
      exact hret hI d_MD_get_36 (rfl) (by (unfold md_get; first | ((rw [if_neg c_6, if_pos c_14]) <;> rfl) | exact ((if_neg c_6).trans ((if_pos c_14).trans (rfl))).symm))
    · refine lv_iconst (v := (-1)) hx hb d_MD_get_17 (by decide) ?_
      exact hret hI d_MD_get_18 (rfl) (by (unfold md_get; first | ((rw [if_neg c_6, if_neg (not_not_intro c_14)]) <;> rfl) | exact ((if_neg c_6).trans ((if_neg (not_not_intro c_14)).trans (rfl))).symm))
set_option maxHeartbeats 4000000 in
set_option maxRecDepth 100000 in
theorem c_MD_swap (l : Launch) (D : va_G) (cI cZ : ClassId) (ad : Nat → Nat) (u : MS) (t r w q : Int32) (ok : md_ok u) : ct_I l D cI cZ (md_W cI cZ ad) y_MD_swap b_MD_swap 6 (some .int) 2 [.ref (ad 0), .int t, .int r, .int w, .int q] u (md_swap u t r w q) := by
  refine ct_I.mk (by decide) (Nat.le_of_ble_eq_true rfl) ?_
  intro p e s m below meth c A Q ls F hI hl hret
  have F : CallFix p m c b_MD_swap 6 s ([.ref (ad 0), .int t, .int r, .int w, .int q] : List Value).toArray lw_tb R_MD := F
  obtain ⟨hx, hb, hml, hown, hts⟩ := id F
  have hl : lv_has ls 6 [(0, .ref (ad 0)), (1, .int t), (2, .int r), (3, .int w), (4, .int q)] := hl
  obtain ⟨z, hz, hm, okR, okG, okF⟩ := id ok
  refine lv_aload_n hx hb d_MD_swap_0 rfl (lv_at hl 0 rfl) ?_
  refine lv_iload_n hx hb d_MD_swap_1 rfl (lv_at hl 1 rfl) ?_
  refine lv_iload_n hx hb d_MD_swap_2 rfl (lv_at hl 2 rfl) ?_
  refine md_callP2 F hI (c_MD_isRegister l D cI cZ ad _ _ _) wk_MD_33 rfl ⟨Nat.le_of_ble_eq_true rfl, Nat.le_of_ble_eq_true rfl⟩ hl.1 (Nat.le_of_ble_eq_true rfl) ⟨Nat.zero_le _, Nat.zero_le _⟩ d_MD_swap_3 (fun H locs hI => ?_)
  refine lv_if_eq (tgt := 19) hx hb d_MD_swap_6 (by decide) (fun c_6 => ?_) (fun c_6 => ?_)
  · refine lv_iconst (v := (-1)) hx hb d_MD_swap_19 (by decide) ?_
    exact hret hI d_MD_swap_20 (rfl) (by (unfold md_swap md_swap2; first | ((rw [if_pos c_6]) <;> rfl) | exact ((if_pos c_6).trans (rfl)).symm))
  · refine lv_aload_n hx hb d_MD_swap_9 rfl (lv_at hl 0 rfl) ?_
    refine lv_iload_n hx hb d_MD_swap_10 rfl (lv_at hl 3 rfl) ?_
    refine lv_iload hx hb d_MD_swap_11 (lv_at hl 4 rfl) ?_
    refine md_callP2 F hI (c_MD_isRegister l D cI cZ ad _ _ _) wk_MD_33 rfl ⟨Nat.le_of_ble_eq_true rfl, Nat.le_of_ble_eq_true rfl⟩ hl.1 (Nat.le_of_ble_eq_true rfl) ⟨Nat.zero_le _, Nat.zero_le _⟩ d_MD_swap_13 (fun H locs hI => ?_)
    refine lv_if_ne (tgt := 21) hx hb d_MD_swap_16 (by decide) (fun c_16 => ?_) (fun c_16 => ?_)
    · refine lv_aload_n hx hb d_MD_swap_21 rfl (lv_at hl 0 rfl) ?_
      refine md_get_registers F hI d_MD_swap_22 ?_
      refine lv_iconst (v := 4) hx hb d_MD_swap_25 (by decide) ?_
      refine lv_iload_n hx hb d_MD_swap_26 rfl (lv_at hl 1 rfl) ?_
      refine lv_imul hx hb d_MD_swap_27 ?_
      refine lv_iload_n hx hb d_MD_swap_28 rfl (lv_at hl 2 rfl) ?_
      refine lv_iadd hx hb d_MD_swap_29 ?_
      refine md_ald_registers F hI (md_in12 c_6) d_MD_swap_30 ?_
      refine lv_topi (fun v_31 e_31 => ?_)
      refine lv_istore (lv' := [(5, .int v_31), (0, .ref (ad 0)), (1, .int t), (2, .int r), (3, .int w), (4, .int q)]) hx hb d_MD_swap_31 hl (by decide) rfl (fun ls hl => ?_)
      refine lv_aload_n hx hb d_MD_swap_33 rfl (lv_at hl 1 rfl) ?_
      refine md_get_registers F hI d_MD_swap_34 ?_
      refine lv_iconst (v := 4) hx hb d_MD_swap_37 (by decide) ?_
      refine lv_iload_n hx hb d_MD_swap_38 rfl (lv_at hl 2 rfl) ?_
      refine lv_imul hx hb d_MD_swap_39 ?_
      refine lv_iload_n hx hb d_MD_swap_40 rfl (lv_at hl 3 rfl) ?_
      refine lv_iadd hx hb d_MD_swap_41 ?_
      refine lv_aload_n hx hb d_MD_swap_42 rfl (lv_at hl 1 rfl) ?_
      refine md_get_registers F hI d_MD_swap_43 ?_
      refine lv_iconst (v := 4) hx hb d_MD_swap_46 (by decide) ?_
      refine lv_iload_n hx hb d_MD_swap_47 rfl (lv_at hl 4 rfl) ?_
      refine lv_imul hx hb d_MD_swap_48 ?_
      refine lv_iload hx hb d_MD_swap_49 (lv_at hl 5 rfl) ?_
      refine lv_iadd hx hb d_MD_swap_51 ?_
      refine md_ald_registers F hI (md_in12 c_16) d_MD_swap_52 ?_
      refine md_ast_registers F hI (md_in12 c_6) d_MD_swap_53 (fun H locs hI => ?_)
      refine lv_aload_n hx hb d_MD_swap_54 rfl (lv_at hl 1 rfl) ?_
      refine md_get_registers F hI d_MD_swap_55 ?_
      refine lv_iconst (v := 4) hx hb d_MD_swap_58 (by decide) ?_
      refine lv_iload_n hx hb d_MD_swap_59 rfl (lv_at hl 4 rfl) ?_
      refine lv_imul hx hb d_MD_swap_60 ?_
      refine lv_iload hx hb d_MD_swap_61 (lv_at hl 5 rfl) ?_
      refine lv_iadd hx hb d_MD_swap_63 ?_
      refine lv_iload hx hb d_MD_swap_64 (lv_at hl 0 rfl) ?_
      refine md_ast_registers F hI (md_in12 c_16) d_MD_swap_66 (fun H locs hI => ?_)
      refine lv_iconst (v := 0) hx hb d_MD_swap_67 (by decide) ?_
      have e_31 := e_31.symm; subst e_31
      exact hret hI d_MD_swap_68 (rfl) (by (unfold md_swap md_swap2; first | ((rw [if_neg c_6, if_pos c_16]) <;> rfl) | exact ((if_neg c_6).trans ((if_pos c_16).trans (rfl))).symm))
    · refine lv_iconst (v := (-1)) hx hb d_MD_swap_19 (by decide) ?_
      exact hret hI d_MD_swap_20 (rfl) (by (unfold md_swap md_swap2; first | ((rw [if_neg c_6, if_neg (not_not_intro c_16)]) <;> rfl) | exact ((if_neg c_6).trans ((if_neg (not_not_intro c_16)).trans (rfl))).symm))
set_option maxHeartbeats 4000000 in
set_option maxRecDepth 100000 in
theorem c_MD_setNumber (l : Launch) (D : va_G) (cI cZ : ClassId) (ad : Nat → Nat) (u : MS) (t r n : Int32) (ok : md_ok u) : ct_I l D cI cZ (md_W cI cZ ad) y_MD_setNumber b_MD_setNumber 5 (some .int) 2 [.ref (ad 0), .int t, .int r, .int n] u (md_setNumber u t r n) := by
  refine ct_I.mk (by decide) (Nat.le_of_ble_eq_true rfl) ?_
  intro p e s m below meth c A Q ls F hI hl hret
  have F : CallFix p m c b_MD_setNumber 5 s ([.ref (ad 0), .int t, .int r, .int n] : List Value).toArray lw_tb R_MD := F
  obtain ⟨hx, hb, hml, hown, hts⟩ := id F
  have hl : lv_has ls 5 [(0, .ref (ad 0)), (1, .int t), (2, .int r), (3, .int n)] := hl
  obtain ⟨z, hz, hm, okR, okG, okF⟩ := id ok
  refine lv_aload_n hx hb d_MD_setNumber_0 rfl (lv_at hl 0 rfl) ?_
  refine lv_iload_n hx hb d_MD_setNumber_1 rfl (lv_at hl 1 rfl) ?_
  refine lv_iload_n hx hb d_MD_setNumber_2 rfl (lv_at hl 2 rfl) ?_
  refine md_callP2 F hI (c_MD_isRegister l D cI cZ ad _ _ _) wk_MD_33 rfl ⟨Nat.le_of_ble_eq_true rfl, Nat.le_of_ble_eq_true rfl⟩ hl.1 (Nat.le_of_ble_eq_true rfl) ⟨Nat.zero_le _, Nat.zero_le _⟩ d_MD_setNumber_3 (fun H locs hI => ?_)
  refine lv_if_ne (tgt := 11) hx hb d_MD_setNumber_6 (by decide) (fun c_6 => ?_) (fun c_6 => ?_)
  · refine lv_aload_n hx hb d_MD_setNumber_11 rfl (lv_at hl 0 rfl) ?_
    refine md_get_registers F hI d_MD_setNumber_12 ?_
    refine lv_iconst (v := 4) hx hb d_MD_setNumber_15 (by decide) ?_
    refine lv_iload_n hx hb d_MD_setNumber_16 rfl (lv_at hl 1 rfl) ?_
    refine lv_imul hx hb d_MD_setNumber_17 ?_
    refine lv_iload_n hx hb d_MD_setNumber_18 rfl (lv_at hl 2 rfl) ?_
    refine lv_iadd hx hb d_MD_setNumber_19 ?_
    refine md_ald_registers F hI (md_in12 c_6) d_MD_setNumber_20 ?_
    refine lv_topi (fun v_21 e_21 => ?_)
    refine lv_istore (lv' := [(4, .int v_21), (0, .ref (ad 0)), (1, .int t), (2, .int r), (3, .int n)]) hx hb d_MD_setNumber_21 hl (by decide) rfl (fun ls hl => ?_)
    refine lv_iload hx hb d_MD_setNumber_23 (lv_at hl 0 rfl) ?_
    refine lv_if_ne (tgt := 31) hx hb d_MD_setNumber_25 (by decide) (fun c_25 => ?_) (fun c_25 => ?_)
    · refine lv_aload_n hx hb d_MD_setNumber_31 rfl (lv_at hl 1 rfl) ?_
      refine md_get_numbers F hI d_MD_setNumber_32 ?_
      refine lv_iload hx hb d_MD_setNumber_35 (lv_at hl 0 rfl) ?_
      refine lv_iload_n hx hb d_MD_setNumber_37 rfl (lv_at hl 4 rfl) ?_
      refine md_ast_numbers F hI ((by rw [e_21]; exact okR _ (vp_lt (md_in12 c_6)))) d_MD_setNumber_38 (fun H locs hI => ?_)
      refine lv_iconst (v := 0) hx hb d_MD_setNumber_39 (by decide) ?_
      have e_21 := e_21.symm; subst e_21
      exact hret hI d_MD_setNumber_40 (rfl) (by (unfold md_setNumber; first | ((rw [if_pos c_6, if_pos c_25]) <;> rfl) | exact ((if_pos c_6).trans ((if_pos c_25).trans (rfl))).symm))
    · refine lv_bipush (v := (-3)) hx hb d_MD_setNumber_28 (by decide) ?_
      have e_21 := e_21.symm; subst e_21
      exact hret hI d_MD_setNumber_30 (rfl) (by (unfold md_setNumber; first | ((rw [if_pos c_6, if_neg (not_not_intro c_25)]) <;> rfl) | exact ((if_pos c_6).trans ((if_neg (not_not_intro c_25)).trans (rfl))).symm))
  · refine lv_iconst (v := (-1)) hx hb d_MD_setNumber_9 (by decide) ?_
    exact hret hI d_MD_setNumber_10 (rfl) (by (unfold md_setNumber; first | ((rw [if_neg (not_not_intro c_6)]) <;> rfl) | exact ((if_neg (not_not_intro c_6)).trans (rfl)).symm))
set_option maxHeartbeats 4000000 in
set_option maxRecDepth 100000 in
theorem c_MD_number (l : Launch) (D : va_G) (cI cZ : ClassId) (ad : Nat → Nat) (u : MS) (t r : Int32) (ok : md_ok u) : ct_I l D cI cZ (md_W cI cZ ad) y_MD_number b_MD_number 3 (some .int) 2 [.ref (ad 0), .int t, .int r] u (md_number u t r) := by
  refine ct_I.mk (by decide) (Nat.le_of_ble_eq_true rfl) ?_
  intro p e s m below meth c A Q ls F hI hl hret
  have F : CallFix p m c b_MD_number 3 s ([.ref (ad 0), .int t, .int r] : List Value).toArray lw_tb R_MD := F
  obtain ⟨hx, hb, hml, hown, hts⟩ := id F
  have hl : lv_has ls 3 [(0, .ref (ad 0)), (1, .int t), (2, .int r)] := hl
  obtain ⟨z, hz, hm, okR, okG, okF⟩ := id ok
  refine lv_aload_n hx hb d_MD_number_0 rfl (lv_at hl 0 rfl) ?_
  refine lv_iload_n hx hb d_MD_number_1 rfl (lv_at hl 1 rfl) ?_
  refine lv_iload_n hx hb d_MD_number_2 rfl (lv_at hl 2 rfl) ?_
  refine md_callP2 F hI (c_MD_isRegister l D cI cZ ad _ _ _) wk_MD_33 rfl ⟨Nat.le_of_ble_eq_true rfl, Nat.le_of_ble_eq_true rfl⟩ hl.1 (Nat.le_of_ble_eq_true rfl) ⟨Nat.zero_le _, Nat.zero_le _⟩ d_MD_number_3 (fun H locs hI => ?_)
  refine lv_if_eq (tgt := 22) hx hb d_MD_number_6 (by decide) (fun c_6 => ?_) (fun c_6 => ?_)
  · refine lv_iconst (v := 0) hx hb d_MD_number_22 (by decide) ?_
    exact hret hI d_MD_number_23 (rfl) (by (unfold md_number; first | ((rw [if_pos c_6]) <;> rfl) | exact ((if_pos c_6).trans (rfl)).symm))
  · refine lv_aload_n hx hb d_MD_number_9 rfl (lv_at hl 0 rfl) ?_
    refine md_get_registers F hI d_MD_number_10 ?_
    refine lv_iconst (v := 4) hx hb d_MD_number_13 (by decide) ?_
    refine lv_iload_n hx hb d_MD_number_14 rfl (lv_at hl 1 rfl) ?_
    refine lv_imul hx hb d_MD_number_15 ?_
    refine lv_iload_n hx hb d_MD_number_16 rfl (lv_at hl 2 rfl) ?_
    refine lv_iadd hx hb d_MD_number_17 ?_
    refine md_ald_registers F hI (md_in12 c_6) d_MD_number_18 ?_
    refine lv_if_ne (tgt := 24) hx hb d_MD_number_19 (by decide) (fun c_19 => ?_) (fun c_19 => ?_)
    · refine lv_aload_n hx hb d_MD_number_24 rfl (lv_at hl 0 rfl) ?_
      refine md_get_numbers F hI d_MD_number_25 ?_
      refine lv_aload_n hx hb d_MD_number_28 rfl (lv_at hl 0 rfl) ?_
      refine md_get_registers F hI d_MD_number_29 ?_
      refine lv_iconst (v := 4) hx hb d_MD_number_32 (by decide) ?_
      refine lv_iload_n hx hb d_MD_number_33 rfl (lv_at hl 1 rfl) ?_
      refine lv_imul hx hb d_MD_number_34 ?_
      refine lv_iload_n hx hb d_MD_number_35 rfl (lv_at hl 2 rfl) ?_
      refine lv_iadd hx hb d_MD_number_36 ?_
      refine md_ald_registers F hI (md_in12 c_6) d_MD_number_37 ?_
      refine md_ald_numbers F hI (okR _ (vp_lt (md_in12 c_6))) d_MD_number_38 ?_
      exact hret hI d_MD_number_39 (rfl) (by (unfold md_number; first | ((rw [if_neg c_6, if_pos c_19]) <;> rfl) | exact ((if_neg c_6).trans ((if_pos c_19).trans (rfl))).symm))
    · refine lv_iconst (v := 0) hx hb d_MD_number_22 (by decide) ?_
      exact hret hI d_MD_number_23 (rfl) (by (unfold md_number; first | ((rw [if_neg c_6, if_neg (not_not_intro c_19)]) <;> rfl) | exact ((if_neg c_6).trans ((if_neg (not_not_intro c_19)).trans (rfl))).symm))
set_option maxHeartbeats 4000000 in
set_option maxRecDepth 100000 in
theorem c_MD_serial (l : Launch) (D : va_G) (cI cZ : ClassId) (ad : Nat → Nat) (u : MS) (t r : Int32) (ok : md_ok u) : ct_I l D cI cZ (md_W cI cZ ad) y_MD_serial b_MD_serial 3 (some .int) 2 [.ref (ad 0), .int t, .int r] u (md_serial u t r) := by
  refine ct_I.mk (by decide) (Nat.le_of_ble_eq_true rfl) ?_
  intro p e s m below meth c A Q ls F hI hl hret
  have F : CallFix p m c b_MD_serial 3 s ([.ref (ad 0), .int t, .int r] : List Value).toArray lw_tb R_MD := F
  obtain ⟨hx, hb, hml, hown, hts⟩ := id F
  have hl : lv_has ls 3 [(0, .ref (ad 0)), (1, .int t), (2, .int r)] := hl
  obtain ⟨z, hz, hm, okR, okG, okF⟩ := id ok
  refine lv_aload_n hx hb d_MD_serial_0 rfl (lv_at hl 0 rfl) ?_
  refine lv_iload_n hx hb d_MD_serial_1 rfl (lv_at hl 1 rfl) ?_
  refine lv_iload_n hx hb d_MD_serial_2 rfl (lv_at hl 2 rfl) ?_
  refine md_callP2 F hI (c_MD_isRegister l D cI cZ ad _ _ _) wk_MD_33 rfl ⟨Nat.le_of_ble_eq_true rfl, Nat.le_of_ble_eq_true rfl⟩ hl.1 (Nat.le_of_ble_eq_true rfl) ⟨Nat.zero_le _, Nat.zero_le _⟩ d_MD_serial_3 (fun H locs hI => ?_)
  refine lv_if_eq (tgt := 22) hx hb d_MD_serial_6 (by decide) (fun c_6 => ?_) (fun c_6 => ?_)
  · refine lv_iconst (v := (-1)) hx hb d_MD_serial_22 (by decide) ?_
    exact hret hI d_MD_serial_23 (rfl) (by (unfold md_serial; first | ((rw [if_pos c_6]) <;> rfl) | exact ((if_pos c_6).trans (rfl)).symm))
  · refine lv_aload_n hx hb d_MD_serial_9 rfl (lv_at hl 0 rfl) ?_
    refine md_get_registers F hI d_MD_serial_10 ?_
    refine lv_iconst (v := 4) hx hb d_MD_serial_13 (by decide) ?_
    refine lv_iload_n hx hb d_MD_serial_14 rfl (lv_at hl 1 rfl) ?_
    refine lv_imul hx hb d_MD_serial_15 ?_
    refine lv_iload_n hx hb d_MD_serial_16 rfl (lv_at hl 2 rfl) ?_
    refine lv_iadd hx hb d_MD_serial_17 ?_
    refine md_ald_registers F hI (md_in12 c_6) d_MD_serial_18 ?_
    refine lv_goto (tgt := 23) hx hb d_MD_serial_19 (by decide) ?_
    exact hret hI d_MD_serial_23 (rfl) (by (unfold md_serial; first | ((rw [if_neg c_6]) <;> rfl) | exact ((if_neg c_6).trans (rfl)).symm))
set_option maxHeartbeats 4000000 in
set_option maxRecDepth 100000 in
theorem c_MD_serialIn (l : Launch) (D : va_G) (cI cZ : ClassId) (ad : Nat → Nat) (u : MS) (t r f : Int32) (ok : md_ok u) : ct_I l D cI cZ (md_W cI cZ ad) y_MD_serialIn b_MD_serialIn 5 (some .int) 2 [.ref (ad 0), .int t, .int r, .int f] u (md_serialIn u t r f) := by
  refine ct_I.mk (by decide) (Nat.le_of_ble_eq_true rfl) ?_
  intro p e s m below meth c A Q ls F hI hl hret
  have F : CallFix p m c b_MD_serialIn 5 s ([.ref (ad 0), .int t, .int r, .int f] : List Value).toArray lw_tb R_MD := F
  obtain ⟨hx, hb, hml, hown, hts⟩ := id F
  have hl : lv_has ls 5 [(0, .ref (ad 0)), (1, .int t), (2, .int r), (3, .int f)] := hl
  obtain ⟨z, hz, hm, okR, okG, okF⟩ := id ok
  refine lv_aload_n hx hb d_MD_serialIn_0 rfl (lv_at hl 0 rfl) ?_
  refine lv_iload_n hx hb d_MD_serialIn_1 rfl (lv_at hl 1 rfl) ?_
  refine lv_iload_n hx hb d_MD_serialIn_2 rfl (lv_at hl 2 rfl) ?_
  refine md_callP2 F hI (c_MD_isRegister l D cI cZ ad _ _ _) wk_MD_33 rfl ⟨Nat.le_of_ble_eq_true rfl, Nat.le_of_ble_eq_true rfl⟩ hl.1 (Nat.le_of_ble_eq_true rfl) ⟨Nat.zero_le _, Nat.zero_le _⟩ d_MD_serialIn_3 (fun H locs hI => ?_)
  refine lv_if_eq (tgt := 17) hx hb d_MD_serialIn_6 (by decide) (fun c_6 => ?_) (fun c_6 => ?_)
  · refine lv_iconst (v := (-1)) hx hb d_MD_serialIn_17 (by decide) ?_
    exact hret hI d_MD_serialIn_18 (rfl) (by (unfold md_serialIn; first | ((rw [if_pos c_6]) <;> rfl) | exact ((if_pos c_6).trans (rfl)).symm))
  · refine lv_aload_n hx hb d_MD_serialIn_9 rfl (lv_at hl 0 rfl) ?_
    refine lv_iload_n hx hb d_MD_serialIn_10 rfl (lv_at hl 3 rfl) ?_
    refine md_callP1 F hI (c_MD_isBit l D cI cZ ad _ _) wk_MD_41 rfl ⟨Nat.le_of_ble_eq_true rfl, Nat.le_of_ble_eq_true rfl⟩ hl.1 (Nat.le_of_ble_eq_true rfl) ⟨Nat.zero_le _, Nat.zero_le _⟩ d_MD_serialIn_11 (fun H locs hI => ?_)
    refine lv_if_ne (tgt := 19) hx hb d_MD_serialIn_14 (by decide) (fun c_14 => ?_) (fun c_14 => ?_)
    · refine lv_aload_n hx hb d_MD_serialIn_19 rfl (lv_at hl 0 rfl) ?_
      refine md_get_registers F hI d_MD_serialIn_20 ?_
      refine lv_iconst (v := 4) hx hb d_MD_serialIn_23 (by decide) ?_
      refine lv_iload_n hx hb d_MD_serialIn_24 rfl (lv_at hl 1 rfl) ?_
      refine lv_imul hx hb d_MD_serialIn_25 ?_
      refine lv_iload_n hx hb d_MD_serialIn_26 rfl (lv_at hl 2 rfl) ?_
      refine lv_iadd hx hb d_MD_serialIn_27 ?_
      refine md_ald_registers F hI (md_in12 c_6) d_MD_serialIn_28 ?_
      refine lv_topi (fun v_29 e_29 => ?_)
      refine lv_istore (lv' := [(4, .int v_29), (0, .ref (ad 0)), (1, .int t), (2, .int r), (3, .int f)]) hx hb d_MD_serialIn_29 hl (by decide) rfl (fun ls hl => ?_)
      refine lv_iload hx hb d_MD_serialIn_31 (lv_at hl 0 rfl) ?_
      refine lv_if_ne (tgt := 41) hx hb d_MD_serialIn_33 (by decide) (fun c_33 => ?_) (fun c_33 => ?_)
      · refine lv_aload_n hx hb d_MD_serialIn_41 rfl (lv_at hl 1 rfl) ?_
        refine md_get_field F hI d_MD_serialIn_42 ?_
        refine lv_iconst (v := 2) hx hb d_MD_serialIn_45 (by decide) ?_
        refine lv_iload hx hb d_MD_serialIn_46 (lv_at hl 0 rfl) ?_
        refine lv_imul hx hb d_MD_serialIn_48 ?_
        refine lv_iload_n hx hb d_MD_serialIn_49 rfl (lv_at hl 4 rfl) ?_
        refine lv_iadd hx hb d_MD_serialIn_50 ?_
        refine md_ald_field F hI (md_inf (by rw [e_29]; exact okR _ (vp_lt (md_in12 c_6))) c_14) d_MD_serialIn_51 ?_
        have e_29 := e_29.symm; subst e_29
        exact hret hI d_MD_serialIn_52 (rfl) (by (unfold md_serialIn; first | ((rw [if_neg c_6, if_pos c_14, if_pos c_33]) <;> rfl) | exact ((if_neg c_6).trans ((if_pos c_14).trans ((if_pos c_33).trans (rfl)))).symm))
      · refine lv_bipush (v := (-3)) hx hb d_MD_serialIn_36 (by decide) ?_
        refine lv_goto (tgt := 52) hx hb d_MD_serialIn_38 (by decide) ?_
        have e_29 := e_29.symm; subst e_29
        exact hret hI d_MD_serialIn_52 (rfl) (by (unfold md_serialIn; first | ((rw [if_neg c_6, if_pos c_14, if_neg (not_not_intro c_33)]) <;> rfl) | exact ((if_neg c_6).trans ((if_pos c_14).trans ((if_neg (not_not_intro c_33)).trans (rfl)))).symm))
    · refine lv_iconst (v := (-1)) hx hb d_MD_serialIn_17 (by decide) ?_
      exact hret hI d_MD_serialIn_18 (rfl) (by (unfold md_serialIn; first | ((rw [if_neg c_6, if_neg (not_not_intro c_14)]) <;> rfl) | exact ((if_neg c_6).trans ((if_neg (not_not_intro c_14)).trans (rfl))).symm))
set_option maxHeartbeats 4000000 in
set_option maxRecDepth 100000 in
theorem c_MD_serialOf (l : Launch) (D : va_G) (cI cZ : ClassId) (ad : Nat → Nat) (u : MS) (g : Int32) (ok : md_ok u) : ct_I l D cI cZ (md_W cI cZ ad) y_MD_serialOf b_MD_serialOf 2 (some .int) 2 [.ref (ad 0), .int g] u (md_serialOf u g) := by
  refine ct_I.mk (by decide) (Nat.le_of_ble_eq_true rfl) ?_
  intro p e s m below meth c A Q ls F hI hl hret
  have F : CallFix p m c b_MD_serialOf 2 s ([.ref (ad 0), .int g] : List Value).toArray lw_tb R_MD := F
  obtain ⟨hx, hb, hml, hown, hts⟩ := id F
  have hl : lv_has ls 2 [(0, .ref (ad 0)), (1, .int g)] := hl
  obtain ⟨z, hz, hm, okR, okG, okF⟩ := id ok
  refine lv_aload_n hx hb d_MD_serialOf_0 rfl (lv_at hl 0 rfl) ?_
  refine lv_iload_n hx hb d_MD_serialOf_1 rfl (lv_at hl 1 rfl) ?_
  refine md_callP1 F hI (c_MD_isBit l D cI cZ ad _ _) wk_MD_41 rfl ⟨Nat.le_of_ble_eq_true rfl, Nat.le_of_ble_eq_true rfl⟩ hl.1 (Nat.le_of_ble_eq_true rfl) ⟨Nat.zero_le _, Nat.zero_le _⟩ d_MD_serialOf_2 (fun H locs hI => ?_)
  refine lv_if_eq (tgt := 17) hx hb d_MD_serialOf_5 (by decide) (fun c_5 => ?_) (fun c_5 => ?_)
  · refine lv_iconst (v := (-1)) hx hb d_MD_serialOf_17 (by decide) ?_
    exact hret hI d_MD_serialOf_18 (rfl) (by (unfold md_serialOf; first | ((rw [if_pos c_5]) <;> rfl) | exact ((if_pos c_5).trans (rfl)).symm))
  · refine lv_aload_n hx hb d_MD_serialOf_8 rfl (lv_at hl 0 rfl) ?_
    refine md_get_globals F hI d_MD_serialOf_9 ?_
    refine lv_iload_n hx hb d_MD_serialOf_12 rfl (lv_at hl 1 rfl) ?_
    refine md_ald_globals F hI (md_in2 c_5) d_MD_serialOf_13 ?_
    refine lv_goto (tgt := 18) hx hb d_MD_serialOf_14 (by decide) ?_
    exact hret hI d_MD_serialOf_18 (rfl) (by (unfold md_serialOf; first | ((rw [if_neg c_5]) <;> rfl) | exact ((if_neg c_5).trans (rfl)).symm))
end
section
-- constructors and the small static method, printed by ctor.py
def cz_f : Nat → Int32 := fun _ => 0
def th_clamp (n : Int32) : Int32 := if 4 ≤ n then (if n ≤ 16 then n else 16) else 4
def th_fl (f : Nat → Int32) : Nat → Nat → Int32
  | 0 => f
  | k + 1 => upd (th_fl f k) k (-1)
def th_start (n : Int32) : TS := (th_clamp n, cz_f, cz_f, cz_f, cz_f, cz_f, th_fl cz_f 12, upd (upd cz_f (0 : Int32).toNatClampNeg (-1)) (1 : Int32).toNatClampNeg (-1), cz_f, 0, 0, 1, 0, 0)
def md_start (n : Int32) : MS := (cz_f, cz_f, cz_f, cz_f, cz_f, 0, th_clamp n)
def ct_C (l : Launch) (D : va_G) (cI cZ : ClassId) (y : MethodName) (b : ByteArray) (nL : Nat) (rm : Room) (av : List Value) (ws : va_W) (post : (Nat → Nat) → Prop) (wf : (Nat → Nat) → va_W) (mc ms : Nat) : Prop :=
  ∀ sz : Nat, Met l y (Cond.code y b nL none :: lw_tb) rm (va_Pc av (fun U => U.heap.size = sz ∧ va_P D classes ws U.heap ∧ va_K D classes (cw_tys cI cZ) U ∧ va_D (fun _ => True) ws))
    (va_Qv (S := Nat → Nat) post (fun ad t => va_P D classes (wf ad) t.heap ∧ va_K D classes (cw_tys cI cZ) t ∧ va_D (va_A ws sz) (wf ad)) (va_A ws sz)) mc ms (va_A ws sz)
theorem ct_C.mk {l : Launch} {D : va_G} {cI cZ : ClassId} {y : MethodName} {b : ByteArray} {nL : Nat} {rm : Room} {av : List Value} {ws : va_W} {post : (Nat → Nat) → Prop} {wf : (Nat → Nat) → va_W} {mc ms : Nat}
    (hy : plainName y.cls = true) (hyn : y.name = "<init>") (hlen : (lg_sl av).length ≤ nL)
    (body : ∀ (p : Program) (e : Env) (s : State) (m : MethodId) (below : List Frame) (meth : Method) (c : Code) (A : Nat → Prop) (Q : State → Prop) (ls : Array Slot),
      CallFix p m c b nL s av.toArray lw_tb y.cls → cw_I D cI cZ A s.heap s ws s.heap [] → lv_has ls nL (lv_args 0 av) → meth.name = "<init>" →
      (∀ {ad : Nat → Nat} {H : Heap} {locs : List Loc} {pc : Nat} {ls : Array Slot}, cw_I D cI cZ A s.heap s (wf ad) H locs → decode b pc = .ok (.return_, 1) → post ad → W p l e rm s m av.toArray below meth c H locs mc ms Q (F0 m pc ls [])) →
      W p l e rm s m av.toArray below meth c s.heap [] 0 0 Q (F0 m 0 ls [])) :
    ct_C l D cI cZ y b nL rm av ws post wf mc ms := by
  intro sz
  refine Met.ofW (cc := b) (maxL := nL) (ret := none) hy rfl ?_
  intro p e s m args below meth c s₁ B hml hv
  obtain ⟨rfl, hsz, hP, hK, hD0⟩ := hv
  subst hsz
  have hts := atoms_spec (ws := Cond.code y b nL none :: lw_tb) B.pre
  have hown : s.vm.findClass y.cls = some m.cls := findClass_of_methodNamed B.named
  have hin : meth.name = y.name := (name_of_methodNamed B.named B.method).1
  have hlocks := B.notSynchronized
  have hr := B.returns
  have hl := lv_entry av (n := nL) hlen
  rw [lg_entry_eq]
  refine body p e s m below meth c (va_A ws s.heap.size) _ _ ⟨B.exec, B.bytes, hml, hown, fun w hw => hts w (List.mem_cons_of_mem _ hw)⟩ ⟨hK, hP, hD0.self, va_S.rf, fun q h => Or.inr h⟩ hl (hin.trans hyn) ?_
  intro ad H locs pc ls hI hd hz
  obtain ⟨hK', hP', hD', hS, hA⟩ := hI
  exact W.vret B.exec B.bytes hr (fun t ht hW => ⟨⟨ad, rfl, hz, by rw [ht]; exact hP', va_K.moved hW.alike hK', hD'⟩, hS.F ht⟩) hS.2.2 hd
section
variable {p : Program} {l : Launch} {e : Env} {R : Room} {s : State} {m : MethodId} {args : Array Value} {below : List Frame} {meth : Method} {c : Code} {H : Heap} {locs : List Loc} {cells slots : Nat} {Q : State → Prop} {cc : ByteArray} {pc nL : Nat} {ls : Array Slot} {rest : List Value} {D : va_G} {A : Nat → Prop} {H0 : Heap} {cI cZ : ClassId} {own : String}
theorem cw_newi (F : CallFix p m c cc nL s args lw_tb own) {ws : va_W} (hI : cw_I D cI cZ A H0 s ws H locs) {n : Int32} {N : Nat} (hn : ¬ n < 0) (hN : n.toNatClampNeg = N) (hby : N * componentBytes .int ≤ 536870912) (hcells : cells + 1 ≤ R.cells) (hslots : slots + N ≤ R.slots) (hdg : decode cc pc = .ok (.newarray .int, 2))
    (kk : ∀ (q : Nat) (H1 : Heap), cw_I D cI cZ A H0 s (ws ++ [(q, .inl (cI, N, .inl cz_f))]) H1 locs → W p l e R s m args below meth c H1 locs (cells + 1) (slots + N) Q (F0 m (pc + 2) ls (.ref q :: rest))) : W p l e R s m args below meth c H locs cells slots Q (F0 m pc ls (.int n :: rest)) := by
  obtain ⟨hK, hP, hD, hS, hA⟩ := hI
  refine va_newa (atype := .int) (ty := .int) (a0 := (N, .inl cz_f)) F.1 F.2.1 (F.2.2.2.2 _ ka_int) rfl hK hP hD hS hA (fun _ => rfl) hn hN hby hcells hslots hdg (fun q cA H1 hK1 hP1 hD1 hS1 => ?_)
  have e1 : s.vm.findClass ("[" ++ FieldType.int.toString) = some cA := (hK1.2 2 (cA, .int) rfl).2
  have e2 : s.vm.findClass ("[" ++ FieldType.int.toString) = some cI := (hK.2 0 (cI, .int) rfl).2
  have e3 : cA = cI := Option.some.inj (e1.symm.trans e2)
  subst e3
  exact kk q H1 ⟨hK, hP1, hD1, hS1, hA⟩
theorem cw_newz (F : CallFix p m c cc nL s args lw_tb own) {ws : va_W} (hI : cw_I D cI cZ A H0 s ws H locs) {n : Int32} {N : Nat} (hn : ¬ n < 0) (hN : n.toNatClampNeg = N) (hby : N * componentBytes .boolean ≤ 536870912) (hcells : cells + 1 ≤ R.cells) (hslots : slots + N ≤ R.slots) (hdg : decode cc pc = .ok (.newarray .boolean, 2))
    (kk : ∀ (q : Nat) (H1 : Heap), cw_I D cI cZ A H0 s (ws ++ [(q, .inl (cZ, N, .inl cz_f))]) H1 locs → W p l e R s m args below meth c H1 locs (cells + 1) (slots + N) Q (F0 m (pc + 2) ls (.ref q :: rest))) : W p l e R s m args below meth c H locs cells slots Q (F0 m pc ls (.int n :: rest)) := by
  obtain ⟨hK, hP, hD, hS, hA⟩ := hI
  refine va_newa (atype := .boolean) (ty := .boolean) (a0 := (N, .inl cz_f)) F.1 F.2.1 (F.2.2.2.2 _ ka_boolean) rfl hK hP hD hS hA (fun _ => rfl) hn hN hby hcells hslots hdg (fun q cA H1 hK1 hP1 hD1 hS1 => ?_)
  have e1 : s.vm.findClass ("[" ++ FieldType.boolean.toString) = some cA := (hK1.2 2 (cA, .boolean) rfl).2
  have e2 : s.vm.findClass ("[" ++ FieldType.boolean.toString) = some cZ := (hK.2 1 (cZ, .boolean) rfl).2
  have e3 : cA = cZ := Option.some.inj (e1.symm.trans e2)
  subst e3
  exact kk q H1 ⟨hK, hP1, hD1, hS1, hA⟩
theorem cw_putF (F : CallFix p m c cc nL s args lw_tb own) {ws ws' : va_W} (hI : cw_I D cI cZ A H0 s ws H locs) (q0 : Nat) {C : String} {T : u_T} {N ci index a : Nat} {fs : List Value} (he : ws[q0]? = some (a, .inr (ci, fs))) (hc : classes[ci]? = some (C, T, N)) (hin : ∀ w ∈ u_ws C T N, w ∈ lw_tb) (ty0 : Nat → FieldType) (hty : ∀ k, k < N → parseFieldDescriptor (T k).2.2.1 = some (ty0 k)) (hnm : ∀ a, a < N → ∀ b, b < N → a ≠ b → (T a).2.1 ≠ (T b).2.1) (k : Nat) (hk : k < N) (hlk : Cond.fieldLink own index own (T k).2.1 (T k).2.2.1 ∈ lw_tb) (hself : (T k).1 = own) (hfin : (T k).2.2.2 = true) (hin2 : meth.name = "<init>") {v : Value} {ty : FieldType} (hd : parseFieldDescriptor (T k).2.2.1 = some ty) (hn : narrow ty v = v) (hfit : fits ty v = true) (hl : k < fs.length) (hws : ws.set q0 (a, .inr (ci, fs.set k v)) = ws') (hdg : decode cc pc = .ok (.putfield index, 3))
    (kk : ∀ (H1 : Heap) (locs1 : List Loc), cw_I D cI cZ A H0 s ws' H1 locs1 → W p l e R s m args below meth c H1 locs1 cells slots Q (F0 m (pc + 3) ls rest)) : W p l e R s m args below meth c H locs cells slots Q (F0 m pc ls (v :: .ref a :: rest)) := by
  subst hws
  exact va_putF F.1 F.2.1 F.2.2.2.2 hin ty0 hty hnm F.2.2.2.1 hI.1 hI.2.1 hI.2.2.1 hI.2.2.2.1 q0 he hc k hk (F.2.2.2.2 _ hlk) (by rw [hself]; exact fun _ h => h) hfin hin2 hself hd hn hfit hl hdg (fun H1 locs1 hP hD hS => kk H1 locs1 ⟨hI.1, hP, hD, hS, hI.2.2.2.2⟩)
end
set_option maxHeartbeats 4000000 in
set_option maxRecDepth 100000 in
theorem c_TH_init (l : Launch) (D : va_G) (cI cZ : ClassId) (h0 : Nat) (n : Int32) : ct_C l D cI cZ y_TH_init b_TH_init 4 { frames := 1, cells := 8, slots := 97, locals := 12 } [.ref h0, .int n] [(h0, .inr (0, [.int 0, .null, .null, .null, .null, .null, .null, .null, .null, .int 0, .int 0, .int 0, .int 0, .int 0]))] (fun ad => ad 0 = h0) (fun ad => th_W cI cZ ad (th_start n)) 8 97 := by
  refine ct_C.mk (by decide) rfl (Nat.le_of_ble_eq_true rfl) ?_
  intro p e s m below meth c A Q ls F hI hl hin hret
  have F : CallFix p m c b_TH_init 4 s ([.ref h0, .int n] : List Value).toArray lw_tb R_TH := F
  obtain ⟨hx, hb, hml, hown, hts⟩ := id F
  have hl : lv_has ls 4 [(0, .ref h0), (1, .int n)] := hl
  refine lv_aload_n hx hb d_TH_init_0 rfl (lv_at hl 0 rfl) ?_
  refine W.objInit hx hb hown (hts _ kl_TH_1) (hts _ ki_OB_init) (hts _ kc_OB_init) rfl (by rw [hml]; exact hl.1) rfl d_TH_init_1 (Nat.le_of_ble_eq_true rfl) (Nat.le_of_ble_eq_true rfl) ?_
  refine W.eq (g2 := F0 m 4 ls []) rfl ?_
  refine lv_aload_n hx hb d_TH_init_4 rfl (lv_at hl 0 rfl) ?_
  refine lv_bipush (v := 16) hx hb d_TH_init_5 (by decide) ?_
  refine cw_newi F hI (N := 16) (by decide) (by decide) (by decide) (Nat.le_of_ble_eq_true rfl) (Nat.le_of_ble_eq_true rfl) d_TH_init_7 (fun q1 H hI => ?_)
  refine cw_putF F hI 0 (ws' := [(h0, .inr (0, [.int 0, .ref q1, .null, .null, .null, .null, .null, .null, .null, .int 0, .int 0, .int 0, .int 0, .int 0])), (q1, .inl (cI, 16, .inl cz_f))]) rfl rfl i_TH t_TH t_TH_ok n_TH 1 (by decide) kf_TH_7 rfl rfl hin (ty := .array .int) (by decide +kernel) rfl rfl (Nat.le_of_ble_eq_true rfl) rfl d_TH_init_9 (fun H locs hI => ?_)
  refine lv_aload_n hx hb d_TH_init_12 rfl (lv_at hl 0 rfl) ?_
  refine lv_bipush (v := 16) hx hb d_TH_init_13 (by decide) ?_
  refine cw_newi F hI (N := 16) (by decide) (by decide) (by decide) (Nat.le_of_ble_eq_true rfl) (Nat.le_of_ble_eq_true rfl) d_TH_init_15 (fun q2 H hI => ?_)
  refine cw_putF F hI 0 (ws' := [(h0, .inr (0, [.int 0, .ref q1, .ref q2, .null, .null, .null, .null, .null, .null, .int 0, .int 0, .int 0, .int 0, .int 0])), (q1, .inl (cI, 16, .inl cz_f)), (q2, .inl (cI, 16, .inl cz_f))]) rfl rfl i_TH t_TH t_TH_ok n_TH 2 (by decide) kf_TH_13 rfl rfl hin (ty := .array .int) (by decide +kernel) rfl rfl (Nat.le_of_ble_eq_true rfl) rfl d_TH_init_17 (fun H locs hI => ?_)
  refine lv_aload_n hx hb d_TH_init_20 rfl (lv_at hl 0 rfl) ?_
  refine lv_bipush (v := 16) hx hb d_TH_init_21 (by decide) ?_
  refine cw_newi F hI (N := 16) (by decide) (by decide) (by decide) (Nat.le_of_ble_eq_true rfl) (Nat.le_of_ble_eq_true rfl) d_TH_init_23 (fun q3 H hI => ?_)
  refine cw_putF F hI 0 (ws' := [(h0, .inr (0, [.int 0, .ref q1, .ref q2, .ref q3, .null, .null, .null, .null, .null, .int 0, .int 0, .int 0, .int 0, .int 0])), (q1, .inl (cI, 16, .inl cz_f)), (q2, .inl (cI, 16, .inl cz_f)), (q3, .inl (cI, 16, .inl cz_f))]) rfl rfl i_TH t_TH t_TH_ok n_TH 3 (by decide) kf_TH_16 rfl rfl hin (ty := .array .int) (by decide +kernel) rfl rfl (Nat.le_of_ble_eq_true rfl) rfl d_TH_init_25 (fun H locs hI => ?_)
  refine lv_aload_n hx hb d_TH_init_28 rfl (lv_at hl 0 rfl) ?_
  refine lv_bipush (v := 16) hx hb d_TH_init_29 (by decide) ?_
  refine cw_newi F hI (N := 16) (by decide) (by decide) (by decide) (Nat.le_of_ble_eq_true rfl) (Nat.le_of_ble_eq_true rfl) d_TH_init_31 (fun q4 H hI => ?_)
  refine cw_putF F hI 0 (ws' := [(h0, .inr (0, [.int 0, .ref q1, .ref q2, .ref q3, .ref q4, .null, .null, .null, .null, .int 0, .int 0, .int 0, .int 0, .int 0])), (q1, .inl (cI, 16, .inl cz_f)), (q2, .inl (cI, 16, .inl cz_f)), (q3, .inl (cI, 16, .inl cz_f)), (q4, .inl (cI, 16, .inl cz_f))]) rfl rfl i_TH t_TH t_TH_ok n_TH 4 (by decide) kf_TH_19 rfl rfl hin (ty := .array .int) (by decide +kernel) rfl rfl (Nat.le_of_ble_eq_true rfl) rfl d_TH_init_33 (fun H locs hI => ?_)
  refine lv_aload_n hx hb d_TH_init_36 rfl (lv_at hl 0 rfl) ?_
  refine lv_bipush (v := 16) hx hb d_TH_init_37 (by decide) ?_
  refine cw_newi F hI (N := 16) (by decide) (by decide) (by decide) (Nat.le_of_ble_eq_true rfl) (Nat.le_of_ble_eq_true rfl) d_TH_init_39 (fun q5 H hI => ?_)
  refine cw_putF F hI 0 (ws' := [(h0, .inr (0, [.int 0, .ref q1, .ref q2, .ref q3, .ref q4, .ref q5, .null, .null, .null, .int 0, .int 0, .int 0, .int 0, .int 0])), (q1, .inl (cI, 16, .inl cz_f)), (q2, .inl (cI, 16, .inl cz_f)), (q3, .inl (cI, 16, .inl cz_f)), (q4, .inl (cI, 16, .inl cz_f)), (q5, .inl (cI, 16, .inl cz_f))]) rfl rfl i_TH t_TH t_TH_ok n_TH 5 (by decide) kf_TH_22 rfl rfl hin (ty := .array .int) (by decide +kernel) rfl rfl (Nat.le_of_ble_eq_true rfl) rfl d_TH_init_41 (fun H locs hI => ?_)
  refine lv_aload_n hx hb d_TH_init_44 rfl (lv_at hl 0 rfl) ?_
  refine lv_bipush (v := 12) hx hb d_TH_init_45 (by decide) ?_
  refine cw_newi F hI (N := 12) (by decide) (by decide) (by decide) (Nat.le_of_ble_eq_true rfl) (Nat.le_of_ble_eq_true rfl) d_TH_init_47 (fun q6 H hI => ?_)
  refine cw_putF F hI 0 (ws' := [(h0, .inr (0, [.int 0, .ref q1, .ref q2, .ref q3, .ref q4, .ref q5, .ref q6, .null, .null, .int 0, .int 0, .int 0, .int 0, .int 0])), (q1, .inl (cI, 16, .inl cz_f)), (q2, .inl (cI, 16, .inl cz_f)), (q3, .inl (cI, 16, .inl cz_f)), (q4, .inl (cI, 16, .inl cz_f)), (q5, .inl (cI, 16, .inl cz_f)), (q6, .inl (cI, 12, .inl cz_f))]) rfl rfl i_TH t_TH t_TH_ok n_TH 6 (by decide) kf_TH_25 rfl rfl hin (ty := .array .int) (by decide +kernel) rfl rfl (Nat.le_of_ble_eq_true rfl) rfl d_TH_init_49 (fun H locs hI => ?_)
  refine lv_aload_n hx hb d_TH_init_52 rfl (lv_at hl 0 rfl) ?_
  refine lv_iconst (v := 2) hx hb d_TH_init_53 (by decide) ?_
  refine cw_newi F hI (N := 2) (by decide) (by decide) (by decide) (Nat.le_of_ble_eq_true rfl) (Nat.le_of_ble_eq_true rfl) d_TH_init_54 (fun q7 H hI => ?_)
  refine cw_putF F hI 0 (ws' := [(h0, .inr (0, [.int 0, .ref q1, .ref q2, .ref q3, .ref q4, .ref q5, .ref q6, .ref q7, .null, .int 0, .int 0, .int 0, .int 0, .int 0])), (q1, .inl (cI, 16, .inl cz_f)), (q2, .inl (cI, 16, .inl cz_f)), (q3, .inl (cI, 16, .inl cz_f)), (q4, .inl (cI, 16, .inl cz_f)), (q5, .inl (cI, 16, .inl cz_f)), (q6, .inl (cI, 12, .inl cz_f)), (q7, .inl (cI, 2, .inl cz_f))]) rfl rfl i_TH t_TH t_TH_ok n_TH 7 (by decide) kf_TH_28 rfl rfl hin (ty := .array .int) (by decide +kernel) rfl rfl (Nat.le_of_ble_eq_true rfl) rfl d_TH_init_56 (fun H locs hI => ?_)
  refine lv_aload_n hx hb d_TH_init_59 rfl (lv_at hl 0 rfl) ?_
  refine lv_iconst (v := 3) hx hb d_TH_init_60 (by decide) ?_
  refine cw_newi F hI (N := 3) (by decide) (by decide) (by decide) (Nat.le_of_ble_eq_true rfl) (Nat.le_of_ble_eq_true rfl) d_TH_init_61 (fun q8 H hI => ?_)
  refine cw_putF F hI 0 (ws' := [(h0, .inr (0, [.int 0, .ref q1, .ref q2, .ref q3, .ref q4, .ref q5, .ref q6, .ref q7, .ref q8, .int 0, .int 0, .int 0, .int 0, .int 0])), (q1, .inl (cI, 16, .inl cz_f)), (q2, .inl (cI, 16, .inl cz_f)), (q3, .inl (cI, 16, .inl cz_f)), (q4, .inl (cI, 16, .inl cz_f)), (q5, .inl (cI, 16, .inl cz_f)), (q6, .inl (cI, 12, .inl cz_f)), (q7, .inl (cI, 2, .inl cz_f)), (q8, .inl (cI, 3, .inl cz_f))]) rfl rfl i_TH t_TH t_TH_ok n_TH 8 (by decide) kf_TH_31 rfl rfl hin (ty := .array .int) (by decide +kernel) rfl rfl (Nat.le_of_ble_eq_true rfl) rfl d_TH_init_63 (fun H locs hI => ?_)
  have k115 : ∀ (H : Heap) (locs : List Loc) (ls : Array Slot), cw_I D cI cZ A s.heap s (th_W cI cZ (fun k => [h0, q1, q2, q3, q4, q5, q6, q7, q8].getD k 0) (th_clamp n, cz_f, cz_f, cz_f, cz_f, cz_f, th_fl cz_f 12, cz_f, cz_f, 0, 0, 1, 0, 0)) H locs → lv_has ls 4 [(0, .ref h0)] → W p l e { frames := 1, cells := 8, slots := 97, locals := 12 } s m ([.ref h0, .int n] : List Value).toArray below meth c H locs 8 97 Q (F0 m 115 ls []) := by
    intro H locs ls hI hl
    refine lv_aload_n hx hb d_TH_init_115 rfl (lv_at hl 0 rfl) ?_
    refine th_get_global F hI d_TH_init_116 ?_
    refine lv_iconst (v := 0) hx hb d_TH_init_119 (by decide) ?_
    refine lv_iconst (v := (-1)) hx hb d_TH_init_120 (by decide) ?_
    refine th_ast_global F hI (by unfold vp_in; decide) d_TH_init_121 (fun H locs hI => ?_)
    refine lv_aload_n hx hb d_TH_init_122 rfl (lv_at hl 0 rfl) ?_
    refine th_get_global F hI d_TH_init_123 ?_
    refine lv_iconst (v := 1) hx hb d_TH_init_126 (by decide) ?_
    refine lv_iconst (v := (-1)) hx hb d_TH_init_127 (by decide) ?_
    refine th_ast_global F hI (by unfold vp_in; decide) d_TH_init_128 (fun H locs hI => ?_)
    exact hret hI d_TH_init_129 (rfl)
  have lp : ∀ (k i : Nat) (H : Heap) (locs : List Loc) (ls : Array Slot), i + k = 12 → cw_I D cI cZ A s.heap s (th_W cI cZ (fun k => [h0, q1, q2, q3, q4, q5, q6, q7, q8].getD k 0) (th_clamp n, cz_f, cz_f, cz_f, cz_f, cz_f, th_fl cz_f i, cz_f, cz_f, 0, 0, 1, 0, 0)) H locs → lv_has ls 4 [(3, .int (nI i)), (0, .ref h0)] → W p l e { frames := 1, cells := 8, slots := 97, locals := 12 } s m ([.ref h0, .int n] : List Value).toArray below meth c H locs 8 97 Q (F0 m 96 ls []) := by
    intro k
    induction k with
    | zero =>
      intro i H locs ls hi hI hl
      have hi : i = 12 := by omega
      subst hi
      refine lv_iload_n hx hb d_TH_init_96 rfl (lv_at hl 0 rfl) ?_
      refine lv_bipush (v := 12) hx hb d_TH_init_97 (by decide) ?_
      refine lv_icmp_ge (tgt := 115) hx hb d_TH_init_99 (by decide) (fun c_99 => ?_) (fun c_99 => ?_)
      · exact k115 H locs ls hI (lv_sub hl [1] rfl)
      · exact absurd (by decide) c_99
    | succ k ih =>
      intro i H locs ls hi hI hl
      refine lv_iload_n hx hb d_TH_init_96 rfl (lv_at hl 0 rfl) ?_
      refine lv_bipush (v := 12) hx hb d_TH_init_97 (by decide) ?_
      refine lv_icmp_ge (tgt := 115) hx hb d_TH_init_99 (by decide) (fun c_99 => ?_) (fun c_99 => ?_)
      · exact absurd c_99 (nI_ge (a := i) (b := 12) (by omega) (by decide))
      · refine lv_aload_n hx hb d_TH_init_102 rfl (lv_at hl 1 rfl) ?_
        refine th_get_reg F hI d_TH_init_103 ?_
        refine lv_iload_n hx hb d_TH_init_106 rfl (lv_at hl 0 rfl) ?_
        refine lv_iconst (v := (-1)) hx hb d_TH_init_107 (by decide) ?_
        refine th_ast_reg F hI (vp_in_nI (by omega) (by omega)) d_TH_init_108 (fun H locs hI => ?_)
        obtain ⟨v_109, e_109⟩ : ∃ y : Int32, y = (nI i) + 1 := ⟨_, rfl⟩
        refine lv_iinc (v := v_109) (lv' := [(3, .int v_109), (0, .ref h0)]) hx hb d_TH_init_109 hl (k := 0) rfl (by rw [e_109]; rfl) (by decide) rfl (fun ls hl => ?_)
        refine lv_goto (tgt := 96) hx hb d_TH_init_112 (by decide) ?_
        rw [nI_1] at e_109
        have e_109 := e_109.symm; subst e_109
        rw [nI_clamp (by omega)] at hI
        exact ih (i + 1) H locs ls (by omega) hI hl
  have k84 : ∀ (v : Int32) (ls : Array Slot), v = th_clamp n → lv_has ls 4 [(2, .int v), (0, .ref h0)] → W p l e { frames := 1, cells := 8, slots := 97, locals := 12 } s m ([.ref h0, .int n] : List Value).toArray below meth c H locs 8 97 Q (F0 m 84 ls []) := by
    intro v ls hv hl
    refine lv_aload_n hx hb d_TH_init_84 rfl (lv_at hl 1 rfl) ?_
    refine lv_iload_n hx hb d_TH_init_85 rfl (lv_at hl 0 rfl) ?_
    refine cw_putF F hI 0 (ws' := [(h0, .inr (0, [.int v, .ref q1, .ref q2, .ref q3, .ref q4, .ref q5, .ref q6, .ref q7, .ref q8, .int 0, .int 0, .int 0, .int 0, .int 0])), (q1, .inl (cI, 16, .inl cz_f)), (q2, .inl (cI, 16, .inl cz_f)), (q3, .inl (cI, 16, .inl cz_f)), (q4, .inl (cI, 16, .inl cz_f)), (q5, .inl (cI, 16, .inl cz_f)), (q6, .inl (cI, 12, .inl cz_f)), (q7, .inl (cI, 2, .inl cz_f)), (q8, .inl (cI, 3, .inl cz_f))]) rfl rfl i_TH t_TH t_TH_ok n_TH 0 (by decide) kf_TH_34 rfl rfl hin (ty := .int) (by decide +kernel) rfl rfl (Nat.le_of_ble_eq_true rfl) rfl d_TH_init_86 (fun H locs hI => ?_)
    have hI : cw_I D cI cZ A s.heap s (th_W cI cZ (fun k => [h0, q1, q2, q3, q4, q5, q6, q7, q8].getD k 0) (v, cz_f, cz_f, cz_f, cz_f, cz_f, cz_f, cz_f, cz_f, 0, 0, 0, 0, 0)) H locs := hI
    subst hv
    refine lv_aload_n hx hb d_TH_init_89 rfl (lv_at hl 1 rfl) ?_
    refine lv_iconst (v := 1) hx hb d_TH_init_90 (by decide) ?_
    refine th_put_black F hI d_TH_init_91 (fun H locs hI => ?_)
    refine lv_iconst (v := 0) hx hb d_TH_init_94 (by decide) ?_
    refine lv_topi (fun v_95 e_95 => ?_)
    refine lv_istore_n (lv' := [(3, .int v_95), (2, .int (th_clamp n)), (0, .ref h0)]) hx hb d_TH_init_95 rfl hl (by decide) rfl (fun ls hl => ?_)
    have e_95 := e_95.symm; subst e_95
    exact lp 12 0 H locs ls rfl hI (lv_sub hl [0, 2] rfl)
  refine lv_iload_n hx hb d_TH_init_66 rfl (lv_at hl 1 rfl) ?_
  refine lv_topi (fun v_67 e_67 => ?_)
  refine lv_istore_n (lv' := [(2, .int v_67), (0, .ref h0), (1, .int n)]) hx hb d_TH_init_67 rfl hl (by decide) rfl (fun ls hl => ?_)
  refine lv_iload_n hx hb d_TH_init_68 rfl (lv_at hl 0 rfl) ?_
  refine lv_iconst (v := 4) hx hb d_TH_init_69 (by decide) ?_
  refine lv_icmp_ge (tgt := 75) hx hb d_TH_init_70 (by decide) (fun c_70 => ?_) (fun c_70 => ?_)
  · refine lv_iload_n hx hb d_TH_init_75 rfl (lv_at hl 0 rfl) ?_
    refine lv_bipush (v := 16) hx hb d_TH_init_76 (by decide) ?_
    refine lv_icmp_le (tgt := 84) hx hb d_TH_init_78 (by decide) (fun c_78 => ?_) (fun c_78 => ?_)
    · have e_67 := e_67.symm; subst e_67
      exact k84 _ ls (by unfold th_clamp; rw [if_pos c_70, if_pos c_78]) (lv_sub hl [0, 1] rfl)
    · refine lv_bipush (v := 16) hx hb d_TH_init_81 (by decide) ?_
      refine lv_topi (fun v_83 e_83 => ?_)
      refine lv_istore_n (lv' := [(2, .int v_83), (0, .ref h0), (1, .int n)]) hx hb d_TH_init_83 rfl hl (by decide) rfl (fun ls hl => ?_)
      have e_83 := e_83.symm; subst e_83
      exact k84 _ ls (by rw [e_67] at c_70 c_78; unfold th_clamp; rw [if_pos c_70, if_neg c_78]) (lv_sub hl [0, 1] rfl)
  · refine lv_iconst (v := 4) hx hb d_TH_init_73 (by decide) ?_
    refine lv_topi (fun v_74 e_74 => ?_)
    refine lv_istore_n (lv' := [(2, .int v_74), (0, .ref h0), (1, .int n)]) hx hb d_TH_init_74 rfl hl (by decide) rfl (fun ls hl => ?_)
    refine lv_iload_n hx hb d_TH_init_75 rfl (lv_at hl 0 rfl) ?_
    refine lv_bipush (v := 16) hx hb d_TH_init_76 (by decide) ?_
    refine lv_icmp_le (tgt := 84) hx hb d_TH_init_78 (by decide) (fun c_78 => ?_) (fun c_78 => ?_)
    · have e_74 := e_74.symm; subst e_74
      exact k84 _ ls (by rw [e_67] at c_70; unfold th_clamp; rw [if_neg c_70]) (lv_sub hl [0, 1] rfl)
    · refine lv_bipush (v := 16) hx hb d_TH_init_81 (by decide) ?_
      refine lv_topi (fun v_83 e_83 => ?_)
      refine lv_istore_n (lv' := [(2, .int v_83), (0, .ref h0), (1, .int n)]) hx hb d_TH_init_83 rfl hl (by decide) rfl (fun ls hl => ?_)
      have e_74 := e_74.symm; subst e_74
      exact absurd (by decide) c_78
set_option maxHeartbeats 4000000 in
set_option maxRecDepth 100000 in
theorem c_MD_init (l : Launch) (D : va_G) (cI cZ : ClassId) (h0 : Nat) (n : Int32) : ct_C l D cI cZ y_MD_init b_MD_init 2 { frames := 1, cells := 5, slots := 2066, locals := 12 } [.ref h0, .int n] [(h0, .inr (1, [.null, .null, .null, .null, .null, .int 0, .int 0]))] (fun ad => ad 0 = h0) (fun ad => md_W cI cZ ad (md_start n)) 5 2066 := by
  refine ct_C.mk (by decide) rfl (Nat.le_of_ble_eq_true rfl) ?_
  intro p e s m below meth c A Q ls F hI hl hin hret
  have F : CallFix p m c b_MD_init 2 s ([.ref h0, .int n] : List Value).toArray lw_tb R_MD := F
  obtain ⟨hx, hb, hml, hown, hts⟩ := id F
  have hl : lv_has ls 2 [(0, .ref h0), (1, .int n)] := hl
  refine lv_aload_n hx hb d_MD_init_0 rfl (lv_at hl 0 rfl) ?_
  refine W.objInit hx hb hown (hts _ kl_MD_1) (hts _ ki_OB_init) (hts _ kc_OB_init) rfl (by rw [hml]; exact hl.1) rfl d_MD_init_1 (Nat.le_of_ble_eq_true rfl) (Nat.le_of_ble_eq_true rfl) ?_
  refine W.eq (g2 := F0 m 4 ls []) rfl ?_
  refine lv_aload_n hx hb d_MD_init_4 rfl (lv_at hl 0 rfl) ?_
  refine lv_sipush (v := 1026) hx hb d_MD_init_5 (by decide) ?_
  refine cw_newi F hI (N := 1026) (by decide) (by decide) (by decide) (Nat.le_of_ble_eq_true rfl) (Nat.le_of_ble_eq_true rfl) d_MD_init_8 (fun q1 H hI => ?_)
  refine cw_putF F hI 0 (ws' := [(h0, .inr (1, [.ref q1, .null, .null, .null, .null, .int 0, .int 0])), (q1, .inl (cI, 1026, .inl cz_f))]) rfl rfl i_MD t_MD t_MD_ok n_MD 0 (by decide) kf_MD_7 rfl rfl hin (ty := .array .int) (by decide +kernel) rfl rfl (Nat.le_of_ble_eq_true rfl) rfl d_MD_init_10 (fun H locs hI => ?_)
  refine lv_aload_n hx hb d_MD_init_13 rfl (lv_at hl 0 rfl) ?_
  refine lv_sipush (v := 513) hx hb d_MD_init_14 (by decide) ?_
  refine cw_newi F hI (N := 513) (by decide) (by decide) (by decide) (Nat.le_of_ble_eq_true rfl) (Nat.le_of_ble_eq_true rfl) d_MD_init_17 (fun q2 H hI => ?_)
  refine cw_putF F hI 0 (ws' := [(h0, .inr (1, [.ref q1, .ref q2, .null, .null, .null, .int 0, .int 0])), (q1, .inl (cI, 1026, .inl cz_f)), (q2, .inl (cI, 513, .inl cz_f))]) rfl rfl i_MD t_MD t_MD_ok n_MD 1 (by decide) kf_MD_13 rfl rfl hin (ty := .array .int) (by decide +kernel) rfl rfl (Nat.le_of_ble_eq_true rfl) rfl d_MD_init_19 (fun H locs hI => ?_)
  refine lv_aload_n hx hb d_MD_init_22 rfl (lv_at hl 0 rfl) ?_
  refine lv_sipush (v := 513) hx hb d_MD_init_23 (by decide) ?_
  refine cw_newz F hI (N := 513) (by decide) (by decide) (by decide) (Nat.le_of_ble_eq_true rfl) (Nat.le_of_ble_eq_true rfl) d_MD_init_26 (fun q3 H hI => ?_)
  refine cw_putF F hI 0 (ws' := [(h0, .inr (1, [.ref q1, .ref q2, .ref q3, .null, .null, .int 0, .int 0])), (q1, .inl (cI, 1026, .inl cz_f)), (q2, .inl (cI, 513, .inl cz_f)), (q3, .inl (cZ, 513, .inl cz_f))]) rfl rfl i_MD t_MD t_MD_ok n_MD 2 (by decide) kf_MD_16 rfl rfl hin (ty := .array .boolean) (by decide +kernel) rfl rfl (Nat.le_of_ble_eq_true rfl) rfl d_MD_init_28 (fun H locs hI => ?_)
  refine lv_aload_n hx hb d_MD_init_31 rfl (lv_at hl 0 rfl) ?_
  refine lv_bipush (v := 12) hx hb d_MD_init_32 (by decide) ?_
  refine cw_newi F hI (N := 12) (by decide) (by decide) (by decide) (Nat.le_of_ble_eq_true rfl) (Nat.le_of_ble_eq_true rfl) d_MD_init_34 (fun q4 H hI => ?_)
  refine cw_putF F hI 0 (ws' := [(h0, .inr (1, [.ref q1, .ref q2, .ref q3, .ref q4, .null, .int 0, .int 0])), (q1, .inl (cI, 1026, .inl cz_f)), (q2, .inl (cI, 513, .inl cz_f)), (q3, .inl (cZ, 513, .inl cz_f)), (q4, .inl (cI, 12, .inl cz_f))]) rfl rfl i_MD t_MD t_MD_ok n_MD 3 (by decide) kf_MD_20 rfl rfl hin (ty := .array .int) (by decide +kernel) rfl rfl (Nat.le_of_ble_eq_true rfl) rfl d_MD_init_36 (fun H locs hI => ?_)
  refine lv_aload_n hx hb d_MD_init_39 rfl (lv_at hl 0 rfl) ?_
  refine lv_iconst (v := 2) hx hb d_MD_init_40 (by decide) ?_
  refine cw_newi F hI (N := 2) (by decide) (by decide) (by decide) (Nat.le_of_ble_eq_true rfl) (Nat.le_of_ble_eq_true rfl) d_MD_init_41 (fun q5 H hI => ?_)
  refine cw_putF F hI 0 (ws' := [(h0, .inr (1, [.ref q1, .ref q2, .ref q3, .ref q4, .ref q5, .int 0, .int 0])), (q1, .inl (cI, 1026, .inl cz_f)), (q2, .inl (cI, 513, .inl cz_f)), (q3, .inl (cZ, 513, .inl cz_f)), (q4, .inl (cI, 12, .inl cz_f)), (q5, .inl (cI, 2, .inl cz_f))]) rfl rfl i_MD t_MD t_MD_ok n_MD 4 (by decide) kf_MD_23 rfl rfl hin (ty := .array .int) (by decide +kernel) rfl rfl (Nat.le_of_ble_eq_true rfl) rfl d_MD_init_43 (fun H locs hI => ?_)
  have hI : cw_I D cI cZ A s.heap s (md_W cI cZ (fun k => [h0, q1, q2, q3, q4, q5].getD k 0) (cz_f, cz_f, cz_f, cz_f, cz_f, 0, 0)) H locs := hI
  refine lv_aload_n hx hb d_MD_init_46 rfl (lv_at hl 0 rfl) ?_
  refine lv_iload_n hx hb d_MD_init_47 rfl (lv_at hl 1 rfl) ?_
  refine lv_iconst (v := 4) hx hb d_MD_init_48 (by decide) ?_
  refine lv_icmp_ge (tgt := 56) hx hb d_MD_init_49 (by decide) (fun c_49 => ?_) (fun c_49 => ?_)
  · refine lv_iload_n hx hb d_MD_init_56 rfl (lv_at hl 1 rfl) ?_
    refine lv_bipush (v := 16) hx hb d_MD_init_57 (by decide) ?_
    refine lv_icmp_le (tgt := 67) hx hb d_MD_init_59 (by decide) (fun c_59 => ?_) (fun c_59 => ?_)
    · refine lv_iload_n hx hb d_MD_init_67 rfl (lv_at hl 1 rfl) ?_
      refine md_put_room F hI d_MD_init_68 (fun H locs hI => ?_)
      have hz : th_clamp n = n := by unfold th_clamp; rw [if_pos c_49, if_pos c_59]
      refine hret (ad := (fun k => [h0, q1, q2, q3, q4, q5].getD k 0)) (by unfold md_start; rw [hz]; exact hI) d_MD_init_71 rfl
    · refine lv_bipush (v := 16) hx hb d_MD_init_62 (by decide) ?_
      refine lv_goto (tgt := 68) hx hb d_MD_init_64 (by decide) ?_
      refine md_put_room F hI d_MD_init_68 (fun H locs hI => ?_)
      have hz : th_clamp n = 16 := by unfold th_clamp; rw [if_pos c_49, if_neg c_59]
      refine hret (ad := (fun k => [h0, q1, q2, q3, q4, q5].getD k 0)) (by unfold md_start; rw [hz]; exact hI) d_MD_init_71 rfl
  · refine lv_iconst (v := 4) hx hb d_MD_init_52 (by decide) ?_
    refine lv_goto (tgt := 68) hx hb d_MD_init_53 (by decide) ?_
    refine md_put_room F hI d_MD_init_68 (fun H locs hI => ?_)
    have hz : th_clamp n = 4 := by unfold th_clamp; rw [if_neg c_49]
    refine hret (ad := (fun k => [h0, q1, q2, q3, q4, q5].getD k 0)) (by unfold md_start; rw [hz]; exact hI) d_MD_init_71 rfl
/-- ThreadHeapLaw.cell(script, k) for k = 0 -/
def lw_cell (L : Nat) (xs : Nat → Int32) : Int32 := if L = 0 then 0 else xs 0
set_option maxHeartbeats 4000000 in
set_option maxRecDepth 100000 in
theorem c_LW_cell (l : Launch) (b L : Nat) (xs : Nat → Int32) (hL : L ≤ 2561) (sz : Nat) : Met l y_LW_cell (Cond.code y_LW_cell b_LW_cell 2 (some .int) :: lw_tb) (cw_rm 0) (va_Pc [.ref b, .int 0] (fun U => U.heap.size = sz ∧ va_X b L xs U U.heap ∧ b < U.heap.size))
    (va_Qi (S := Unit) (fun r _ => r = lw_cell L xs) (fun _ _ => True) (va_A [] sz)) 0 0 (va_A [] sz) := by
  refine Met.ofW (cc := b_LW_cell) (maxL := 2) (ret := some .int) (by decide) rfl ?_
  intro p e s m args below meth c s₁ B hml hv
  obtain ⟨rfl, hsz, hX, hbl⟩ := hv
  subst hsz
  have hx := B.exec
  have hb := B.bytes
  have hlocks := B.notSynchronized
  have hr := B.returns
  have hl := lv_entry ([.ref b, .int 0]) (n := 2) (Nat.le_of_ble_eq_true rfl)
  rw [lg_entry_eq]
  generalize (lg_sl ([.ref b, .int 0]) ++ List.replicate (2 - (lg_sl ([.ref b, .int 0])).length) Slot.unset).toArray = ls at hl ⊢
  have hl : lv_has ls 2 [(0, .ref b), (1, .int 0)] := hl
  have hS : va_S (va_A [] s.heap.size) s.heap s.heap [] := va_S.rf
  have hbA : ¬ va_A [] s.heap.size b := fun q => by
    rcases q with ⟨k, e, q⟩ | q
    · simp at q
    · omega
  refine lv_iload_n hx hb d_LW_cell_0 rfl (lv_at hl 1 rfl) ?_
  refine lv_aload_n hx hb d_LW_cell_1 rfl (lv_at hl 0 rfl) ?_
  refine va_slen hx hb hX hbl hbA hS d_LW_cell_2 ?_
  refine lv_icmp_ge (tgt := 12) hx hb d_LW_cell_3 (by decide) (fun c_3 => ?_) (fun c_3 => ?_)
  · refine lv_iconst (v := 0) hx hb d_LW_cell_12 (by decide) ?_
    have h0 : L = 0 := by
      have h1 : nI L ≤ nI 0 := c_3
      have h2 := (nI_leI (by omega) (by omega)).mp h1
      omega
    exact W.iret (v := 0) hx hb hr (fun t ht hW => ⟨⟨0, (), rfl, by unfold lw_cell; rw [if_pos h0], trivial⟩, hS.F ht⟩) hS.2.2 d_LW_cell_13
  · have h0 : ¬ L = 0 := by
      intro q
      exact c_3 (by rw [q]; decide)
    refine lv_aload_n hx hb d_LW_cell_6 rfl (lv_at hl 0 rfl) ?_
    refine lv_iload_n hx hb d_LW_cell_7 rfl (lv_at hl 1 rfl) ?_
    refine va_sld hx hb hX hbl hbA hS (show vp_in 0 L from vp_in_nI (n := 0) (by omega) (by omega)) d_LW_cell_8 ?_
    refine lv_goto (tgt := 13) hx hb d_LW_cell_9 (by decide) ?_
    exact W.iret (v := xs (0 : Int32).toNatClampNeg) hx hb hr (fun t ht hW => ⟨⟨_, (), rfl, by unfold lw_cell; rw [if_neg h0]; rfl, trivial⟩, hS.F ht⟩) hS.2.2 d_LW_cell_13
end
section
-- THE PLAIN LAW, first: the collector's invariant
theorem g_u {f : Nat → Int32} {k i : Nat} {y : Int32} : upd f k y i = if i = k then y else f i := rfl
theorem g_nI_inj {i j : Nat} (hi : i < 2 ^ 31) (hj : j < 2 ^ 31) (h : nI i = nI j) : i = j := (nI_eq hi hj).mp h
theorem g_m1 {j : Nat} (h : j < 2 ^ 31) : ¬ (-1 : Int32) = nI j := fun q => nI_pos h (by rw [← q]; decide)
theorem g_w0 {b : Int32} (h : b = 1 ∨ b = 2) : ¬ 3 - b = 0 ∧ ¬ 3 - b = 3 ∧ ¬ 3 - b = b ∧ 3 - (3 - b) = b ∧ ¬ b = 0 ∧ ¬ b = 3 := by
  rcases h with h | h <;> subst h <;> decide
/-- a cell that may be read: in use, and while the sweep goes on not white -/
def gV (n : Nat) (u : TS) (j : Nat) : Prop := j < n ∧ ¬ tCol u j = 0 ∧ ¬ (tPh u = 5 ∧ tCol u j = 3 - tBl u)
/-- a content: nothing or such a cell -/
def gR (n : Nat) (u : TS) (k : Int32) : Prop := k = -1 ∨ ∃ j : Nat, k = nI j ∧ gV n u j
def gE (u : TS) (i j : Nat) : Prop := tL0 u i = nI j ∨ tL1 u i = nI j
def gS (u : TS) (j : Nat) : Prop := tGl u 0 = nI j ∨ tGl u 1 = nI j
/-- a cell is kept: every set that holds the grey cells and the seeds, and with a cell its white fields, holds it -/
def gPr (n : Nat) (u : TS) (Sd : Nat → Prop) (j : Nat) : Prop :=
  ∀ X : Nat → Prop, (∀ i, i < n → tCol u i = 3 → X i) → (∀ i, i < n → Sd i → X i) → (∀ i k, i < n → X i → k < n → gE u i k → tCol u k = 3 - tBl u → X k) → X j
abbrev gBit (a : Int32) (t : Nat) : Prop := a >>> (nI t &&& 31) &&& 1 = 1
def gC (n : Nat) (u : TS) (k : Int32) : Prop := gR n u k ∧ (tPh u = 3 → ∀ j, j < n → k = nI j → tCol u j = 3 - tBl u → gPr n u (gS u) j) ∧ (tPh u = 4 → ∀ j, j < n → k = nI j → tCol u j = 3 - tBl u → gPr n u (fun _ => False) j)
def gA (n : Nat) (u : TS) : Prop := 4 ≤ n ∧ n ≤ 16 ∧ tN u = nI n ∧ th_ok u ∧ (tBl u = 1 ∨ tBl u = 2) ∧ (∃ a : Nat, a < 8 ∧ tAns u = nI a) ∧ (tPh u = 0 ∨ tPh u = 1 ∨ tPh u = 2 ∨ tPh u = 3 ∨ tPh u = 4 ∨ tPh u = 5) ∧ ∀ j, j < n → tCol u j = 0 ∨ tCol u j = tBl u ∨ tCol u j = 3 - tBl u ∨ tCol u j = 3
def gB (n : Nat) (u : TS) : Prop := (∀ i, i < 12 → gR n u (tReg u i)) ∧ (∀ i, i < 2 → gR n u (tGl u i)) ∧ ∀ j, gV n u j → gR n u (tL0 u j) ∧ gR n u (tL1 u j)
def gP1 (n : Nat) (u : TS) : Prop := ((tPh u = 1 ∨ tPh u = 2 ∨ tPh u = 3) → ∀ j, j < n → ¬ tCol u j = tBl u) ∧ ((tPh u = 0 ∨ tPh u = 5) → ∀ j, j < n → ¬ tCol u j = 3) ∧ (tPh u = 0 → ∀ j, j < n → ¬ tCol u j = 3 - tBl u) ∧ (tPh u = 5 → ∀ k j : Nat, k < n → tSw u = nI k → j < k → ¬ tCol u j = 3 - tBl u)
def gP3 (n : Nat) (u : TS) : Prop := tPh u = 3 → ∀ t, t < 3 → gBit (tAns u) t → ∀ r, r < 4 → ∀ j, j < n → tReg u (t * 4 + r) = nI j → tCol u j = 3 - tBl u → gPr n u (gS u) j
def gP4 (n : Nat) (u : TS) : Prop := tPh u = 4 → ∀ j, j < n → tCol u j = 3 - tBl u → ((∃ i, i < 12 ∧ tReg u i = nI j) ∨ gS u j ∨ ∃ i, i < n ∧ tCol u i = tBl u ∧ gE u i j) → gPr n u (fun _ => False) j
def gI (n : Nat) (u : TS) : Prop := gA n u ∧ gB n u ∧ gP1 n u ∧ gP3 n u ∧ gP4 n u
theorem gV_lt {n : Nat} {u : TS} {j : Nat} (h : gV n u j) : j < n := h.1
theorem gR_rf {n : Nat} {u : TS} {k : Int32} (hn : n ≤ 16) (h : gR n u k) : th_rf k := by
  rcases h with rfl | ⟨j, rfl, hj⟩
  · exact th_rf_m1
  · exact Or.inr (vp_in_nI (Nat.lt_of_lt_of_le hj.1 hn) (by omega))
theorem gR_m1 {n : Nat} {u : TS} : gR n u (-1) := Or.inl rfl
theorem gR_in {n : Nat} {u : TS} {j : Nat} (hn : n ≤ 16) (hj : j < 2 ^ 31) (h : gR n u (nI j)) : gV n u j := by
  rcases h with h | ⟨i, h, hi⟩
  · exact absurd h.symm (g_m1 hj)
  · have := hi.1
    have e := g_nI_inj hj (by omega) h
    subst e
    exact hi
theorem gR_ge {n : Nat} {u : TS} {k : Int32} (hn : n ≤ 16) (h : gR n u k) (h0 : 0 ≤ k) : ∃ j : Nat, k = nI j ∧ gV n u j ∧ k.toNatClampNeg = j := by
  rcases h with rfl | ⟨j, rfl, hj⟩
  · exact absurd h0 (by decide)
  · have := hj.1
    exact ⟨j, rfl, hj, nI_clamp (by omega)⟩
theorem gR_lt {n : Nat} {u : TS} {k : Int32} (hn : n ≤ 16) (h : gR n u k) (h0 : ¬ 0 ≤ k) : k = -1 := by
  rcases h with rfl | ⟨j, rfl, hj⟩
  · rfl
  · have := hj.1
    exact absurd (nI_pos' (by omega)) h0
/-- a cell becomes grey: what was kept is kept -/
theorem gPr_mark {n : Nat} {u : TS} {Sd : Nat → Prop} {j k : Nat} (hb : tBl u = 1 ∨ tBl u = 2) (hj : j < n) (hw : tCol u j = 3 - tBl u) (h : gPr n u Sd k) : gPr n (sCol u (upd (tCol u) j 3)) Sd k := by
  intro X h1 h2 h3
  refine h X (fun i hi hc => h1 i hi ?_) h2 (fun i m hi hX hm hE hc => ?_)
  · show upd (tCol u) j 3 i = 3
    rw [g_u]
    split
    · rfl
    · exact hc
  · by_cases hmj : m = j
    · subst hmj
      exact h1 m hm (by show upd (tCol u) m 3 m = 3; rw [g_u, if_pos rfl])
    · exact h3 i m hi hX hm hE (by show upd (tCol u) j 3 m = _; rw [g_u, if_neg hmj]; exact hc)
theorem gV_mark {n : Nat} {u : TS} {j : Nat} (hb : tBl u = 1 ∨ tBl u = 2) (hw : tCol u j = 3 - tBl u) (hp : ¬ tPh u = 5) (i : Nat) : gV n (sCol u (upd (tCol u) j 3)) i ↔ gV n u i := by
  have hg := g_w0 hb
  unfold gV
  show i < n ∧ ¬ upd (tCol u) j 3 i = 0 ∧ ¬ (tPh u = 5 ∧ _) ↔ _
  rw [g_u]
  by_cases hi : i = j
  · subst hi
    rw [if_pos rfl, hw]
    constructor
    · exact fun h => ⟨h.1, hg.1, fun q => hp q.1⟩
    · exact fun h => ⟨h.1, by decide, fun q => hp q.1⟩
  · rw [if_neg hi]
    constructor
    · exact fun h => ⟨h.1, h.2.1, fun q => hp q.1⟩
    · exact fun h => ⟨h.1, h.2.1, fun q => hp q.1⟩
theorem gR_of {n : Nat} {u w : TS} (h : ∀ i, gV n u i → gV n w i) {k : Int32} (hk : gR n u k) : gR n w k := by
  rcases hk with rfl | ⟨j, rfl, hj⟩
  · exact Or.inl rfl
  · exact Or.inr ⟨j, rfl, h j hj⟩
theorem gI_mark {n : Nat} {u : TS} {j : Nat} (h : gI n u) (hj : j < n) (hw : tCol u j = 3 - tBl u) (hp : ¬ tPh u = 5) : gI n (sCol u (upd (tCol u) j 3)) := by
  obtain ⟨⟨a1, a2, a3, a4, a5, a6, a7, a8⟩, ⟨b1, b2, b3⟩, ⟨c1, c2, c3, c4⟩, p3, p4⟩ := h
  have hg := g_w0 a5
  have hp0 : ¬ tPh u = 0 := fun q => c3 q j hj hw
  have hV := gV_mark (n := n) a5 hw hp
  have hR : ∀ {k : Int32}, gR n u k → gR n (sCol u (upd (tCol u) j 3)) k := fun hk => gR_of (fun i => (hV i).mpr) hk
  refine ⟨⟨a1, a2, a3, a4, a5, a6, a7, fun i hi => ?_⟩, ⟨fun i hi => hR (b1 i hi), fun i hi => hR (b2 i hi), fun i hi => ?_⟩, ⟨fun q i hi => ?_, fun q => ?_, fun q => absurd q hp0, fun q => absurd q hp⟩, ?_, ?_⟩
  · show upd (tCol u) j 3 i = 0 ∨ upd (tCol u) j 3 i = _ ∨ upd (tCol u) j 3 i = _ ∨ upd (tCol u) j 3 i = 3
    rw [g_u]
    split
    · exact Or.inr (Or.inr (Or.inr rfl))
    · exact a8 i hi
  · have := b3 i ((hV i).mp hi)
    exact ⟨hR this.1, hR this.2⟩
  · show ¬ upd (tCol u) j 3 i = _
    rw [g_u]
    split
    · exact fun z => hg.2.2.2.2.2 z.symm
    · exact c1 q i hi
  · rcases q with q | q
    · exact absurd q hp0
    · exact absurd q hp
  · intro q t ht hb r hr i hi hreg hc
    have hij : i ≠ j := fun z => by
      have hc : upd (tCol u) j 3 i = 3 - tBl u := hc
      rw [g_u, if_pos z] at hc
      exact hg.2.1 hc.symm
    have hc : upd (tCol u) j 3 i = 3 - tBl u := hc
    rw [g_u, if_neg hij] at hc
    exact gPr_mark a5 hj hw (p3 q t ht hb r hr i hi hreg hc)
  · intro q i hi hc ho
    have hij : i ≠ j := fun z => by
      have hc : upd (tCol u) j 3 i = 3 - tBl u := hc
      rw [g_u, if_pos z] at hc
      exact hg.2.1 hc.symm
    have hc : upd (tCol u) j 3 i = 3 - tBl u := hc
    rw [g_u, if_neg hij] at hc
    refine gPr_mark a5 hj hw (p4 q i hi hc ?_)
    rcases ho with ho | ho | ⟨m, hm, hmc, hE⟩
    · exact Or.inl ho
    · exact Or.inr (Or.inl ho)
    · refine Or.inr (Or.inr ⟨m, hm, ?_, hE⟩)
      have hmc : upd (tCol u) j 3 m = tBl u := hmc
      rw [g_u] at hmc
      split at hmc
      · exact absurd hmc.symm hg.2.2.2.2.2
      · exact hmc
/-- what 'reach' does: nothing, or a white cell becomes grey -/
theorem g_reach {n : Nat} {u : TS} {k : Int32} (h : gI n u) (hk : gR n u k) : th_reach u k = u ∨ ∃ j, j < n ∧ k = nI j ∧ tCol u j = 3 - tBl u ∧ ¬ tPh u = 5 ∧ th_reach u k = sCol u (upd (tCol u) j 3) := by
  unfold th_reach th_rc
  rcases hk with rfl | ⟨j, rfl, hj⟩
  · rw [if_pos (by decide)]
    exact Or.inl rfl
  · have h16 := h.1.2.1
    have hjn := hj.1
    rw [if_neg (nI_pos (by omega)), nI_clamp (by omega)]
    by_cases hc : tCol u j = 3 - tBl u
    · rw [if_neg (not_not_intro hc)]
      exact Or.inr ⟨j, hj.1, rfl, hc, fun q => hj.2.2 ⟨q, hc⟩, rfl⟩
    · rw [if_pos hc]
      exact Or.inl rfl
theorem gI_reach {n : Nat} {u : TS} {k : Int32} (h : gI n u) (hk : gR n u k) : gI n (th_reach u k) := by
  rcases g_reach h hk with e | ⟨j, hj, -, hw, hp, e⟩
  · rw [e]; exact h
  · rw [e]; exact gI_mark h hj hw hp
theorem gV_reach {n : Nat} {u : TS} {k : Int32} (h : gI n u) (hk : gR n u k) (i : Nat) : gV n (th_reach u k) i ↔ gV n u i := by
  rcases g_reach h hk with e | ⟨j, hj, -, hw, hp, e⟩
  · rw [e]
  · rw [e]; exact gV_mark h.1.2.2.2.2.1 hw hp i
theorem gR_reach {n : Nat} {u : TS} {k z : Int32} (h : gI n u) (hk : gR n u k) (hz : gR n u z) : gR n (th_reach u k) z := gR_of (fun i => (gV_reach h hk i).mpr) hz
theorem gC_reach {n : Nat} {u : TS} {k z : Int32} (h : gI n u) (hk : gR n u k) (hz : gC n u z) : gC n (th_reach u k) z := by
  have hg := g_w0 h.1.2.2.2.2.1
  rcases g_reach h hk with e | ⟨j, hj, -, hw, hp, e⟩
  · rw [e]; exact hz
  · refine ⟨gR_reach h hk hz.1, ?_, ?_⟩
    · rw [e]
      intro q i hi hzi hc
      have hij : i ≠ j := fun y => by
        have hc : upd (tCol u) j 3 i = 3 - tBl u := hc
        rw [g_u, if_pos y] at hc
        exact hg.2.1 hc.symm
      have hc : upd (tCol u) j 3 i = 3 - tBl u := hc
      rw [g_u, if_neg hij] at hc
      exact gPr_mark h.1.2.2.2.2.1 hj hw (hz.2.1 q i hi hzi hc)
    · rw [e]
      intro q i hi hzi hc
      have hij : i ≠ j := fun y => by
        have hc : upd (tCol u) j 3 i = 3 - tBl u := hc
        rw [g_u, if_pos y] at hc
        exact hg.2.1 hc.symm
      have hc : upd (tCol u) j 3 i = 3 - tBl u := hc
      rw [g_u, if_neg hij] at hc
      exact gPr_mark h.1.2.2.2.2.1 hj hw (hz.2.2 q i hi hzi hc)
/-- behind 'reach' the cell isn't white; and what wasn't white stays so -/
theorem g_reach_nw {n : Nat} {u : TS} {k : Int32} (h : gI n u) (hk : gR n u k) {j : Nat} (hj : j < n) (e : k = nI j) : ¬ tCol (th_reach u k) j = 3 - tBl u := by
  have hg := g_w0 h.1.2.2.2.2.1
  have h16 := h.1.2.1
  subst e
  unfold th_reach th_rc
  rw [if_neg (nI_pos (by omega)), nI_clamp (by omega)]
  show ¬ (if _ then _ else _ : Nat → Int32) j = _
  by_cases hc : tCol u j = 3 - tBl u
  · rw [if_neg (not_not_intro hc), g_u, if_pos rfl]
    exact fun q => hg.2.1 q.symm
  · rw [if_pos hc]
    exact hc
theorem g_reach_keep {n : Nat} {u : TS} {k : Int32} (h : gI n u) (hk : gR n u k) {j : Nat} (hc : ¬ tCol u j = 3 - tBl u) : ¬ tCol (th_reach u k) j = 3 - tBl u := by
  have hg := g_w0 h.1.2.2.2.2.1
  rcases g_reach h hk with e | ⟨i, hi, -, hw, hp, e⟩
  · rw [e]; exact hc
  · rw [e]
    show ¬ upd (tCol u) i 3 j = _
    rw [g_u]
    split
    · exact fun q => hg.2.1 q.symm
    · exact hc
end
section
-- answers, and the writes of the threads
def gF (u w : TS) : Prop := tN w = tN u ∧ tL0 w = tL0 u ∧ tL1 w = tL1 u ∧ tVal w = tVal u ∧ tTag w = tTag u ∧ tReg w = tReg u ∧ tGl w = tGl u ∧ tCnt w = tCnt u
def gT (n : Nat) (u w : TS) : Prop := gI n w ∧ gF u w ∧ ∀ j, gV n w j → gV n u j
theorem gF_rf (u : TS) : gF u u := ⟨rfl, rfl, rfl, rfl, rfl, rfl, rfl, rfl⟩
theorem gF_tr {u w z : TS} (h1 : gF u w) (h2 : gF w z) : gF u z :=
  ⟨h2.1.trans h1.1, h2.2.1.trans h1.2.1, h2.2.2.1.trans h1.2.2.1, h2.2.2.2.1.trans h1.2.2.2.1, h2.2.2.2.2.1.trans h1.2.2.2.2.1, h2.2.2.2.2.2.1.trans h1.2.2.2.2.2.1, h2.2.2.2.2.2.2.1.trans h1.2.2.2.2.2.2.1, h2.2.2.2.2.2.2.2.trans h1.2.2.2.2.2.2.2⟩
theorem gT_rf {n : Nat} {u : TS} (h : gI n u) : gT n u u := ⟨h, gF_rf u, fun _ h => h⟩
theorem gT_tr {n : Nat} {u w z : TS} (h1 : gT n u w) (h2 : gT n w z) : gT n u z := ⟨h2.1, gF_tr h1.2.1 h2.2.1, fun j h => h1.2.2 j (h2.2.2 j h)⟩
theorem gT_reach {n : Nat} {u : TS} {k : Int32} (h : gI n u) (hk : gR n u k) : gT n u (th_reach u k) := ⟨gI_reach h hk, ⟨rfl, rfl, rfl, rfl, rfl, rfl, rfl, rfl⟩, fun j hj => (gV_reach h hk j).mp hj⟩
theorem g_bits1 : ∀ a, a < 8 → ∀ t, t < 3 → (nI a ||| 1 <<< (nI t &&& 31)) >>> (nI t &&& 31) &&& 1 = 1 := by decide +kernel
theorem g_bits2 : ∀ a, a < 8 → ∀ t, t < 3 → nI a ||| 1 <<< (nI t &&& 31) = nI (a ||| 1 <<< t) := by decide +kernel
theorem g_bits3 : ∀ a, a < 8 → ∀ t, t < 3 → (a ||| 1 <<< t) < 8 := by decide +kernel
theorem g_bits4 : ∀ a, a < 8 → ∀ t, t < 3 → ∀ s, s < 3 → (s = t ∨ ¬ (nI a ||| 1 <<< (nI t &&& 31)) >>> (nI s &&& 31) &&& 1 = 1 ∨ nI a >>> (nI s &&& 31) &&& 1 = 1) := by decide +kernel
theorem g_bits (a : Nat) (ha : a < 8) (t : Nat) (ht : t < 3) : (nI a ||| 1 <<< (nI t &&& 31)) >>> (nI t &&& 31) &&& 1 = 1 ∧ nI a ||| 1 <<< (nI t &&& 31) = nI (a ||| 1 <<< t) ∧ (a ||| 1 <<< t) < 8 ∧ ∀ s, s < 3 → s ≠ t → (nI a ||| 1 <<< (nI t &&& 31)) >>> (nI s &&& 31) &&& 1 = 1 → nI a >>> (nI s &&& 31) &&& 1 = 1 :=
  ⟨g_bits1 a ha t ht, g_bits2 a ha t ht, g_bits3 a ha t ht, fun s hs hst h => ((g_bits4 a ha t ht s hs).resolve_left hst).resolve_left (not_not_intro h)⟩
theorem g_rcs {n : Nat} {u : TS} {t : Nat} (h : gI n u) (ht : t < 3) : ∀ k, k ≤ 4 → gI n (sCol u (th_rcs (tBl u) (tCol u) (tReg u) (nI t) k)) ∧ (∀ i, gV n (sCol u (th_rcs (tBl u) (tCol u) (tReg u) (nI t) k)) i ↔ gV n u i) ∧ ∀ r, r < k → ∀ j, j < n → tReg u (t * 4 + r) = nI j → ¬ th_rcs (tBl u) (tCol u) (tReg u) (nI t) k j = 3 - tBl u
  | 0, _ => ⟨h, fun _ => Iff.rfl, fun r hr => absurd hr (by omega)⟩
  | k + 1, hk => by
    obtain ⟨h1, h2, h3⟩ := g_rcs h ht k (by omega)
    have hidx : (nI t * 4 + nI k).toNatClampNeg = t * 4 + k := by rw [th_ix]; exact nI_clamp (by omega)
    have hR : gR n (sCol u (th_rcs (tBl u) (tCol u) (tReg u) (nI t) k)) (tReg u (t * 4 + k)) := h1.2.1.1 (t * 4 + k) (by omega)
    have he : sCol u (th_rcs (tBl u) (tCol u) (tReg u) (nI t) (k + 1)) = th_reach (sCol u (th_rcs (tBl u) (tCol u) (tReg u) (nI t) k)) (tReg u (t * 4 + k)) := by
      rw [th_rcs, hidx]
      rfl
    have he2 : th_rcs (tBl u) (tCol u) (tReg u) (nI t) (k + 1) = tCol (th_reach (sCol u (th_rcs (tBl u) (tCol u) (tReg u) (nI t) k)) (tReg u (t * 4 + k))) := by
      rw [← he]
    refine ⟨by rw [he]; exact gI_reach h1 hR, fun i => by rw [he]; exact (gV_reach h1 hR i).trans (h2 i), fun r hr j hj hreg => ?_⟩
    rw [he2]
    by_cases hrk : r = k
    · subst hrk
      exact g_reach_nw h1 hR hj hreg
    · exact g_reach_keep h1 hR (h3 r (by omega) j hj hreg)
/-- a thread answers -/
theorem g_answer {n : Nat} {u : TS} {t : Nat} (h : gI n u) (ht : t < 3) : gT n u (th_answer u (nI t)) ∧ (∀ j, gV n u j → gV n (th_answer u (nI t)) j) ∧ tPh (th_answer u (nI t)) = tPh u ∧ tBl (th_answer u (nI t)) = tBl u ∧ (tPh u = 3 → gBit (tAns (th_answer u (nI t))) t) ∧ ((tPh u = 1 ∨ tPh u = 2 ∨ tPh u = 3) → tAns (th_answer u (nI t)) = (if gBit (tAns u) t then tAns u else tAns u ||| 1 <<< (nI t &&& 31))) := by
  unfold th_answer
  obtain ⟨⟨a1, a2, a3, a4, a5, ⟨a, ha, hae⟩, a7, a8⟩, hB, hP1, hP3, hP4⟩ := id h
  have hbits := g_bits a ha t ht
  rw [← hae] at hbits
  split
  · rename_i c1
    refine ⟨gT_rf h, fun _ q => q, rfl, rfl, fun q => absurd c1 (by rw [q]; decide), fun q => ?_⟩
    rcases q with q | q | q <;> exact absurd c1 (by rw [q]; decide)
  · rename_i c1
    split
    · rename_i c2
      refine ⟨gT_rf h, fun _ q => q, rfl, rfl, fun q => absurd c2 (by rw [q]; decide), fun q => ?_⟩
      rcases q with q | q | q <;> exact absurd c2 (by rw [q]; decide)
    · rename_i c2
      split
      · rename_i c3
        have hA4 : ∃ b : Nat, b < 8 ∧ tAns u ||| 1 <<< (nI t &&& 31) = nI b := ⟨a ||| 1 <<< t, hbits.2.2.1, hbits.2.1⟩
        split
        · rename_i c4
          refine ⟨⟨⟨⟨a1, a2, a3, a4, a5, hA4, a7, a8⟩, hB, hP1, fun q => absurd q c4, hP4⟩, ⟨rfl, rfl, rfl, rfl, rfl, rfl, rfl, rfl⟩, fun _ q => q⟩, fun _ q => q, rfl, rfl, fun q => absurd q c4, fun _ => rfl⟩
        · rename_i c4
          have c4 : tPh u = 3 := Decidable.not_not.mp c4
          obtain ⟨h1, h2, h3⟩ := g_rcs h ht 4 (by omega)
          obtain ⟨⟨x1, x2, x3, x4, x5, x6, x7, x8⟩, hB', hP1', hP3', hP4'⟩ := h1
          refine ⟨⟨⟨⟨x1, x2, x3, x4, x5, hA4, x7, x8⟩, hB', hP1', fun q s hs hb r hr j hj hreg hc => ?_, hP4'⟩, ⟨rfl, rfl, rfl, rfl, rfl, rfl, rfl, rfl⟩, fun j q => (h2 j).mp q⟩, fun j q => (h2 j).mpr q, rfl, rfl, fun _ => hbits.1, fun _ => rfl⟩
          by_cases hst : s = t
          · subst hst
            exact absurd hc (h3 r hr j hj hreg)
          · exact hP3' q s hs (hbits.2.2.2 s hs hst hb) r hr j hj hreg hc
      · rename_i c3
        have c3 : gBit (tAns u) t := Decidable.not_not.mp c3
        exact ⟨gT_rf h, fun _ q => q, rfl, rfl, fun _ => c3, fun _ => (if_pos c3).symm⟩
/-- contents that are kept -/
theorem gC_reg {n : Nat} {u : TS} {t r : Nat} (h : gI n u) (ht : t < 3) (hr : r < 4) (hb : tPh u = 3 → gBit (tAns u) t) : gC n u (tReg u (t * 4 + r)) :=
  ⟨h.2.1.1 _ (by omega), fun q j hj hreg hc => h.2.2.2.1 q t ht (hb q) r hr j hj hreg hc, fun q j hj hreg hc => h.2.2.2.2 q j hj hc (Or.inl ⟨_, by omega, hreg⟩)⟩
theorem gS_i {u : TS} {i j : Nat} (hi : i < 2) (h : tGl u i = nI j) : gS u j := by
  rcases (show i = 0 ∨ i = 1 by omega) with rfl | rfl
  · exact Or.inl h
  · exact Or.inr h
theorem gC_gl {n : Nat} {u : TS} {i : Nat} (h : gI n u) (hi : i < 2) : gC n u (tGl u i) :=
  ⟨h.2.1.2.1 _ hi, fun _ j hj hg _ X _ h2 _ => h2 j hj (gS_i hi hg), fun q j hj hg hc => h.2.2.2.2 q j hj hc (Or.inr (Or.inl (gS_i hi hg)))⟩
theorem gC_m1 {n : Nat} {u : TS} (hn : n ≤ 16) : gC n u (-1) := ⟨Or.inl rfl, fun _ j hj q => absurd q (g_m1 (by omega)), fun _ j hj q => absurd q (g_m1 (by omega))⟩
theorem gC_link {n : Nat} {u : TS} {i : Nat} {z : Int32} (h : gI n u) (hi : gV n u i) (hC : gC n u (nI i)) (hz : z = tL0 u i ∨ z = tL1 u i) : gC n u z := by
  have hcol := h.1.2.2.2.2.2.2.2 i hi.1
  have hE : ∀ j, z = nI j → gE u i j := fun j q => by
    rcases hz with e | e
    · exact Or.inl (by rw [← e]; exact q)
    · exact Or.inr (by rw [← e]; exact q)
  refine ⟨?_, fun q j hj hzj hc => ?_, fun q j hj hzj hc => ?_⟩
  · rcases hz with e | e
    · rw [e]; exact (h.2.1.2.2 i hi).1
    · rw [e]; exact (h.2.1.2.2 i hi).2
  · intro X h1 h2 h3
    rcases hcol with c | c | c | c
    · exact absurd c hi.2.1
    · exact absurd c (h.2.2.1.1 (Or.inr (Or.inr q)) i hi.1)
    · exact h3 i j hi.1 (hC.2.1 q i hi.1 rfl c X h1 h2 h3) hj (hE j hzj) hc
    · exact h3 i j hi.1 (h1 i hi.1 c) hj (hE j hzj) hc
  · rcases hcol with c | c | c | c
    · exact absurd c hi.2.1
    · exact h.2.2.2.2 q j hj hc (Or.inr (Or.inr ⟨i, hi.1, c, hE j hzj⟩))
    · intro X h1 h2 h3
      exact h3 i j hi.1 (hC.2.2 q i hi.1 rfl c X h1 h2 h3) hj (hE j hzj) hc
    · intro X h1 h2 h3
      exact h3 i j hi.1 (h1 i hi.1 c) hj (hE j hzj) hc
/-- a register is written -/
theorem gI_reg {n : Nat} {u : TS} {i : Nat} {z : Int32} (h : gI n u) (hz : gC n u z) : gI n (sReg u (upd (tReg u) i z)) := by
  obtain ⟨⟨a1, a2, a3, a4, a5, a6, a7, a8⟩, ⟨b1, b2, b3⟩, hP1, p3, p4⟩ := h
  have hz1 := hz.1
  refine ⟨⟨a1, a2, a3, ⟨a4.1, fun k hk => ?_, a4.2.2.1, a4.2.2.2.1, a4.2.2.2.2⟩, a5, a6, a7, a8⟩, ⟨fun k hk => ?_, b2, b3⟩, hP1, fun q t ht hb r hr j hj hreg hc => ?_, fun q j hj hc ho => ?_⟩
  · show th_rf (upd (tReg u) i z k)
    rw [g_u]
    split
    · exact gR_rf a2 hz1
    · exact a4.2.1 k hk
  · show gR n u (upd (tReg u) i z k)
    rw [g_u]
    split
    · exact hz1
    · exact b1 k hk
  · have hreg : upd (tReg u) i z (t * 4 + r) = nI j := hreg
    rw [g_u] at hreg
    split at hreg
    · exact hz.2.1 q j hj hreg hc
    · exact p3 q t ht hb r hr j hj hreg hc
  · rcases ho with ⟨k, hk, hreg⟩ | ho | ho
    · have hreg : upd (tReg u) i z k = nI j := hreg
      rw [g_u] at hreg
      split at hreg
      · exact hz.2.2 q j hj hreg hc
      · exact p4 q j hj hc (Or.inl ⟨k, hk, hreg⟩)
    · exact p4 q j hj hc (Or.inr (Or.inl ho))
    · exact p4 q j hj hc (Or.inr (Or.inr ho))
theorem gC_regw {n : Nat} {u : TS} {i : Nat} {z y : Int32} (hy : gC n u y) : gC n (sReg u (upd (tReg u) i z)) y := hy
/-- a global is written; what stood there isn't white -/
theorem gI_gl {n : Nat} {u : TS} {i : Nat} {z : Int32} (h : gI n u) (hi : i < 2) (hz : gC n u z) (ho : ∀ j, j < n → tGl u i = nI j → ¬ tCol u j = 3 - tBl u) : gI n (sGl u (upd (tGl u) i z)) := by
  obtain ⟨⟨a1, a2, a3, a4, a5, a6, a7, a8⟩, ⟨b1, b2, b3⟩, hP1, p3, p4⟩ := h
  have hz1 := hz.1
  have hpr : tPh u = 3 → ∀ j, gPr n u (gS u) j → gPr n (sGl u (upd (tGl u) i z)) (gS (sGl u (upd (tGl u) i z))) j := by
    intro q j hp X h1 h2 h3
    refine hp X h1 (fun k hkn hk => ?_) h3
    have old : ∀ e, e < 2 → tGl u e = nI k → X k := by
      intro e he hek
      by_cases hei : e = i
      · subst hei
        have hV : gV n u k := gR_in a2 (by omega) (by rw [← hek]; exact b2 e he)
        rcases a8 k hkn with c | c | c | c
        · exact absurd c hV.2.1
        · exact absurd c (hP1.1 (Or.inr (Or.inr q)) k hkn)
        · exact absurd c (ho k hkn hek)
        · exact h1 k hkn c
      · refine h2 k hkn (gS_i he ?_)
        show upd (tGl u) i z e = nI k
        rw [g_u, if_neg hei]
        exact hek
    rcases hk with hk | hk
    · exact old 0 (by omega) hk
    · exact old 1 (by omega) hk
  refine ⟨⟨a1, a2, a3, ⟨a4.1, a4.2.1, fun k hk => ?_, a4.2.2.2.1, a4.2.2.2.2⟩, a5, a6, a7, a8⟩, ⟨b1, fun k hk => ?_, b3⟩, hP1, fun q t ht hb r hr j hj hreg hc => hpr q j (p3 q t ht hb r hr j hj hreg hc), fun q j hj hc hh => ?_⟩
  · show th_rf (upd (tGl u) i z k)
    rw [g_u]
    split
    · exact gR_rf a2 hz1
    · exact a4.2.2.1 k hk
  · show gR n u (upd (tGl u) i z k)
    rw [g_u]
    split
    · exact hz1
    · exact b2 k hk
  · have key : gPr n u (fun _ => False) j := by
      rcases hh with hh | hh | hh
      · exact p4 q j hj hc (Or.inl hh)
      · have g : ∀ e, e < 2 → upd (tGl u) i z e = nI j → gPr n u (fun _ => False) j := by
          intro e he hej
          rw [g_u] at hej
          split at hej
          · exact hz.2.2 q j hj hej hc
          · exact p4 q j hj hc (Or.inr (Or.inl (gS_i he hej)))
        rcases hh with hh | hh
        · exact g 0 (by omega) hh
        · exact g 1 (by omega) hh
      · exact p4 q j hj hc (Or.inr (Or.inr hh))
    exact key
/-- a field of a cell is written; what stood there isn't white -/
theorem gI_l0 {n : Nat} {u : TS} {i : Nat} {z : Int32} (h : gI n u) (hi : i < n) (hz : gC n u z) (ho : ∀ j, j < n → tL0 u i = nI j → ¬ tCol u j = 3 - tBl u) : gI n (sL0 u (upd (tL0 u) i z)) := by
  obtain ⟨⟨a1, a2, a3, a4, a5, a6, a7, a8⟩, ⟨b1, b2, b3⟩, hP1, p3, p4⟩ := h
  have hz1 := hz.1
  have hpr : ∀ (Sd : Nat → Prop) j, gPr n u Sd j → gPr n (sL0 u (upd (tL0 u) i z)) Sd j := by
    intro Sd j hp X h1 h2 h3
    refine hp X h1 h2 (fun a b ha hX hb hE hc => ?_)
    rcases hE with hE | hE
    · by_cases hai : a = i
      · subst hai
        exact absurd hc (ho b hb hE)
      · refine h3 a b ha hX hb (Or.inl ?_) hc
        show upd (tL0 u) i z a = nI b
        rw [g_u, if_neg hai]
        exact hE
    · exact h3 a b ha hX hb (Or.inr hE) hc
  refine ⟨⟨a1, a2, a3, ⟨a4.1, a4.2.1, a4.2.2.1, fun k hk => ?_, a4.2.2.2.2⟩, a5, a6, a7, a8⟩, ⟨b1, b2, fun k hk => ⟨?_, (b3 k hk).2⟩⟩, hP1, fun q t ht hb r hr j hj hreg hc => hpr _ j (p3 q t ht hb r hr j hj hreg hc), fun q j hj hc hh => ?_⟩
  · show th_rf (upd (tL0 u) i z k)
    rw [g_u]
    split
    · exact gR_rf a2 hz1
    · exact a4.2.2.2.1 k hk
  · show gR n u (upd (tL0 u) i z k)
    rw [g_u]
    split
    · exact hz1
    · exact (b3 k hk).1
  · refine hpr _ j ?_
    rcases hh with hh | hh | ⟨a, ha, hac, hE⟩
    · exact p4 q j hj hc (Or.inl hh)
    · exact p4 q j hj hc (Or.inr (Or.inl hh))
    · rcases hE with hE | hE
      · have hE : upd (tL0 u) i z a = nI j := hE
        rw [g_u] at hE
        split at hE
        · exact hz.2.2 q j hj hE hc
        · exact p4 q j hj hc (Or.inr (Or.inr ⟨a, ha, hac, Or.inl hE⟩))
      · exact p4 q j hj hc (Or.inr (Or.inr ⟨a, ha, hac, Or.inr hE⟩))
theorem gI_l1 {n : Nat} {u : TS} {i : Nat} {z : Int32} (h : gI n u) (hi : i < n) (hz : gC n u z) (ho : ∀ j, j < n → tL1 u i = nI j → ¬ tCol u j = 3 - tBl u) : gI n (sL1 u (upd (tL1 u) i z)) := by
  obtain ⟨⟨a1, a2, a3, a4, a5, a6, a7, a8⟩, ⟨b1, b2, b3⟩, hP1, p3, p4⟩ := h
  have hz1 := hz.1
  have hpr : ∀ (Sd : Nat → Prop) j, gPr n u Sd j → gPr n (sL1 u (upd (tL1 u) i z)) Sd j := by
    intro Sd j hp X h1 h2 h3
    refine hp X h1 h2 (fun a b ha hX hb hE hc => ?_)
    rcases hE with hE | hE
    · exact h3 a b ha hX hb (Or.inl hE) hc
    · by_cases hai : a = i
      · subst hai
        exact absurd hc (ho b hb hE)
      · refine h3 a b ha hX hb (Or.inr ?_) hc
        show upd (tL1 u) i z a = nI b
        rw [g_u, if_neg hai]
        exact hE
  refine ⟨⟨a1, a2, a3, ⟨a4.1, a4.2.1, a4.2.2.1, a4.2.2.2.1, fun k hk => ?_⟩, a5, a6, a7, a8⟩, ⟨b1, b2, fun k hk => ⟨(b3 k hk).1, ?_⟩⟩, hP1, fun q t ht hb r hr j hj hreg hc => hpr _ j (p3 q t ht hb r hr j hj hreg hc), fun q j hj hc hh => ?_⟩
  · show th_rf (upd (tL1 u) i z k)
    rw [g_u]
    split
    · exact gR_rf a2 hz1
    · exact a4.2.2.2.2 k hk
  · show gR n u (upd (tL1 u) i z k)
    rw [g_u]
    split
    · exact hz1
    · exact (b3 k hk).2
  · refine hpr _ j ?_
    rcases hh with hh | hh | ⟨a, ha, hac, hE⟩
    · exact p4 q j hj hc (Or.inl hh)
    · exact p4 q j hj hc (Or.inr (Or.inl hh))
    · rcases hE with hE | hE
      · exact p4 q j hj hc (Or.inr (Or.inr ⟨a, ha, hac, Or.inl hE⟩))
      · have hE : upd (tL1 u) i z a = nI j := hE
        rw [g_u] at hE
        split at hE
        · exact hz.2.2 q j hj hE hc
        · exact p4 q j hj hc (Or.inr (Or.inr ⟨a, ha, hac, Or.inr hE⟩))
/-- the watch of a write -/
theorem g_watch {n : Nat} {u : TS} {t o f : Int32} (h : gI n u) (ho : gR n u o) (hf : gR n u f) : gT n u (th_watch u t o f) ∧ (∀ j, gV n u j → gV n (th_watch u t o f) j) ∧ (∀ z, gC n u z → gC n (th_watch u t o f) z) ∧ tPh (th_watch u t o f) = tPh u ∧ tBl (th_watch u t o f) = tBl u ∧ ∀ j, j < n → o = nI j → ¬ tCol (th_watch u t o f) j = 3 - tBl u := by
  have h1 := gI_reach h ho
  have hf1 := gR_reach h ho hf
  have c1 : gT n u (th_reach u o) ∧ (∀ j, gV n u j → gV n (th_reach u o) j) ∧ (∀ z, gC n u z → gC n (th_reach u o) z) ∧ tPh (th_reach u o) = tPh u ∧ tBl (th_reach u o) = tBl u ∧ ∀ j, j < n → o = nI j → ¬ tCol (th_reach u o) j = 3 - tBl u :=
    ⟨gT_reach h ho, fun j q => (gV_reach h ho j).mpr q, fun z q => gC_reach h ho q, rfl, rfl, fun j hj e => g_reach_nw h ho hj e⟩
  have c2 : gT n u (th_reach (th_reach u o) f) ∧ (∀ j, gV n u j → gV n (th_reach (th_reach u o) f) j) ∧ (∀ z, gC n u z → gC n (th_reach (th_reach u o) f) z) ∧ tPh (th_reach (th_reach u o) f) = tPh u ∧ tBl (th_reach (th_reach u o) f) = tBl u ∧ ∀ j, j < n → o = nI j → ¬ tCol (th_reach (th_reach u o) f) j = 3 - tBl u :=
    ⟨gT_tr (gT_reach h ho) (gT_reach h1 hf1), fun j q => (gV_reach h1 hf1 j).mpr ((gV_reach h ho j).mpr q), fun z q => gC_reach h1 hf1 (gC_reach h ho q), rfl, rfl, fun j hj e => g_reach_keep h1 hf1 (g_reach_nw h ho hj e)⟩
  unfold th_watch
  split
  · exact c2
  · split
    · exact c1
    · exact c2
end
section
-- counting
def cn (p : Nat → Bool) : Nat → Nat
  | 0 => 0
  | k + 1 => cn p k + (if p k = true then 1 else 0)
theorem cn_s (p : Nat → Bool) (k : Nat) : cn p (k + 1) = cn p k + (if p k = true then 1 else 0) := rfl
theorem cn_le (p : Nat → Bool) : ∀ n, cn p n ≤ n
  | 0 => Nat.le_refl 0
  | n + 1 => by
    have := cn_le p n
    unfold cn
    split <;> omega
theorem cn_mono {p q : Nat → Bool} : ∀ n, (∀ i, i < n → p i = true → q i = true) → cn p n ≤ cn q n
  | 0, _ => Nat.le_refl 0
  | n + 1, h => by
    have h1 := cn_mono n (fun i hi => h i (by omega))
    have h2 := h n (by omega)
    unfold cn
    by_cases hp : p n = true
    · rw [if_pos hp, if_pos (h2 hp)]; omega
    · rw [if_neg hp]; omega
theorem cn_lt {p q : Nat → Bool} {g : Nat} : ∀ n, (∀ i, i < n → p i = true → q i = true) → g < n → p g = false → q g = true → cn p n < cn q n
  | 0, _, hg, _, _ => absurd hg (by omega)
  | n + 1, h, hg, hp, hq => by
    unfold cn
    by_cases hgn : g = n
    · subst hgn
      have h1 := cn_mono g (fun i hi => h i (by omega))
      rw [if_neg (by rw [hp]; decide), if_pos hq]
      omega
    · have h1 := cn_lt n (fun i hi => h i (by omega)) (by omega) hp hq
      have h2 := h n (by omega)
      by_cases hpn : p n = true
      · rw [if_pos hpn, if_pos (h2 hpn)]; omega
      · rw [if_neg hpn]; omega
theorem cn_all {p : Nat → Bool} : ∀ n, (∀ i, i < n → p i = true) → cn p n = n
  | 0, _ => rfl
  | n + 1, h => by
    unfold cn
    rw [cn_all n (fun i hi => h i (by omega)), if_pos (h n (by omega))]
theorem cn_none {p : Nat → Bool} : ∀ n, (∀ i, i < n → p i = false) → cn p n = 0
  | 0, _ => rfl
  | n + 1, h => by
    unfold cn
    rw [cn_none n (fun i hi => h i (by omega)), if_neg (by rw [h n (by omega)]; decide)]
theorem cn_rm {q : Nat → Bool} {a : Nat} : ∀ m, a < m → q a = true → cn q m = cn (fun i => q i && !(i == a)) m + 1
  | 0, h, _ => absurd h (by omega)
  | m + 1, h, hq => by
    unfold cn
    by_cases ham : a = m
    · subst ham
      have e : cn (fun i => q i && !(i == a)) a = cn q a := by
        refine Nat.le_antisymm (cn_mono a (fun i hi hh => by simp at hh; exact hh.1)) (cn_mono a (fun i hi hh => ?_))
        have : ¬ i = a := by omega
        simp [hh, this]
      rw [e, if_pos hq, if_neg (by simp)]
    · rw [cn_rm m (by omega) hq]
      have : ¬ m = a := fun z => ham z.symm
      by_cases hqm : q m = true
      · rw [if_pos hqm, if_pos (by simp [hqm, this])]
      · rw [if_neg hqm, if_neg (by simp [hqm])]
/-- as many on both sides: a map that meets each once -/
theorem cn_bij {m : Nat} : ∀ (n : Nat) (p q : Nat → Bool) (f : Nat → Nat), (∀ j, j < n → p j = true → f j < m) → (∀ i j, i < n → j < n → p i = true → p j = true → f i = f j → i = j) → (∀ i, i < m → (q i = true ↔ ∃ j, j < n ∧ p j = true ∧ f j = i)) → cn p n = cn q m
  | 0, p, q, f, h1, h2, h3 => by
    refine (cn_none m (fun i hi => ?_)).symm
    cases hq : q i with
    | false => rfl
    | true =>
      obtain ⟨j, hj, -⟩ := (h3 i hi).mp hq
      exact absurd hj (by omega)
  | n + 1, p, q, f, h1, h2, h3 => by
    rw [cn_s p n]
    by_cases hp : p n = true
    · rw [if_pos hp]
      have ha := h1 n (by omega) hp
      rw [cn_rm m ha ((h3 _ ha).mpr ⟨n, by omega, hp, rfl⟩)]
      congr 1
      refine cn_bij n p _ f (fun j hj => h1 j (by omega)) (fun i j hi hj => h2 i j (by omega) (by omega)) (fun i hi => ?_)
      constructor
      · intro hh
        simp at hh
        obtain ⟨j, hj, hpj, e⟩ := (h3 i hi).mp hh.1
        have hjn : j ≠ n := fun z => hh.2 (by rw [← e, z])
        exact ⟨j, by omega, hpj, e⟩
      · rintro ⟨j, hj, hpj, e⟩
        have h4 : q i = true := (h3 i hi).mpr ⟨j, by omega, hpj, e⟩
        have h5 : ¬ i = f n := fun z => by
          have := h2 j n (by omega) (by omega) hpj hp (e.trans z)
          omega
        simp [h4, h5]
    · rw [if_neg hp, Nat.add_zero]
      refine cn_bij n p q f (fun j hj => h1 j (by omega)) (fun i j hi hj => h2 i j (by omega) (by omega)) (fun i hi => ?_)
      rw [h3 i hi]
      constructor
      · rintro ⟨j, hj, hpj, e⟩
        have hjn : j ≠ n := fun z => hp (by rw [← z]; exact hpj)
        exact ⟨j, by omega, hpj, e⟩
      · rintro ⟨j, hj, hpj, e⟩
        exact ⟨j, by omega, hpj, e⟩
/-- at most as many: each on the right has one on the left -/
theorem cn_sur {m : Nat} : ∀ (n : Nat) (p q : Nat → Bool) (f : Nat → Nat), (∀ i, i < m → q i = true → ∃ j, j < n ∧ p j = true ∧ f j = i) → cn q m ≤ cn p n
  | 0, p, q, f, h => by
    rw [cn_none m (fun i hi => ?_)]
    · exact Nat.zero_le _
    · cases hq : q i with
      | false => rfl
      | true =>
        obtain ⟨j, hj, -⟩ := h i hi hq
        exact absurd hj (by omega)
  | n + 1, p, q, f, h => by
    rw [cn_s p n]
    by_cases hp : p n = true
    · rw [if_pos hp]
      by_cases ha : f n < m ∧ q (f n) = true
      · rw [cn_rm m ha.1 ha.2]
        refine Nat.succ_le_succ (cn_sur n p _ f (fun i hi hh => ?_))
        simp at hh
        obtain ⟨j, hj, hpj, e⟩ := h i hi hh.1
        have hjn : j ≠ n := fun z => hh.2 (by rw [← e, z])
        exact ⟨j, by omega, hpj, e⟩
      · refine Nat.le_succ_of_le (cn_sur n p q f (fun i hi hh => ?_))
        obtain ⟨j, hj, hpj, e⟩ := h i hi hh
        have hjn : j ≠ n := fun z => ha (by rw [← z, e]; exact ⟨hi, hh⟩)
        exact ⟨j, by omega, hpj, e⟩
    · rw [if_neg hp, Nat.add_zero]
      refine cn_sur n p q f (fun i hi hh => ?_)
      obtain ⟨j, hj, hpj, e⟩ := h i hi hh
      have hjn : j ≠ n := fun z => hp (by rw [← z]; exact hpj)
      exact ⟨j, by omega, hpj, e⟩
end
section
-- a new cell; the collector's steps
theorem g_ncol {n k : Nat} {u : TS} (hk : k < 2 ^ 31) (h7 : tPh u = 0 ∨ tPh u = 1 ∨ tPh u = 2 ∨ tPh u = 3 ∨ tPh u = 4 ∨ tPh u = 5) : ∃ z : Int32, th_ncol u (nI k) = upd (tCol u) k z ∧ ((tPh u = 0 ∨ tPh u = 5) ∧ z = tBl u ∨ (tPh u = 1 ∨ tPh u = 2 ∨ tPh u = 3 ∨ tPh u = 4) ∧ z = 3) := by
  unfold th_ncol
  rw [nI_clamp hk]
  have e : upd (upd (tCol u) k (tBl u)) k 3 = upd (tCol u) k 3 := by
    funext i
    rw [g_u, g_u, g_u]
    split <;> rfl
  rcases h7 with h | h | h | h | h | h
  · exact ⟨tBl u, by rw [if_pos (by rw [h]; decide)], Or.inl ⟨Or.inl h, rfl⟩⟩
  · exact ⟨3, by rw [if_neg (by rw [h]; decide), if_neg (by rw [h]; decide), e], Or.inr ⟨Or.inl h, rfl⟩⟩
  · exact ⟨3, by rw [if_neg (by rw [h]; decide), if_neg (by rw [h]; decide), e], Or.inr ⟨Or.inr (Or.inl h), rfl⟩⟩
  · exact ⟨3, by rw [if_neg (by rw [h]; decide), if_neg (by rw [h]; decide), e], Or.inr ⟨Or.inr (Or.inr (Or.inl h)), rfl⟩⟩
  · exact ⟨3, by rw [if_neg (by rw [h]; decide), if_neg (by rw [h]; decide), e], Or.inr ⟨Or.inr (Or.inr (Or.inr h)), rfl⟩⟩
  · exact ⟨tBl u, by rw [if_neg (by rw [h]; decide), if_pos (by rw [h]; decide)], Or.inl ⟨Or.inr h, rfl⟩⟩
def gNw (u : TS) (k i : Nat) (z : Int32) : TS := sReg (sL1 (sL0 (sCol u (upd (tCol u) k z)) (upd (tL0 u) k (-1))) (upd (tL1 u) k (-1))) (upd (tReg u) i (nI k))
theorem gI_new {n k i : Nat} {u : TS} {z : Int32} (h : gI n u) (hk : k < n) (h0 : tCol u k = 0) (hz : (tPh u = 0 ∨ tPh u = 5) ∧ z = tBl u ∨ (tPh u = 1 ∨ tPh u = 2 ∨ tPh u = 3 ∨ tPh u = 4) ∧ z = 3) : gI n (gNw u k i z) ∧ ∀ j, gV n (gNw u k i z) j ↔ j = k ∨ gV n u j := by
  obtain ⟨⟨a1, a2, a3, a4, a5, a6, a7, a8⟩, ⟨b1, b2, b3⟩, ⟨c1, c2, c3, c4⟩, p3, p4⟩ := h
  have hg := g_w0 a5
  have hz0 : ¬ z = 0 := by
    rcases hz with ⟨-, rfl⟩ | ⟨-, rfl⟩
    · exact hg.2.2.2.2.1
    · decide
  have hzw : ¬ z = 3 - tBl u := by
    rcases hz with ⟨-, rfl⟩ | ⟨-, rfl⟩
    · exact fun q => hg.2.2.1 q.symm
    · exact fun q => hg.2.1 q.symm
  have hV : ∀ j, gV n (gNw u k i z) j ↔ j = k ∨ gV n u j := by
    intro j
    unfold gV
    show j < n ∧ ¬ upd (tCol u) k z j = 0 ∧ ¬ (tPh u = 5 ∧ upd (tCol u) k z j = 3 - tBl u) ↔ _
    rw [g_u]
    by_cases hj : j = k
    · rw [if_pos hj]
      exact ⟨fun _ => Or.inl hj, fun _ => ⟨by omega, hz0, fun q => hzw q.2⟩⟩
    · rw [if_neg hj]
      exact ⟨fun q => Or.inr q, fun q => q.resolve_left hj⟩
  have hR : ∀ {y : Int32}, gR n u y → gR n (gNw u k i z) y := fun hy => gR_of (fun j q => (hV j).mpr (Or.inr q)) hy
  have hnk : ∀ j, gV n u j → j ≠ k := fun j q e => q.2.1 (by rw [e]; exact h0)
  have hpr : ∀ (Sd : Nat → Prop) j, (∀ e, e < n → Sd e → e ≠ k) → gPr n u Sd j → gPr n (gNw u k i z) Sd j := by
    intro Sd j hs hp X h1 h2 h3
    have hres := hp (fun e => X e ∧ e ≠ k) (fun e he hc => ?_) (fun e he hS => ⟨h2 e he hS, hs e he hS⟩) (fun a b ha hX hb hE hc => ?_)
    · exact hres.1
    · have hek : e ≠ k := fun q => by
        rw [q, h0] at hc
        exact absurd hc (by decide)
      exact ⟨h1 e he (by show upd (tCol u) k z e = 3; rw [g_u, if_neg hek]; exact hc), hek⟩
    · have hbk : b ≠ k := fun q => by
        rw [q, h0] at hc
        exact hg.1 hc.symm
      refine ⟨h3 a b ha hX.1 hb ?_ (by show upd (tCol u) k z b = _; rw [g_u, if_neg hbk]; exact hc), hbk⟩
      rcases hE with hE | hE
      · exact Or.inl (by show upd (tL0 u) k (-1) a = _; rw [g_u, if_neg hX.2]; exact hE)
      · exact Or.inr (by show upd (tL1 u) k (-1) a = _; rw [g_u, if_neg hX.2]; exact hE)
  have hsd : ∀ e, e < n → gS u e → e ≠ k := by
    intro e he hS
    rcases hS with hS | hS
    · exact hnk e (gR_in a2 (by omega) (by rw [← hS]; exact b2 0 (by omega)))
    · exact hnk e (gR_in a2 (by omega) (by rw [← hS]; exact b2 1 (by omega)))
  have hwh : ∀ j, upd (tCol u) k z j = 3 - tBl u → j ≠ k ∧ tCol u j = 3 - tBl u := by
    intro j hc
    rw [g_u] at hc
    split at hc
    · exact absurd hc hzw
    · rename_i hj
      exact ⟨hj, hc⟩
  refine ⟨⟨⟨a1, a2, a3, ⟨a4.1, fun e he => ?_, a4.2.2.1, fun e he => ?_, fun e he => ?_⟩, a5, a6, a7, fun j hj => ?_⟩, ⟨fun e he => ?_, fun e he => hR (b2 e he), fun j hj => ?_⟩, ⟨fun q j hj => ?_, fun q j hj => ?_, fun q j hj => ?_, fun q y j hy hs hj => ?_⟩, fun q t ht hb r hr j hj hreg hc => ?_, fun q j hj hc hh => ?_⟩, hV⟩
  · show th_rf (upd (tReg u) i (nI k) e)
    rw [g_u]
    split
    · exact Or.inr (vp_in_nI (by omega) (by omega))
    · exact a4.2.1 e he
  · show th_rf (upd (tL0 u) k (-1) e)
    rw [g_u]
    split
    · exact th_rf_m1
    · exact a4.2.2.2.1 e he
  · show th_rf (upd (tL1 u) k (-1) e)
    rw [g_u]
    split
    · exact th_rf_m1
    · exact a4.2.2.2.2 e he
  · show upd (tCol u) k z j = 0 ∨ upd (tCol u) k z j = tBl u ∨ upd (tCol u) k z j = 3 - tBl u ∨ upd (tCol u) k z j = 3
    rw [g_u]
    split
    · rcases hz with ⟨-, rfl⟩ | ⟨-, rfl⟩
      · exact Or.inr (Or.inl rfl)
      · exact Or.inr (Or.inr (Or.inr rfl))
    · exact a8 j hj
  · show gR n (gNw u k i z) (upd (tReg u) i (nI k) e)
    rw [g_u]
    split
    · exact Or.inr ⟨k, rfl, (hV k).mpr (Or.inl rfl)⟩
    · exact hR (b1 e he)
  · show gR n (gNw u k i z) (upd (tL0 u) k (-1) j) ∧ gR n (gNw u k i z) (upd (tL1 u) k (-1) j)
    rw [g_u, g_u]
    split
    · exact ⟨Or.inl rfl, Or.inl rfl⟩
    · rename_i hjk
      have hj' := ((hV j).mp hj).resolve_left hjk
      exact ⟨hR (b3 j hj').1, hR (b3 j hj').2⟩
  · show ¬ upd (tCol u) k z j = tBl u
    have q2 : tPh u = 1 ∨ tPh u = 2 ∨ tPh u = 3 := q
    rw [g_u]
    split
    · rcases hz with ⟨y, rfl⟩ | ⟨-, rfl⟩
      · rcases y with y | y <;> rcases q2 with q2 | q2 | q2 <;> rw [y] at q2 <;> exact absurd q2 (by decide)
      · exact fun y => hg.2.2.2.2.2 y.symm
    · exact c1 q2 j hj
  · show ¬ upd (tCol u) k z j = 3
    have q2 : tPh u = 0 ∨ tPh u = 5 := q
    rw [g_u]
    split
    · rcases hz with ⟨-, rfl⟩ | ⟨y, rfl⟩
      · exact hg.2.2.2.2.2
      · rcases q2 with q2 | q2 <;> rcases y with y | y | y | y <;> rw [y] at q2 <;> exact absurd q2 (by decide)
    · exact c2 q2 j hj
  · exact fun y => c3 q j hj (hwh j y).2
  · exact fun y => c4 q _ j hy hs hj (hwh j y).2
  · obtain ⟨hjk, hc⟩ := hwh j hc
    have hreg : upd (tReg u) i (nI k) (t * 4 + r) = nI j := hreg
    rw [g_u] at hreg
    split at hreg
    · exact absurd (g_nI_inj (by omega) (by omega) hreg).symm hjk
    · exact hpr _ j hsd (p3 q t ht hb r hr j hj hreg hc)
  · obtain ⟨hjk, hc⟩ := hwh j hc
    have q2 : tPh u = 4 := q
    refine hpr _ j (fun _ _ y => absurd y id) (p4 q2 j hj hc ?_)
    rcases hh with ⟨e, he, hreg⟩ | hh | ⟨e, he, hce, hE⟩
    · have hreg : upd (tReg u) i (nI k) e = nI j := hreg
      rw [g_u] at hreg
      split at hreg
      · exact absurd (g_nI_inj (by omega) (by omega) hreg).symm hjk
      · exact Or.inl ⟨e, he, hreg⟩
    · exact Or.inr (Or.inl hh)
    · have hce : upd (tCol u) k z e = tBl u := hce
      rw [g_u] at hce
      split at hce
      · rcases hz with ⟨y, rfl⟩ | ⟨-, rfl⟩
        · rcases y with y | y <;> rw [y] at q2 <;> exact absurd q2 (by decide)
        · exact absurd hce.symm hg.2.2.2.2.2
      · rename_i hek
        refine Or.inr (Or.inr ⟨e, he, hce, ?_⟩)
        rcases hE with hE | hE
        · have hE : upd (tL0 u) k (-1) e = nI j := hE
          rw [g_u, if_neg hek] at hE
          exact Or.inl hE
        · have hE : upd (tL1 u) k (-1) e = nI j := hE
          rw [g_u, if_neg hek] at hE
          exact Or.inr hE
end
section
-- the collector's steps, one by one; exactness: only what the roots reach becomes grey or black
def gX (n : Nat) (u : TS) : Prop := ∀ X : Nat → Prop, (∀ i j, i < 12 → j < n → tReg u i = nI j → X j) → (∀ i j, i < 2 → j < n → tGl u i = nI j → X j) → (∀ i j, i < n → X i → j < n → gE u i j → X j) → ∀ j, j < n → (tCol u j = 3 ∨ tCol u j = tBl u) → X j
def gXm (n : Nat) (u : TS) (k : Int32) : Prop := ∀ X : Nat → Prop, (∀ i j, i < 12 → j < n → tReg u i = nI j → X j) → (∀ i j, i < 2 → j < n → tGl u i = nI j → X j) → (∀ i j, i < n → X i → j < n → gE u i j → X j) → ∀ j, j < n → k = nI j → X j
theorem gX_reach {n : Nat} {u : TS} {k : Int32} (h : gI n u) (hk : gR n u k) (hx : gX n u) (hm : gXm n u k) : gX n (th_reach u k) := by
  rcases g_reach h hk with e | ⟨j, hj, hkj, hw, hp, e⟩
  · rw [e]; exact hx
  · rw [e]
    intro X h1 h2 h3 i hi hc
    by_cases hij : i = j
    · subst hij
      exact hm X h1 h2 h3 i hi hkj
    · refine hx X h1 h2 h3 i hi ?_
      have hc : upd (tCol u) j 3 i = 3 ∨ upd (tCol u) j 3 i = tBl u := hc
      rw [g_u, if_neg hij] at hc
      exact hc
theorem gX_rcs {n : Nat} {u : TS} {t : Nat} (h : gI n u) (ht : t < 3) (hx : gX n u) : ∀ k, k ≤ 4 → gX n (sCol u (th_rcs (tBl u) (tCol u) (tReg u) (nI t) k))
  | 0, _ => hx
  | k + 1, hk => by
    obtain ⟨h1, h2, h3⟩ := g_rcs h ht k (by omega)
    have hidx : (nI t * 4 + nI k).toNatClampNeg = t * 4 + k := by rw [th_ix]; exact nI_clamp (by omega)
    have hR : gR n (sCol u (th_rcs (tBl u) (tCol u) (tReg u) (nI t) k)) (tReg u (t * 4 + k)) := h1.2.1.1 (t * 4 + k) (by omega)
    have he : sCol u (th_rcs (tBl u) (tCol u) (tReg u) (nI t) (k + 1)) = th_reach (sCol u (th_rcs (tBl u) (tCol u) (tReg u) (nI t) k)) (tReg u (t * 4 + k)) := by
      rw [th_rcs, hidx]
      rfl
    rw [he]
    exact gX_reach h1 hR (gX_rcs h ht hx k (by omega)) (fun X r1 _ _ j hj e => r1 (t * 4 + k) j (by omega) hj e)
theorem gX_answer {n : Nat} {u : TS} {t : Nat} (h : gI n u) (ht : t < 3) (hx : gX n u) : gX n (th_answer u (nI t)) := by
  unfold th_answer
  split
  · exact hx
  · split
    · exact hx
    · split
      · split
        · exact hx
        · exact gX_rcs h ht hx 4 (by omega)
      · exact hx
-- rest -> first signal
theorem g_step0 {n : Nat} {u : TS} (h : gI n u) (q : tPh u = 0) : gT n u (sAns (sPh (sBl u (3 - tBl u)) 1) 0) ∧ gX n (sAns (sPh (sBl u (3 - tBl u)) 1) 0) := by
  obtain ⟨⟨a1, a2, a3, a4, a5, a6, a7, a8⟩, ⟨b1, b2, b3⟩, ⟨c1, c2, c3, c4⟩, p3, p4⟩ := h
  have hg := g_w0 a5
  have e5 : 3 - (3 - tBl u) = tBl u := hg.2.2.2.1
  have hV : ∀ j, gV n (sAns (sPh (sBl u (3 - tBl u)) 1) 0) j ↔ gV n u j := by
    intro j
    refine ⟨fun y => ⟨y.1, y.2.1, fun z => ?_⟩, fun y => ⟨y.1, y.2.1, fun z => ?_⟩⟩
    · rw [q] at z; exact absurd z.1 (by decide)
    · exact absurd (show (1 : Int32) = 5 from z.1) (by decide)
  have hR : ∀ {k : Int32}, gR n u k → gR n (sAns (sPh (sBl u (3 - tBl u)) 1) 0) k := fun hk => gR_of (fun i => (hV i).mpr) hk
  refine ⟨⟨⟨⟨a1, a2, a3, a4, ?_, ⟨0, by omega, rfl⟩, Or.inr (Or.inl rfl), fun j hj => ?_⟩, ⟨fun i hi => hR (b1 i hi), fun i hi => hR (b2 i hi), fun i hi => ?_⟩, ⟨fun _ j hj => c3 q j hj, fun y => ?_, fun y => absurd (show (1 : Int32) = 0 from y) (by decide), fun y => absurd (show (1 : Int32) = 5 from y) (by decide)⟩, fun y => absurd (show (1 : Int32) = 3 from y) (by decide), fun y => absurd (show (1 : Int32) = 4 from y) (by decide)⟩, ⟨rfl, rfl, rfl, rfl, rfl, rfl, rfl, rfl⟩, fun j y => (hV j).mp y⟩, ?_⟩
  · show 3 - tBl u = 1 ∨ 3 - tBl u = 2
    rcases a5 with y | y <;> rw [y]
    · exact Or.inr (by decide)
    · exact Or.inl (by decide)
  · show tCol u j = 0 ∨ tCol u j = 3 - tBl u ∨ tCol u j = 3 - (3 - tBl u) ∨ tCol u j = 3
    rw [e5]
    rcases a8 j hj with y | y | y | y
    · exact Or.inl y
    · exact Or.inr (Or.inr (Or.inl y))
    · exact Or.inr (Or.inl y)
    · exact Or.inr (Or.inr (Or.inr y))
  · have := b3 i ((hV i).mp hi)
    exact ⟨hR this.1, hR this.2⟩
  · rcases y with y | y
    · exact absurd (show (1 : Int32) = 0 from y) (by decide)
    · exact absurd (show (1 : Int32) = 5 from y) (by decide)
  · intro X _ _ _ j hj hc
    rcases hc with hc | hc
    · exact absurd hc (c2 (Or.inl q) j hj)
    · exact absurd hc (c3 q j hj)
-- signals
theorem g_nobit : ∀ t, t < 3 → ¬ gBit 0 t := by decide +kernel
theorem g_allbit : ∀ t, t < 3 → gBit 7 t := by decide +kernel
theorem g_sig12 {n : Nat} {u : TS} (h : gI n u) (q : tPh u = 1 ∨ tPh u = 2) : gT n u (th_sig1 u) ∧ (gX n u → gX n (th_sig1 u)) := by
  obtain ⟨⟨a1, a2, a3, a4, a5, a6, a7, a8⟩, ⟨b1, b2, b3⟩, ⟨c1, c2, c3, c4⟩, p3, p4⟩ := h
  have hp : tPh (th_sig1 u) = 2 ∨ tPh (th_sig1 u) = 3 := by
    show tPh u + 1 = 2 ∨ tPh u + 1 = 3
    rcases q with q | q <;> rw [q]
    · exact Or.inl (by decide)
    · exact Or.inr (by decide)
  have h5 : ¬ tPh (th_sig1 u) = 5 := by rcases hp with y | y <;> rw [y] <;> decide
  have h0 : ¬ tPh (th_sig1 u) = 0 := by rcases hp with y | y <;> rw [y] <;> decide
  have h4 : ¬ tPh (th_sig1 u) = 4 := by rcases hp with y | y <;> rw [y] <;> decide
  have h5u : ¬ tPh u = 5 := by rcases q with y | y <;> rw [y] <;> decide
  have hV : ∀ j, gV n (th_sig1 u) j ↔ gV n u j := fun j => ⟨fun y => ⟨y.1, y.2.1, fun z => h5u z.1⟩, fun y => ⟨y.1, y.2.1, fun z => h5 z.1⟩⟩
  have hR : ∀ {k : Int32}, gR n u k → gR n (th_sig1 u) k := fun hk => gR_of (fun i => (hV i).mpr) hk
  refine ⟨⟨⟨⟨a1, a2, a3, a4, a5, ⟨0, by omega, rfl⟩, ?_, a8⟩, ⟨fun i hi => hR (b1 i hi), fun i hi => hR (b2 i hi), fun i hi => ?_⟩, ⟨fun _ j hj => c1 ?_ j hj, fun y => ?_, fun y => absurd y h0, fun y => absurd y h5⟩, fun _ t ht hb => absurd hb (g_nobit t ht), fun y => absurd y h4⟩, ⟨rfl, rfl, rfl, rfl, rfl, rfl, rfl, rfl⟩, fun j y => (hV j).mp y⟩, fun hx => hx⟩
  · rcases hp with y | y
    · exact Or.inr (Or.inr (Or.inl y))
    · exact Or.inr (Or.inr (Or.inr (Or.inl y)))
  · have := b3 i ((hV i).mp hi)
    exact ⟨hR this.1, hR this.2⟩
  · rcases q with q | q
    · exact Or.inl q
    · exact Or.inr (Or.inl q)
  · rcases y with y | y
    · exact absurd y h0
    · exact absurd y h5
theorem g_sig3 {n : Nat} {u : TS} (h : gI n u) (q : tPh u = 3) (h7 : tAns u = 7) (hs : ∀ j, j < n → gS u j → ¬ tCol u j = 3 - tBl u) : gI n (sPh (sAns u 0) 4) ∧ ∀ j, gV n (sPh (sAns u 0) 4) j ↔ gV n u j := by
  obtain ⟨⟨a1, a2, a3, a4, a5, a6, a7, a8⟩, ⟨b1, b2, b3⟩, ⟨c1, c2, c3, c4⟩, p3, p4⟩ := h
  have h5u : ¬ tPh u = 5 := by rw [q]; decide
  have hV : ∀ j, gV n (sPh (sAns u 0) 4) j ↔ gV n u j := fun j => ⟨fun y => ⟨y.1, y.2.1, fun z => h5u z.1⟩, fun y => ⟨y.1, y.2.1, fun z => absurd (show (4 : Int32) = 5 from z.1) (by decide)⟩⟩
  have hR : ∀ {k : Int32}, gR n u k → gR n (sPh (sAns u 0) 4) k := fun hk => gR_of (fun i => (hV i).mpr) hk
  refine ⟨⟨⟨a1, a2, a3, a4, a5, ⟨0, by omega, rfl⟩, Or.inr (Or.inr (Or.inr (Or.inr (Or.inl rfl)))), a8⟩, ⟨fun i hi => hR (b1 i hi), fun i hi => hR (b2 i hi), fun i hi => ?_⟩, ⟨fun y => ?_, fun y => ?_, fun y => absurd (show (4 : Int32) = 0 from y) (by decide), fun y => absurd (show (4 : Int32) = 5 from y) (by decide)⟩, fun y => absurd (show (4 : Int32) = 3 from y) (by decide), fun _ j hj hc ho => ?_⟩, hV⟩
  · have := b3 i ((hV i).mp hi)
    exact ⟨hR this.1, hR this.2⟩
  · rcases y with y | y | y
    · exact absurd (show (4 : Int32) = 1 from y) (by decide)
    · exact absurd (show (4 : Int32) = 2 from y) (by decide)
    · exact absurd (show (4 : Int32) = 3 from y) (by decide)
  · rcases y with y | y
    · exact absurd (show (4 : Int32) = 0 from y) (by decide)
    · exact absurd (show (4 : Int32) = 5 from y) (by decide)
  · rcases ho with ⟨i, hi, hreg⟩ | ho | ⟨i, hi, hb, -⟩
    · have hp := p3 q (i / 4) (by omega) (by rw [h7]; exact g_allbit _ (by omega)) (i % 4) (by omega) j hj (by rw [show i / 4 * 4 + i % 4 = i by omega]; exact hreg) hc
      intro X h1 _ h3
      refine hp X h1 (fun e he hS => ?_) h3
      have hVe : gV n u e := by
        rcases hS with hS | hS
        · exact gR_in a2 (by omega) (by rw [← hS]; exact b2 0 (by omega))
        · exact gR_in a2 (by omega) (by rw [← hS]; exact b2 1 (by omega))
      rcases a8 e he with c | c | c | c
      · exact absurd c hVe.2.1
      · exact absurd c (c1 (Or.inr (Or.inr q)) e he)
      · exact absurd c (hs e he hS)
      · exact h1 e he c
    · exact absurd hc (hs j hj ho)
    · exact absurd hb (c1 (Or.inr (Or.inr q)) i hi)
theorem g_signal {n : Nat} {u : TS} (h : gI n u) (q : tPh u = 1 ∨ tPh u = 2 ∨ tPh u = 3) : gT n u (th_signal u) ∧ (gX n u → gX n (th_signal u)) ∧ (tAns u = 7 → tPh (th_signal u) = tPh u + 1) := by
  unfold th_signal
  split
  · rename_i h7
    split
    · rename_i h4
      have q2 : tPh u = 1 ∨ tPh u = 2 := by
        rcases q with q | q | q
        · exact Or.inl q
        · exact Or.inr q
        · exact absurd (by rw [q]; decide) h4
      have := g_sig12 h q2
      exact ⟨this.1, this.2, fun _ => rfl⟩
    · rename_i h4
      have h4 : tPh u + 1 = 4 := Decidable.not_not.mp h4
      have q3 : tPh u = 3 := by
        rcases q with q | q | q
        · rw [q] at h4; exact absurd h4 (by decide)
        · rw [q] at h4; exact absurd h4 (by decide)
        · exact q
      have e0 : tGl u (0 : Int32).toNatClampNeg = tGl u 0 := rfl
      have e1 : tGl u (1 : Int32).toNatClampNeg = tGl u 1 := rfl
      rw [e0, e1]
      have r0 := h.2.1.2.1 0 (by omega)
      have h1 := gI_reach h r0
      have r1 := gR_reach h r0 (h.2.1.2.1 1 (by omega))
      have h2 := gI_reach h1 r1
      have hs : ∀ j, j < n → gS u j → ¬ tCol (th_reach (th_reach u (tGl u 0)) (tGl u 1)) j = 3 - tBl u := by
        intro j hj hS
        rcases hS with hS | hS
        · exact g_reach_keep h1 r1 (g_reach_nw h r0 hj hS)
        · exact g_reach_nw h1 r1 hj hS
      have h3 := g_sig3 (u := th_reach (th_reach u (tGl u 0)) (tGl u 1)) h2 q3 h7 hs
      have eq : th_reach (th_reach (th_sig1 u) (tGl u 0)) (tGl u 1) = sPh (sAns (th_reach (th_reach u (tGl u 0)) (tGl u 1)) 0) 4 := by
        show sPh (sAns (th_reach (th_reach u (tGl u 0)) (tGl u 1)) 0) (tPh u + 1) = _
        rw [h4]
      rw [eq]
      refine ⟨⟨h3.1, ⟨rfl, rfl, rfl, rfl, rfl, rfl, rfl, rfl⟩, fun j y => (gV_reach h r0 j).mp ((gV_reach h1 r1 j).mp ((h3.2 j).mp y))⟩, fun hx => ?_, fun _ => by show (4 : Int32) = tPh u + 1; rw [q3]; decide⟩
      have x1 := gX_reach h r0 hx (fun X _ g2 _ j hj e => g2 0 j (by omega) hj e)
      have x2 := gX_reach h1 r1 x1 (fun X _ g2 _ j hj e => g2 1 j (by omega) hj e)
      exact x2
  · rename_i h7
    exact ⟨gT_rf h, id, fun y => absurd y h7⟩
-- tracing
theorem g_fg (f : Nat → Int32) : ∀ n : Nat, n ≤ 16 → (0 ≤ th_fg f n → ∃ g, g < n ∧ th_fg f n = nI g ∧ f g = 3) ∧ (¬ 0 ≤ th_fg f n → ∀ j, j < n → ¬ f j = 3)
  | 0, _ => ⟨fun h => absurd (show (0 : Int32) ≤ -1 from h) (by decide), fun _ j hj => absurd hj (by omega)⟩
  | n + 1, hn => by
    have ih := g_fg f n (by omega)
    unfold th_fg
    split
    · rename_i h1
      refine ⟨fun h => ?_, fun h j hj => ?_⟩
      · obtain ⟨g, hg, e, hc⟩ := ih.1 h
        exact ⟨g, by omega, e, hc⟩
      · by_cases hjn : j = n
        · rw [hjn]; exact h1
        · exact ih.2 h j (by omega)
    · rename_i h1
      exact ⟨fun _ => ⟨n, by omega, rfl, Decidable.not_not.mp h1⟩, fun h => absurd (nI_pos' (by omega)) h⟩
theorem g_blk {n g : Nat} {u : TS} (h : gI n u) (q : tPh u = 4) (hgn : g < n) (hgc : tCol u g = 3) (hl : ∀ j, j < n → gE u g j → ¬ tCol u j = 3 - tBl u) : gI n (sCol u (upd (tCol u) g (tBl u))) ∧ ∀ j, gV n (sCol u (upd (tCol u) g (tBl u))) j ↔ gV n u j := by
  obtain ⟨⟨a1, a2, a3, a4, a5, a6, a7, a8⟩, ⟨b1, b2, b3⟩, ⟨c1, c2, c3, c4⟩, p3, p4⟩ := h
  have hg := g_w0 a5
  have h5u : ¬ tPh u = 5 := by rw [q]; decide
  have hV : ∀ j, gV n (sCol u (upd (tCol u) g (tBl u))) j ↔ gV n u j := by
    intro j
    unfold gV
    show j < n ∧ ¬ upd (tCol u) g (tBl u) j = 0 ∧ ¬ (tPh u = 5 ∧ _) ↔ _
    rw [g_u]
    by_cases hj : j = g
    · rw [if_pos hj, hj, hgc]
      exact ⟨fun y => ⟨y.1, by decide, fun z => h5u z.1⟩, fun y => ⟨y.1, hg.2.2.2.2.1, fun z => h5u z.1⟩⟩
    · rw [if_neg hj]
      exact ⟨fun y => ⟨y.1, y.2.1, fun z => h5u z.1⟩, fun y => ⟨y.1, y.2.1, fun z => h5u z.1⟩⟩
  have hR : ∀ {k : Int32}, gR n u k → gR n (sCol u (upd (tCol u) g (tBl u))) k := fun hk => gR_of (fun i => (hV i).mpr) hk
  refine ⟨⟨⟨a1, a2, a3, a4, a5, a6, a7, fun j hj => ?_⟩, ⟨fun i hi => hR (b1 i hi), fun i hi => hR (b2 i hi), fun i hi => ?_⟩, ⟨fun y => ?_, fun y => ?_, fun y => ?_, fun y => absurd y h5u⟩, fun y => ?_, fun _ j hj hc ho => ?_⟩, hV⟩
  · show upd (tCol u) g (tBl u) j = 0 ∨ upd (tCol u) g (tBl u) j = tBl u ∨ upd (tCol u) g (tBl u) j = 3 - tBl u ∨ upd (tCol u) g (tBl u) j = 3
    rw [g_u]
    split
    · exact Or.inr (Or.inl rfl)
    · exact a8 j hj
  · have := b3 i ((hV i).mp hi)
    exact ⟨hR this.1, hR this.2⟩
  · have y2 : tPh u = 1 ∨ tPh u = 2 ∨ tPh u = 3 := y
    rw [q] at y2
    exact absurd y2 (by decide)
  · have y2 : tPh u = 0 ∨ tPh u = 5 := y
    rw [q] at y2
    exact absurd y2 (by decide)
  · have y2 : tPh u = 0 := y
    rw [q] at y2
    exact absurd y2 (by decide)
  · have y2 : tPh u = 3 := y
    rw [q] at y2
    exact absurd y2 (by decide)
  · have hc : upd (tCol u) g (tBl u) j = 3 - tBl u := hc
    rw [g_u] at hc
    split at hc
    · exact absurd hc.symm hg.2.2.1
    · rename_i hjg
      have hp : gPr n u (fun _ => False) j := by
        rcases ho with ho | ho | ⟨i, hi, hb, hE⟩
        · exact p4 q j hj hc (Or.inl ho)
        · exact p4 q j hj hc (Or.inr (Or.inl ho))
        · have hb : upd (tCol u) g (tBl u) i = tBl u := hb
          by_cases hig : i = g
          · rw [hig] at hE
            exact absurd hc (hl j hj hE)
          · rw [g_u, if_neg hig] at hb
            exact p4 q j hj hc (Or.inr (Or.inr ⟨i, hi, hb, hE⟩))
      intro X h1 h2 h3
      have hres := hp (fun e => X e ∨ e = g) (fun e he hce => ?_) (fun e he z => absurd z id) (fun a b ha hX hb hE hcb => ?_)
      · exact hres.resolve_right hjg
      · by_cases heg : e = g
        · exact Or.inr heg
        · exact Or.inl (h1 e he (by show upd (tCol u) g (tBl u) e = 3; rw [g_u, if_neg heg]; exact hce))
      · have hbg : b ≠ g := fun z => by
          rw [z, hgc] at hcb
          exact hg.2.1 hcb.symm
        rcases hX with hX | hX
        · exact Or.inl (h3 a b ha hX hb hE (by show upd (tCol u) g (tBl u) b = _; rw [g_u, if_neg hbg]; exact hcb))
        · rw [hX] at hE
          exact absurd hcb (hl b hb hE)
theorem g_t45 {n : Nat} {u : TS} (h : gI n u) (q : tPh u = 4) (hn : ∀ j, j < n → ¬ tCol u j = 3) : gT n u (sSw (sPh u 5) 0) := by
  obtain ⟨⟨a1, a2, a3, a4, a5, a6, a7, a8⟩, ⟨b1, b2, b3⟩, ⟨c1, c2, c3, c4⟩, p3, p4⟩ := h
  have h5u : ¬ tPh u = 5 := by rw [q]; decide
  have hnone : ∀ j, gPr n u (fun _ => False) j → False := fun j hp => hp (fun _ => False) (fun i hi hc => hn i hi hc) (fun _ _ z => z) (fun _ _ _ z _ _ _ => z)
  have hW : ∀ {k : Int32}, gR n u k → (∀ j, j < n → k = nI j → ¬ tCol u j = 3 - tBl u) → gR n (sSw (sPh u 5) 0) k := by
    intro k hk hw
    rcases hk with rfl | ⟨j, rfl, hj⟩
    · exact Or.inl rfl
    · exact Or.inr ⟨j, rfl, hj.1, hj.2.1, fun z => hw j hj.1 rfl z.2⟩
  have hVu : ∀ j, gV n (sSw (sPh u 5) 0) j → gV n u j ∧ tCol u j = tBl u := by
    intro j hj
    refine ⟨⟨hj.1, hj.2.1, fun z => h5u z.1⟩, ?_⟩
    rcases a8 j hj.1 with c | c | c | c
    · exact absurd c hj.2.1
    · exact c
    · exact absurd ⟨rfl, c⟩ hj.2.2
    · exact absurd c (hn j hj.1)
  refine ⟨⟨⟨a1, a2, a3, ?_, a5, a6, Or.inr (Or.inr (Or.inr (Or.inr (Or.inr rfl)))), a8⟩, ⟨fun i hi => hW (b1 i hi) (fun j hj e hc => ?_), fun i hi => hW (b2 i hi) (fun j hj e hc => ?_), fun i hi => ?_⟩, ⟨fun y => ?_, fun _ => hn, fun y => absurd (show (5 : Int32) = 0 from y) (by decide), fun _ k j hk hs hj => ?_⟩, fun y => absurd (show (5 : Int32) = 3 from y) (by decide), fun y => absurd (show (5 : Int32) = 4 from y) (by decide)⟩, ⟨rfl, rfl, rfl, rfl, rfl, rfl, rfl, rfl⟩, fun j y => (hVu j y).1⟩
  · obtain ⟨⟨m, k, h1, h2, h3, h4, h5⟩, h6⟩ := a4
    exact ⟨⟨m, 0, h1, h2, by omega, h4, nI_0.symm⟩, h6⟩
  · exact hnone j (p4 q j hj hc (Or.inl ⟨i, hi, e⟩))
  · exact hnone j (p4 q j hj hc (Or.inr (Or.inl (gS_i hi e))))
  · obtain ⟨hVi, hci⟩ := hVu i hi
    have := b3 i hVi
    exact ⟨hW this.1 (fun j hj e hc => hnone j (p4 q j hj hc (Or.inr (Or.inr ⟨i, hi.1, hci, Or.inl e⟩)))), hW this.2 (fun j hj e hc => hnone j (p4 q j hj hc (Or.inr (Or.inr ⟨i, hi.1, hci, Or.inr e⟩))))⟩
  · rcases y with y | y | y
    · exact absurd (show (5 : Int32) = 1 from y) (by decide)
    · exact absurd (show (5 : Int32) = 2 from y) (by decide)
    · exact absurd (show (5 : Int32) = 3 from y) (by decide)
  · have hs : (0 : Int32) = nI k := hs
    rw [← nI_0] at hs
    have := g_nI_inj (by omega) (by omega) hs
    omega
end
section
-- tracing, sweeping, a whole round
def gN (n : Nat) (u : TS) : Nat := cn (fun j => decide (tCol u j = 3 - tBl u ∨ tCol u j = 3)) n
theorem g_reach_gray {n : Nat} {u : TS} {k : Int32} (h : gI n u) (hk : gR n u k) {i : Nat} (hc : tCol u i = 3) : tCol (th_reach u k) i = 3 := by
  rcases g_reach h hk with e | ⟨j, hj, -, hw, hp, e⟩
  · rw [e]; exact hc
  · rw [e]
    show upd (tCol u) j 3 i = 3
    rw [g_u]
    split
    · rfl
    · exact hc
theorem g_reach_wg {n : Nat} {u : TS} {k : Int32} (h : gI n u) (hk : gR n u k) {i : Nat} (hc : tCol (th_reach u k) i = 3 - tBl u ∨ tCol (th_reach u k) i = 3) : tCol u i = 3 - tBl u ∨ tCol u i = 3 := by
  rcases g_reach h hk with e | ⟨j, hj, -, hw, hp, e⟩
  · rw [e] at hc; exact hc
  · rw [e] at hc
    have hc : upd (tCol u) j 3 i = 3 - tBl u ∨ upd (tCol u) j 3 i = 3 := hc
    rw [g_u] at hc
    split at hc
    · rename_i hij
      rw [hij]; exact Or.inl hw
    · exact hc
theorem g_n {n : Nat} {u : TS} (h : gI n u) : (tN u).toNatClampNeg = n := by
  have := h.1.2.1
  rw [h.1.2.2.1]
  exact nI_clamp (by omega)
theorem g_trace {n : Nat} {u : TS} (h : gI n u) (q : tPh u = 4) : gT n u (th_trace u) ∧ (gX n u → gX n (th_trace u)) ∧ (tPh (th_trace u) = 4 ∧ gN n (th_trace u) < gN n u ∨ tPh (th_trace u) = 5 ∧ tSw (th_trace u) = 0) := by
  have hg := g_w0 h.1.2.2.2.2.1
  have h16 := h.1.2.1
  have hf := g_fg (tCol u) n h16
  unfold th_trace
  rw [g_n h]
  split
  · rename_i h0
    obtain ⟨g, hgn, e, hgc⟩ := hf.1 h0
    rw [e]
    unfold th_trc2 th_trc1
    rw [nI_clamp (by omega)]
    have hVg : gV n u g := ⟨hgn, by rw [hgc]; decide, fun z => by rw [q] at z; exact absurd z.1 (by decide)⟩
    have r0 := (h.2.1.2.2 g hVg).1
    have h1 := gI_reach h r0
    have r1 := gR_reach h r0 (h.2.1.2.2 g hVg).2
    have h2 := gI_reach h1 r1
    have hc1 : tCol (th_reach u (tL0 u g)) g = 3 := g_reach_gray h r0 hgc
    have hc2 : tCol (th_reach (th_reach u (tL0 u g)) (tL1 u g)) g = 3 := g_reach_gray h1 r1 hc1
    have hl : ∀ j, j < n → gE u g j → ¬ tCol (th_reach (th_reach u (tL0 u g)) (tL1 u g)) j = 3 - tBl u := by
      intro j hj hE
      rcases hE with hE | hE
      · exact g_reach_keep h1 r1 (g_reach_nw h r0 hj hE)
      · exact g_reach_nw h1 r1 hj hE
    have h3 := g_blk (u := th_reach (th_reach u (tL0 u g)) (tL1 u g)) h2 q hgn hc2 hl
    refine ⟨⟨h3.1, ⟨rfl, rfl, rfl, rfl, rfl, rfl, rfl, rfl⟩, fun j y => (gV_reach h r0 j).mp ((gV_reach h1 r1 j).mp ((h3.2 j).mp y))⟩, fun hx => ?_, Or.inl ⟨q, ?_⟩⟩
    · have x1 := gX_reach h r0 hx (fun X s1 s2 s3 j hj ej => s3 g j hgn (hx X s1 s2 s3 g hgn (Or.inl hgc)) hj (Or.inl ej))
      have x2 := gX_reach h1 r1 x1 (fun X s1 s2 s3 j hj ej => s3 g j hgn (x1 X s1 s2 s3 g hgn (Or.inl hc1)) hj (Or.inr ej))
      intro X s1 s2 s3 j hj hc
      refine x2 X s1 s2 s3 j hj ?_
      have hc : upd (tCol (th_reach (th_reach u (tL0 u g)) (tL1 u g))) g (tBl u) j = 3 ∨ upd (tCol (th_reach (th_reach u (tL0 u g)) (tL1 u g))) g (tBl u) j = tBl u := hc
      rw [g_u] at hc
      split at hc
      · rename_i hjg
        rw [hjg]; exact Or.inl hc2
      · exact hc
    · refine cn_lt (g := g) n (fun i hi hp => ?_) hgn ?_ ?_
      · have hp := of_decide_eq_true hp
        have hp : upd (tCol (th_reach (th_reach u (tL0 u g)) (tL1 u g))) g (tBl u) i = 3 - tBl u ∨ upd (tCol (th_reach (th_reach u (tL0 u g)) (tL1 u g))) g (tBl u) i = 3 := hp
        refine decide_eq_true ?_
        rw [g_u] at hp
        split at hp
        · rename_i hig
          rw [hig]; exact Or.inr hgc
        · exact g_reach_wg h r0 (g_reach_wg h1 r1 hp)
      · refine decide_eq_false (fun hp => ?_)
        have hp : upd (tCol (th_reach (th_reach u (tL0 u g)) (tL1 u g))) g (tBl u) g = 3 - tBl u ∨ upd (tCol (th_reach (th_reach u (tL0 u g)) (tL1 u g))) g (tBl u) g = 3 := hp
        rw [g_u, if_pos rfl] at hp
        rcases hp with hp | hp
        · exact hg.2.2.1 hp.symm
        · exact hg.2.2.2.2.2 hp
      · exact decide_eq_true (Or.inr hgc)
  · rename_i h0
    exact ⟨g_t45 h q (hf.2 h0), fun hx => hx, Or.inr ⟨rfl, rfl⟩⟩
theorem g_sweep {n : Nat} {u : TS} (h : gI n u) (q : tPh u = 5) : gT n u (th_sweep u) ∧ (gX n u → gX n (th_sweep u)) ∧ (tPh (th_sweep u) = 5 ∧ (tSw (th_sweep u)).toNatClampNeg = (tSw u).toNatClampNeg + 1 ∧ (tSw u).toNatClampNeg + 1 < n ∨ tPh (th_sweep u) = 0) ∧ (tSw u).toNatClampNeg < n := by
  have hok := th_ok_sweep h.1.2.2.2.1
  obtain ⟨⟨a1, a2, a3, a4, a5, a6, a7, a8⟩, ⟨b1, b2, b3⟩, ⟨c1, c2, c3, c4⟩, p3, p4⟩ := h
  have hg := g_w0 a5
  obtain ⟨⟨m, k, m1, m2, m3, m4, m5⟩, -⟩ := id a4
  have hmn : m = n := g_nI_inj (by omega) (by omega) (m4.symm.trans a3)
  subst hmn
  have hkc : (nI k).toNatClampNeg = k := nI_clamp (by omega)
  have hcl : (tSw u).toNatClampNeg = k := by rw [m5]; exact hkc
  generalize hcole : (if ¬ tCol u (tSw u).toNatClampNeg = 3 - tBl u then tCol u else upd (tCol u) (tSw u).toNatClampNeg 0) = col
  have hcol : ∀ j, (col j = tCol u j ∧ ¬ (j = k ∧ tCol u j = 3 - tBl u)) ∨ (j = k ∧ tCol u j = 3 - tBl u ∧ col j = 0) := by
    intro j
    rw [hcl] at hcole
    by_cases hw : tCol u k = 3 - tBl u
    · rw [if_neg (not_not_intro hw)] at hcole
      rw [← hcole, g_u]
      by_cases hj : j = k
      · rw [if_pos hj, hj]
        exact Or.inr ⟨rfl, hw, rfl⟩
      · rw [if_neg hj]
        exact Or.inl ⟨rfl, fun z => hj z.1⟩
    · rw [if_pos hw] at hcole
      rw [← hcole]
      exact Or.inl ⟨rfl, fun z => hw (by rw [← z.1]; exact z.2)⟩
  have hnw : ∀ j, j < k + 1 → ¬ col j = 3 - tBl u := by
    intro j hj z
    rcases hcol j with ⟨y1, y2⟩ | ⟨-, -, y3⟩
    · rw [y1] at z
      by_cases hjk : j = k
      · exact y2 ⟨hjk, z⟩
      · exact c4 q k j m3 m5 (by omega) z
    · rw [y3] at z
      exact hg.1 z.symm
  have hV5 : ∀ j, j < m ∧ ¬ col j = 0 ∧ ¬ col j = 3 - tBl u ↔ gV m u j := by
    intro j
    rcases hcol j with ⟨y1, y2⟩ | ⟨y1, y2, y3⟩
    · rw [y1]
      exact ⟨fun z => ⟨z.1, z.2.1, fun x => z.2.2 x.2⟩, fun z => ⟨z.1, z.2.1, fun x => z.2.2 ⟨q, x⟩⟩⟩
    · exact ⟨fun z => absurd y3 z.2.1, fun z => absurd ⟨q, y2⟩ z.2.2⟩
  have h8 : ∀ j, j < m → col j = 0 ∨ col j = tBl u ∨ col j = 3 - tBl u ∨ col j = 3 := by
    intro j hj
    rcases hcol j with ⟨y1, -⟩ | ⟨-, -, y3⟩
    · rw [y1]; exact a8 j hj
    · exact Or.inl y3
  have hn3 : ∀ j, j < m → ¬ col j = 3 := by
    intro j hj z
    rcases hcol j with ⟨y1, -⟩ | ⟨-, -, y3⟩
    · rw [y1] at z; exact c2 (Or.inr q) j hj z
    · rw [y3] at z; exact absurd z (by decide)
  have hx0 : ∀ w : TS, tCol w = col → tBl w = tBl u → tReg w = tReg u → tGl w = tGl u → tL0 w = tL0 u → tL1 w = tL1 u → gX m u → gX m w := by
    intro w e1 e2 e3 e4 e5 e6 hx X s1 s2 s3 j hj hc
    rw [e1, e2] at hc
    rw [e3] at s1
    rw [e4] at s2
    refine hx X s1 s2 (fun i j hi hX hj hE => s3 i j hi hX hj (by unfold gE; rw [e5, e6]; exact hE)) j hj ?_
    rcases hcol j with ⟨y1, -⟩ | ⟨-, -, y3⟩
    · rw [← y1]; exact hc
    · rw [y3] at hc
      rcases hc with hc | hc
      · exact absurd hc (by decide)
      · exact absurd hc.symm hg.2.2.2.2.1
  refine ⟨?_, ?_, ?_, by rw [hcl]; exact m3⟩
  · unfold th_sweep th_swp1 at hok ⊢
    rw [hcole] at hok ⊢
    split
    · rename_i hne
      rw [if_pos hne] at hok
      have hk1 : k + 1 ≠ m := fun z => hne (by rw [m5, m4, nI_1, z])
      have hV : ∀ j, gV m (sSw (sCol u col) (tSw u + 1)) j ↔ gV m u j := by
        intro j
        rw [← hV5 j]
        exact ⟨fun z => ⟨z.1, z.2.1, fun x => z.2.2 ⟨q, x⟩⟩, fun z => ⟨z.1, z.2.1, fun x => z.2.2 x.2⟩⟩
      have hR : ∀ {y : Int32}, gR m u y → gR m (sSw (sCol u col) (tSw u + 1)) y := fun hy => gR_of (fun i => (hV i).mpr) hy
      refine ⟨⟨⟨a1, a2, a3, hok, a5, a6, a7, h8⟩, ⟨fun i hi => hR (b1 i hi), fun i hi => hR (b2 i hi), fun i hi => ?_⟩, ⟨fun y => ?_, fun _ => hn3, fun y => ?_, fun _ y j hy hs hj => ?_⟩, fun y => ?_, fun y => ?_⟩, ⟨rfl, rfl, rfl, rfl, rfl, rfl, rfl, rfl⟩, fun j y => (hV j).mp y⟩
      · have := b3 i ((hV i).mp hi)
        exact ⟨hR this.1, hR this.2⟩
      · have y2 : tPh u = 1 ∨ tPh u = 2 ∨ tPh u = 3 := y
        rw [q] at y2
        exact absurd y2 (by decide)
      · have y2 : tPh u = 0 := y
        rw [q] at y2
        exact absurd y2 (by decide)
      · have hs : tSw u + 1 = nI y := hs
        rw [m5, nI_1] at hs
        have := g_nI_inj (by omega) (by omega) hs
        exact hnw j (by omega)
      · have y2 : tPh u = 3 := y
        rw [q] at y2
        exact absurd y2 (by decide)
      · have y2 : tPh u = 4 := y
        rw [q] at y2
        exact absurd y2 (by decide)
    · rename_i hne
      rw [if_neg hne] at hok
      have hne : tSw u + 1 = tN u := Decidable.not_not.mp hne
      rw [m5, m4, nI_1] at hne
      have hk1 : k + 1 = m := g_nI_inj (by omega) (by omega) hne
      have hV : ∀ j, gV m (sPh (sSw (sCol u col) 0) 0) j ↔ gV m u j := by
        intro j
        rw [← hV5 j]
        exact ⟨fun z => ⟨z.1, z.2.1, hnw j (by have := z.1; omega)⟩, fun z => ⟨z.1, z.2.1, fun x => absurd (show (0 : Int32) = 5 from x.1) (by decide)⟩⟩
      have hR : ∀ {y : Int32}, gR m u y → gR m (sPh (sSw (sCol u col) 0) 0) y := fun hy => gR_of (fun i => (hV i).mpr) hy
      refine ⟨⟨⟨a1, a2, a3, hok, a5, a6, Or.inl rfl, h8⟩, ⟨fun i hi => hR (b1 i hi), fun i hi => hR (b2 i hi), fun i hi => ?_⟩, ⟨fun y => ?_, fun _ => hn3, fun _ j hj => hnw j (by omega), fun y => absurd (show (0 : Int32) = 5 from y) (by decide)⟩, fun y => absurd (show (0 : Int32) = 3 from y) (by decide), fun y => absurd (show (0 : Int32) = 4 from y) (by decide)⟩, ⟨rfl, rfl, rfl, rfl, rfl, rfl, rfl, rfl⟩, fun j y => (hV j).mp y⟩
      · have := b3 i ((hV i).mp hi)
        exact ⟨hR this.1, hR this.2⟩
      · rcases y with y | y | y
        · exact absurd (show (0 : Int32) = 1 from y) (by decide)
        · exact absurd (show (0 : Int32) = 2 from y) (by decide)
        · exact absurd (show (0 : Int32) = 3 from y) (by decide)
  · intro hx
    unfold th_sweep th_swp1
    rw [hcole]
    split
    · exact hx0 _ rfl rfl rfl rfl rfl rfl hx
    · exact hx0 _ rfl rfl rfl rfl rfl rfl hx
  · unfold th_sweep
    split
    · rename_i hne
      have hk1 : k + 1 ≠ m := fun z => hne (by rw [m5, m4, nI_1, z])
      refine Or.inl ⟨q, ?_, by rw [hcl]; omega⟩
      show (tSw u + 1).toNatClampNeg = _
      rw [hcl, m5, nI_1]
      exact nI_clamp (by omega)
    · exact Or.inr rfl
theorem g_step {n : Nat} {u : TS} (h : gI n u) : gT n u (th_step u) ∧ (¬ tPh u = 0 → gX n u → gX n (th_step u)) := by
  unfold th_step
  have h7 := h.1.2.2.2.2.2.2.1
  split
  · rename_i h0
    split
    · rename_i h3
      split
      · rename_i h4
        have q : tPh u = 5 := by
          rcases h7 with y | y | y | y | y | y
          · exact absurd y h0
          · rw [y] at h3; exact absurd h3 (by decide)
          · rw [y] at h3; exact absurd h3 (by decide)
          · rw [y] at h3; exact absurd h3 (by decide)
          · exact absurd y h4
          · exact y
        have := g_sweep h q
        exact ⟨this.1, fun _ => this.2.1⟩
      · rename_i h4
        have := g_trace h (Decidable.not_not.mp h4)
        exact ⟨this.1, fun _ => this.2.1⟩
    · rename_i h3
      have q : tPh u = 1 ∨ tPh u = 2 ∨ tPh u = 3 := by
        rcases h7 with y | y | y | y | y | y
        · exact absurd y h0
        · exact Or.inl y
        · exact Or.inr (Or.inl y)
        · exact Or.inr (Or.inr y)
        · exact absurd (by rw [y]; decide) h3
        · exact absurd (by rw [y]; decide) h3
      have := g_signal h q
      exact ⟨this.1, fun _ => this.2.1⟩
  · rename_i h0
    exact ⟨(g_step0 h (Decidable.not_not.mp h0)).1, fun y => absurd y h0⟩
def gM (n : Nat) (u : TS) : Nat := if tPh u = 0 then 0 else if tPh u = 5 then n - (tSw u).toNatClampNeg else if tPh u = 4 then n + 1 + gN n u else if tPh u = 3 then 34 else if tPh u = 2 then 35 else 36
theorem gM_le {n : Nat} {u : TS} (h : gI n u) : gM n u ≤ 36 := by
  have h16 := h.1.2.1
  have hc : gN n u ≤ n := cn_le _ n
  unfold gM
  split
  · omega
  · split
    · omega
    · split
      · omega
      · split
        · omega
        · split <;> omega
theorem g_ans7 : ∀ a, a < 8 → (if gBit (if gBit (if gBit (nI a) 0 then nI a else nI a ||| 1 <<< (nI 0 &&& 31)) 1 then (if gBit (nI a) 0 then nI a else nI a ||| 1 <<< (nI 0 &&& 31)) else (if gBit (nI a) 0 then nI a else nI a ||| 1 <<< (nI 0 &&& 31)) ||| 1 <<< (nI 1 &&& 31)) 2 then (if gBit (if gBit (nI a) 0 then nI a else nI a ||| 1 <<< (nI 0 &&& 31)) 1 then (if gBit (nI a) 0 then nI a else nI a ||| 1 <<< (nI 0 &&& 31)) else (if gBit (nI a) 0 then nI a else nI a ||| 1 <<< (nI 0 &&& 31)) ||| 1 <<< (nI 1 &&& 31)) else (if gBit (if gBit (nI a) 0 then nI a else nI a ||| 1 <<< (nI 0 &&& 31)) 1 then (if gBit (nI a) 0 then nI a else nI a ||| 1 <<< (nI 0 &&& 31)) else (if gBit (nI a) 0 then nI a else nI a ||| 1 <<< (nI 0 &&& 31)) ||| 1 <<< (nI 1 &&& 31)) ||| 1 <<< (nI 2 &&& 31)) = 7 := by decide +kernel
theorem g_drive {n : Nat} {u : TS} (h : gI n u) (h0 : ¬ tPh u = 0) : gT n u (th_drive u) ∧ (gX n u → gX n (th_drive u)) ∧ gM n (th_drive u) < gM n u := by
  have h16 := h.1.2.1
  have h7 := h.1.2.2.2.2.2.2.1
  have x0 := g_answer (t := 0) h (by omega)
  have x1 := g_answer (t := 1) x0.1.1 (by omega)
  have x2 := g_answer (t := 2) x1.1.1 (by omega)
  have hst := g_step x2.1.1
  have hd : th_drive u = th_step (th_answer (th_answer (th_answer u (nI 0)) (nI 1)) (nI 2)) := rfl
  have hph : tPh (th_answer (th_answer (th_answer u (nI 0)) (nI 1)) (nI 2)) = tPh u := x2.2.2.1.trans (x1.2.2.1.trans x0.2.2.1)
  refine ⟨by rw [hd]; exact gT_tr x0.1 (gT_tr x1.1 (gT_tr x2.1 hst.1)), fun hx => ?_, ?_⟩
  · rw [hd]
    exact hst.2 (by rw [hph]; exact h0) (gX_answer x1.1.1 (by omega) (gX_answer x0.1.1 (by omega) (gX_answer h (by omega) hx)))
  · by_cases h3 : 3 < tPh u
    · have same : ∀ t, th_answer u t = u := by
        intro t
        unfold th_answer
        rw [if_neg (fun y => ?_), if_pos h3]
        have y1 := Int32.lt_iff_toInt_lt.mp y
        have y2 := Int32.lt_iff_toInt_lt.mp h3
        have e1 : (1 : Int32).toInt = 1 := by decide
        have e3 : (3 : Int32).toInt = 3 := by decide
        omega
      have hd2 : th_drive u = th_step u := by
        unfold th_drive
        rw [same, same, same]
      rw [hd2]
      have q : tPh u = 4 ∨ tPh u = 5 := by
        rcases h7 with y | y | y | y | y | y
        · exact absurd y h0
        · rw [y] at h3; exact absurd h3 (by decide)
        · rw [y] at h3; exact absurd h3 (by decide)
        · rw [y] at h3; exact absurd h3 (by decide)
        · exact Or.inl y
        · exact Or.inr y
      rcases q with q | q
      · have e : th_step u = th_trace u := by
          unfold th_step
          rw [if_pos h0, if_pos h3, if_neg (not_not_intro q)]
        rw [e]
        obtain ⟨-, -, hm⟩ := g_trace h q
        have em : gM n u = n + 1 + gN n u := by
          unfold gM
          rw [if_neg h0, if_neg (by rw [q]; decide), if_pos q]
        rw [em]
        rcases hm with ⟨m1, m2⟩ | ⟨m1, m2⟩
        · unfold gM
          rw [if_neg (by rw [m1]; decide), if_neg (by rw [m1]; decide), if_pos m1]
          omega
        · unfold gM
          rw [if_neg (by rw [m1]; decide), if_pos m1]
          omega
      · have e : th_step u = th_sweep u := by
          unfold th_step
          rw [if_pos h0, if_pos h3, if_pos (by rw [q]; decide)]
        rw [e]
        obtain ⟨-, -, hm, hsw⟩ := g_sweep h q
        have em : gM n u = n - (tSw u).toNatClampNeg := by
          unfold gM
          rw [if_neg h0, if_pos q]
        rw [em]
        rcases hm with ⟨m1, m2, m3⟩ | m1
        · unfold gM
          rw [if_neg (by rw [m1]; decide), if_pos m1, m2]
          omega
        · unfold gM
          rw [if_pos m1]
          omega
    · have q : tPh u = 1 ∨ tPh u = 2 ∨ tPh u = 3 := by
        rcases h7 with y | y | y | y | y | y
        · exact absurd y h0
        · exact Or.inl y
        · exact Or.inr (Or.inl y)
        · exact Or.inr (Or.inr y)
        · exact absurd (by rw [y]; decide) h3
        · exact absurd (by rw [y]; decide) h3
      obtain ⟨a, ha, hae⟩ := h.1.2.2.2.2.2.1
      have hans : tAns (th_answer (th_answer (th_answer u (nI 0)) (nI 1)) (nI 2)) = 7 := by
        rw [x2.2.2.2.2.2 (by rw [x1.2.2.1, x0.2.2.1]; exact q), x1.2.2.2.2.2 (by rw [x0.2.2.1]; exact q), x0.2.2.2.2.2 q, hae]
        exact g_ans7 a ha
      have hsg := (g_signal x2.1.1 (by rw [hph]; exact q)).2.2 hans
      have e : th_step (th_answer (th_answer (th_answer u (nI 0)) (nI 1)) (nI 2)) = th_signal (th_answer (th_answer (th_answer u (nI 0)) (nI 1)) (nI 2)) := by
        unfold th_step
        rw [if_pos (by rw [hph]; exact h0), if_neg (by rw [hph]; exact h3)]
      rw [hd, e]
      rw [hph] at hsg
      rw [e] at hst
      have hle : gN n (th_signal (th_answer (th_answer (th_answer u (nI 0)) (nI 1)) (nI 2))) ≤ n := cn_le _ n
      generalize th_signal (th_answer (th_answer (th_answer u (nI 0)) (nI 1)) (nI 2)) = w at hsg hle
      unfold gM
      rcases q with q | q | q
      · rw [q] at hsg
        have hsg : tPh w = 2 := hsg
        rw [hsg, q, if_neg (by decide : ¬ (2 : Int32) = 0), if_neg (by decide : ¬ (2 : Int32) = 5), if_neg (by decide : ¬ (2 : Int32) = 4), if_neg (by decide : ¬ (2 : Int32) = 3), if_pos (rfl : (2 : Int32) = 2), if_neg (by decide : ¬ (1 : Int32) = 0), if_neg (by decide : ¬ (1 : Int32) = 5), if_neg (by decide : ¬ (1 : Int32) = 4), if_neg (by decide : ¬ (1 : Int32) = 3), if_neg (by decide : ¬ (1 : Int32) = 2)]
        omega
      · rw [q] at hsg
        have hsg : tPh w = 3 := hsg
        rw [hsg, q, if_neg (by decide : ¬ (3 : Int32) = 0), if_neg (by decide : ¬ (3 : Int32) = 5), if_neg (by decide : ¬ (3 : Int32) = 4), if_pos (rfl : (3 : Int32) = 3), if_neg (by decide : ¬ (2 : Int32) = 0), if_neg (by decide : ¬ (2 : Int32) = 5), if_neg (by decide : ¬ (2 : Int32) = 4), if_neg (by decide : ¬ (2 : Int32) = 3), if_pos (rfl : (2 : Int32) = 2)]
        omega
      · rw [q] at hsg
        have hsg : tPh w = 4 := hsg
        rw [if_neg (by rw [hsg]; decide), if_neg (by rw [hsg]; decide), if_pos hsg, if_neg h0, if_neg (by rw [q]; decide), if_neg (by rw [q]; decide), if_pos q]
        omega
theorem g_dl {n : Nat} : ∀ (k : Nat) (u : TS), gI n u → gM n u ≤ k → gT n u (th_dl k u) ∧ tPh (th_dl k u) = 0 ∧ (gX n u → gX n (th_dl k u))
  | 0, u, h, hm => by
    refine ⟨gT_rf h, ?_, id⟩
    show tPh u = 0
    rcases Decidable.em (tPh u = 0) with y | y
    · exact y
    · have := (g_drive h y).2.2
      omega
  | k + 1, u, h, hm => by
    unfold th_dl
    split
    · rename_i y
      exact ⟨gT_rf h, y, id⟩
    · rename_i y
      obtain ⟨d1, d2, d3⟩ := g_drive h y
      obtain ⟨e1, e2, e3⟩ := g_dl k (th_drive u) d1.1 (by omega)
      exact ⟨gT_tr d1 e1, e2, fun hx => e3 (d2 hx)⟩
theorem g_collect {n : Nat} {u : TS} (h : gI n u) : gT n u (th_collect u) ∧ tPh (th_collect u) = 0 ∧ gX n (th_collect u) := by
  unfold th_collect
  obtain ⟨d1, d2, -⟩ := g_dl 80 u h (Nat.le_trans (gM_le h) (by omega))
  generalize th_dl 80 u = w at d1 d2 ⊢
  have hs := g_step d1.1
  have e : th_step w = sAns (sPh (sBl w (3 - tBl w)) 1) 0 := by
    unfold th_step
    rw [if_neg (not_not_intro d2)]
  have hx : gX n (th_step w) := by rw [e]; exact (g_step0 d1.1 d2).2
  generalize th_step w = z at hs hx ⊢
  obtain ⟨e1, e2, e3⟩ := g_dl 80 z hs.1.1 (Nat.le_trans (gM_le hs.1.1) (by omega))
  exact ⟨gT_tr d1 (gT_tr hs.1 e1), e2, e3 hx⟩
end
section
-- the reference's 'live': the least set that holds the roots and, with an object, its fields
theorem md_clr_at (f : Nat → Int32) : ∀ k i, md_clr f k i = if i < k then 0 else f i
  | 0, i => by rw [if_neg (by omega)]; rfl
  | k + 1, i => by
    unfold md_clr
    rw [g_u, md_clr_at f k i]
    by_cases h : i = k
    · rw [if_pos h, if_pos (by omega)]
    · rw [if_neg h]
      by_cases h2 : i < k
      · rw [if_pos h2, if_pos (by omega)]
      · rw [if_neg h2, if_neg (by omega)]
theorem md_rts_in (f g : Nat → Int32) : ∀ k i, ¬ md_rts f g k i = 0 → (∃ e, e < k ∧ (g e).toNatClampNeg = i) ∨ ¬ f i = 0
  | 0, i, h => Or.inr h
  | k + 1, i, h => by
    unfold md_rts at h
    rw [g_u] at h
    split at h
    · rename_i hi
      exact Or.inl ⟨k, by omega, hi.symm⟩
    · rcases md_rts_in f g k i h with ⟨e, he, h2⟩ | h2
      · exact Or.inl ⟨e, by omega, h2⟩
      · exact Or.inr h2
theorem md_rts_has (f g : Nat → Int32) : ∀ k e, e < k → ¬ md_rts f g k (g e).toNatClampNeg = 0
  | 0, e, h => absurd h (by omega)
  | k + 1, e, h => by
    unfold md_rts
    rw [g_u]
    split
    · decide
    · rename_i hne
      refine md_rts_has f g k e ?_
      have : e ≠ k := fun z => hne (by rw [z])
      omega
theorem md_rt_in {v : MS} {m : Nat} (hm : (mMade v).toNatClampNeg = m) {i : Nat} (hi : i ≤ m) (h : ¬ md_rt v i = 0) : (∃ e, e < 12 ∧ (mReg v e).toNatClampNeg = i) ∨ ∃ e, e < 2 ∧ (mGl v e).toNatClampNeg = i := by
  unfold md_rt at h
  rw [g_u] at h
  split at h
  · rename_i h1
    exact Or.inr ⟨1, by omega, h1.symm⟩
  · rw [g_u] at h
    split at h
    · rename_i h1
      exact Or.inr ⟨0, by omega, h1.symm⟩
    · rcases md_rts_in _ _ _ _ h with h2 | h2
      · exact Or.inl h2
      · rw [md_clr_at, hm, if_pos (by omega)] at h2
        exact absurd rfl h2
theorem md_rt_reg (v : MS) {e : Nat} (he : e < 12) : ¬ md_rt v (mReg v e).toNatClampNeg = 0 := by
  unfold md_rt
  rw [g_u]
  split
  · decide
  · rw [g_u]
    split
    · decide
    · exact md_rts_has _ _ 12 e he
theorem md_rt_gl (v : MS) {e : Nat} (he : e < 2) : ¬ md_rt v (mGl v e).toNatClampNeg = 0 := by
  unfold md_rt
  rw [show (0 : Int32).toNatClampNeg = 0 from rfl, show (1 : Int32).toNatClampNeg = 1 from rfl]
  rcases (show e = 0 ∨ e = 1 by omega) with rfl | rfl
  · rw [g_u]
    split
    · decide
    · rw [g_u, if_pos rfl]
      decide
  · rw [g_u, if_pos rfl]
    decide
def md_Y (m : Nat) (g : Nat → Int32) (Y : Nat → Prop) : Prop := ∀ i, 1 ≤ i → i ≤ m → Y i → Y (g (2 * i)).toNatClampNeg ∧ Y (g (2 * i + 1)).toNatClampNeg
def md_Sd (m : Nat) (f : Nat → Int32) (Y : Nat → Prop) : Prop := ∀ i, i ≤ m → ¬ f i = 0 → Y i
def md_fix (m : Nat) (g f : Nat → Int32) : Prop := ∀ i, 1 ≤ i → i ≤ m → ¬ f i = 0 → ¬ f (g (2 * i)).toNatClampNeg = 0 ∧ ¬ f (g (2 * i + 1)).toNatClampNeg = 0
theorem md_rf1_0 {f : Nat → Int32} {a b : Int32} {i : Nat} (h : ¬ f i = 0) : ¬ md_rf1 f a b i = 0 := by
  unfold md_rf1
  rw [g_u]
  split
  · decide
  · rw [g_u]
    split
    · decide
    · exact h
theorem md_rf1_a (f : Nat → Int32) (a b : Int32) : ¬ md_rf1 f a b a.toNatClampNeg = 0 ∧ ¬ md_rf1 f a b b.toNatClampNeg = 0 := by
  unfold md_rf1
  rw [g_u, g_u, g_u]
  refine ⟨?_, ?_⟩
  · split
    · decide
    · rw [if_pos rfl]; decide
  · rw [if_pos rfl]; decide
theorem md_rf1_in {f : Nat → Int32} {a b : Int32} {i : Nat} (h : ¬ md_rf1 f a b i = 0) : i = a.toNatClampNeg ∨ i = b.toNatClampNeg ∨ ¬ f i = 0 := by
  unfold md_rf1 at h
  rw [g_u] at h
  split at h
  · rename_i h1
    exact Or.inr (Or.inl h1)
  · rw [g_u] at h
    split at h
    · rename_i h1
      exact Or.inl h1
    · exact Or.inr (Or.inr h)
/-- one pass over the objects -/
theorem md_pass {m : Nat} {g f : Nat → Int32} {Y : Nat → Prop} (hY : md_Y m g Y) (hS : md_Sd m f Y) : ∀ k, k ≤ m → md_Sd m (md_rfs g f k).1 Y ∧ (∀ i, ¬ f i = 0 → ¬ (md_rfs g f k).1 i = 0) ∧ ((md_rfs g f k).2 = 0 → (md_rfs g f k).1 = f ∧ ∀ i, 1 ≤ i → i ≤ k → ¬ f i = 0 → ¬ f (g (2 * i)).toNatClampNeg = 0 ∧ ¬ f (g (2 * i + 1)).toNatClampNeg = 0) ∧ (¬ (md_rfs g f k).2 = 0 → ∃ i, Y i ∧ f i = 0 ∧ ¬ (md_rfs g f k).1 i = 0)
  | 0, _ => ⟨hS, fun _ h => h, fun _ => ⟨rfl, fun i h1 h2 => absurd h1 (by omega)⟩, fun h => absurd rfl h⟩
  | k + 1, hk => by
    obtain ⟨i1, i2, i3, i4⟩ := md_pass hY hS k (by omega)
    have change : ¬ (md_rfs g f k).1 (k + 1) = 0 → (∃ i, (i = (g (2 * (k + 1))).toNatClampNeg ∨ i = (g (2 * (k + 1) + 1)).toNatClampNeg) ∧ (md_rfs g f k).1 i = 0) → md_Sd m (md_rf1 (md_rfs g f k).1 (g (2 * (k + 1))) (g (2 * (k + 1) + 1))) Y ∧ (∀ i, ¬ f i = 0 → ¬ (md_rf1 (md_rfs g f k).1 (g (2 * (k + 1))) (g (2 * (k + 1) + 1))) i = 0) ∧ ((1 : Int32) = 0 → md_rf1 (md_rfs g f k).1 (g (2 * (k + 1))) (g (2 * (k + 1) + 1)) = f ∧ ∀ i, 1 ≤ i → i ≤ k + 1 → ¬ f i = 0 → ¬ f (g (2 * i)).toNatClampNeg = 0 ∧ ¬ f (g (2 * i + 1)).toNatClampNeg = 0) ∧ (¬ (1 : Int32) = 0 → ∃ i, Y i ∧ f i = 0 ∧ ¬ (md_rf1 (md_rfs g f k).1 (g (2 * (k + 1))) (g (2 * (k + 1) + 1))) i = 0) := by
      intro c1 ⟨e, he, hez⟩
      have hYk := hY (k + 1) (by omega) hk (i1 (k + 1) hk c1)
      refine ⟨fun i hi hn => ?_, fun i hi => md_rf1_0 (i2 i hi), fun q => absurd q (by decide), fun _ => ⟨e, ?_, ?_, ?_⟩⟩
      · rcases md_rf1_in hn with h | h | h
        · rw [h]; exact hYk.1
        · rw [h]; exact hYk.2
        · exact i1 i hi h
      · rcases he with he | he
        · rw [he]; exact hYk.1
        · rw [he]; exact hYk.2
      · rcases Decidable.em (f e = 0) with q | q
        · exact q
        · exact absurd hez (i2 e q)
      · have hh := md_rf1_a (md_rfs g f k).1 (g (2 * (k + 1))) (g (2 * (k + 1) + 1))
        rcases he with he | he
        · rw [he]; exact hh.1
        · rw [he]; exact hh.2
    unfold md_rfs
    split
    · rename_i c1
      refine ⟨i1, i2, fun q => ⟨(i3 q).1, fun i h1 h2 hf => ?_⟩, i4⟩
      by_cases hik : i = k + 1
      · rw [hik] at hf
        rw [(i3 q).1] at c1
        exact absurd c1 hf
      · exact (i3 q).2 i h1 (by omega) hf
    · rename_i c1
      split
      · rename_i c2
        exact change c1 ⟨_, Or.inl rfl, c2⟩
      · rename_i c2
        split
        · rename_i c3
          refine ⟨i1, i2, fun q => ⟨(i3 q).1, fun i h1 h2 hf => ?_⟩, i4⟩
          by_cases hik : i = k + 1
          · rw [(i3 q).1] at c2 c3
            rw [hik]
            exact ⟨c2, c3⟩
          · exact (i3 q).2 i h1 (by omega) hf
        · rename_i c3
          exact change c1 ⟨_, Or.inr rfl, Decidable.not_not.mp c3⟩
def md_z (m : Nat) (f : Nat → Int32) : Nat := cn (fun i => decide (f (i + 1) = 0)) m
theorem md_llf {m : Nat} {Y : Nat → Prop} (hYm : ∀ i, Y i → i ≤ m) : ∀ (k : Nat) (b : Int32) (v : MS), (mMade v).toNatClampNeg = m → md_Y m (mFld v) Y → md_Sd m (mRch v) Y → ¬ mRch v 0 = 0 → (b = 0 → md_fix m (mFld v) (mRch v)) → (¬ b = 0 → md_z m (mRch v) < k) → md_Sd m (mRch (md_ll k b v)) Y ∧ (∀ i, ¬ mRch v i = 0 → ¬ mRch (md_ll k b v) i = 0) ∧ md_fix m (mFld v) (mRch (md_ll k b v))
  | 0, b, v, hm, hY, hS, h0, hb, hz => by
    refine ⟨hS, fun _ h => h, ?_⟩
    rcases Decidable.em (b = 0) with q | q
    · exact hb q
    · exact absurd (hz q) (by omega)
  | k + 1, b, v, hm, hY, hS, h0, hb, hz => by
    unfold md_ll
    split
    · rename_i q
      exact ⟨hS, fun _ h => h, hb q⟩
    · rename_i q
      obtain ⟨p1, p2, p3, p4⟩ := md_pass hY hS m (Nat.le_refl m)
      have e1 : mRch (md_fields v).1 = (md_rfs (mFld v) (mRch v) m).1 := by
        show (md_rfs (mFld v) (mRch v) (mMade v).toNatClampNeg).1 = _
        rw [hm]
      have e2 : (md_fields v).2 = (md_rfs (mFld v) (mRch v) m).2 := by
        show (md_rfs (mFld v) (mRch v) (mMade v).toNatClampNeg).2 = _
        rw [hm]
      have hz := hz q
      obtain ⟨r1, r2, r3⟩ := md_llf hYm k (md_fields v).2 (md_fields v).1 hm hY (by rw [e1]; exact p1) (by rw [e1]; exact p2 0 h0) (fun y => by
        rw [e2] at y
        rw [e1, (p3 y).1]
        exact fun i a1 a2 a3 => (p3 y).2 i a1 a2 a3) (fun y => by
        rw [e2] at y
        rw [e1]
        obtain ⟨i, hiY, hi0, hi1⟩ := p4 y
        have him := hYm i hiY
        have hip : i ≠ 0 := fun z => h0 (by rw [← z]; exact hi0)
        have hlt : md_z m (md_rfs (mFld v) (mRch v) m).1 < md_z m (mRch v) := by
          refine cn_lt (g := i - 1) m (fun e he h => ?_) (by omega) ?_ ?_
          · have h := of_decide_eq_true h
            refine decide_eq_true ?_
            rcases Decidable.em (mRch v (e + 1) = 0) with w | w
            · exact w
            · exact absurd h (p2 _ w)
          · refine decide_eq_false ?_
            rw [show i - 1 + 1 = i by omega]
            exact hi1
          · refine decide_eq_true ?_
            rw [show i - 1 + 1 = i by omega]
            exact hi0
        omega)
      refine ⟨r1, fun i hi => r2 i ?_, r3⟩
      rw [e1]
      exact p2 i hi
theorem md_lv_spec {v : MS} {m : Nat} {Y : Nat → Prop} (hm : mMade v = nI m) (hm2 : m < 512) (hYm : ∀ i, Y i → i ≤ m) (h0 : Y 0) (hr : ∀ e, e < 12 → Y (mReg v e).toNatClampNeg) (hg : ∀ e, e < 2 → Y (mGl v e).toNatClampNeg) (hY : md_Y m (mFld v) Y) :
    md_Sd m (mRch (md_lv v)) Y ∧ ¬ mRch (md_lv v) 0 = 0 ∧ (∀ e, e < 12 → ¬ mRch (md_lv v) (mReg v e).toNatClampNeg = 0) ∧ (∀ e, e < 2 → ¬ mRch (md_lv v) (mGl v e).toNatClampNeg = 0) ∧ md_fix m (mFld v) (mRch (md_lv v)) := by
  have hmc : (mMade v).toNatClampNeg = m := by rw [hm]; exact nI_clamp (by omega)
  have ez : (0 : Int32).toNatClampNeg = 0 := rfl
  have s0 : md_Sd m (mRch (md_lv0 v)) Y := by
    intro i hi hn
    have hn : ¬ upd (md_rt v) (0 : Int32).toNatClampNeg 1 i = 0 := hn
    rw [ez, g_u] at hn
    split at hn
    · rename_i q
      rw [q]; exact h0
    · rcases md_rt_in hmc hi hn with ⟨e, he, q⟩ | ⟨e, he, q⟩
      · rw [← q]; exact hr e he
      · rw [← q]; exact hg e he
  have n0 : ¬ mRch (md_lv0 v) 0 = 0 := by
    show ¬ upd (md_rt v) (0 : Int32).toNatClampNeg 1 0 = 0
    rw [ez, g_u, if_pos rfl]
    decide
  have up : ∀ i, ¬ md_rt v i = 0 → ¬ mRch (md_lv0 v) i = 0 := by
    intro i hi
    show ¬ upd (md_rt v) (0 : Int32).toNatClampNeg 1 i = 0
    rw [g_u]
    split
    · decide
    · exact hi
  obtain ⟨r1, r2, r3⟩ := md_llf hYm 512 1 (md_lv0 v) hmc hY s0 n0 (fun q => absurd q (by decide)) (fun _ => Nat.lt_of_le_of_lt (cn_le _ m) hm2)
  exact ⟨r1, r2 0 n0, fun e he => r2 _ (up _ (md_rt_reg v he)), fun e he => r2 _ (up _ (md_rt_gl v he)), r3⟩
theorem md_cn_cn (f : Nat → Int32) : ∀ m, md_cn f m = nI (cn (fun i => decide (¬ f (i + 1) = 0)) m)
  | 0 => rfl
  | m + 1 => by
    unfold md_cn
    rw [cn_s, md_cn_cn f m]
    by_cases h : f (m + 1) = 0
    · rw [if_pos h, if_neg (by simp [h]), Nat.add_zero]
    · rw [if_neg h, if_pos (by simp [h]), nI_1]
theorem th_cn_cn (f : Nat → Int32) : ∀ n, th_cn f n = nI (cn (fun i => decide (¬ f i = 0)) n)
  | 0 => rfl
  | n + 1 => by
    unfold th_cn
    rw [cn_s, th_cn_cn f n]
    by_cases h : f n = 0
    · rw [if_pos h, if_neg (by simp [h]), Nat.add_zero]
    · rw [if_neg h, if_pos (by simp [h]), nI_1]
end
section
-- the class and the reference side by side
def rM (n m : Nat) (u : TS) (v : MS) : Prop :=
  tCnt u = nI m ∧ mMade v = nI m ∧ m ≤ 512 ∧ mRoom v = nI n ∧ md_ok v ∧
  (∀ j, gV n u j → ∃ t : Nat, 1 ≤ t ∧ t ≤ m ∧ tTag u j = nI t ∧ mNum v t = tVal u j ∧ mFld v (2 * t) = th_tag u (tL0 u j) ∧ mFld v (2 * t + 1) = th_tag u (tL1 u j)) ∧
  (∀ i j, gV n u i → gV n u j → tTag u i = tTag u j → i = j) ∧
  (∀ i, i < 12 → mReg v i = th_tag u (tReg u i)) ∧ ∀ i, i < 2 → mGl v i = th_tag u (tGl u i)
def rI (k : Nat) (u : TS) (v : MS) : Prop := ∃ n m : Nat, gI n u ∧ rM n m u v ∧ m ≤ k
theorem tg_m1 (u : TS) : th_tag u (-1) = 0 := by unfold th_tag; rw [if_neg (by decide)]
theorem tg_nI (u : TS) {j : Nat} (h : j < 2 ^ 31) : th_tag u (nI j) = tTag u j := by unfold th_tag; rw [if_pos (nI_pos' h), nI_clamp h]
theorem tg_cg {u w : TS} (h : tTag w = tTag u) (z : Int32) : th_tag w z = th_tag u z := by unfold th_tag; rw [h]
theorem rM_T {n m : Nat} {u w : TS} {v : MS} (h : rM n m u v) (hT : gT n u w) : rM n m w v := by
  obtain ⟨-, ⟨f1, f2, f3, f4, f5, f6, f7, f8⟩, hV⟩ := hT
  obtain ⟨h1, h2, h3, h4, h5, h6, h7, h8, h9⟩ := h
  refine ⟨by rw [f8]; exact h1, h2, h3, h4, h5, fun j hj => ?_, fun i j hi hj e => h7 i j (hV i hi) (hV j hj) (by rw [← f5]; exact e), fun i hi => ?_, fun i hi => ?_⟩
  · obtain ⟨t, t1, t2, t3, t4, t5, t6⟩ := h6 j (hV j hj)
    exact ⟨t, t1, t2, by rw [f5]; exact t3, by rw [f4]; exact t4, by rw [f2, tg_cg f5]; exact t5, by rw [f3, tg_cg f5]; exact t6⟩
  · rw [f6, tg_cg f5]; exact h8 i hi
  · rw [f7, tg_cg f5]; exact h9 i hi
theorem r_obj {n m : Nat} {u : TS} {v : MS} {z : Int32} (hn : n ≤ 16) (h : rM n m u v) (hz : gR n u z) : (¬ 0 ≤ z ∧ z = -1 ∧ th_tag u z = 0) ∨ ∃ j t : Nat, 0 ≤ z ∧ z = nI j ∧ gV n u j ∧ z.toNatClampNeg = j ∧ 1 ≤ t ∧ t ≤ m ∧ th_tag u z = nI t ∧ tTag u j = nI t ∧ ¬ th_tag u z = 0 ∧ (th_tag u z).toNatClampNeg = t ∧ mNum v t = tVal u j ∧ mFld v (2 * t) = th_tag u (tL0 u j) ∧ mFld v (2 * t + 1) = th_tag u (tL1 u j) := by
  have hm := h.2.2.1
  rcases hz with rfl | ⟨j, rfl, hj⟩
  · exact Or.inl ⟨by decide, rfl, tg_m1 u⟩
  · have hj16 := hj.1
    obtain ⟨t, t1, t2, t3, t4, t5, t6⟩ := h.2.2.2.2.2.1 j hj
    have e : th_tag u (nI j) = nI t := by rw [tg_nI u (by omega)]; exact t3
    refine Or.inr ⟨j, t, nI_pos' (by omega), rfl, hj, nI_clamp (by omega), t1, t2, e, t3, ?_, ?_, t4, t5, t6⟩
    · rw [e]; exact nI_ne0 (by omega) (by omega)
    · rw [e]; exact nI_clamp (by omega)
theorem r_in {n m : Nat} {u : TS} {v : MS} {z : Int32} (hn : n ≤ 16) (h : rM n m u v) (hz : gR n u z) : vp_in (th_tag u z) 513 := by
  have hm := h.2.2.1
  rcases r_obj hn h hz with ⟨-, -, e⟩ | ⟨j, t, -, -, -, -, t1, t2, e, -⟩
  · rw [e]; exact vp_in_nI (n := 0) (by omega) (by omega)
  · rw [e]; exact vp_in_nI (by omega) (by omega)
theorem rM_reg {n m i : Nat} {u : TS} {v : MS} {z : Int32} (hn : n ≤ 16) (h : rM n m u v) (hz : gR n u z) : rM n m (sReg u (upd (tReg u) i z)) (eReg v (upd (mReg v) i (th_tag u z))) := by
  have hin := r_in hn h hz
  obtain ⟨h1, h2, h3, h4, ⟨y, y1, y2, y3, y4, y5⟩, h6, h7, h8, h9⟩ := h
  refine ⟨h1, h2, h3, h4, ⟨y, y1, y2, fun e he => ?_, y4, y5⟩, h6, h7, fun e he => ?_, h9⟩
  · show vp_in (upd (mReg v) i (th_tag u z) e) 513
    rw [g_u]
    split
    · exact hin
    · exact y3 e he
  · show upd (mReg v) i (th_tag u z) e = th_tag u (upd (tReg u) i z e)
    rw [g_u, g_u]
    split
    · rfl
    · exact h8 e he
theorem rM_gl {n m i : Nat} {u : TS} {v : MS} {z : Int32} (hn : n ≤ 16) (h : rM n m u v) (hz : gR n u z) : rM n m (sGl u (upd (tGl u) i z)) (eGl v (upd (mGl v) i (th_tag u z))) := by
  have hin := r_in hn h hz
  obtain ⟨h1, h2, h3, h4, ⟨y, y1, y2, y3, y4, y5⟩, h6, h7, h8, h9⟩ := h
  refine ⟨h1, h2, h3, h4, ⟨y, y1, y2, y3, fun e he => ?_, y5⟩, h6, h7, h8, fun e he => ?_⟩
  · show vp_in (upd (mGl v) i (th_tag u z) e) 513
    rw [g_u]
    split
    · exact hin
    · exact y4 e he
  · show upd (mGl v) i (th_tag u z) e = th_tag u (upd (tGl u) i z e)
    rw [g_u, g_u]
    split
    · rfl
    · exact h9 e he
theorem rM_l0 {n m j t : Nat} {u : TS} {v : MS} {z : Int32} (hn : n ≤ 16) (h : rM n m u v) (hj : gV n u j) (ht : tTag u j = nI t) (ht2 : t ≤ m) (hz : gR n u z) : rM n m (sL0 u (upd (tL0 u) j z)) (eFld v (upd (mFld v) (2 * t) (th_tag u z))) := by
  have hin := r_in hn h hz
  obtain ⟨h1, h2, h3, h4, ⟨y, y1, y2, y3, y4, y5⟩, h6, h7, h8, h9⟩ := h
  refine ⟨h1, h2, h3, h4, ⟨y, y1, y2, y3, y4, fun e he => ?_⟩, fun i hi => ?_, h7, h8, h9⟩
  · show vp_in (upd (mFld v) (2 * t) (th_tag u z) e) 513
    rw [g_u]
    split
    · exact hin
    · exact y5 e he
  · obtain ⟨s, s1, s2, s3, s4, s5, s6⟩ := h6 i hi
    refine ⟨s, s1, s2, s3, s4, ?_, ?_⟩
    · show upd (mFld v) (2 * t) (th_tag u z) (2 * s) = th_tag u (upd (tL0 u) j z i)
      rw [g_u, g_u]
      by_cases hij : i = j
      · have e : s = t := g_nI_inj (by omega) (by omega) (by rw [← s3, hij]; exact ht)
        rw [if_pos (by omega), if_pos hij]
      · have e : s ≠ t := fun q => hij (h7 i j hi hj (by rw [s3, ht, q]))
        rw [if_neg (by omega), if_neg hij]
        exact s5
    · show upd (mFld v) (2 * t) (th_tag u z) (2 * s + 1) = th_tag u (tL1 u i)
      rw [g_u, if_neg (by omega)]
      exact s6
theorem rM_l1 {n m j t : Nat} {u : TS} {v : MS} {z : Int32} (hn : n ≤ 16) (h : rM n m u v) (hj : gV n u j) (ht : tTag u j = nI t) (ht2 : t ≤ m) (hz : gR n u z) : rM n m (sL1 u (upd (tL1 u) j z)) (eFld v (upd (mFld v) (2 * t + 1) (th_tag u z))) := by
  have hin := r_in hn h hz
  obtain ⟨h1, h2, h3, h4, ⟨y, y1, y2, y3, y4, y5⟩, h6, h7, h8, h9⟩ := h
  refine ⟨h1, h2, h3, h4, ⟨y, y1, y2, y3, y4, fun e he => ?_⟩, fun i hi => ?_, h7, h8, h9⟩
  · show vp_in (upd (mFld v) (2 * t + 1) (th_tag u z) e) 513
    rw [g_u]
    split
    · exact hin
    · exact y5 e he
  · obtain ⟨s, s1, s2, s3, s4, s5, s6⟩ := h6 i hi
    refine ⟨s, s1, s2, s3, s4, ?_, ?_⟩
    · show upd (mFld v) (2 * t + 1) (th_tag u z) (2 * s) = th_tag u (tL0 u i)
      rw [g_u, if_neg (by omega)]
      exact s5
    · show upd (mFld v) (2 * t + 1) (th_tag u z) (2 * s + 1) = th_tag u (upd (tL1 u) j z i)
      rw [g_u, g_u]
      by_cases hij : i = j
      · have e : s = t := g_nI_inj (by omega) (by omega) (by rw [← s3, hij]; exact ht)
        rw [if_pos (by omega), if_pos hij]
      · have e : s ≠ t := fun q => hij (h7 i j hi hj (by rw [s3, ht, q]))
        rw [if_neg (by omega), if_neg hij]
        exact s6
theorem rM_val {n m j t : Nat} {u : TS} {v : MS} {z : Int32} (hn : n ≤ 16) (h : rM n m u v) (hj : gV n u j) (ht : tTag u j = nI t) (ht2 : t ≤ m) : rM n m (sVal u (upd (tVal u) j z)) (eNum v (upd (mNum v) t z)) := by
  obtain ⟨h1, h2, h3, h4, h5, h6, h7, h8, h9⟩ := h
  refine ⟨h1, h2, h3, h4, h5, fun i hi => ?_, h7, h8, h9⟩
  obtain ⟨s, s1, s2, s3, s4, s5, s6⟩ := h6 i hi
  refine ⟨s, s1, s2, s3, ?_, s5, s6⟩
  show upd (mNum v) t z s = upd (tVal u) j z i
  rw [g_u, g_u]
  by_cases hij : i = j
  · have e : s = t := g_nI_inj (by omega) (by omega) (by rw [← s3, hij]; exact ht)
    rw [if_pos e, if_pos hij]
  · have e : s ≠ t := fun q => hij (h7 i j hi hj (by rw [s3, ht, q]))
    rw [if_neg e, if_neg hij]
    exact s4
-- arguments
theorem r_bd1 : ∀ a, a < 3 → ∀ b, b < 4 → ¬ md_isR (nI a) (nI b) = 0 := by decide +kernel
theorem r_bd2 : ∀ a, a < 3 → ∀ b, b < 4 → th_bd (nI a) (nI b) = 0 := by decide +kernel
theorem r_bb1 : ∀ a, a < 2 → ¬ md_isB (nI a) = 0 := by decide +kernel
theorem r_bb2 : ∀ a, a < 2 → th_bb (nI a) = 0 := by decide +kernel
theorem r_bd (t r : Int32) : th_bd t r = 0 ↔ ¬ md_isR t r = 0 := by
  constructor
  · intro h
    obtain ⟨a, b, ha, hb, rfl, rfl⟩ := th_rng h
    exact r_bd1 a ha b hb
  · intro h
    obtain ⟨a, b, ha, hb, rfl, rfl⟩ := md_rng h
    exact r_bd2 a ha b hb
theorem r_bdn {t r : Int32} (h : ¬ th_bd t r = 0) : md_isR t r = 0 := Decidable.not_not.mp (fun q => h ((r_bd t r).mpr q))
theorem r_bb (g : Int32) : th_bb g = 0 ↔ ¬ md_isB g = 0 := by
  constructor
  · intro h
    obtain ⟨a, ha, rfl⟩ := th_rngB h
    exact r_bb1 a ha
  · intro h
    obtain ⟨a, ha, rfl⟩ := md_rngB h
    exact r_bb2 a ha
theorem r_bbn {g : Int32} (h : ¬ th_bb g = 0) : md_isB g = 0 := Decidable.not_not.mp (fun q => h ((r_bb g).mpr q))
theorem ixT {a b : Nat} (ha : a < 3) (hb : b < 4) : (nI a * 4 + nI b).toNatClampNeg = a * 4 + b := by rw [th_ix]; exact nI_clamp (by omega)
theorem ixM {a b : Nat} (ha : a < 3) (hb : b < 4) : (4 * nI a + nI b).toNatClampNeg = a * 4 + b := by
  rw [md_ix, nI_clamp (by omega)]
  omega
theorem ixF {t f : Nat} (ht : t ≤ 512) (hf : f < 2) : (2 * nI t + nI f).toNatClampNeg = 2 * t + f := by rw [md_ix2]; exact nI_clamp (by omega)
theorem r_ans {n m a : Nat} {u : TS} {v : MS} (hg : gI n u) (hr : rM n m u v) (ha : a < 3) : ∃ w, th_answer u (nI a) = w ∧ gI n w ∧ rM n m w v ∧ (tPh w = 3 → gBit (tAns w) a) := by
  obtain ⟨x1, x2, x3, x4, x5, x6⟩ := g_answer hg ha
  exact ⟨_, rfl, x1.1, rM_T hr x1, fun y => x5 (by rw [← x3]; exact y)⟩
theorem g_bits5 : ∀ a, a < 8 → ∀ t, t < 3 → ∀ s, s < 3 → (¬ nI a >>> (nI s &&& 31) &&& 1 = 1 ∨ (nI a ||| 1 <<< (nI t &&& 31)) >>> (nI s &&& 31) &&& 1 = 1) := by decide +kernel
theorem r_ans2 {n m a b : Nat} {u : TS} {v : MS} (hg : gI n u) (hr : rM n m u v) (ha : a < 3) (hb : b < 3) (hba : tPh u = 3 → gBit (tAns u) a) : ∃ w, th_answer u (nI b) = w ∧ gI n w ∧ rM n m w v ∧ (tPh w = 3 → gBit (tAns w) a) ∧ (tPh w = 3 → gBit (tAns w) b) := by
  obtain ⟨x1, x2, x3, x4, x5, x6⟩ := g_answer hg hb
  refine ⟨_, rfl, x1.1, rM_T hr x1, fun y => ?_, fun y => x5 (by rw [← x3]; exact y)⟩
  rw [x3] at y
  rw [x6 (Or.inr (Or.inr y))]
  obtain ⟨c, hc, e⟩ := hg.1.2.2.2.2.2.1
  have := hba y
  split
  · exact this
  · rw [e] at this ⊢
    exact (g_bits5 c hc b hb a ha).resolve_left (not_not_intro this)
end
section
-- each call: the same answer, and the two stay side by side
theorem rI_up {k : Nat} {u : TS} {v : MS} (h : rI k u v) : rI (k + 1) u v := by
  obtain ⟨n, m, hg, hr, hm⟩ := h
  exact ⟨n, m, hg, hr, by omega⟩
theorem r_copy {k : Nat} {u : TS} {v : MS} (h : rI k u v) (t r q : Int32) : (th_copy u t r q).2 = (md_copy v t r q).2 ∧ rI (k + 1) (th_copy u t r q).1 (md_copy v t r q).1 := by
  obtain ⟨n, m, hg, hr, hm⟩ := id h
  have h16 := hg.1.2.1
  unfold th_copy md_copy
  by_cases hb : th_bd t r = 0
  · rw [if_neg (not_not_intro hb), if_neg ((r_bd t r).mp hb)]
    by_cases hq : th_bd t q = 0
    · rw [if_pos hq, if_pos ((r_bd t q).mp hq)]
      obtain ⟨a, b, ha, hb2, rfl, rfl⟩ := th_rng hb
      obtain ⟨_, c, -, hc, -, rfl⟩ := th_rng hq
      obtain ⟨w, e, hgw, hrw, hbw⟩ := r_ans hg hr ha
      rw [e, ixT ha hb2, ixT ha hc, ixM ha hb2, ixM ha hc]
      have hC := gC_reg hgw ha hc hbw
      have hM := rM_reg (i := a * 4 + b) h16 hrw hC.1
      rw [← hrw.2.2.2.2.2.2.2.1 (a * 4 + c) (by omega)] at hM
      exact ⟨rfl, n, m, gI_reg hgw hC, hM, by omega⟩
    · rw [if_neg hq, if_neg (not_not_intro (r_bdn hq))]
      exact ⟨rfl, rI_up h⟩
  · rw [if_pos hb, if_pos (r_bdn hb)]
    exact ⟨rfl, rI_up h⟩
theorem r_drop {k : Nat} {u : TS} {v : MS} (h : rI k u v) (t r : Int32) : (th_drop u t r).2 = (md_drop v t r).2 ∧ rI (k + 1) (th_drop u t r).1 (md_drop v t r).1 := by
  obtain ⟨n, m, hg, hr, hm⟩ := id h
  have h16 := hg.1.2.1
  unfold th_drop md_drop
  by_cases hb : th_bd t r = 0
  · rw [if_pos hb, if_pos ((r_bd t r).mp hb)]
    obtain ⟨a, b, ha, hb2, rfl, rfl⟩ := th_rng hb
    obtain ⟨w, e, hgw, hrw, hbw⟩ := r_ans hg hr ha
    rw [e, ixT ha hb2, ixM ha hb2]
    have hM := rM_reg (i := a * 4 + b) h16 hrw (gR_m1 (u := w))
    rw [tg_m1] at hM
    exact ⟨rfl, n, m, gI_reg hgw (gC_m1 h16), hM, by omega⟩
  · rw [if_neg hb, if_neg (not_not_intro (r_bdn hb))]
    exact ⟨rfl, rI_up h⟩
theorem r_get {k : Nat} {u : TS} {v : MS} (h : rI k u v) (t r g : Int32) : (th_get u t r g).2 = (md_get v t r g).2 ∧ rI (k + 1) (th_get u t r g).1 (md_get v t r g).1 := by
  obtain ⟨n, m, hg, hr, hm⟩ := id h
  have h16 := hg.1.2.1
  unfold th_get md_get
  by_cases hb : th_bd t r = 0
  · rw [if_neg (not_not_intro hb), if_neg ((r_bd t r).mp hb)]
    by_cases hq : th_bb g = 0
    · rw [if_pos hq, if_pos ((r_bb g).mp hq)]
      obtain ⟨a, b, ha, hb2, rfl, rfl⟩ := th_rng hb
      obtain ⟨c, hc, rfl⟩ := th_rngB hq
      obtain ⟨w, e, hgw, hrw, hbw⟩ := r_ans hg hr ha
      rw [e, ixT ha hb2, ixM ha hb2, nI_clamp (by omega)]
      have hC := gC_gl hgw hc
      have hM := rM_reg (i := a * 4 + b) h16 hrw hC.1
      rw [← hrw.2.2.2.2.2.2.2.2 c hc] at hM
      exact ⟨rfl, n, m, gI_reg hgw hC, hM, by omega⟩
    · rw [if_neg hq, if_neg (not_not_intro (r_bbn hq))]
      exact ⟨rfl, rI_up h⟩
  · rw [if_pos hb, if_pos (r_bdn hb)]
    exact ⟨rfl, rI_up h⟩
theorem r_load {k : Nat} {u : TS} {v : MS} (h : rI k u v) (t r q f : Int32) : (th_load u t r q f).2 = (md_load v t r q f).2 ∧ rI (k + 1) (th_load u t r q f).1 (md_load v t r q f).1 := by
  obtain ⟨n, m, hg, hr, hm⟩ := id h
  have h16 := hg.1.2.1
  have hm5 := hr.2.2.1
  unfold th_load md_load
  by_cases hb : th_bd t r = 0
  · rw [if_neg (not_not_intro hb), if_neg ((r_bd t r).mp hb)]
    by_cases hq : th_bd t q = 0
    · rw [if_neg (not_not_intro hq), if_neg ((r_bd t q).mp hq)]
      by_cases hf : th_bb f = 0
      · rw [if_pos hf, if_pos ((r_bb f).mp hf)]
        obtain ⟨a, b, ha, hb2, rfl, rfl⟩ := th_rng hb
        obtain ⟨_, c, -, hc, -, rfl⟩ := th_rng hq
        obtain ⟨d, hd, rfl⟩ := th_rngB hf
        obtain ⟨w, e, hgw, hrw, hbw⟩ := r_ans hg hr ha
        rw [e, ixT ha hc, ixM ha hc, hrw.2.2.2.2.2.2.2.1 (a * 4 + c) (by omega)]
        unfold th_load2 md_load2
        rw [ixT ha hb2, ixM ha hb2]
        have hC := gC_reg hgw ha hc hbw
        rcases r_obj h16 hrw hC.1 with ⟨z1, z2, z3⟩ | ⟨j, s, z1, z2, z3, z4, z5, z6, z7, z8, z9, z10, z11, z12, z13⟩
        · rw [if_neg z1, if_neg (not_not_intro z3)]
          exact ⟨rfl, n, m, hgw, hrw, by omega⟩
        · rw [if_pos z1, if_pos z9, z4, z7, ixF (by omega) hd]
          rw [z2] at hC
          rcases (show d = 0 ∨ d = 1 by omega) with rfl | rfl
          · rw [if_neg (not_not_intro nI_0), Nat.add_zero, z12]
            have hL := gC_link hgw z3 hC (Or.inl rfl)
            exact ⟨rfl, n, m, gI_reg hgw hL, rM_reg h16 hrw hL.1, by omega⟩
          · rw [if_pos (by decide), z13]
            have hL := gC_link hgw z3 hC (Or.inr rfl)
            exact ⟨rfl, n, m, gI_reg hgw hL, rM_reg h16 hrw hL.1, by omega⟩
      · rw [if_neg hf, if_neg (not_not_intro (r_bbn hf))]
        exact ⟨rfl, rI_up h⟩
    · rw [if_pos hq, if_pos (r_bdn hq)]
      exact ⟨rfl, rI_up h⟩
  · rw [if_pos hb, if_pos (r_bdn hb)]
    exact ⟨rfl, rI_up h⟩
theorem r_store {k : Nat} {u : TS} {v : MS} (h : rI k u v) (t q f r : Int32) : (th_store u t q f r).2 = (md_store v t q f r).2 ∧ rI (k + 1) (th_store u t q f r).1 (md_store v t q f r).1 := by
  obtain ⟨n, m, hg, hr, hm⟩ := id h
  have h16 := hg.1.2.1
  have hm5 := hr.2.2.1
  unfold th_store md_store
  by_cases hb : th_bd t r = 0
  · rw [if_neg (not_not_intro hb), if_neg ((r_bd t r).mp hb)]
    by_cases hq : th_bd t q = 0
    · rw [if_neg (not_not_intro hq), if_neg ((r_bd t q).mp hq)]
      by_cases hf : th_bb f = 0
      · rw [if_pos hf, if_pos ((r_bb f).mp hf)]
        obtain ⟨a, b, ha, hb2, rfl, rfl⟩ := th_rng hb
        obtain ⟨_, c, -, hc, -, rfl⟩ := th_rng hq
        obtain ⟨d, hd, rfl⟩ := th_rngB hf
        obtain ⟨w, e, hgw, hrw, hbw⟩ := r_ans hg hr ha
        rw [e, ixT ha hc, ixM ha hc, ixT ha hb2, ixM ha hb2, hrw.2.2.2.2.2.2.2.1 (a * 4 + c) (by omega), hrw.2.2.2.2.2.2.2.1 (a * 4 + b) (by omega)]
        unfold th_store2 md_store2
        have hC := gC_reg hgw ha hc hbw
        have hN := gC_reg hgw ha hb2 hbw
        rcases r_obj h16 hrw hC.1 with ⟨z1, z2, z3⟩ | ⟨j, s, z1, z2, z3, z4, z5, z6, z7, z8, z9, z10, z11, z12, z13⟩
        · rw [if_neg z1, if_neg (not_not_intro z3)]
          exact ⟨rfl, n, m, hgw, hrw, by omega⟩
        · rw [if_pos z1, if_pos z9, z4, z7, ixF (by omega) hd]
          have hj := z3.1
          have hLk := hgw.2.1.2.2 j z3
          rcases (show d = 0 ∨ d = 1 by omega) with rfl | rfl
          · rw [if_neg (not_not_intro nI_0), Nat.add_zero]
            obtain ⟨x1, x2, x3, x4, x5, x6⟩ := g_watch (t := nI a) hgw hLk.1 hN.1
            have fr := x1.2.1
            have hM := rM_l0 h16 (rM_T hrw x1) (x2 j z3) (t := s) (by rw [fr.2.2.2.2.1]; exact z8) z6 (x3 _ hN).1
            rw [tg_cg fr.2.2.2.2.1] at hM
            exact ⟨rfl, n, m, gI_l0 x1.1 hj (x3 _ hN) (fun i hi e => by rw [fr.2.1] at e; rw [x5]; exact x6 i hi e), hM, by omega⟩
          · rw [if_pos (by decide)]
            obtain ⟨x1, x2, x3, x4, x5, x6⟩ := g_watch (t := nI a) hgw hLk.2 hN.1
            have fr := x1.2.1
            have hM := rM_l1 h16 (rM_T hrw x1) (x2 j z3) (t := s) (by rw [fr.2.2.2.2.1]; exact z8) z6 (x3 _ hN).1
            rw [tg_cg fr.2.2.2.2.1] at hM
            exact ⟨rfl, n, m, gI_l1 x1.1 hj (x3 _ hN) (fun i hi e => by rw [fr.2.2.1] at e; rw [x5]; exact x6 i hi e), hM, by omega⟩
      · rw [if_neg hf, if_neg (not_not_intro (r_bbn hf))]
        exact ⟨rfl, rI_up h⟩
    · rw [if_pos hq, if_pos (r_bdn hq)]
      exact ⟨rfl, rI_up h⟩
  · rw [if_pos (r_bdn hb)]
    by_cases hq : th_bd t q = 0
    · rw [if_neg (not_not_intro hq), if_pos hb]
      exact ⟨rfl, rI_up h⟩
    · rw [if_pos hq]
      exact ⟨rfl, rI_up h⟩
theorem r_put {k : Nat} {u : TS} {v : MS} (h : rI k u v) (t g r : Int32) : (th_put u t g r).2 = (md_put v t g r).2 ∧ rI (k + 1) (th_put u t g r).1 (md_put v t g r).1 := by
  obtain ⟨n, m, hg, hr, hm⟩ := id h
  have h16 := hg.1.2.1
  unfold th_put md_put
  by_cases hb : th_bd t r = 0
  · rw [if_neg (not_not_intro hb), if_neg ((r_bd t r).mp hb)]
    by_cases hq : th_bb g = 0
    · rw [if_pos hq, if_pos ((r_bb g).mp hq)]
      obtain ⟨a, b, ha, hb2, rfl, rfl⟩ := th_rng hb
      obtain ⟨c, hc, rfl⟩ := th_rngB hq
      obtain ⟨w, e, hgw, hrw, hbw⟩ := r_ans hg hr ha
      rw [e, ixT ha hb2, ixM ha hb2, hrw.2.2.2.2.2.2.2.1 (a * 4 + b) (by omega)]
      unfold th_put2
      rw [nI_clamp (by omega)]
      have hN := gC_reg hgw ha hb2 hbw
      obtain ⟨x1, x2, x3, x4, x5, x6⟩ := g_watch (t := nI a) hgw (hgw.2.1.2.1 c hc) hN.1
      have fr := x1.2.1
      have hM := rM_gl (i := c) h16 (rM_T hrw x1) (x3 _ hN).1
      rw [tg_cg fr.2.2.2.2.1] at hM
      exact ⟨rfl, n, m, gI_gl x1.1 hc (x3 _ hN) (fun i hi e => by rw [fr.2.2.2.2.2.2.1] at e; rw [x5]; exact x6 i hi e), hM, by omega⟩
    · rw [if_neg hq, if_neg (not_not_intro (r_bbn hq))]
      exact ⟨rfl, rI_up h⟩
  · rw [if_pos hb, if_pos (r_bdn hb)]
    exact ⟨rfl, rI_up h⟩
theorem gI_reg2 {n i j : Nat} {y : TS} {z1 z2 : Int32} (h : gI n y) (h2 : gC n y z2) (h1 : gC n y z1) : gI n (sReg y (upd (upd (tReg y) i z2) j z1)) := by
  have a := gI_reg (i := i) h h2
  have b : gC n (sReg y (upd (tReg y) i z2)) z1 := h1
  have e : sReg (sReg y (upd (tReg y) i z2)) (upd (tReg (sReg y (upd (tReg y) i z2))) j z1) = sReg y (upd (upd (tReg y) i z2) j z1) := rfl
  rw [← e]
  exact gI_reg a b
theorem rM_reg2 {n m i j : Nat} {y : TS} {v : MS} {z1 z2 : Int32} (hn : n ≤ 16) (h : rM n m y v) (h2 : gR n y z2) (h1 : gR n y z1) : rM n m (sReg y (upd (upd (tReg y) i z2) j z1)) (eReg v (upd (upd (mReg v) i (th_tag y z2)) j (th_tag y z1))) := by
  have a := rM_reg (i := i) hn h h2
  have b : gR n (sReg y (upd (tReg y) i z2)) z1 := h1
  have e : sReg (sReg y (upd (tReg y) i z2)) (upd (tReg (sReg y (upd (tReg y) i z2))) j z1) = sReg y (upd (upd (tReg y) i z2) j z1) := rfl
  have f : eReg (eReg v (upd (mReg v) i (th_tag y z2))) (upd (mReg (eReg v (upd (mReg v) i (th_tag y z2)))) j (th_tag (sReg y (upd (tReg y) i z2)) z1)) = eReg v (upd (upd (mReg v) i (th_tag y z2)) j (th_tag y z1)) := rfl
  rw [← e, ← f]
  exact rM_reg hn a b
theorem r_swap {k : Nat} {u : TS} {v : MS} (h : rI k u v) (t r w q : Int32) : (th_swap u t r w q).2 = (md_swap v t r w q).2 ∧ rI (k + 1) (th_swap u t r w q).1 (md_swap v t r w q).1 := by
  obtain ⟨n, m, hg, hr, hm⟩ := id h
  have h16 := hg.1.2.1
  unfold th_swap md_swap
  by_cases hb : th_bd t r = 0
  · rw [if_neg (not_not_intro hb), if_neg ((r_bd t r).mp hb)]
    by_cases hq : th_bd w q = 0
    · rw [if_pos hq, if_pos ((r_bd w q).mp hq)]
      obtain ⟨a, b, ha, hb2, rfl, rfl⟩ := th_rng hb
      obtain ⟨c, d, hc, hd, rfl, rfl⟩ := th_rng hq
      obtain ⟨x, e, hgx, hrx, hbx⟩ := r_ans hg hr ha
      obtain ⟨y, e2, hgy, hry, hby, hby2⟩ := r_ans2 hgx hrx ha hc hbx
      rw [e, e2]
      unfold th_swap2 md_swap2
      rw [ixT ha hb2, ixT hc hd, ixM ha hb2, ixM hc hd]
      have hC1 := gC_reg hgy ha hb2 hby
      have hC2 := gC_reg hgy hc hd hby2
      have hM2 := rM_reg2 (i := a * 4 + b) (j := c * 4 + d) h16 hry hC2.1 hC1.1
      rw [← hry.2.2.2.2.2.2.2.1 (a * 4 + b) (by omega), ← hry.2.2.2.2.2.2.2.1 (c * 4 + d) (by omega)] at hM2
      exact ⟨rfl, n, m, gI_reg2 hgy hC2 hC1, hM2, by omega⟩
    · rw [if_neg hq, if_neg (not_not_intro (r_bdn hq))]
      exact ⟨rfl, rI_up h⟩
  · rw [if_pos hb, if_pos (r_bdn hb)]
    exact ⟨rfl, rI_up h⟩
theorem r_setNumber {k : Nat} {u : TS} {v : MS} (h : rI k u v) (t r x : Int32) : (th_setNumber u t r x).2 = (md_setNumber v t r x).2 ∧ rI (k + 1) (th_setNumber u t r x).1 (md_setNumber v t r x).1 := by
  obtain ⟨n, m, hg, hr, hm⟩ := id h
  have h16 := hg.1.2.1
  unfold th_setNumber md_setNumber
  by_cases hb : th_bd t r = 0
  · rw [if_pos hb, if_pos ((r_bd t r).mp hb)]
    obtain ⟨a, b, ha, hb2, rfl, rfl⟩ := th_rng hb
    obtain ⟨w, e, hgw, hrw, hbw⟩ := r_ans hg hr ha
    rw [e, ixT ha hb2, ixM ha hb2, hrw.2.2.2.2.2.2.2.1 (a * 4 + b) (by omega)]
    unfold th_setn2
    rcases r_obj h16 hrw (hgw.2.1.1 (a * 4 + b) (by omega)) with ⟨z1, z2, z3⟩ | ⟨j, s, z1, z2, z3, z4, z5, z6, z7, z8, z9, z10, z11, z12, z13⟩
    · rw [if_neg z1, if_neg (not_not_intro z3)]
      exact ⟨rfl, n, m, hgw, hrw, by omega⟩
    · rw [if_pos z1, if_pos z9, z4, z10]
      exact ⟨rfl, n, m, hgw, rM_val h16 hrw z3 z8 z6, by omega⟩
  · rw [if_neg hb, if_neg (not_not_intro (r_bdn hb))]
    exact ⟨rfl, rI_up h⟩
theorem r_number {k : Nat} {u : TS} {v : MS} (h : rI k u v) (t r : Int32) : (th_number u t r).2 = (md_number v t r).2 ∧ rI (k + 1) (th_number u t r).1 (md_number v t r).1 := by
  obtain ⟨n, m, hg, hr, hm⟩ := id h
  have h16 := hg.1.2.1
  unfold th_number md_number
  by_cases hb : th_bd t r = 0
  · rw [if_pos hb, if_neg ((r_bd t r).mp hb)]
    obtain ⟨a, b, ha, hb2, rfl, rfl⟩ := th_rng hb
    rw [ixT ha hb2, ixM ha hb2, hr.2.2.2.2.2.2.2.1 (a * 4 + b) (by omega)]
    rcases r_obj h16 hr (hg.2.1.1 (a * 4 + b) (by omega)) with ⟨z1, z2, z3⟩ | ⟨j, s, z1, z2, z3, z4, z5, z6, z7, z8, z9, z10, z11, z12, z13⟩
    · rw [if_neg z1, if_neg (not_not_intro z3)]
      exact ⟨rfl, rI_up h⟩
    · rw [if_pos z1, if_pos z9, z4, z10]
      exact ⟨z11.symm, rI_up h⟩
  · rw [if_neg hb, if_pos (r_bdn hb)]
    exact ⟨rfl, rI_up h⟩
theorem r_serial {k : Nat} {u : TS} {v : MS} (h : rI k u v) (t r : Int32) : (th_serial u t r).2 = (md_serial v t r).2 ∧ rI (k + 1) (th_serial u t r).1 (md_serial v t r).1 := by
  obtain ⟨n, m, hg, hr, hm⟩ := id h
  unfold th_serial md_serial
  by_cases hb : th_bd t r = 0
  · rw [if_pos hb, if_neg ((r_bd t r).mp hb)]
    obtain ⟨a, b, ha, hb2, rfl, rfl⟩ := th_rng hb
    rw [ixT ha hb2, ixM ha hb2]
    exact ⟨(hr.2.2.2.2.2.2.2.1 (a * 4 + b) (by omega)).symm, rI_up h⟩
  · rw [if_neg hb, if_pos (r_bdn hb)]
    exact ⟨rfl, rI_up h⟩
theorem r_serialIn {k : Nat} {u : TS} {v : MS} (h : rI k u v) (t r f : Int32) : (th_serialIn u t r f).2 = (md_serialIn v t r f).2 ∧ rI (k + 1) (th_serialIn u t r f).1 (md_serialIn v t r f).1 := by
  obtain ⟨n, m, hg, hr, hm⟩ := id h
  have h16 := hg.1.2.1
  have hm5 := hr.2.2.1
  unfold th_serialIn md_serialIn
  by_cases hb : th_bd t r = 0
  · rw [if_neg (not_not_intro hb), if_neg ((r_bd t r).mp hb)]
    by_cases hf : th_bb f = 0
    · rw [if_pos hf, if_pos ((r_bb f).mp hf)]
      obtain ⟨a, b, ha, hb2, rfl, rfl⟩ := th_rng hb
      obtain ⟨d, hd, rfl⟩ := th_rngB hf
      rw [ixT ha hb2, ixM ha hb2, hr.2.2.2.2.2.2.2.1 (a * 4 + b) (by omega)]
      rcases r_obj h16 hr (hg.2.1.1 (a * 4 + b) (by omega)) with ⟨z1, z2, z3⟩ | ⟨j, s, z1, z2, z3, z4, z5, z6, z7, z8, z9, z10, z11, z12, z13⟩
      · rw [if_neg z1, if_neg (not_not_intro z3)]
        exact ⟨rfl, rI_up h⟩
      · rw [if_pos z1, if_pos z9, z4, z7, ixF (by omega) hd]
        rcases (show d = 0 ∨ d = 1 by omega) with rfl | rfl
        · rw [if_neg (not_not_intro nI_0), Nat.add_zero]
          exact ⟨z12.symm, rI_up h⟩
        · rw [if_pos (by decide)]
          exact ⟨z13.symm, rI_up h⟩
    · rw [if_neg hf, if_neg (not_not_intro (r_bbn hf))]
      exact ⟨rfl, rI_up h⟩
  · rw [if_pos hb, if_pos (r_bdn hb)]
    exact ⟨rfl, rI_up h⟩
theorem r_serialOf {k : Nat} {u : TS} {v : MS} (h : rI k u v) (g : Int32) : (th_serialOf u g).2 = (md_serialOf v g).2 ∧ rI (k + 1) (th_serialOf u g).1 (md_serialOf v g).1 := by
  obtain ⟨n, m, hg, hr, hm⟩ := id h
  unfold th_serialOf md_serialOf
  by_cases hf : th_bb g = 0
  · rw [if_pos hf, if_neg ((r_bb g).mp hf)]
    obtain ⟨d, hd, rfl⟩ := th_rngB hf
    rw [nI_clamp (by omega)]
    exact ⟨(hr.2.2.2.2.2.2.2.2 d hd).symm, rI_up h⟩
  · rw [if_neg hf, if_pos (r_bbn hf)]
    exact ⟨rfl, rI_up h⟩
theorem r_made {k : Nat} {u : TS} {v : MS} (h : rI k u v) : tCnt u = mMade v := by
  obtain ⟨n, m, hg, hr, hm⟩ := id h
  rw [hr.1, hr.2.1]
theorem r_pause {k : Nat} {u : TS} {v : MS} (h : rI k u v) (t : Int32) : (th_pause u t).2 = (md_pause v t).2 ∧ rI (k + 1) (th_pause u t).1 (md_pause v t).1 := by
  obtain ⟨n, m, hg, hr, hm⟩ := id h
  unfold th_pause md_pause
  by_cases h1 : t < 0
  · rw [if_pos h1, if_pos h1]
    exact ⟨rfl, rI_up h⟩
  · rw [if_neg h1, if_neg h1]
    by_cases h2 : t ≤ 2
    · rw [if_pos h2, if_pos h2]
      obtain ⟨a, ha, rfl⟩ := th_thr_of h1 h2
      obtain ⟨w, e, hgw, hrw, -⟩ := r_ans hg hr ha
      rw [e]
      exact ⟨rfl, n, m, hgw, hrw, by omega⟩
    · rw [if_neg h2, if_neg h2]
      exact ⟨rfl, rI_up h⟩
theorem g_it {n : Nat} : ∀ (k : Nat) (u : TS), gI n u → gT n u (th_it k u)
  | 0, u, h => gT_rf h
  | k + 1, u, h => gT_tr (g_step h).1 (g_it k (th_step u) (g_step h).1.1)
theorem r_rest {k : Nat} {u : TS} {v : MS} (h : rI k u v) (x : Int32) : rI (k + 1) (th_rest u x) v := by
  obtain ⟨n, m, hg, hr, hm⟩ := id h
  unfold th_rest
  split
  · have := g_it x.toNatClampNeg u hg
    exact ⟨n, m, this.1, rM_T hr this, by omega⟩
  · have := g_it 63 u hg
    exact ⟨n, m, this.1, rM_T hr this, by omega⟩
end
section
-- live, make, and the start
def r_Y (n m : Nat) (u : TS) (i : Nat) : Prop := i = 0 ∨ 1 ≤ i ∧ i ≤ m ∧ ∃ j, gV n u j ∧ tTag u j = nI i
theorem r_Yt {n m : Nat} {u : TS} {v : MS} {z : Int32} (hn : n ≤ 16) (h : rM n m u v) (hz : gR n u z) : r_Y n m u (th_tag u z).toNatClampNeg := by
  rcases r_obj hn h hz with ⟨-, -, e⟩ | ⟨j, t, -, -, hj, -, t1, t2, -, e, -, e2, -⟩
  · rw [e]; exact Or.inl rfl
  · rw [e2]; exact Or.inr ⟨t1, t2, j, hj, e⟩
theorem r_cnt {n m : Nat} {u : TS} {v : MS} (hg : gI n u) (hr : rM n m u v) (hm : m < 512) :
    md_Sd m (mRch (md_lv v)) (r_Y n m u) ∧ (∀ j, gV n u j → (∀ X : Nat → Prop, (∀ i j, i < 12 → j < n → tReg u i = nI j → X j) → (∀ i j, i < 2 → j < n → tGl u i = nI j → X j) → (∀ i j, i < n → X i → j < n → gE u i j → X j) → X j) → ¬ mRch (md_lv v) (tTag u j).toNatClampNeg = 0) := by
  have h16 := hg.1.2.1
  obtain ⟨s1, s2, s3, s4, s5⟩ := md_lv_spec (v := v) (m := m) (Y := r_Y n m u) hr.2.1 hm (fun i hi => by
      rcases hi with rfl | hi
      · exact Nat.zero_le m
      · exact hi.2.1) (Or.inl rfl) (fun e he => by rw [hr.2.2.2.2.2.2.2.1 e he]; exact r_Yt h16 hr (hg.2.1.1 e he)) (fun e he => by rw [hr.2.2.2.2.2.2.2.2 e he]; exact r_Yt h16 hr (hg.2.1.2.1 e he)) (fun i h1 h2 hi => by
      rcases hi with hi | ⟨-, -, j, hj, e⟩
      · omega
      · obtain ⟨t, t1, t2, t3, t4, t5, t6⟩ := hr.2.2.2.2.2.1 j hj
        have et : t = i := g_nI_inj (by omega) (by omega) (t3.symm.trans e)
        subst et
        rw [t5, t6]
        have := hg.2.1.2.2 j hj
        exact ⟨r_Yt h16 hr this.1, r_Yt h16 hr this.2⟩)
  refine ⟨s1, fun j hj hX => ?_⟩
  have key := hX (fun j => gV n u j ∧ ¬ mRch (md_lv v) (tTag u j).toNatClampNeg = 0) (fun i j hi hjn e => ?_) (fun i j hi hjn e => ?_) (fun i j hi hXi hjn hE => ?_)
  · exact key.2
  · have hV : gV n u j := gR_in h16 (by omega) (by rw [← e]; exact hg.2.1.1 i hi)
    refine ⟨hV, ?_⟩
    have := s3 i hi
    rw [hr.2.2.2.2.2.2.2.1 i hi, e, tg_nI u (by omega)] at this
    exact this
  · have hV : gV n u j := gR_in h16 (by omega) (by rw [← e]; exact hg.2.1.2.1 i hi)
    refine ⟨hV, ?_⟩
    have := s4 i hi
    rw [hr.2.2.2.2.2.2.2.2 i hi, e, tg_nI u (by omega)] at this
    exact this
  · have hL := hg.2.1.2.2 i hXi.1
    obtain ⟨t, t1, t2, t3, t4, t5, t6⟩ := hr.2.2.2.2.2.1 i hXi.1
    have hf := s5 t t1 t2 (by
      have := hXi.2
      rw [t3, nI_clamp (by omega)] at this
      exact this)
    rcases hE with hE | hE
    · have hV : gV n u j := gR_in h16 (by omega) (by rw [← hE]; exact hL.1)
      refine ⟨hV, ?_⟩
      have := hf.1
      rw [t5, hE, tg_nI u (by omega)] at this
      exact this
    · have hV : gV n u j := gR_in h16 (by omega) (by rw [← hE]; exact hL.2)
      refine ⟨hV, ?_⟩
      have := hf.2
      rw [t6, hE, tg_nI u (by omega)] at this
      exact this
def r_p (u : TS) : Nat → Bool := fun j => decide (¬ tCol u j = 0)
def r_q (v : MS) : Nat → Bool := fun i => decide (¬ mRch (md_lv v) (i + 1) = 0)
theorem r_live2 {v : MS} {m : Nat} (hm : mMade v = nI m) (hm2 : m < 512) : md_live v = (md_lv v, nI (cn (r_q v) m)) := by
  unfold md_live
  obtain ⟨f, hf⟩ := md_lv_eq v
  have e : (mMade (md_lv v)).toNatClampNeg = m := by
    rw [hf]
    show (mMade v).toNatClampNeg = m
    rw [hm]
    exact nI_clamp (by omega)
  rw [e, md_cn_cn]
  rfl
/-- without a collection the reference has no more live objects than the class has cells in use -/
theorem r_few {n m : Nat} {u : TS} {v : MS} (hg : gI n u) (hr : rM n m u v) (hm : m < 512) : cn (r_q v) m ≤ cn (r_p u) n := by
  obtain ⟨h1, -⟩ := r_cnt hg hr hm
  refine cn_sur n (r_p u) (r_q v) (fun j => (tTag u j).toNatClampNeg - 1) (fun i hi hq => ?_)
  have hq := of_decide_eq_true hq
  rcases h1 (i + 1) (by omega) hq with q | ⟨-, -, j, hj, e⟩
  · omega
  · refine ⟨j, hj.1, decide_eq_true hj.2.1, ?_⟩
    show (tTag u j).toNatClampNeg - 1 = i
    rw [e, nI_clamp (by omega)]
    omega
/-- behind a collection they are as many -/
theorem r_same {n m : Nat} {u : TS} {v : MS} (hg : gI n u) (hr : rM n m u v) (hm : m < 512) (hp : tPh u = 0) (hx : gX n u) : cn (r_p u) n = cn (r_q v) m := by
  obtain ⟨h1, h2⟩ := r_cnt hg hr hm
  have hV : ∀ j, j < n → r_p u j = true → gV n u j := fun j hj hpj => ⟨hj, of_decide_eq_true hpj, fun q => by rw [hp] at q; exact absurd q.1 (by decide)⟩
  refine cn_bij n (r_p u) (r_q v) (fun j => (tTag u j).toNatClampNeg - 1) (fun j hj hpj => ?_) (fun i j hi hj hpi hpj e => ?_) (fun i hi => ?_)
  · obtain ⟨t, t1, t2, t3, -⟩ := hr.2.2.2.2.2.1 j (hV j hj hpj)
    show (tTag u j).toNatClampNeg - 1 < m
    rw [t3, nI_clamp (by omega)]
    omega
  · obtain ⟨t, t1, t2, t3, -⟩ := hr.2.2.2.2.2.1 i (hV i hi hpi)
    obtain ⟨s, s1, s2, s3, -⟩ := hr.2.2.2.2.2.1 j (hV j hj hpj)
    have e : (tTag u i).toNatClampNeg - 1 = (tTag u j).toNatClampNeg - 1 := e
    rw [t3, s3, nI_clamp (by omega), nI_clamp (by omega)] at e
    exact hr.2.2.2.2.2.2.1 i j (hV i hi hpi) (hV j hj hpj) (by rw [t3, s3]; congr 1; omega)
  · constructor
    · intro hq
      have hq := of_decide_eq_true hq
      rcases h1 (i + 1) (by omega) hq with q | ⟨-, -, j, hj, e⟩
      · omega
      · refine ⟨j, hj.1, decide_eq_true hj.2.1, ?_⟩
        show (tTag u j).toNatClampNeg - 1 = i
        rw [e, nI_clamp (by omega)]
        omega
    · rintro ⟨j, hj, hpj, e⟩
      have hVj := hV j hj hpj
      obtain ⟨t, t1, t2, t3, -⟩ := hr.2.2.2.2.2.1 j hVj
      have e : (tTag u j).toNatClampNeg - 1 = i := e
      have hbl : tCol u j = tBl u := by
        rcases hg.1.2.2.2.2.2.2.2 j hj with c | c | c | c
        · exact absurd c hVj.2.1
        · exact c
        · exact absurd c (hg.2.2.1.2.2.1 hp j hj)
        · exact absurd c (hg.2.2.1.2.1 (Or.inl hp) j hj)
      have := h2 j hVj (fun X a1 a2 a3 => hx X a1 a2 a3 j hj (Or.inr hbl))
      refine decide_eq_true ?_
      rw [t3, nI_clamp (by omega)] at this e
      rw [show i + 1 = t by omega]
      exact this
theorem rM_lv {n m : Nat} {u : TS} {v : MS} (hr : rM n m u v) : rM n m u (md_lv v) := by
  obtain ⟨f, hf⟩ := md_lv_eq v
  rw [hf]
  exact hr
theorem r_live {k : Nat} {u : TS} {v : MS} (h : rI k u v) (hk : k < 512) : (th_live u).2 = (md_live v).2 ∧ rI (k + 1) (th_live u).1 (md_live v).1 := by
  obtain ⟨n, m, hg, hr, hm⟩ := id h
  obtain ⟨hT, hp, hx⟩ := g_collect hg
  have hrw := rM_T hr hT
  have hs := r_same hT.1 hrw (by omega) hp hx
  rw [r_live2 hr.2.1 (by omega)]
  unfold th_live
  rw [g_n hT.1, th_cn_cn]
  refine ⟨?_, n, m, hT.1, rM_lv hrw, by omega⟩
  show nI (cn (r_p (th_collect u)) n) = nI (cn (r_q v) m)
  rw [hs]
theorem g_fc (f : Nat → Int32) : ∀ k i : Nat, i + k ≤ 16 → (0 ≤ th_fc f k i → ∃ j, j < i + k ∧ th_fc f k i = nI j ∧ f j = 0) ∧ (¬ 0 ≤ th_fc f k i → ∀ j, i ≤ j → j < i + k → ¬ f j = 0)
  | 0, i, _ => ⟨fun h => absurd (show (0 : Int32) ≤ -1 from h) (by decide), fun _ j h1 h2 => absurd h1 (by omega)⟩
  | k + 1, i, hk => by
    have ih := g_fc f k (i + 1) (by omega)
    unfold th_fc
    split
    · rename_i h1
      refine ⟨fun h => ?_, fun h j j1 j2 => ?_⟩
      · obtain ⟨j, hj, e, hc⟩ := ih.1 h
        exact ⟨j, by omega, e, hc⟩
      · by_cases hji : j = i
        · rw [hji]; exact h1
        · exact ih.2 h j (by omega) (by omega)
    · rename_i h1
      exact ⟨fun _ => ⟨i, by omega, rfl, Decidable.not_not.mp h1⟩, fun h => absurd (nI_pos' (by omega)) h⟩
theorem g_free {n : Nat} {u : TS} (hg : gI n u) : (0 ≤ th_free u → ∃ j, j < n ∧ th_free u = nI j ∧ tCol u j = 0) ∧ (¬ 0 ≤ th_free u → ∀ j, j < n → ¬ tCol u j = 0) := by
  have h16 := hg.1.2.1
  have h := g_fc (tCol u) n 0 (by omega)
  unfold th_free
  rw [g_n hg]
  refine ⟨fun q => ?_, fun q j hj => h.2 q j (by omega) (by omega)⟩
  obtain ⟨j, hj, e, hc⟩ := h.1 q
  exact ⟨j, by omega, e, hc⟩
theorem gI_dat {n : Nat} {u : TS} {a b : Nat → Int32} {z : Int32} (h : gI n u) : gI n (sCnt (sTag (sVal u a) b) z) := h
/-- the new object on both sides -/
theorem r_new {n m a b j : Nat} {u : TS} {v : MS} {x : Int32} (hg : gI n u) (hr : rM n m u v) (hm : m < 512) (hj : j < n) (h0 : tCol u j = 0) (ha : a < 3) (hb : b < 4) : gI n (th_new u (nI j) (nI a) (nI b) x) ∧ rM n (m + 1) (th_new u (nI j) (nI a) (nI b) x) (md_new v (nI a) (nI b) x) := by
  have h16 := hg.1.2.1
  obtain ⟨z, hz, hzz⟩ := g_ncol (n := n) (k := j) (u := u) (by omega) hg.1.2.2.2.2.2.2.1
  obtain ⟨hN, hV⟩ := gI_new (i := a * 4 + b) hg hj h0 hzz
  have eT : th_new u (nI j) (nI a) (nI b) x = sCnt (sTag (sVal (gNw u j (a * 4 + b) z) (upd (tVal u) j x)) (upd (tTag u) j (nI (m + 1)))) (nI (m + 1)) := by
    unfold th_new gNw
    rw [hz, nI_clamp (by omega), ixT ha hb, hr.1, nI_1]
  have eM : md_new v (nI a) (nI b) x = eReg (eNum (eFld (eMade v (nI (m + 1))) (upd (upd (mFld v) (2 * (m + 1)) 0) (2 * (m + 1) + 1) 0)) (upd (mNum v) (m + 1) x)) (upd (mReg v) (a * 4 + b) (nI (m + 1))) := by
    unfold md_new
    rw [hr.2.1, nI_1, md_m2, nI_1, ixM ha hb, nI_clamp (by omega), nI_clamp (by omega), nI_clamp (by omega)]
  rw [eT, eM]
  refine ⟨gI_dat hN, ?_⟩
  obtain ⟨h1, h2, h3, h4, ⟨y, y1, y2, y3, y4, y5⟩, h6, h7, h8, h9⟩ := hr
  have hnj : ∀ i, gV n u i → i ≠ j := fun i hi e => hi.2.1 (by rw [e]; exact h0)
  have htg : ∀ (w : TS) (c : Int32), tTag w = upd (tTag u) j (nI (m + 1)) → gR n u c → th_tag w c = th_tag u c := by
    intro w c hw hc
    rcases hc with rfl | ⟨i, rfl, hi⟩
    · rw [tg_m1, tg_m1]
    · have := hi.1
      rw [tg_nI w (by omega), tg_nI u (by omega), hw, g_u, if_neg (hnj i hi)]
  refine ⟨rfl, rfl, by omega, h4, ⟨m + 1, by omega, rfl, fun e he => ?_, y4, fun e he => ?_⟩, fun i hi => ?_, fun i k hi hk e => ?_, fun e he => ?_, fun e he => ?_⟩
  · show vp_in (upd (mReg v) (a * 4 + b) (nI (m + 1)) e) 513
    rw [g_u]
    split
    · exact vp_in_nI (by omega) (by omega)
    · exact y3 e he
  · show vp_in (upd (upd (mFld v) (2 * (m + 1)) 0) (2 * (m + 1) + 1) 0 e) 513
    have v0 : vp_in 0 513 := vp_in_nI (n := 0) (by omega) (by omega)
    rw [g_u]
    split
    · exact v0
    · rw [g_u]
      split
      · exact v0
      · exact y5 e he
  · have hi : gV n (gNw u j (a * 4 + b) z) i := hi
    by_cases hij : i = j
    · subst hij
      refine ⟨m + 1, by omega, by omega, ?_, ?_, ?_, ?_⟩
      · show upd (tTag u) i (nI (m + 1)) i = _
        rw [g_u, if_pos rfl]
      · show upd (mNum v) (m + 1) x (m + 1) = upd (tVal u) i x i
        rw [g_u, g_u, if_pos rfl, if_pos rfl]
      · show upd (upd (mFld v) (2 * (m + 1)) 0) (2 * (m + 1) + 1) 0 (2 * (m + 1)) = th_tag _ (upd (tL0 u) i (-1) i)
        rw [g_u, g_u, g_u, if_pos rfl, if_pos rfl, if_neg (by omega), tg_m1]
      · show upd (upd (mFld v) (2 * (m + 1)) 0) (2 * (m + 1) + 1) 0 (2 * (m + 1) + 1) = th_tag _ (upd (tL1 u) i (-1) i)
        rw [g_u, if_pos rfl, g_u, if_pos rfl, tg_m1]
    · have hiu := ((hV i).mp hi).resolve_left hij
      obtain ⟨t, t1, t2, t3, t4, t5, t6⟩ := h6 i hiu
      have hL := hg.2.1.2.2 i hiu
      refine ⟨t, t1, by omega, ?_, ?_, ?_, ?_⟩
      · show upd (tTag u) j (nI (m + 1)) i = _
        rw [g_u, if_neg hij]
        exact t3
      · show upd (mNum v) (m + 1) x t = upd (tVal u) j x i
        rw [g_u, g_u, if_neg hij, if_neg (by omega)]
        exact t4
      · show upd (upd (mFld v) (2 * (m + 1)) 0) (2 * (m + 1) + 1) 0 (2 * t) = th_tag _ (upd (tL0 u) j (-1) i)
        rw [htg _ _ rfl (by rw [g_u, if_neg hij]; exact hL.1), g_u, g_u, g_u, if_neg hij, if_neg (by omega), if_neg (by omega)]
        exact t5
      · show upd (upd (mFld v) (2 * (m + 1)) 0) (2 * (m + 1) + 1) 0 (2 * t + 1) = th_tag _ (upd (tL1 u) j (-1) i)
        rw [htg _ _ rfl (by rw [g_u, if_neg hij]; exact hL.2), g_u, g_u, g_u, if_neg hij, if_neg (by omega), if_neg (by omega)]
        exact t6
  · have hi : gV n (gNw u j (a * 4 + b) z) i := hi
    have hk : gV n (gNw u j (a * 4 + b) z) k := hk
    have e : upd (tTag u) j (nI (m + 1)) i = upd (tTag u) j (nI (m + 1)) k := e
    rw [g_u, g_u] at e
    by_cases hij : i = j
    · by_cases hkj : k = j
      · rw [hij, hkj]
      · rw [if_pos hij, if_neg hkj] at e
        obtain ⟨t, t1, t2, t3, -⟩ := h6 k (((hV k).mp hk).resolve_left hkj)
        rw [t3] at e
        have := g_nI_inj (by omega) (by omega) e
        omega
    · by_cases hkj : k = j
      · rw [if_neg hij, if_pos hkj] at e
        obtain ⟨t, t1, t2, t3, -⟩ := h6 i (((hV i).mp hi).resolve_left hij)
        rw [t3] at e
        have := g_nI_inj (by omega) (by omega) e
        omega
      · rw [if_neg hij, if_neg hkj] at e
        exact h7 i k (((hV i).mp hi).resolve_left hij) (((hV k).mp hk).resolve_left hkj) e
  · show upd (mReg v) (a * 4 + b) (nI (m + 1)) e = th_tag _ (upd (tReg u) (a * 4 + b) (nI j) e)
    rw [g_u, g_u]
    split
    · rw [tg_nI _ (by omega)]
      show nI (m + 1) = upd (tTag u) j (nI (m + 1)) j
      rw [g_u, if_pos rfl]
    · rw [htg _ _ rfl (hg.2.1.1 e he)]
      exact h8 e he
  · show mGl v e = th_tag _ (tGl u e)
    rw [htg _ _ rfl (hg.2.1.2.1 e he)]
    exact h9 e he
theorem r_make {k : Nat} {u : TS} {v : MS} (h : rI k u v) (hk : k < 512) (t r x : Int32) : (th_make u t r x).2 = (md_make v t r x).2 ∧ rI (k + 1) (th_make u t r x).1 (md_make v t r x).1 := by
  obtain ⟨n, m, hg, hr, hm⟩ := id h
  have h16 := hg.1.2.1
  unfold th_make md_make
  by_cases hb : th_bd t r = 0
  · rw [if_pos hb, if_pos ((r_bd t r).mp hb)]
    obtain ⟨a, b, ha, hb2, rfl, rfl⟩ := th_rng hb
    obtain ⟨w, e, hgw, hrw, hbw⟩ := r_ans hg hr ha
    rw [e, r_live2 hr.2.1 (by omega)]
    have hrl := rM_lv hrw
    have e1 : mRoom (md_lv v) = nI n := hrl.2.2.2.1
    have e2 : mMade (md_lv v) = nI m := hrl.2.1
    have hm5 : ¬ mMade (md_lv v) = 512 := by
      rw [e2]
      intro q
      have := g_nI_inj (j := 512) (by omega) (by omega) q
      omega
    have some : ∀ (y : TS) (c : Nat), gI n y → rM n m y v → c < n → tCol y c = 0 → cn (r_q v) m < n → (tCnt y + 1 = (if nI n ≤ nI (cn (r_q v) m) then (md_lv v, (-2 : Int32)) else if ¬ mMade (md_lv v) = 512 then (md_new (md_lv v) (nI a) (nI b) x, mMade (md_lv v) + 1) else (md_lv v, -2)).2) ∧ rI (k + 1) (th_new y (nI c) (nI a) (nI b) x) (if nI n ≤ nI (cn (r_q v) m) then (md_lv v, (-2 : Int32)) else if ¬ mMade (md_lv v) = 512 then (md_new (md_lv v) (nI a) (nI b) x, mMade (md_lv v) + 1) else (md_lv v, -2)).1 := by
      intro y c hgy hry hc h0 hlt
      rw [if_neg (nI_ge hlt (by omega)), if_pos hm5]
      obtain ⟨n1, n2⟩ := r_new (a := a) (b := b) (x := x) hgy (rM_lv hry) (by omega) hc h0 ha hb2
      exact ⟨by rw [hry.1, e2], n, m + 1, n1, n2, by omega⟩
    have less : ∀ (y : TS) (c : Nat), c < n → tCol y c = 0 → cn (r_p y) n < n := by
      intro y c hc h0
      have := cn_lt (p := r_p y) (q := fun _ => true) (g := c) n (fun _ _ _ => rfl) hc (decide_eq_false (not_not_intro h0)) rfl
      rw [cn_all n (fun _ _ => rfl)] at this
      exact this
    show (_ = (if mRoom (md_lv v) ≤ nI (cn (r_q v) m) then _ else if ¬ mMade (md_lv v) = 512 then _ else _ : MS × Int32).2) ∧ _
    by_cases h0 : 0 ≤ th_free w
    · rw [if_pos h0]
      obtain ⟨c, hc, ec, hcc⟩ := (g_free hgw).1 h0
      have hlt : cn (r_q v) m < n := Nat.lt_of_le_of_lt (r_few hgw hrw (by omega)) (less w c hc hcc)
      rw [ec, e1]
      exact some w c hgw hrw hc hcc hlt
    · rw [if_neg h0]
      obtain ⟨hT, hp, hx⟩ := g_collect hgw
      have hrc := rM_T hrw hT
      have hs := r_same hT.1 hrc (by omega) hp hx
      have hfr := g_free hT.1
      generalize th_collect w = y at hT hrc hs hfr ⊢
      unfold th_make2
      by_cases h1 : 0 ≤ th_free y
      · rw [if_pos h1]
        obtain ⟨c, hc, ec, hcc⟩ := hfr.1 h1
        have hlt : cn (r_q v) m < n := by rw [← hs]; exact less y c hc hcc
        rw [ec, e1]
        exact some y c hT.1 hrc hc hcc hlt
      · rw [if_neg h1]
        have hall := cn_all (p := r_p y) n (fun j hj => decide_eq_true (hfr.2 h1 j hj))
        rw [e1, if_pos (by rw [← hs, hall]; exact Int32.le_refl _)]
        exact ⟨rfl, n, m, hT.1, rM_lv hrc, by omega⟩
  · rw [if_neg hb, if_neg (not_not_intro (r_bdn hb))]
    exact ⟨rfl, rI_up h⟩
-- the start
theorem th_fl_at (f : Nat → Int32) : ∀ k i, i < k → th_fl f k i = -1
  | 0, i, h => absurd h (by omega)
  | k + 1, i, h => by
    unfold th_fl
    rw [g_u]
    split
    · rfl
    · exact th_fl_at f k i (by omega)
theorem th_clamp_n (x : Int32) : ∃ n : Nat, 4 ≤ n ∧ n ≤ 16 ∧ th_clamp x = nI n := by
  unfold th_clamp
  split
  · rename_i h1
    split
    · rename_i h2
      obtain ⟨j, hj, rfl⟩ := nI_of2 (M := 16) (n := 16) (by decide) (fun q => by
        have y1 := Int32.lt_iff_toInt_lt.mp q
        have y2 := Int32.le_iff_toInt_le.mp h1
        have e0 : (0 : Int32).toInt = 0 := by decide
        have e4 : (4 : Int32).toInt = 4 := by decide
        omega) h2
      have h4 : nI 4 ≤ nI j := h1
      have := (nI_leI (by omega) (by omega)).mp h4
      exact ⟨j, this, hj, rfl⟩
    · exact ⟨16, by omega, by omega, rfl⟩
  · exact ⟨4, by omega, by omega, rfl⟩
theorem r_start (x : Int32) : rI 0 (th_start x) (md_start x) := by
  obtain ⟨n, h1, h2, h3⟩ := th_clamp_n x
  have hV : ∀ j, ¬ gV n (th_start x) j := fun j q => q.2.1 rfl
  have hreg : ∀ i, i < 12 → tReg (th_start x) i = -1 := fun i hi => th_fl_at _ 12 i hi
  have hgl : ∀ i, i < 2 → tGl (th_start x) i = -1 := by
    intro i hi
    show upd (upd cz_f (0 : Int32).toNatClampNeg (-1)) (1 : Int32).toNatClampNeg (-1) i = -1
    rw [g_u, g_u]
    split
    · rfl
    · rename_i q
      have q : ¬ i = 1 := q
      exact if_pos (show i = 0 by omega)
  have z0 : th_rf 0 := Or.inr (vp_in_nI (n := 0) (N := 16) (by omega) (by omega))
  have v0 : vp_in 0 513 := vp_in_nI (n := 0) (by omega) (by omega)
  refine ⟨n, 0, ⟨⟨h1, h2, h3, ⟨⟨n, 0, h1, h2, by omega, h3, nI_0.symm⟩, fun i hi => ?_, fun i hi => ?_, fun _ _ => z0, fun _ _ => z0⟩, Or.inl rfl, ⟨0, by omega, rfl⟩, Or.inl rfl, fun j hj => Or.inl rfl⟩, ⟨fun i hi => Or.inl (hreg i hi), fun i hi => Or.inl (hgl i hi), fun j hj => absurd hj (hV j)⟩, ⟨fun q => ?_, fun _ j hj => ?_, fun _ j hj => ?_, fun q => absurd (show (0 : Int32) = 5 from q) (by decide)⟩, fun q => absurd (show (0 : Int32) = 3 from q) (by decide), fun q => absurd (show (0 : Int32) = 4 from q) (by decide)⟩, ⟨rfl, rfl, by omega, h3, ⟨0, by omega, rfl, fun _ _ => v0, fun _ _ => v0, fun _ _ => v0⟩, fun j hj => absurd hj (hV j), fun i j hi => absurd hi (hV i), fun i hi => ?_, fun i hi => ?_⟩, Nat.le_refl 0⟩
  · rw [hreg i hi]; exact th_rf_m1
  · rw [hgl i hi]; exact th_rf_m1
  · rcases q with q | q | q
    · exact absurd (show (0 : Int32) = 1 from q) (by decide)
    · exact absurd (show (0 : Int32) = 2 from q) (by decide)
    · exact absurd (show (0 : Int32) = 3 from q) (by decide)
  · show ¬ (0 : Int32) = 3
    decide
  · show ¬ (0 : Int32) = 3 - 1
    decide
  · rw [hreg i hi, tg_m1]; rfl
  · rw [hgl i hi, tg_m1]; rfl
theorem r_ok {k : Nat} {u : TS} {v : MS} (h : rI k u v) : th_ok u ∧ md_ok v := by
  obtain ⟨n, m, hg, hr, hm⟩ := h
  exact ⟨hg.1.2.2.2.1, hr.2.2.2.2.1⟩
end
section
/-! THE CLAIM OUT OF ONE WALK OF THE LAW'S BODY. Your part is whole_start (and what it stands on); all else here is the same for every law, but numbers. -/
def R_law : String := "ThreadHeapLaw"
def lw_P (b : Addr) (xs : List Int32) (args : Array Value) (s : State) : Prop := args = #[.ref b] ∧ s.IntsAt b xs ∧ xs.length ≤ 2561 ∧ (Jvm.Cond.and given_1 narrow_1).before args s = true
def lw_Q (_ : Array Value) (s : State) (o : Outcome) (t : State) : Prop := o = .returned (some (.int 1)) ∧ Framed s o t [] 15 2184
def lw_Z (below : List Frame) (a : Array Value) (s : State) : State → Prop := fun t => ∃ o, t.status = .running ∧ Ended t below o ∧ lw_Q a s o t
/-- the law's own end, with 1 on the stack, nothing written that was there before, its room as the claim has it -/
theorem lw_ret {p : Program} {l : Launch} {e : Env} {s : State} {m : MethodId} {below : List Frame} {meth : Method} {c : Code} {b : Nat} (hx : p.tables.exec = Jvm.exec) (hb : c.code = code) (hr : meth.sig.returnType = ret) (hlocks : meth.locks = false) {pc : Nat} {H : Heap} {ls : Array Slot} (hdg : decode code pc = .ok (.ireturn, 1)) : W p l e room_1 s m #[Value.ref b] below meth c H [] 15 2184 (lw_Z below #[Value.ref b] s) (F0 m pc ls [.int 1]) := by
  intro T hT X
  obtain ⟨fs, hret, hrun, hended, hW, hframe⟩ := X.leave (v := some (.int 1)) (hlocks := hlocks) (fun h => by rw [hr] at h; cases h)
  have hmeth' : T.vm.method? m = some meth := X.method'
  refine ⟨T.setFrames fs, ?_, .returned (some (.int 1)), hrun, hended, rfl, ⟨_, rfl⟩, hW, hframe⟩
  jvm_step X.here [X.here.top, hx, hb, hdg, hmeth', hr, ret, narrow_b1]
  (try refine ⟨rfl, ?_⟩); (try refine ⟨rfl, ?_⟩)
  first | (intro acts; rw [hret _ acts rfl rfl rfl]) | rw [hret _ _ rfl rfl rfl]
  exact Steps.refl _
/-- what holds at the law's entry: the machine, the code, the tables' words (any of lw_tbl by 'hts w (by decide +kernel)'), the script of L ints xs at the cell b, what the Statement gives of the start (any of its parts by flat_of_before) -/
def lw_At (p : Program) (s : State) (m : MethodId) (meth : Method) (c : Code) (b L : Nat) (xs : Nat → Int32) : Prop :=
  p.tables.exec = Jvm.exec ∧ c.code = code ∧ meth.sig.returnType = ret ∧ c.maxLocals = 4 ∧ s.vm.findClass R_law = some m.cls ∧ (∀ w ∈ lw_tbl, w.before #[Value.ref b] s = true) ∧ va_X b L xs s s.heap ∧ b < s.heap.size ∧ meth.locks = false ∧ (Jvm.Cond.and given_1 narrow_1).before #[Value.ref b] s = true
-- rows for the calls of the law, printed by law.py
theorem wk_LW_21 : cw_ok R_LW 21 y_TH_make b_TH_make 5 (some .int) 3 := ⟨kl_LW_21, ki_TH_make, ks_TH_make, kn_TH, kc_TH_make, by decide +kernel, by decide +kernel, by decide +kernel⟩
theorem wk_LW_25 : cw_ok R_LW 25 y_MD_make b_MD_make 4 (some .int) 3 := ⟨kl_LW_25, ki_MD_make, ks_MD_make, kn_MD, kc_MD_make, by decide +kernel, by decide +kernel, by decide +kernel⟩
theorem wk_LW_26 : cw_ok R_LW 26 y_TH_copy b_TH_copy 4 (some .int) 3 := ⟨kl_LW_26, ki_TH_copy, ks_TH_copy, kn_TH, kc_TH_copy, by decide +kernel, by decide +kernel, by decide +kernel⟩
theorem wk_LW_29 : cw_ok R_LW 29 y_MD_copy b_MD_copy 4 (some .int) 3 := ⟨kl_LW_29, ki_MD_copy, ks_MD_copy, kn_MD, kc_MD_copy, by decide +kernel, by decide +kernel, by decide +kernel⟩
theorem wk_LW_30 : cw_ok R_LW 30 y_TH_drop b_TH_drop 3 (some .int) 2 := ⟨kl_LW_30, ki_TH_drop, ks_TH_drop, kn_TH, kc_TH_drop, by decide +kernel, by decide +kernel, by decide +kernel⟩
theorem wk_LW_34 : cw_ok R_LW 34 y_MD_drop b_MD_drop 3 (some .int) 2 := ⟨kl_LW_34, ki_MD_drop, ks_MD_drop, kn_MD, kc_MD_drop, by decide +kernel, by decide +kernel, by decide +kernel⟩
theorem wk_LW_35 : cw_ok R_LW 35 y_TH_load b_TH_load 6 (some .int) 4 := ⟨kl_LW_35, ki_TH_load, ks_TH_load, kn_TH, kc_TH_load, by decide +kernel, by decide +kernel, by decide +kernel⟩
theorem wk_LW_39 : cw_ok R_LW 39 y_MD_load b_MD_load 6 (some .int) 4 := ⟨kl_LW_39, ki_MD_load, ks_MD_load, kn_MD, kc_MD_load, by decide +kernel, by decide +kernel, by decide +kernel⟩
theorem wk_LW_40 : cw_ok R_LW 40 y_TH_store b_TH_store 7 (some .int) 4 := ⟨kl_LW_40, ki_TH_store, ks_TH_store, kn_TH, kc_TH_store, by decide +kernel, by decide +kernel, by decide +kernel⟩
theorem wk_LW_43 : cw_ok R_LW 43 y_MD_store b_MD_store 6 (some .int) 4 := ⟨kl_LW_43, ki_MD_store, ks_MD_store, kn_MD, kc_MD_store, by decide +kernel, by decide +kernel, by decide +kernel⟩
theorem wk_LW_44 : cw_ok R_LW 44 y_TH_put b_TH_put 5 (some .int) 3 := ⟨kl_LW_44, ki_TH_put, ks_TH_put, kn_TH, kc_TH_put, by decide +kernel, by decide +kernel, by decide +kernel⟩
theorem wk_LW_47 : cw_ok R_LW 47 y_MD_put b_MD_put 4 (some .int) 3 := ⟨kl_LW_47, ki_MD_put, ks_MD_put, kn_MD, kc_MD_put, by decide +kernel, by decide +kernel, by decide +kernel⟩
theorem wk_LW_48 : cw_ok R_LW 48 y_TH_get b_TH_get 4 (some .int) 3 := ⟨kl_LW_48, ki_TH_get, ks_TH_get, kn_TH, kc_TH_get, by decide +kernel, by decide +kernel, by decide +kernel⟩
theorem wk_LW_51 : cw_ok R_LW 51 y_MD_get b_MD_get 4 (some .int) 3 := ⟨kl_LW_51, ki_MD_get, ks_MD_get, kn_MD, kc_MD_get, by decide +kernel, by decide +kernel, by decide +kernel⟩
theorem wk_LW_52 : cw_ok R_LW 52 y_TH_swap b_TH_swap 6 (some .int) 4 := ⟨kl_LW_52, ki_TH_swap, ks_TH_swap, kn_TH, kc_TH_swap, by decide +kernel, by decide +kernel, by decide +kernel⟩
theorem wk_LW_55 : cw_ok R_LW 55 y_MD_swap b_MD_swap 6 (some .int) 4 := ⟨kl_LW_55, ki_MD_swap, ks_MD_swap, kn_MD, kc_MD_swap, by decide +kernel, by decide +kernel, by decide +kernel⟩
theorem wk_LW_56 : cw_ok R_LW 56 y_TH_setNumber b_TH_setNumber 5 (some .int) 3 := ⟨kl_LW_56, ki_TH_setNumber, ks_TH_setNumber, kn_TH, kc_TH_setNumber, by decide +kernel, by decide +kernel, by decide +kernel⟩
theorem wk_LW_59 : cw_ok R_LW 59 y_MD_setNumber b_MD_setNumber 5 (some .int) 3 := ⟨kl_LW_59, ki_MD_setNumber, ks_MD_setNumber, kn_MD, kc_MD_setNumber, by decide +kernel, by decide +kernel, by decide +kernel⟩
theorem wk_LW_60 : cw_ok R_LW 60 y_TH_number b_TH_number 4 (some .int) 2 := ⟨kl_LW_60, ki_TH_number, ks_TH_number, kn_TH, kc_TH_number, by decide +kernel, by decide +kernel, by decide +kernel⟩
theorem wk_LW_63 : cw_ok R_LW 63 y_MD_number b_MD_number 3 (some .int) 2 := ⟨kl_LW_63, ki_MD_number, ks_MD_number, kn_MD, kc_MD_number, by decide +kernel, by decide +kernel, by decide +kernel⟩
theorem wk_LW_64 : cw_ok R_LW 64 y_TH_serial b_TH_serial 3 (some .int) 2 := ⟨kl_LW_64, ki_TH_serial, ks_TH_serial, kn_TH, kc_TH_serial, by decide +kernel, by decide +kernel, by decide +kernel⟩
theorem wk_LW_67 : cw_ok R_LW 67 y_MD_serial b_MD_serial 3 (some .int) 2 := ⟨kl_LW_67, ki_MD_serial, ks_MD_serial, kn_MD, kc_MD_serial, by decide +kernel, by decide +kernel, by decide +kernel⟩
theorem wk_LW_68 : cw_ok R_LW 68 y_TH_serialIn b_TH_serialIn 5 (some .int) 3 := ⟨kl_LW_68, ki_TH_serialIn, ks_TH_serialIn, kn_TH, kc_TH_serialIn, by decide +kernel, by decide +kernel, by decide +kernel⟩
theorem wk_LW_71 : cw_ok R_LW 71 y_MD_serialIn b_MD_serialIn 5 (some .int) 3 := ⟨kl_LW_71, ki_MD_serialIn, ks_MD_serialIn, kn_MD, kc_MD_serialIn, by decide +kernel, by decide +kernel, by decide +kernel⟩
theorem wk_LW_72 : cw_ok R_LW 72 y_TH_serialOf b_TH_serialOf 2 (some .int) 1 := ⟨kl_LW_72, ki_TH_serialOf, ks_TH_serialOf, kn_TH, kc_TH_serialOf, by decide +kernel, by decide +kernel, by decide +kernel⟩
theorem wk_LW_76 : cw_ok R_LW 76 y_MD_serialOf b_MD_serialOf 2 (some .int) 1 := ⟨kl_LW_76, ki_MD_serialOf, ks_MD_serialOf, kn_MD, kc_MD_serialOf, by decide +kernel, by decide +kernel, by decide +kernel⟩
theorem wk_LW_77 : cw_ok R_LW 77 y_TH_made b_TH_made 1 (some .int) 0 := ⟨kl_LW_77, ki_TH_made, ks_TH_made, kn_TH, kc_TH_made, by decide +kernel, by decide +kernel, by decide +kernel⟩
theorem wk_LW_81 : cw_ok R_LW 81 y_MD_made b_MD_made 1 (some .int) 0 := ⟨kl_LW_81, ki_MD_made, ks_MD_made, kn_MD, kc_MD_made, by decide +kernel, by decide +kernel, by decide +kernel⟩
theorem wk_LW_82 : cw_ok R_LW 82 y_TH_live b_TH_live 3 (some .int) 0 := ⟨kl_LW_82, ki_TH_live, ks_TH_live, kn_TH, kc_TH_live, by decide +kernel, by decide +kernel, by decide +kernel⟩
theorem wk_LW_85 : cw_ok R_LW 85 y_MD_live b_MD_live 4 (some .int) 0 := ⟨kl_LW_85, ki_MD_live, ks_MD_live, kn_MD, kc_MD_live, by decide +kernel, by decide +kernel, by decide +kernel⟩
theorem wk_LW_86 : cw_ok R_LW 86 y_TH_rest b_TH_rest 4 none 1 := ⟨kl_LW_86, ki_TH_rest, ks_TH_rest, kn_TH, kc_TH_rest, by decide +kernel, by decide +kernel, by decide +kernel⟩
theorem wk_LW_89 : cw_ok R_LW 89 y_MD_rest b_MD_rest 2 none 1 := ⟨kl_LW_89, ki_MD_rest, ks_MD_rest, kn_MD, kc_MD_rest, by decide +kernel, by decide +kernel, by decide +kernel⟩
theorem wk_LW_90 : cw_ok R_LW 90 y_TH_pause b_TH_pause 2 (some .int) 1 := ⟨kl_LW_90, ki_TH_pause, ks_TH_pause, kn_TH, kc_TH_pause, by decide +kernel, by decide +kernel, by decide +kernel⟩
theorem wk_LW_93 : cw_ok R_LW 93 y_MD_pause b_MD_pause 2 (some .int) 1 := ⟨kl_LW_93, ki_MD_pause, ks_MD_pause, kn_MD, kc_MD_pause, by decide +kernel, by decide +kernel, by decide +kernel⟩
section
variable {p : Program} {l : Launch} {e : Env} {R : Room} {s : State} {m : MethodId} {args : Array Value} {below : List Frame} {meth : Method} {c : Code} {H : Heap} {locs : List Loc} {cells slots : Nat} {Q : State → Prop} {cc : ByteArray} {pc nL : Nat} {ls : Array Slot} {rest : List Value} {D : va_G} {A : Nat → Prop} {H0 : Heap} {cI cZ : ClassId} {own : String}
theorem lw_TI0 {y : MethodName} {b : ByteArray} {nLy k idx : Nat} {ret : Option FieldType} {ad bd : Nat → Nat} {u : TS} {v : MS} {z : TS × Int32} (F : CallFix p m c cc nL s args lw_tb R_LW) (hI : cw_I D cI cZ A H0 s (th_W cI cZ ad u ++ md_W cI cZ bd v) H locs) (hM : ct_I l D cI cZ (th_W cI cZ ad) y b nLy ret k (.ref (ad 0) :: []) u z) (hw : cw_ok R_LW idx y b nLy ret 0) (hcl : y.cls = R_TH) (hR : k + 1 ≤ R.frames ∧ 8 + (nLy + 11) + 32 * k ≤ R.locals) (hsz : ls.size = nL) (hrest : (rest.map fun v => v.category).sum ≤ 8) (hcs : cells ≤ R.cells ∧ slots ≤ R.slots) (hdg : decode cc pc = .ok (.invokevirtual idx, 3)) (kk : ∀ (H1 : Heap) (locs1 : List Loc), cw_I D cI cZ A H0 s (md_W cI cZ bd v ++ th_W cI cZ ad (z.1)) H1 locs1 → W p l e R s m args below meth c H1 locs1 cells slots Q (F0 m (pc + 3) ls (.int z.2 :: rest))) : W p l e R s m args below meth c H locs cells slots Q (F0 m pc ls (.ref (ad 0) :: rest)) := ct_I.call (As := []) (wr := md_W cI cZ bd v) [0, 1, 2, 3, 4, 5, 6, 7, 8] [9, 10, 11, 12, 13, 14] F hI hM rfl rfl rfl rfl (by decide) hw (ci := 0) (T := F_TH) (N := 14) rfl (by rw [hcl]; rfl) hR hsz hrest hcs hdg kk
theorem lw_MI0 {y : MethodName} {b : ByteArray} {nLy k idx : Nat} {ret : Option FieldType} {ad bd : Nat → Nat} {u : TS} {v : MS} {z : MS × Int32} (F : CallFix p m c cc nL s args lw_tb R_LW) (hI : cw_I D cI cZ A H0 s (md_W cI cZ bd v ++ th_W cI cZ ad u) H locs) (hM : ct_I l D cI cZ (md_W cI cZ bd) y b nLy ret k (.ref (bd 0) :: []) v z) (hw : cw_ok R_LW idx y b nLy ret 0) (hcl : y.cls = R_MD) (hR : k + 1 ≤ R.frames ∧ 8 + (nLy + 11) + 32 * k ≤ R.locals) (hsz : ls.size = nL) (hrest : (rest.map fun v => v.category).sum ≤ 8) (hcs : cells ≤ R.cells ∧ slots ≤ R.slots) (hdg : decode cc pc = .ok (.invokevirtual idx, 3)) (kk : ∀ (H1 : Heap) (locs1 : List Loc), cw_I D cI cZ A H0 s (th_W cI cZ ad u ++ md_W cI cZ bd (z.1)) H1 locs1 → W p l e R s m args below meth c H1 locs1 cells slots Q (F0 m (pc + 3) ls (.int z.2 :: rest))) : W p l e R s m args below meth c H locs cells slots Q (F0 m pc ls (.ref (bd 0) :: rest)) := ct_I.call (As := []) (wr := th_W cI cZ ad u) [0, 1, 2, 3, 4, 5] [6, 7, 8, 9, 10, 11, 12, 13, 14] F hI hM rfl rfl rfl rfl (by decide) hw (ci := 1) (T := F_MD) (N := 7) rfl (by rw [hcl]; rfl) hR hsz hrest hcs hdg kk
theorem lw_TI1 {y : MethodName} {b : ByteArray} {nLy k idx : Nat} {ret : Option FieldType} {a1 : Int32} {ad bd : Nat → Nat} {u : TS} {v : MS} {z : TS × Int32} (F : CallFix p m c cc nL s args lw_tb R_LW) (hI : cw_I D cI cZ A H0 s (th_W cI cZ ad u ++ md_W cI cZ bd v) H locs) (hM : ct_I l D cI cZ (th_W cI cZ ad) y b nLy ret k (.ref (ad 0) :: [.int a1]) u z) (hw : cw_ok R_LW idx y b nLy ret 1) (hcl : y.cls = R_TH) (hR : k + 1 ≤ R.frames ∧ 8 + (nLy + 11) + 32 * k ≤ R.locals) (hsz : ls.size = nL) (hrest : (rest.map fun v => v.category).sum ≤ 8) (hcs : cells ≤ R.cells ∧ slots ≤ R.slots) (hdg : decode cc pc = .ok (.invokevirtual idx, 3)) (kk : ∀ (H1 : Heap) (locs1 : List Loc), cw_I D cI cZ A H0 s (md_W cI cZ bd v ++ th_W cI cZ ad (z.1)) H1 locs1 → W p l e R s m args below meth c H1 locs1 cells slots Q (F0 m (pc + 3) ls (.int z.2 :: rest))) : W p l e R s m args below meth c H locs cells slots Q (F0 m pc ls (.int a1 :: .ref (ad 0) :: rest)) := ct_I.call (As := [.int a1]) (wr := md_W cI cZ bd v) [0, 1, 2, 3, 4, 5, 6, 7, 8] [9, 10, 11, 12, 13, 14] F hI hM rfl rfl rfl rfl (by decide) hw (ci := 0) (T := F_TH) (N := 14) rfl (by rw [hcl]; rfl) hR hsz hrest hcs hdg kk
theorem lw_TV1 {y : MethodName} {b : ByteArray} {nLy k idx : Nat} {ret : Option FieldType} {a1 : Int32} {ad bd : Nat → Nat} {u : TS} {v : MS} {z : TS} (F : CallFix p m c cc nL s args lw_tb R_LW) (hI : cw_I D cI cZ A H0 s (th_W cI cZ ad u ++ md_W cI cZ bd v) H locs) (hM : ct_V l D cI cZ (th_W cI cZ ad) y b nLy ret k (.ref (ad 0) :: [.int a1]) u z) (hw : cw_ok R_LW idx y b nLy ret 1) (hcl : y.cls = R_TH) (hR : k + 1 ≤ R.frames ∧ 8 + (nLy + 11) + 32 * k ≤ R.locals) (hsz : ls.size = nL) (hrest : (rest.map fun v => v.category).sum ≤ 8) (hcs : cells ≤ R.cells ∧ slots ≤ R.slots) (hdg : decode cc pc = .ok (.invokevirtual idx, 3)) (kk : ∀ (H1 : Heap) (locs1 : List Loc), cw_I D cI cZ A H0 s (md_W cI cZ bd v ++ th_W cI cZ ad (z)) H1 locs1 → W p l e R s m args below meth c H1 locs1 cells slots Q (F0 m (pc + 3) ls rest)) : W p l e R s m args below meth c H locs cells slots Q (F0 m pc ls (.int a1 :: .ref (ad 0) :: rest)) := ct_V.call (As := [.int a1]) (wr := md_W cI cZ bd v) [0, 1, 2, 3, 4, 5, 6, 7, 8] [9, 10, 11, 12, 13, 14] F hI hM rfl rfl rfl rfl (by decide) hw (ci := 0) (T := F_TH) (N := 14) rfl (by rw [hcl]; rfl) hR hsz hrest hcs hdg kk
theorem lw_MI1 {y : MethodName} {b : ByteArray} {nLy k idx : Nat} {ret : Option FieldType} {a1 : Int32} {ad bd : Nat → Nat} {u : TS} {v : MS} {z : MS × Int32} (F : CallFix p m c cc nL s args lw_tb R_LW) (hI : cw_I D cI cZ A H0 s (md_W cI cZ bd v ++ th_W cI cZ ad u) H locs) (hM : ct_I l D cI cZ (md_W cI cZ bd) y b nLy ret k (.ref (bd 0) :: [.int a1]) v z) (hw : cw_ok R_LW idx y b nLy ret 1) (hcl : y.cls = R_MD) (hR : k + 1 ≤ R.frames ∧ 8 + (nLy + 11) + 32 * k ≤ R.locals) (hsz : ls.size = nL) (hrest : (rest.map fun v => v.category).sum ≤ 8) (hcs : cells ≤ R.cells ∧ slots ≤ R.slots) (hdg : decode cc pc = .ok (.invokevirtual idx, 3)) (kk : ∀ (H1 : Heap) (locs1 : List Loc), cw_I D cI cZ A H0 s (th_W cI cZ ad u ++ md_W cI cZ bd (z.1)) H1 locs1 → W p l e R s m args below meth c H1 locs1 cells slots Q (F0 m (pc + 3) ls (.int z.2 :: rest))) : W p l e R s m args below meth c H locs cells slots Q (F0 m pc ls (.int a1 :: .ref (bd 0) :: rest)) := ct_I.call (As := [.int a1]) (wr := th_W cI cZ ad u) [0, 1, 2, 3, 4, 5] [6, 7, 8, 9, 10, 11, 12, 13, 14] F hI hM rfl rfl rfl rfl (by decide) hw (ci := 1) (T := F_MD) (N := 7) rfl (by rw [hcl]; rfl) hR hsz hrest hcs hdg kk
theorem lw_MV1 {y : MethodName} {b : ByteArray} {nLy k idx : Nat} {ret : Option FieldType} {a1 : Int32} {ad bd : Nat → Nat} {u : TS} {v : MS} {z : MS} (F : CallFix p m c cc nL s args lw_tb R_LW) (hI : cw_I D cI cZ A H0 s (md_W cI cZ bd v ++ th_W cI cZ ad u) H locs) (hM : ct_V l D cI cZ (md_W cI cZ bd) y b nLy ret k (.ref (bd 0) :: [.int a1]) v z) (hw : cw_ok R_LW idx y b nLy ret 1) (hcl : y.cls = R_MD) (hR : k + 1 ≤ R.frames ∧ 8 + (nLy + 11) + 32 * k ≤ R.locals) (hsz : ls.size = nL) (hrest : (rest.map fun v => v.category).sum ≤ 8) (hcs : cells ≤ R.cells ∧ slots ≤ R.slots) (hdg : decode cc pc = .ok (.invokevirtual idx, 3)) (kk : ∀ (H1 : Heap) (locs1 : List Loc), cw_I D cI cZ A H0 s (th_W cI cZ ad u ++ md_W cI cZ bd (z)) H1 locs1 → W p l e R s m args below meth c H1 locs1 cells slots Q (F0 m (pc + 3) ls rest)) : W p l e R s m args below meth c H locs cells slots Q (F0 m pc ls (.int a1 :: .ref (bd 0) :: rest)) := ct_V.call (As := [.int a1]) (wr := th_W cI cZ ad u) [0, 1, 2, 3, 4, 5] [6, 7, 8, 9, 10, 11, 12, 13, 14] F hI hM rfl rfl rfl rfl (by decide) hw (ci := 1) (T := F_MD) (N := 7) rfl (by rw [hcl]; rfl) hR hsz hrest hcs hdg kk
theorem lw_TI2 {y : MethodName} {b : ByteArray} {nLy k idx : Nat} {ret : Option FieldType} {a1 a2 : Int32} {ad bd : Nat → Nat} {u : TS} {v : MS} {z : TS × Int32} (F : CallFix p m c cc nL s args lw_tb R_LW) (hI : cw_I D cI cZ A H0 s (th_W cI cZ ad u ++ md_W cI cZ bd v) H locs) (hM : ct_I l D cI cZ (th_W cI cZ ad) y b nLy ret k (.ref (ad 0) :: [.int a1, .int a2]) u z) (hw : cw_ok R_LW idx y b nLy ret 2) (hcl : y.cls = R_TH) (hR : k + 1 ≤ R.frames ∧ 8 + (nLy + 11) + 32 * k ≤ R.locals) (hsz : ls.size = nL) (hrest : (rest.map fun v => v.category).sum ≤ 8) (hcs : cells ≤ R.cells ∧ slots ≤ R.slots) (hdg : decode cc pc = .ok (.invokevirtual idx, 3)) (kk : ∀ (H1 : Heap) (locs1 : List Loc), cw_I D cI cZ A H0 s (md_W cI cZ bd v ++ th_W cI cZ ad (z.1)) H1 locs1 → W p l e R s m args below meth c H1 locs1 cells slots Q (F0 m (pc + 3) ls (.int z.2 :: rest))) : W p l e R s m args below meth c H locs cells slots Q (F0 m pc ls (.int a2 :: .int a1 :: .ref (ad 0) :: rest)) := ct_I.call (As := [.int a1, .int a2]) (wr := md_W cI cZ bd v) [0, 1, 2, 3, 4, 5, 6, 7, 8] [9, 10, 11, 12, 13, 14] F hI hM rfl rfl rfl rfl (by decide) hw (ci := 0) (T := F_TH) (N := 14) rfl (by rw [hcl]; rfl) hR hsz hrest hcs hdg kk
theorem lw_MI2 {y : MethodName} {b : ByteArray} {nLy k idx : Nat} {ret : Option FieldType} {a1 a2 : Int32} {ad bd : Nat → Nat} {u : TS} {v : MS} {z : MS × Int32} (F : CallFix p m c cc nL s args lw_tb R_LW) (hI : cw_I D cI cZ A H0 s (md_W cI cZ bd v ++ th_W cI cZ ad u) H locs) (hM : ct_I l D cI cZ (md_W cI cZ bd) y b nLy ret k (.ref (bd 0) :: [.int a1, .int a2]) v z) (hw : cw_ok R_LW idx y b nLy ret 2) (hcl : y.cls = R_MD) (hR : k + 1 ≤ R.frames ∧ 8 + (nLy + 11) + 32 * k ≤ R.locals) (hsz : ls.size = nL) (hrest : (rest.map fun v => v.category).sum ≤ 8) (hcs : cells ≤ R.cells ∧ slots ≤ R.slots) (hdg : decode cc pc = .ok (.invokevirtual idx, 3)) (kk : ∀ (H1 : Heap) (locs1 : List Loc), cw_I D cI cZ A H0 s (th_W cI cZ ad u ++ md_W cI cZ bd (z.1)) H1 locs1 → W p l e R s m args below meth c H1 locs1 cells slots Q (F0 m (pc + 3) ls (.int z.2 :: rest))) : W p l e R s m args below meth c H locs cells slots Q (F0 m pc ls (.int a2 :: .int a1 :: .ref (bd 0) :: rest)) := ct_I.call (As := [.int a1, .int a2]) (wr := th_W cI cZ ad u) [0, 1, 2, 3, 4, 5] [6, 7, 8, 9, 10, 11, 12, 13, 14] F hI hM rfl rfl rfl rfl (by decide) hw (ci := 1) (T := F_MD) (N := 7) rfl (by rw [hcl]; rfl) hR hsz hrest hcs hdg kk
theorem lw_TI3 {y : MethodName} {b : ByteArray} {nLy k idx : Nat} {ret : Option FieldType} {a1 a2 a3 : Int32} {ad bd : Nat → Nat} {u : TS} {v : MS} {z : TS × Int32} (F : CallFix p m c cc nL s args lw_tb R_LW) (hI : cw_I D cI cZ A H0 s (th_W cI cZ ad u ++ md_W cI cZ bd v) H locs) (hM : ct_I l D cI cZ (th_W cI cZ ad) y b nLy ret k (.ref (ad 0) :: [.int a1, .int a2, .int a3]) u z) (hw : cw_ok R_LW idx y b nLy ret 3) (hcl : y.cls = R_TH) (hR : k + 1 ≤ R.frames ∧ 8 + (nLy + 11) + 32 * k ≤ R.locals) (hsz : ls.size = nL) (hrest : (rest.map fun v => v.category).sum ≤ 8) (hcs : cells ≤ R.cells ∧ slots ≤ R.slots) (hdg : decode cc pc = .ok (.invokevirtual idx, 3)) (kk : ∀ (H1 : Heap) (locs1 : List Loc), cw_I D cI cZ A H0 s (md_W cI cZ bd v ++ th_W cI cZ ad (z.1)) H1 locs1 → W p l e R s m args below meth c H1 locs1 cells slots Q (F0 m (pc + 3) ls (.int z.2 :: rest))) : W p l e R s m args below meth c H locs cells slots Q (F0 m pc ls (.int a3 :: .int a2 :: .int a1 :: .ref (ad 0) :: rest)) := ct_I.call (As := [.int a1, .int a2, .int a3]) (wr := md_W cI cZ bd v) [0, 1, 2, 3, 4, 5, 6, 7, 8] [9, 10, 11, 12, 13, 14] F hI hM rfl rfl rfl rfl (by decide) hw (ci := 0) (T := F_TH) (N := 14) rfl (by rw [hcl]; rfl) hR hsz hrest hcs hdg kk
theorem lw_MI3 {y : MethodName} {b : ByteArray} {nLy k idx : Nat} {ret : Option FieldType} {a1 a2 a3 : Int32} {ad bd : Nat → Nat} {u : TS} {v : MS} {z : MS × Int32} (F : CallFix p m c cc nL s args lw_tb R_LW) (hI : cw_I D cI cZ A H0 s (md_W cI cZ bd v ++ th_W cI cZ ad u) H locs) (hM : ct_I l D cI cZ (md_W cI cZ bd) y b nLy ret k (.ref (bd 0) :: [.int a1, .int a2, .int a3]) v z) (hw : cw_ok R_LW idx y b nLy ret 3) (hcl : y.cls = R_MD) (hR : k + 1 ≤ R.frames ∧ 8 + (nLy + 11) + 32 * k ≤ R.locals) (hsz : ls.size = nL) (hrest : (rest.map fun v => v.category).sum ≤ 8) (hcs : cells ≤ R.cells ∧ slots ≤ R.slots) (hdg : decode cc pc = .ok (.invokevirtual idx, 3)) (kk : ∀ (H1 : Heap) (locs1 : List Loc), cw_I D cI cZ A H0 s (th_W cI cZ ad u ++ md_W cI cZ bd (z.1)) H1 locs1 → W p l e R s m args below meth c H1 locs1 cells slots Q (F0 m (pc + 3) ls (.int z.2 :: rest))) : W p l e R s m args below meth c H locs cells slots Q (F0 m pc ls (.int a3 :: .int a2 :: .int a1 :: .ref (bd 0) :: rest)) := ct_I.call (As := [.int a1, .int a2, .int a3]) (wr := th_W cI cZ ad u) [0, 1, 2, 3, 4, 5] [6, 7, 8, 9, 10, 11, 12, 13, 14] F hI hM rfl rfl rfl rfl (by decide) hw (ci := 1) (T := F_MD) (N := 7) rfl (by rw [hcl]; rfl) hR hsz hrest hcs hdg kk
theorem lw_TI4 {y : MethodName} {b : ByteArray} {nLy k idx : Nat} {ret : Option FieldType} {a1 a2 a3 a4 : Int32} {ad bd : Nat → Nat} {u : TS} {v : MS} {z : TS × Int32} (F : CallFix p m c cc nL s args lw_tb R_LW) (hI : cw_I D cI cZ A H0 s (th_W cI cZ ad u ++ md_W cI cZ bd v) H locs) (hM : ct_I l D cI cZ (th_W cI cZ ad) y b nLy ret k (.ref (ad 0) :: [.int a1, .int a2, .int a3, .int a4]) u z) (hw : cw_ok R_LW idx y b nLy ret 4) (hcl : y.cls = R_TH) (hR : k + 1 ≤ R.frames ∧ 8 + (nLy + 11) + 32 * k ≤ R.locals) (hsz : ls.size = nL) (hrest : (rest.map fun v => v.category).sum ≤ 8) (hcs : cells ≤ R.cells ∧ slots ≤ R.slots) (hdg : decode cc pc = .ok (.invokevirtual idx, 3)) (kk : ∀ (H1 : Heap) (locs1 : List Loc), cw_I D cI cZ A H0 s (md_W cI cZ bd v ++ th_W cI cZ ad (z.1)) H1 locs1 → W p l e R s m args below meth c H1 locs1 cells slots Q (F0 m (pc + 3) ls (.int z.2 :: rest))) : W p l e R s m args below meth c H locs cells slots Q (F0 m pc ls (.int a4 :: .int a3 :: .int a2 :: .int a1 :: .ref (ad 0) :: rest)) := ct_I.call (As := [.int a1, .int a2, .int a3, .int a4]) (wr := md_W cI cZ bd v) [0, 1, 2, 3, 4, 5, 6, 7, 8] [9, 10, 11, 12, 13, 14] F hI hM rfl rfl rfl rfl (by decide) hw (ci := 0) (T := F_TH) (N := 14) rfl (by rw [hcl]; rfl) hR hsz hrest hcs hdg kk
theorem lw_MI4 {y : MethodName} {b : ByteArray} {nLy k idx : Nat} {ret : Option FieldType} {a1 a2 a3 a4 : Int32} {ad bd : Nat → Nat} {u : TS} {v : MS} {z : MS × Int32} (F : CallFix p m c cc nL s args lw_tb R_LW) (hI : cw_I D cI cZ A H0 s (md_W cI cZ bd v ++ th_W cI cZ ad u) H locs) (hM : ct_I l D cI cZ (md_W cI cZ bd) y b nLy ret k (.ref (bd 0) :: [.int a1, .int a2, .int a3, .int a4]) v z) (hw : cw_ok R_LW idx y b nLy ret 4) (hcl : y.cls = R_MD) (hR : k + 1 ≤ R.frames ∧ 8 + (nLy + 11) + 32 * k ≤ R.locals) (hsz : ls.size = nL) (hrest : (rest.map fun v => v.category).sum ≤ 8) (hcs : cells ≤ R.cells ∧ slots ≤ R.slots) (hdg : decode cc pc = .ok (.invokevirtual idx, 3)) (kk : ∀ (H1 : Heap) (locs1 : List Loc), cw_I D cI cZ A H0 s (th_W cI cZ ad u ++ md_W cI cZ bd (z.1)) H1 locs1 → W p l e R s m args below meth c H1 locs1 cells slots Q (F0 m (pc + 3) ls (.int z.2 :: rest))) : W p l e R s m args below meth c H locs cells slots Q (F0 m pc ls (.int a4 :: .int a3 :: .int a2 :: .int a1 :: .ref (bd 0) :: rest)) := ct_I.call (As := [.int a1, .int a2, .int a3, .int a4]) (wr := th_W cI cZ ad u) [0, 1, 2, 3, 4, 5] [6, 7, 8, 9, 10, 11, 12, 13, 14] F hI hM rfl rfl rfl rfl (by decide) hw (ci := 1) (T := F_MD) (N := 7) rfl (by rw [hcl]; rfl) hR hsz hrest hcs hdg kk
theorem lw_sld (F : CallFix p m c cc nL s args lw_tb own) {ws : va_W} (hI : cw_I D cI cZ (fun q => s.heap.size ≤ q) s.heap s ws H locs) {b L : Nat} {xs : Nat → Int32} (hX : va_X b L xs s s.heap) (hbl : b < s.heap.size) {i : Int32} (hin : vp_in i L) (hdg : decode cc pc = .ok (.iaload, 1))
    (kk : W p l e R s m args below meth c H locs cells slots Q (F0 m (pc + 1) ls (.int (xs i.toNatClampNeg) :: rest))) : W p l e R s m args below meth c H locs cells slots Q (F0 m pc ls (.int i :: .ref b :: rest)) :=
  va_sld F.1 F.2.1 hX hbl (Nat.not_le.mpr hbl) hI.2.2.2.1 hin hdg kk
/-- a constructor is called -/
theorem ct_C.call {y : MethodName} {b : ByteArray} {nLy : Nat} {rm : Room} {As : List Value} {wc : va_W} {post : (Nat → Nat) → Prop} {wf : (Nat → Nat) → va_W} {mc ms a idx : Nat} {ws wr : va_W} (isC isR : List Nat)
    (F : CallFix p m c cc nL s args lw_tb own) (hI : cw_I D cI cZ A H0 s ws H locs) (hM : ct_C l D cI cZ y b nLy rm (.ref a :: As) wc post wf mc ms)
    (hC : isC.map (fun i => ws[i]?) = wc.map some) (hRs : isR.map (fun i => ws[i]?) = wr.map some) (hn : va_nd isR = true) (hC1 : va_nd isC = true) (hdis : ∀ i ∈ isR, i ∉ isC)
    (hk1 : Cond.methodLink own idx y ∈ lw_tb) (hk2 : Cond.instanceMethod y ∈ lw_tb) (hk3 : Cond.initialized y.cls ∈ lw_tb) (hk4 : Cond.code y b nLy none ∈ lw_tb) (hy : y.name = "<init>") (hd : y.cls ≠ "java/lang/invoke/MethodHandle" ∧ y.cls ≠ "java/lang/invoke/VarHandle" ∧ (parseMethodDescriptor y.desc).map (fun d => d.parameters.length) = some As.length) (hrc : rm.cells = mc) (hrs : rm.slots = ms)
    (hR : rm.frames + 1 ≤ R.frames ∧ 8 + (nLy + 11) + rm.locals ≤ R.locals) (hsz : ls.size = nL) (hrest : (rest.map fun v => v.category).sum ≤ 8) (hcs : cells + mc ≤ R.cells ∧ slots + ms ≤ R.slots)
    (hdg : decode cc pc = .ok (.invokespecial idx, 3))
    (kk : ∀ (ad : Nat → Nat) (H1 : Heap) (locs1 : List Loc), post ad → cw_I D cI cZ A H0 s (wr ++ wf ad) H1 locs1 → W p l e R s m args below meth c H1 locs1 (cells + mc) (slots + ms) Q (F0 m (pc + 3) ls rest)) :
    W p l e R s m args below meth c H locs cells slots Q (F0 m pc ls (As.reverse ++ .ref a :: rest)) := by
  obtain ⟨hK, hP, hD, hS, hA⟩ := hI
  have hPc := hP.sub (ws' := wc) isC (cw_fm hC)
  have hDc := hD.sub (ws' := wc) isC hC1 hC
  have hFc := va_free (wc := wc) hD hS hA isC hC
  have hG : GoodIn lw_tb (Cond.code y b nLy none :: lw_tb) := by
    intro w hw
    have hm : w ∈ lw_tb := by
      rcases List.mem_cons.mp hw with rfl | hw
      · exact hk4
      · exact hw
    exact ⟨hm, gd_tbl w hm⟩
  refine va_callv (va_runI (As := As) (rest := rest) F (hM H.size) (cwI As.length F.2.2.2.2 hG rfl hrc hrs (F.2.2.2.2 _ hk3) (F.2.2.2.2 _ hk1) (F.2.2.2.2 _ hk2) hy hd hR) ⟨fun a U g mk q => by obtain ⟨q0, q1, qP, qK, qD⟩ := q; exact ⟨q0, q1, qP, va_K.moved (u := U) (U := U.calling g mk a) (Vm.Alike.refl U.vm) qK, qD⟩, fun U hU hW => ⟨rfl, by rw [hU], by rw [hU]; exact hPc, va_K.moved hW.alike hK, hDc.weaken (fun _ _ _ _ => trivial)⟩⟩ rfl rfl hsz rfl (lv_room hrest) hdg hcs) hS (fun q _ h => hFc q h) hFc (fun ad t H1 locs1 ht hvm hw1 hB hz1 hk1 hS1 => ?_)
  obtain ⟨hP1, hK1, hD1⟩ := hB
  rw [ht] at hP1
  obtain ⟨hP2, hD2⟩ := va_join (wr := wr) (w1 := wf ad) hP hD isC isR hC hRs hn hdis hk1 hFc hP1 hD1
  exact kk ad H1 locs1 hw1 ⟨hK, hP2, hD2, hS1, hA⟩
/-- the law's 'cell' is called -/
theorem lw_cellc (F : CallFix p m c cc nL s args lw_tb R_LW) {ws : va_W} (hI : cw_I D cI cZ (fun q => s.heap.size ≤ q) s.heap s ws H locs) {b L : Nat} {xs : Nat → Int32} (hL : L ≤ 2561) (hX : va_X b L xs s s.heap) (hbl : b < s.heap.size)
    (hR : 1 ≤ R.frames ∧ 8 + (2 + 11) ≤ R.locals) (hsz : ls.size = nL) (hrest : (rest.map fun v => v.category).sum ≤ 8) (hcs : cells ≤ R.cells ∧ slots ≤ R.slots) (hdg : decode cc pc = .ok (.invokestatic 9, 3))
    (kk : ∀ (H1 : Heap) (locs1 : List Loc), cw_I D cI cZ (fun q => s.heap.size ≤ q) s.heap s ws H1 locs1 → W p l e R s m args below meth c H1 locs1 cells slots Q (F0 m (pc + 3) ls (.int (lw_cell L xs) :: rest))) :
    W p l e R s m args below meth c H locs cells slots Q (F0 m pc ls (.int 0 :: .ref b :: rest)) := by
  obtain ⟨hK, hP, hD, hS, hA⟩ := hI
  have hXH : va_X b L xs s H := hX.kept (hS.2.1 b hbl (Nat.not_le.mpr hbl))
  have hbH : b < H.size := Nat.lt_of_lt_of_le hbl hS.1
  have hG : GoodIn lw_tb (wsS R_LW 9 y_LW_cell (Cond.code y_LW_cell b_LW_cell 2 (some .int) :: lw_tb)) := by
    intro w hw
    have hm : w ∈ lw_tb := by
      unfold wsS at hw
      rcases List.mem_append.mp hw with hw | hw
      · simp only [List.mem_cons, List.not_mem_nil, or_false] at hw
        rcases hw with rfl | rfl | rfl
        · exact kl_LW_9
        · exact kt_LW_cell
        · exact kn_LW
      · rcases List.mem_cons.mp hw with rfl | hw
        · exact kc_LW_cell
        · exact hw
    exact ⟨hm, gd_tbl w hm⟩
  have hfree : ∀ q, va_A [] H.size q → s.heap.size ≤ q := by
    intro q h
    rcases h with ⟨k, e, h⟩ | h
    · simp at h
    · exact Nat.le_trans hS.1 h
  refine va_calli (va_runS (As := [.ref b, .int 0]) (rest := rest) F (c_LW_cell l b L xs hL H.size) (cwS 2 F.2.2.2.2 hG rfl rfl rfl ⟨rfl, by decide +kernel, by decide +kernel, by decide +kernel⟩ hR) ⟨fun a U g mk q => by obtain ⟨q0, q1, qX, qb⟩ := q; exact ⟨q0, q1, va_X.moved (u := U) (U := U.calling g mk a) (Vm.Alike.refl U.vm) qX, qb⟩, fun U hU hW => ⟨rfl, by rw [hU], by rw [hU]; exact hXH.moved hW.alike, by rw [hU]; exact hbH⟩⟩ rfl rfl hsz rfl (lv_room hrest) hdg hcs) hS (fun q _ h => hfree q h) hfree (fun r u1 t H1 locs1 ht hvm hw1 hB hz1 hk1 hS1 => ?_)
  subst hw1
  refine kk H1 locs1 ⟨hK, hP.kept (fun k x hx => hk1 x.1 ((hP k x hx).lt) (fun q => ?_)), hD, hS1, hA⟩
  rcases q with ⟨k, e, h⟩ | h
  · simp at h
  · exact absurd ((hP _ x hx).lt) (Nat.not_lt.mpr h)
end
theorem lw_in {k c L : Nat} (hk : 1 + 5 * k + 5 ≤ L) (hL : L ≤ 2561) (hc : c ≤ 4) : vp_in (nI (1 + 5 * k) + nI c) L := by
  rw [nI_add]
  exact vp_in_nI (by omega) (by omega)
theorem lw_in0 {k L : Nat} (hk : 1 + 5 * k + 5 ≤ L) (hL : L ≤ 2561) : vp_in (nI (1 + 5 * k)) L := vp_in_nI (by omega) (by omega)
theorem lw_exit {k L : Nat} (hk : k ≤ 512) (hL : L ≤ 2561) : (nI L - 5 < nI (1 + 5 * k)) ↔ ¬ 1 + 5 * k + 5 ≤ L := by
  have h := Int32.lt_iff_toInt_lt (x := nI L - 5) (y := nI (1 + 5 * k))
  have h1 : (nI L - 5).toInt = (L : Int) - 5 := pk_sub_toInt (a := L) (b := 5) (by omega) (by omega)
  have h2 := nI_toInt (n := 1 + 5 * k) (by omega)
  rw [h, h1, h2]
  omega
end
section
-- one theorem a case of the law, printed by law.py
set_option maxHeartbeats 4000000 in
set_option maxRecDepth 100000 in
theorem lw_c0 {p : Program} {l : Launch} {e : Env} {s : State} {m : MethodId} {below : List Frame} {meth : Method} {c : Code} {D : va_G} {cI cZ : ClassId} {b L k : Nat} {xs : Nat → Int32} {ad bd : Nat → Nat} {u : TS} {v : MS} {H : Heap} {locs : List Loc} {ls : Array Slot} {Q : State → Prop} (hL : L ≤ 2561) (F : CallFix p m c code 4 s #[Value.ref b] lw_tb R_LW) (hX : va_X b L xs s s.heap) (hbl : b < s.heap.size) (hk : 1 + 5 * k + 5 ≤ L) (hR : rI k u v)
    (hI : cw_I D cI cZ (fun q => s.heap.size ≤ q) s.heap s (th_W cI cZ ad u ++ md_W cI cZ bd v) H locs) (hl : lv_has ls 4 [(3, .int (nI (1 + 5 * k))), (0, .ref b), (1, .ref (ad 0)), (2, .ref (bd 0))])
    (K : ∀ (u' : TS) (v' : MS) (H : Heap) (locs : List Loc), rI (k + 1) u' v' → cw_I D cI cZ (fun q => s.heap.size ≤ q) s.heap s (th_W cI cZ ad u' ++ md_W cI cZ bd v') H locs → W p l e room_1 s m #[Value.ref b] below meth c H locs 15 2184 Q (F0 m 733 ls [])) :
    W p l e room_1 s m #[Value.ref b] below meth c H locs 15 2184 Q (F0 m 124 ls []) := by
  obtain ⟨hx, hb, hml, hown, hts⟩ := id F
  have okT := (r_ok hR).1
  have okM := (r_ok hR).2
  have hk5 : k < 512 := by omega
  refine lv_aload_n hx hb d_LW_law_124 rfl (lv_at hl 2 rfl) ?_
  refine lv_aload_n hx hb d_LW_law_125 rfl (lv_at hl 1 rfl) ?_
  refine lv_iload_n hx hb d_LW_law_126 rfl (lv_at hl 0 rfl) ?_
  refine lv_iconst (v := 1) hx hb d_LW_law_127 (by decide) ?_
  refine lv_iadd hx hb d_LW_law_128 ?_
  refine lw_sld F hI hX hbl (lw_in (c := 1) hk hL (by omega)) d_LW_law_129 ?_
  refine lv_aload_n hx hb d_LW_law_130 rfl (lv_at hl 1 rfl) ?_
  refine lv_iload_n hx hb d_LW_law_131 rfl (lv_at hl 0 rfl) ?_
  refine lv_iconst (v := 2) hx hb d_LW_law_132 (by decide) ?_
  refine lv_iadd hx hb d_LW_law_133 ?_
  refine lw_sld F hI hX hbl (lw_in (c := 2) hk hL (by omega)) d_LW_law_134 ?_
  refine lv_aload_n hx hb d_LW_law_135 rfl (lv_at hl 1 rfl) ?_
  refine lv_iload_n hx hb d_LW_law_136 rfl (lv_at hl 0 rfl) ?_
  refine lv_iconst (v := 3) hx hb d_LW_law_137 (by decide) ?_
  refine lv_iadd hx hb d_LW_law_138 ?_
  refine lw_sld F hI hX hbl (lw_in (c := 3) hk hL (by omega)) d_LW_law_139 ?_
  refine lw_TI3 F hI (c_TH_make l D cI cZ ad _ _ _ _ okT) wk_LW_21 rfl ⟨Nat.le_of_ble_eq_true rfl, Nat.le_of_ble_eq_true rfl⟩ hl.1 (Nat.le_of_ble_eq_true rfl) ⟨Nat.le_of_ble_eq_true rfl, Nat.le_of_ble_eq_true rfl⟩ d_LW_law_140 (fun H locs hI => ?_)
  refine lv_aload_n hx hb d_LW_law_143 rfl (lv_at hl 3 rfl) ?_
  refine lv_aload_n hx hb d_LW_law_144 rfl (lv_at hl 1 rfl) ?_
  refine lv_iload_n hx hb d_LW_law_145 rfl (lv_at hl 0 rfl) ?_
  refine lv_iconst (v := 1) hx hb d_LW_law_146 (by decide) ?_
  refine lv_iadd hx hb d_LW_law_147 ?_
  refine lw_sld F hI hX hbl (lw_in (c := 1) hk hL (by omega)) d_LW_law_148 ?_
  refine lv_aload_n hx hb d_LW_law_149 rfl (lv_at hl 1 rfl) ?_
  refine lv_iload_n hx hb d_LW_law_150 rfl (lv_at hl 0 rfl) ?_
  refine lv_iconst (v := 2) hx hb d_LW_law_151 (by decide) ?_
  refine lv_iadd hx hb d_LW_law_152 ?_
  refine lw_sld F hI hX hbl (lw_in (c := 2) hk hL (by omega)) d_LW_law_153 ?_
  refine lv_aload_n hx hb d_LW_law_154 rfl (lv_at hl 1 rfl) ?_
  refine lv_iload_n hx hb d_LW_law_155 rfl (lv_at hl 0 rfl) ?_
  refine lv_iconst (v := 3) hx hb d_LW_law_156 (by decide) ?_
  refine lv_iadd hx hb d_LW_law_157 ?_
  refine lw_sld F hI hX hbl (lw_in (c := 3) hk hL (by omega)) d_LW_law_158 ?_
  refine lw_MI3 F hI (c_MD_make l D cI cZ bd _ _ _ _ okM) wk_LW_25 rfl ⟨Nat.le_of_ble_eq_true rfl, Nat.le_of_ble_eq_true rfl⟩ hl.1 (Nat.le_of_ble_eq_true rfl) ⟨Nat.le_of_ble_eq_true rfl, Nat.le_of_ble_eq_true rfl⟩ d_LW_law_159 (fun H locs hI => ?_)
  refine lv_icmp_eq (tgt := 733) hx hb d_LW_law_162 (by decide) (fun c_162 => ?_) (fun c_162 => ?_)
  · exact K _ _ H locs (r_make hR hk5 _ _ _).2 hI
  · exact absurd (r_make hR hk5 _ _ _).1 c_162
set_option maxHeartbeats 4000000 in
set_option maxRecDepth 100000 in
theorem lw_c1 {p : Program} {l : Launch} {e : Env} {s : State} {m : MethodId} {below : List Frame} {meth : Method} {c : Code} {D : va_G} {cI cZ : ClassId} {b L k : Nat} {xs : Nat → Int32} {ad bd : Nat → Nat} {u : TS} {v : MS} {H : Heap} {locs : List Loc} {ls : Array Slot} {Q : State → Prop} (hL : L ≤ 2561) (F : CallFix p m c code 4 s #[Value.ref b] lw_tb R_LW) (hX : va_X b L xs s s.heap) (hbl : b < s.heap.size) (hk : 1 + 5 * k + 5 ≤ L) (hR : rI k u v)
    (hI : cw_I D cI cZ (fun q => s.heap.size ≤ q) s.heap s (th_W cI cZ ad u ++ md_W cI cZ bd v) H locs) (hl : lv_has ls 4 [(3, .int (nI (1 + 5 * k))), (0, .ref b), (1, .ref (ad 0)), (2, .ref (bd 0))])
    (K : ∀ (u' : TS) (v' : MS) (H : Heap) (locs : List Loc), rI (k + 1) u' v' → cw_I D cI cZ (fun q => s.heap.size ≤ q) s.heap s (th_W cI cZ ad u' ++ md_W cI cZ bd v') H locs → W p l e room_1 s m #[Value.ref b] below meth c H locs 15 2184 Q (F0 m 733 ls [])) :
    W p l e room_1 s m #[Value.ref b] below meth c H locs 15 2184 Q (F0 m 167 ls []) := by
  obtain ⟨hx, hb, hml, hown, hts⟩ := id F
  have okT := (r_ok hR).1
  have okM := (r_ok hR).2
  have hk5 : k < 512 := by omega
  refine lv_aload_n hx hb d_LW_law_167 rfl (lv_at hl 2 rfl) ?_
  refine lv_aload_n hx hb d_LW_law_168 rfl (lv_at hl 1 rfl) ?_
  refine lv_iload_n hx hb d_LW_law_169 rfl (lv_at hl 0 rfl) ?_
  refine lv_iconst (v := 1) hx hb d_LW_law_170 (by decide) ?_
  refine lv_iadd hx hb d_LW_law_171 ?_
  refine lw_sld F hI hX hbl (lw_in (c := 1) hk hL (by omega)) d_LW_law_172 ?_
  refine lv_aload_n hx hb d_LW_law_173 rfl (lv_at hl 1 rfl) ?_
  refine lv_iload_n hx hb d_LW_law_174 rfl (lv_at hl 0 rfl) ?_
  refine lv_iconst (v := 2) hx hb d_LW_law_175 (by decide) ?_
  refine lv_iadd hx hb d_LW_law_176 ?_
  refine lw_sld F hI hX hbl (lw_in (c := 2) hk hL (by omega)) d_LW_law_177 ?_
  refine lv_aload_n hx hb d_LW_law_178 rfl (lv_at hl 1 rfl) ?_
  refine lv_iload_n hx hb d_LW_law_179 rfl (lv_at hl 0 rfl) ?_
  refine lv_iconst (v := 3) hx hb d_LW_law_180 (by decide) ?_
  refine lv_iadd hx hb d_LW_law_181 ?_
  refine lw_sld F hI hX hbl (lw_in (c := 3) hk hL (by omega)) d_LW_law_182 ?_
  refine lw_TI3 F hI (c_TH_copy l D cI cZ ad _ _ _ _ okT) wk_LW_26 rfl ⟨Nat.le_of_ble_eq_true rfl, Nat.le_of_ble_eq_true rfl⟩ hl.1 (Nat.le_of_ble_eq_true rfl) ⟨Nat.le_of_ble_eq_true rfl, Nat.le_of_ble_eq_true rfl⟩ d_LW_law_183 (fun H locs hI => ?_)
  refine lv_aload_n hx hb d_LW_law_186 rfl (lv_at hl 3 rfl) ?_
  refine lv_aload_n hx hb d_LW_law_187 rfl (lv_at hl 1 rfl) ?_
  refine lv_iload_n hx hb d_LW_law_188 rfl (lv_at hl 0 rfl) ?_
  refine lv_iconst (v := 1) hx hb d_LW_law_189 (by decide) ?_
  refine lv_iadd hx hb d_LW_law_190 ?_
  refine lw_sld F hI hX hbl (lw_in (c := 1) hk hL (by omega)) d_LW_law_191 ?_
  refine lv_aload_n hx hb d_LW_law_192 rfl (lv_at hl 1 rfl) ?_
  refine lv_iload_n hx hb d_LW_law_193 rfl (lv_at hl 0 rfl) ?_
  refine lv_iconst (v := 2) hx hb d_LW_law_194 (by decide) ?_
  refine lv_iadd hx hb d_LW_law_195 ?_
  refine lw_sld F hI hX hbl (lw_in (c := 2) hk hL (by omega)) d_LW_law_196 ?_
  refine lv_aload_n hx hb d_LW_law_197 rfl (lv_at hl 1 rfl) ?_
  refine lv_iload_n hx hb d_LW_law_198 rfl (lv_at hl 0 rfl) ?_
  refine lv_iconst (v := 3) hx hb d_LW_law_199 (by decide) ?_
  refine lv_iadd hx hb d_LW_law_200 ?_
  refine lw_sld F hI hX hbl (lw_in (c := 3) hk hL (by omega)) d_LW_law_201 ?_
  refine lw_MI3 F hI (c_MD_copy l D cI cZ bd _ _ _ _ okM) wk_LW_29 rfl ⟨Nat.le_of_ble_eq_true rfl, Nat.le_of_ble_eq_true rfl⟩ hl.1 (Nat.le_of_ble_eq_true rfl) ⟨Nat.le_of_ble_eq_true rfl, Nat.le_of_ble_eq_true rfl⟩ d_LW_law_202 (fun H locs hI => ?_)
  refine lv_icmp_eq (tgt := 733) hx hb d_LW_law_205 (by decide) (fun c_205 => ?_) (fun c_205 => ?_)
  · exact K _ _ H locs (r_copy hR _ _ _).2 hI
  · exact absurd (r_copy hR _ _ _).1 c_205
set_option maxHeartbeats 4000000 in
set_option maxRecDepth 100000 in
theorem lw_c2 {p : Program} {l : Launch} {e : Env} {s : State} {m : MethodId} {below : List Frame} {meth : Method} {c : Code} {D : va_G} {cI cZ : ClassId} {b L k : Nat} {xs : Nat → Int32} {ad bd : Nat → Nat} {u : TS} {v : MS} {H : Heap} {locs : List Loc} {ls : Array Slot} {Q : State → Prop} (hL : L ≤ 2561) (F : CallFix p m c code 4 s #[Value.ref b] lw_tb R_LW) (hX : va_X b L xs s s.heap) (hbl : b < s.heap.size) (hk : 1 + 5 * k + 5 ≤ L) (hR : rI k u v)
    (hI : cw_I D cI cZ (fun q => s.heap.size ≤ q) s.heap s (th_W cI cZ ad u ++ md_W cI cZ bd v) H locs) (hl : lv_has ls 4 [(3, .int (nI (1 + 5 * k))), (0, .ref b), (1, .ref (ad 0)), (2, .ref (bd 0))])
    (K : ∀ (u' : TS) (v' : MS) (H : Heap) (locs : List Loc), rI (k + 1) u' v' → cw_I D cI cZ (fun q => s.heap.size ≤ q) s.heap s (th_W cI cZ ad u' ++ md_W cI cZ bd v') H locs → W p l e room_1 s m #[Value.ref b] below meth c H locs 15 2184 Q (F0 m 733 ls [])) :
    W p l e room_1 s m #[Value.ref b] below meth c H locs 15 2184 Q (F0 m 210 ls []) := by
  obtain ⟨hx, hb, hml, hown, hts⟩ := id F
  have okT := (r_ok hR).1
  have okM := (r_ok hR).2
  have hk5 : k < 512 := by omega
  refine lv_aload_n hx hb d_LW_law_210 rfl (lv_at hl 2 rfl) ?_
  refine lv_aload_n hx hb d_LW_law_211 rfl (lv_at hl 1 rfl) ?_
  refine lv_iload_n hx hb d_LW_law_212 rfl (lv_at hl 0 rfl) ?_
  refine lv_iconst (v := 1) hx hb d_LW_law_213 (by decide) ?_
  refine lv_iadd hx hb d_LW_law_214 ?_
  refine lw_sld F hI hX hbl (lw_in (c := 1) hk hL (by omega)) d_LW_law_215 ?_
  refine lv_aload_n hx hb d_LW_law_216 rfl (lv_at hl 1 rfl) ?_
  refine lv_iload_n hx hb d_LW_law_217 rfl (lv_at hl 0 rfl) ?_
  refine lv_iconst (v := 2) hx hb d_LW_law_218 (by decide) ?_
  refine lv_iadd hx hb d_LW_law_219 ?_
  refine lw_sld F hI hX hbl (lw_in (c := 2) hk hL (by omega)) d_LW_law_220 ?_
  refine lw_TI2 F hI (c_TH_drop l D cI cZ ad _ _ _ okT) wk_LW_30 rfl ⟨Nat.le_of_ble_eq_true rfl, Nat.le_of_ble_eq_true rfl⟩ hl.1 (Nat.le_of_ble_eq_true rfl) ⟨Nat.le_of_ble_eq_true rfl, Nat.le_of_ble_eq_true rfl⟩ d_LW_law_221 (fun H locs hI => ?_)
  refine lv_aload_n hx hb d_LW_law_224 rfl (lv_at hl 3 rfl) ?_
  refine lv_aload_n hx hb d_LW_law_225 rfl (lv_at hl 1 rfl) ?_
  refine lv_iload_n hx hb d_LW_law_226 rfl (lv_at hl 0 rfl) ?_
  refine lv_iconst (v := 1) hx hb d_LW_law_227 (by decide) ?_
  refine lv_iadd hx hb d_LW_law_228 ?_
  refine lw_sld F hI hX hbl (lw_in (c := 1) hk hL (by omega)) d_LW_law_229 ?_
  refine lv_aload_n hx hb d_LW_law_230 rfl (lv_at hl 1 rfl) ?_
  refine lv_iload_n hx hb d_LW_law_231 rfl (lv_at hl 0 rfl) ?_
  refine lv_iconst (v := 2) hx hb d_LW_law_232 (by decide) ?_
  refine lv_iadd hx hb d_LW_law_233 ?_
  refine lw_sld F hI hX hbl (lw_in (c := 2) hk hL (by omega)) d_LW_law_234 ?_
  refine lw_MI2 F hI (c_MD_drop l D cI cZ bd _ _ _ okM) wk_LW_34 rfl ⟨Nat.le_of_ble_eq_true rfl, Nat.le_of_ble_eq_true rfl⟩ hl.1 (Nat.le_of_ble_eq_true rfl) ⟨Nat.le_of_ble_eq_true rfl, Nat.le_of_ble_eq_true rfl⟩ d_LW_law_235 (fun H locs hI => ?_)
  refine lv_icmp_eq (tgt := 733) hx hb d_LW_law_238 (by decide) (fun c_238 => ?_) (fun c_238 => ?_)
  · exact K _ _ H locs (r_drop hR _ _).2 hI
  · exact absurd (r_drop hR _ _).1 c_238
set_option maxHeartbeats 4000000 in
set_option maxRecDepth 100000 in
theorem lw_c3 {p : Program} {l : Launch} {e : Env} {s : State} {m : MethodId} {below : List Frame} {meth : Method} {c : Code} {D : va_G} {cI cZ : ClassId} {b L k : Nat} {xs : Nat → Int32} {ad bd : Nat → Nat} {u : TS} {v : MS} {H : Heap} {locs : List Loc} {ls : Array Slot} {Q : State → Prop} (hL : L ≤ 2561) (F : CallFix p m c code 4 s #[Value.ref b] lw_tb R_LW) (hX : va_X b L xs s s.heap) (hbl : b < s.heap.size) (hk : 1 + 5 * k + 5 ≤ L) (hR : rI k u v)
    (hI : cw_I D cI cZ (fun q => s.heap.size ≤ q) s.heap s (th_W cI cZ ad u ++ md_W cI cZ bd v) H locs) (hl : lv_has ls 4 [(3, .int (nI (1 + 5 * k))), (0, .ref b), (1, .ref (ad 0)), (2, .ref (bd 0))])
    (K : ∀ (u' : TS) (v' : MS) (H : Heap) (locs : List Loc), rI (k + 1) u' v' → cw_I D cI cZ (fun q => s.heap.size ≤ q) s.heap s (th_W cI cZ ad u' ++ md_W cI cZ bd v') H locs → W p l e room_1 s m #[Value.ref b] below meth c H locs 15 2184 Q (F0 m 733 ls [])) :
    W p l e room_1 s m #[Value.ref b] below meth c H locs 15 2184 Q (F0 m 243 ls []) := by
  obtain ⟨hx, hb, hml, hown, hts⟩ := id F
  have okT := (r_ok hR).1
  have okM := (r_ok hR).2
  have hk5 : k < 512 := by omega
  refine lv_aload_n hx hb d_LW_law_243 rfl (lv_at hl 2 rfl) ?_
  refine lv_aload_n hx hb d_LW_law_244 rfl (lv_at hl 1 rfl) ?_
  refine lv_iload_n hx hb d_LW_law_245 rfl (lv_at hl 0 rfl) ?_
  refine lv_iconst (v := 1) hx hb d_LW_law_246 (by decide) ?_
  refine lv_iadd hx hb d_LW_law_247 ?_
  refine lw_sld F hI hX hbl (lw_in (c := 1) hk hL (by omega)) d_LW_law_248 ?_
  refine lv_aload_n hx hb d_LW_law_249 rfl (lv_at hl 1 rfl) ?_
  refine lv_iload_n hx hb d_LW_law_250 rfl (lv_at hl 0 rfl) ?_
  refine lv_iconst (v := 2) hx hb d_LW_law_251 (by decide) ?_
  refine lv_iadd hx hb d_LW_law_252 ?_
  refine lw_sld F hI hX hbl (lw_in (c := 2) hk hL (by omega)) d_LW_law_253 ?_
  refine lv_aload_n hx hb d_LW_law_254 rfl (lv_at hl 1 rfl) ?_
  refine lv_iload_n hx hb d_LW_law_255 rfl (lv_at hl 0 rfl) ?_
  refine lv_iconst (v := 3) hx hb d_LW_law_256 (by decide) ?_
  refine lv_iadd hx hb d_LW_law_257 ?_
  refine lw_sld F hI hX hbl (lw_in (c := 3) hk hL (by omega)) d_LW_law_258 ?_
  refine lv_aload_n hx hb d_LW_law_259 rfl (lv_at hl 1 rfl) ?_
  refine lv_iload_n hx hb d_LW_law_260 rfl (lv_at hl 0 rfl) ?_
  refine lv_iconst (v := 4) hx hb d_LW_law_261 (by decide) ?_
  refine lv_iadd hx hb d_LW_law_262 ?_
  refine lw_sld F hI hX hbl (lw_in (c := 4) hk hL (by omega)) d_LW_law_263 ?_
  refine lw_TI4 F hI (c_TH_load l D cI cZ ad _ _ _ _ _ okT) wk_LW_35 rfl ⟨Nat.le_of_ble_eq_true rfl, Nat.le_of_ble_eq_true rfl⟩ hl.1 (Nat.le_of_ble_eq_true rfl) ⟨Nat.le_of_ble_eq_true rfl, Nat.le_of_ble_eq_true rfl⟩ d_LW_law_264 (fun H locs hI => ?_)
  refine lv_aload_n hx hb d_LW_law_267 rfl (lv_at hl 3 rfl) ?_
  refine lv_aload_n hx hb d_LW_law_268 rfl (lv_at hl 1 rfl) ?_
  refine lv_iload_n hx hb d_LW_law_269 rfl (lv_at hl 0 rfl) ?_
  refine lv_iconst (v := 1) hx hb d_LW_law_270 (by decide) ?_
  refine lv_iadd hx hb d_LW_law_271 ?_
  refine lw_sld F hI hX hbl (lw_in (c := 1) hk hL (by omega)) d_LW_law_272 ?_
  refine lv_aload_n hx hb d_LW_law_273 rfl (lv_at hl 1 rfl) ?_
  refine lv_iload_n hx hb d_LW_law_274 rfl (lv_at hl 0 rfl) ?_
  refine lv_iconst (v := 2) hx hb d_LW_law_275 (by decide) ?_
  refine lv_iadd hx hb d_LW_law_276 ?_
  refine lw_sld F hI hX hbl (lw_in (c := 2) hk hL (by omega)) d_LW_law_277 ?_
  refine lv_aload_n hx hb d_LW_law_278 rfl (lv_at hl 1 rfl) ?_
  refine lv_iload_n hx hb d_LW_law_279 rfl (lv_at hl 0 rfl) ?_
  refine lv_iconst (v := 3) hx hb d_LW_law_280 (by decide) ?_
  refine lv_iadd hx hb d_LW_law_281 ?_
  refine lw_sld F hI hX hbl (lw_in (c := 3) hk hL (by omega)) d_LW_law_282 ?_
  refine lv_aload_n hx hb d_LW_law_283 rfl (lv_at hl 1 rfl) ?_
  refine lv_iload_n hx hb d_LW_law_284 rfl (lv_at hl 0 rfl) ?_
  refine lv_iconst (v := 4) hx hb d_LW_law_285 (by decide) ?_
  refine lv_iadd hx hb d_LW_law_286 ?_
  refine lw_sld F hI hX hbl (lw_in (c := 4) hk hL (by omega)) d_LW_law_287 ?_
  refine lw_MI4 F hI (c_MD_load l D cI cZ bd _ _ _ _ _ okM) wk_LW_39 rfl ⟨Nat.le_of_ble_eq_true rfl, Nat.le_of_ble_eq_true rfl⟩ hl.1 (Nat.le_of_ble_eq_true rfl) ⟨Nat.le_of_ble_eq_true rfl, Nat.le_of_ble_eq_true rfl⟩ d_LW_law_288 (fun H locs hI => ?_)
  refine lv_icmp_eq (tgt := 733) hx hb d_LW_law_291 (by decide) (fun c_291 => ?_) (fun c_291 => ?_)
  · exact K _ _ H locs (r_load hR _ _ _ _).2 hI
  · exact absurd (r_load hR _ _ _ _).1 c_291
set_option maxHeartbeats 4000000 in
set_option maxRecDepth 100000 in
theorem lw_c4 {p : Program} {l : Launch} {e : Env} {s : State} {m : MethodId} {below : List Frame} {meth : Method} {c : Code} {D : va_G} {cI cZ : ClassId} {b L k : Nat} {xs : Nat → Int32} {ad bd : Nat → Nat} {u : TS} {v : MS} {H : Heap} {locs : List Loc} {ls : Array Slot} {Q : State → Prop} (hL : L ≤ 2561) (F : CallFix p m c code 4 s #[Value.ref b] lw_tb R_LW) (hX : va_X b L xs s s.heap) (hbl : b < s.heap.size) (hk : 1 + 5 * k + 5 ≤ L) (hR : rI k u v)
    (hI : cw_I D cI cZ (fun q => s.heap.size ≤ q) s.heap s (th_W cI cZ ad u ++ md_W cI cZ bd v) H locs) (hl : lv_has ls 4 [(3, .int (nI (1 + 5 * k))), (0, .ref b), (1, .ref (ad 0)), (2, .ref (bd 0))])
    (K : ∀ (u' : TS) (v' : MS) (H : Heap) (locs : List Loc), rI (k + 1) u' v' → cw_I D cI cZ (fun q => s.heap.size ≤ q) s.heap s (th_W cI cZ ad u' ++ md_W cI cZ bd v') H locs → W p l e room_1 s m #[Value.ref b] below meth c H locs 15 2184 Q (F0 m 733 ls [])) :
    W p l e room_1 s m #[Value.ref b] below meth c H locs 15 2184 Q (F0 m 296 ls []) := by
  obtain ⟨hx, hb, hml, hown, hts⟩ := id F
  have okT := (r_ok hR).1
  have okM := (r_ok hR).2
  have hk5 : k < 512 := by omega
  refine lv_aload_n hx hb d_LW_law_296 rfl (lv_at hl 2 rfl) ?_
  refine lv_aload_n hx hb d_LW_law_297 rfl (lv_at hl 1 rfl) ?_
  refine lv_iload_n hx hb d_LW_law_298 rfl (lv_at hl 0 rfl) ?_
  refine lv_iconst (v := 1) hx hb d_LW_law_299 (by decide) ?_
  refine lv_iadd hx hb d_LW_law_300 ?_
  refine lw_sld F hI hX hbl (lw_in (c := 1) hk hL (by omega)) d_LW_law_301 ?_
  refine lv_aload_n hx hb d_LW_law_302 rfl (lv_at hl 1 rfl) ?_
  refine lv_iload_n hx hb d_LW_law_303 rfl (lv_at hl 0 rfl) ?_
  refine lv_iconst (v := 2) hx hb d_LW_law_304 (by decide) ?_
  refine lv_iadd hx hb d_LW_law_305 ?_
  refine lw_sld F hI hX hbl (lw_in (c := 2) hk hL (by omega)) d_LW_law_306 ?_
  refine lv_aload_n hx hb d_LW_law_307 rfl (lv_at hl 1 rfl) ?_
  refine lv_iload_n hx hb d_LW_law_308 rfl (lv_at hl 0 rfl) ?_
  refine lv_iconst (v := 3) hx hb d_LW_law_309 (by decide) ?_
  refine lv_iadd hx hb d_LW_law_310 ?_
  refine lw_sld F hI hX hbl (lw_in (c := 3) hk hL (by omega)) d_LW_law_311 ?_
  refine lv_aload_n hx hb d_LW_law_312 rfl (lv_at hl 1 rfl) ?_
  refine lv_iload_n hx hb d_LW_law_313 rfl (lv_at hl 0 rfl) ?_
  refine lv_iconst (v := 4) hx hb d_LW_law_314 (by decide) ?_
  refine lv_iadd hx hb d_LW_law_315 ?_
  refine lw_sld F hI hX hbl (lw_in (c := 4) hk hL (by omega)) d_LW_law_316 ?_
  refine lw_TI4 F hI (c_TH_store l D cI cZ ad _ _ _ _ _ okT) wk_LW_40 rfl ⟨Nat.le_of_ble_eq_true rfl, Nat.le_of_ble_eq_true rfl⟩ hl.1 (Nat.le_of_ble_eq_true rfl) ⟨Nat.le_of_ble_eq_true rfl, Nat.le_of_ble_eq_true rfl⟩ d_LW_law_317 (fun H locs hI => ?_)
  refine lv_aload_n hx hb d_LW_law_320 rfl (lv_at hl 3 rfl) ?_
  refine lv_aload_n hx hb d_LW_law_321 rfl (lv_at hl 1 rfl) ?_
  refine lv_iload_n hx hb d_LW_law_322 rfl (lv_at hl 0 rfl) ?_
  refine lv_iconst (v := 1) hx hb d_LW_law_323 (by decide) ?_
  refine lv_iadd hx hb d_LW_law_324 ?_
  refine lw_sld F hI hX hbl (lw_in (c := 1) hk hL (by omega)) d_LW_law_325 ?_
  refine lv_aload_n hx hb d_LW_law_326 rfl (lv_at hl 1 rfl) ?_
  refine lv_iload_n hx hb d_LW_law_327 rfl (lv_at hl 0 rfl) ?_
  refine lv_iconst (v := 2) hx hb d_LW_law_328 (by decide) ?_
  refine lv_iadd hx hb d_LW_law_329 ?_
  refine lw_sld F hI hX hbl (lw_in (c := 2) hk hL (by omega)) d_LW_law_330 ?_
  refine lv_aload_n hx hb d_LW_law_331 rfl (lv_at hl 1 rfl) ?_
  refine lv_iload_n hx hb d_LW_law_332 rfl (lv_at hl 0 rfl) ?_
  refine lv_iconst (v := 3) hx hb d_LW_law_333 (by decide) ?_
  refine lv_iadd hx hb d_LW_law_334 ?_
  refine lw_sld F hI hX hbl (lw_in (c := 3) hk hL (by omega)) d_LW_law_335 ?_
  refine lv_aload_n hx hb d_LW_law_336 rfl (lv_at hl 1 rfl) ?_
  refine lv_iload_n hx hb d_LW_law_337 rfl (lv_at hl 0 rfl) ?_
  refine lv_iconst (v := 4) hx hb d_LW_law_338 (by decide) ?_
  refine lv_iadd hx hb d_LW_law_339 ?_
  refine lw_sld F hI hX hbl (lw_in (c := 4) hk hL (by omega)) d_LW_law_340 ?_
  refine lw_MI4 F hI (c_MD_store l D cI cZ bd _ _ _ _ _ okM) wk_LW_43 rfl ⟨Nat.le_of_ble_eq_true rfl, Nat.le_of_ble_eq_true rfl⟩ hl.1 (Nat.le_of_ble_eq_true rfl) ⟨Nat.le_of_ble_eq_true rfl, Nat.le_of_ble_eq_true rfl⟩ d_LW_law_341 (fun H locs hI => ?_)
  refine lv_icmp_eq (tgt := 733) hx hb d_LW_law_344 (by decide) (fun c_344 => ?_) (fun c_344 => ?_)
  · exact K _ _ H locs (r_store hR _ _ _ _).2 hI
  · exact absurd (r_store hR _ _ _ _).1 c_344
set_option maxHeartbeats 4000000 in
set_option maxRecDepth 100000 in
theorem lw_c5 {p : Program} {l : Launch} {e : Env} {s : State} {m : MethodId} {below : List Frame} {meth : Method} {c : Code} {D : va_G} {cI cZ : ClassId} {b L k : Nat} {xs : Nat → Int32} {ad bd : Nat → Nat} {u : TS} {v : MS} {H : Heap} {locs : List Loc} {ls : Array Slot} {Q : State → Prop} (hL : L ≤ 2561) (F : CallFix p m c code 4 s #[Value.ref b] lw_tb R_LW) (hX : va_X b L xs s s.heap) (hbl : b < s.heap.size) (hk : 1 + 5 * k + 5 ≤ L) (hR : rI k u v)
    (hI : cw_I D cI cZ (fun q => s.heap.size ≤ q) s.heap s (th_W cI cZ ad u ++ md_W cI cZ bd v) H locs) (hl : lv_has ls 4 [(3, .int (nI (1 + 5 * k))), (0, .ref b), (1, .ref (ad 0)), (2, .ref (bd 0))])
    (K : ∀ (u' : TS) (v' : MS) (H : Heap) (locs : List Loc), rI (k + 1) u' v' → cw_I D cI cZ (fun q => s.heap.size ≤ q) s.heap s (th_W cI cZ ad u' ++ md_W cI cZ bd v') H locs → W p l e room_1 s m #[Value.ref b] below meth c H locs 15 2184 Q (F0 m 733 ls [])) :
    W p l e room_1 s m #[Value.ref b] below meth c H locs 15 2184 Q (F0 m 349 ls []) := by
  obtain ⟨hx, hb, hml, hown, hts⟩ := id F
  have okT := (r_ok hR).1
  have okM := (r_ok hR).2
  have hk5 : k < 512 := by omega
  refine lv_aload_n hx hb d_LW_law_349 rfl (lv_at hl 2 rfl) ?_
  refine lv_aload_n hx hb d_LW_law_350 rfl (lv_at hl 1 rfl) ?_
  refine lv_iload_n hx hb d_LW_law_351 rfl (lv_at hl 0 rfl) ?_
  refine lv_iconst (v := 1) hx hb d_LW_law_352 (by decide) ?_
  refine lv_iadd hx hb d_LW_law_353 ?_
  refine lw_sld F hI hX hbl (lw_in (c := 1) hk hL (by omega)) d_LW_law_354 ?_
  refine lv_aload_n hx hb d_LW_law_355 rfl (lv_at hl 1 rfl) ?_
  refine lv_iload_n hx hb d_LW_law_356 rfl (lv_at hl 0 rfl) ?_
  refine lv_iconst (v := 2) hx hb d_LW_law_357 (by decide) ?_
  refine lv_iadd hx hb d_LW_law_358 ?_
  refine lw_sld F hI hX hbl (lw_in (c := 2) hk hL (by omega)) d_LW_law_359 ?_
  refine lv_aload_n hx hb d_LW_law_360 rfl (lv_at hl 1 rfl) ?_
  refine lv_iload_n hx hb d_LW_law_361 rfl (lv_at hl 0 rfl) ?_
  refine lv_iconst (v := 3) hx hb d_LW_law_362 (by decide) ?_
  refine lv_iadd hx hb d_LW_law_363 ?_
  refine lw_sld F hI hX hbl (lw_in (c := 3) hk hL (by omega)) d_LW_law_364 ?_
  refine lw_TI3 F hI (c_TH_put l D cI cZ ad _ _ _ _ okT) wk_LW_44 rfl ⟨Nat.le_of_ble_eq_true rfl, Nat.le_of_ble_eq_true rfl⟩ hl.1 (Nat.le_of_ble_eq_true rfl) ⟨Nat.le_of_ble_eq_true rfl, Nat.le_of_ble_eq_true rfl⟩ d_LW_law_365 (fun H locs hI => ?_)
  refine lv_aload_n hx hb d_LW_law_368 rfl (lv_at hl 3 rfl) ?_
  refine lv_aload_n hx hb d_LW_law_369 rfl (lv_at hl 1 rfl) ?_
  refine lv_iload_n hx hb d_LW_law_370 rfl (lv_at hl 0 rfl) ?_
  refine lv_iconst (v := 1) hx hb d_LW_law_371 (by decide) ?_
  refine lv_iadd hx hb d_LW_law_372 ?_
  refine lw_sld F hI hX hbl (lw_in (c := 1) hk hL (by omega)) d_LW_law_373 ?_
  refine lv_aload_n hx hb d_LW_law_374 rfl (lv_at hl 1 rfl) ?_
  refine lv_iload_n hx hb d_LW_law_375 rfl (lv_at hl 0 rfl) ?_
  refine lv_iconst (v := 2) hx hb d_LW_law_376 (by decide) ?_
  refine lv_iadd hx hb d_LW_law_377 ?_
  refine lw_sld F hI hX hbl (lw_in (c := 2) hk hL (by omega)) d_LW_law_378 ?_
  refine lv_aload_n hx hb d_LW_law_379 rfl (lv_at hl 1 rfl) ?_
  refine lv_iload_n hx hb d_LW_law_380 rfl (lv_at hl 0 rfl) ?_
  refine lv_iconst (v := 3) hx hb d_LW_law_381 (by decide) ?_
  refine lv_iadd hx hb d_LW_law_382 ?_
  refine lw_sld F hI hX hbl (lw_in (c := 3) hk hL (by omega)) d_LW_law_383 ?_
  refine lw_MI3 F hI (c_MD_put l D cI cZ bd _ _ _ _ okM) wk_LW_47 rfl ⟨Nat.le_of_ble_eq_true rfl, Nat.le_of_ble_eq_true rfl⟩ hl.1 (Nat.le_of_ble_eq_true rfl) ⟨Nat.le_of_ble_eq_true rfl, Nat.le_of_ble_eq_true rfl⟩ d_LW_law_384 (fun H locs hI => ?_)
  refine lv_icmp_eq (tgt := 733) hx hb d_LW_law_387 (by decide) (fun c_387 => ?_) (fun c_387 => ?_)
  · exact K _ _ H locs (r_put hR _ _ _).2 hI
  · exact absurd (r_put hR _ _ _).1 c_387
set_option maxHeartbeats 4000000 in
set_option maxRecDepth 100000 in
theorem lw_c6 {p : Program} {l : Launch} {e : Env} {s : State} {m : MethodId} {below : List Frame} {meth : Method} {c : Code} {D : va_G} {cI cZ : ClassId} {b L k : Nat} {xs : Nat → Int32} {ad bd : Nat → Nat} {u : TS} {v : MS} {H : Heap} {locs : List Loc} {ls : Array Slot} {Q : State → Prop} (hL : L ≤ 2561) (F : CallFix p m c code 4 s #[Value.ref b] lw_tb R_LW) (hX : va_X b L xs s s.heap) (hbl : b < s.heap.size) (hk : 1 + 5 * k + 5 ≤ L) (hR : rI k u v)
    (hI : cw_I D cI cZ (fun q => s.heap.size ≤ q) s.heap s (th_W cI cZ ad u ++ md_W cI cZ bd v) H locs) (hl : lv_has ls 4 [(3, .int (nI (1 + 5 * k))), (0, .ref b), (1, .ref (ad 0)), (2, .ref (bd 0))])
    (K : ∀ (u' : TS) (v' : MS) (H : Heap) (locs : List Loc), rI (k + 1) u' v' → cw_I D cI cZ (fun q => s.heap.size ≤ q) s.heap s (th_W cI cZ ad u' ++ md_W cI cZ bd v') H locs → W p l e room_1 s m #[Value.ref b] below meth c H locs 15 2184 Q (F0 m 733 ls [])) :
    W p l e room_1 s m #[Value.ref b] below meth c H locs 15 2184 Q (F0 m 392 ls []) := by
  obtain ⟨hx, hb, hml, hown, hts⟩ := id F
  have okT := (r_ok hR).1
  have okM := (r_ok hR).2
  have hk5 : k < 512 := by omega
  refine lv_aload_n hx hb d_LW_law_392 rfl (lv_at hl 2 rfl) ?_
  refine lv_aload_n hx hb d_LW_law_393 rfl (lv_at hl 1 rfl) ?_
  refine lv_iload_n hx hb d_LW_law_394 rfl (lv_at hl 0 rfl) ?_
  refine lv_iconst (v := 1) hx hb d_LW_law_395 (by decide) ?_
  refine lv_iadd hx hb d_LW_law_396 ?_
  refine lw_sld F hI hX hbl (lw_in (c := 1) hk hL (by omega)) d_LW_law_397 ?_
  refine lv_aload_n hx hb d_LW_law_398 rfl (lv_at hl 1 rfl) ?_
  refine lv_iload_n hx hb d_LW_law_399 rfl (lv_at hl 0 rfl) ?_
  refine lv_iconst (v := 2) hx hb d_LW_law_400 (by decide) ?_
  refine lv_iadd hx hb d_LW_law_401 ?_
  refine lw_sld F hI hX hbl (lw_in (c := 2) hk hL (by omega)) d_LW_law_402 ?_
  refine lv_aload_n hx hb d_LW_law_403 rfl (lv_at hl 1 rfl) ?_
  refine lv_iload_n hx hb d_LW_law_404 rfl (lv_at hl 0 rfl) ?_
  refine lv_iconst (v := 3) hx hb d_LW_law_405 (by decide) ?_
  refine lv_iadd hx hb d_LW_law_406 ?_
  refine lw_sld F hI hX hbl (lw_in (c := 3) hk hL (by omega)) d_LW_law_407 ?_
  refine lw_TI3 F hI (c_TH_get l D cI cZ ad _ _ _ _ okT) wk_LW_48 rfl ⟨Nat.le_of_ble_eq_true rfl, Nat.le_of_ble_eq_true rfl⟩ hl.1 (Nat.le_of_ble_eq_true rfl) ⟨Nat.le_of_ble_eq_true rfl, Nat.le_of_ble_eq_true rfl⟩ d_LW_law_408 (fun H locs hI => ?_)
  refine lv_aload_n hx hb d_LW_law_411 rfl (lv_at hl 3 rfl) ?_
  refine lv_aload_n hx hb d_LW_law_412 rfl (lv_at hl 1 rfl) ?_
  refine lv_iload_n hx hb d_LW_law_413 rfl (lv_at hl 0 rfl) ?_
  refine lv_iconst (v := 1) hx hb d_LW_law_414 (by decide) ?_
  refine lv_iadd hx hb d_LW_law_415 ?_
  refine lw_sld F hI hX hbl (lw_in (c := 1) hk hL (by omega)) d_LW_law_416 ?_
  refine lv_aload_n hx hb d_LW_law_417 rfl (lv_at hl 1 rfl) ?_
  refine lv_iload_n hx hb d_LW_law_418 rfl (lv_at hl 0 rfl) ?_
  refine lv_iconst (v := 2) hx hb d_LW_law_419 (by decide) ?_
  refine lv_iadd hx hb d_LW_law_420 ?_
  refine lw_sld F hI hX hbl (lw_in (c := 2) hk hL (by omega)) d_LW_law_421 ?_
  refine lv_aload_n hx hb d_LW_law_422 rfl (lv_at hl 1 rfl) ?_
  refine lv_iload_n hx hb d_LW_law_423 rfl (lv_at hl 0 rfl) ?_
  refine lv_iconst (v := 3) hx hb d_LW_law_424 (by decide) ?_
  refine lv_iadd hx hb d_LW_law_425 ?_
  refine lw_sld F hI hX hbl (lw_in (c := 3) hk hL (by omega)) d_LW_law_426 ?_
  refine lw_MI3 F hI (c_MD_get l D cI cZ bd _ _ _ _ okM) wk_LW_51 rfl ⟨Nat.le_of_ble_eq_true rfl, Nat.le_of_ble_eq_true rfl⟩ hl.1 (Nat.le_of_ble_eq_true rfl) ⟨Nat.le_of_ble_eq_true rfl, Nat.le_of_ble_eq_true rfl⟩ d_LW_law_427 (fun H locs hI => ?_)
  refine lv_icmp_eq (tgt := 733) hx hb d_LW_law_430 (by decide) (fun c_430 => ?_) (fun c_430 => ?_)
  · exact K _ _ H locs (r_get hR _ _ _).2 hI
  · exact absurd (r_get hR _ _ _).1 c_430
set_option maxHeartbeats 4000000 in
set_option maxRecDepth 100000 in
theorem lw_c7 {p : Program} {l : Launch} {e : Env} {s : State} {m : MethodId} {below : List Frame} {meth : Method} {c : Code} {D : va_G} {cI cZ : ClassId} {b L k : Nat} {xs : Nat → Int32} {ad bd : Nat → Nat} {u : TS} {v : MS} {H : Heap} {locs : List Loc} {ls : Array Slot} {Q : State → Prop} (hL : L ≤ 2561) (F : CallFix p m c code 4 s #[Value.ref b] lw_tb R_LW) (hX : va_X b L xs s s.heap) (hbl : b < s.heap.size) (hk : 1 + 5 * k + 5 ≤ L) (hR : rI k u v)
    (hI : cw_I D cI cZ (fun q => s.heap.size ≤ q) s.heap s (th_W cI cZ ad u ++ md_W cI cZ bd v) H locs) (hl : lv_has ls 4 [(3, .int (nI (1 + 5 * k))), (0, .ref b), (1, .ref (ad 0)), (2, .ref (bd 0))])
    (K : ∀ (u' : TS) (v' : MS) (H : Heap) (locs : List Loc), rI (k + 1) u' v' → cw_I D cI cZ (fun q => s.heap.size ≤ q) s.heap s (th_W cI cZ ad u' ++ md_W cI cZ bd v') H locs → W p l e room_1 s m #[Value.ref b] below meth c H locs 15 2184 Q (F0 m 733 ls [])) :
    W p l e room_1 s m #[Value.ref b] below meth c H locs 15 2184 Q (F0 m 435 ls []) := by
  obtain ⟨hx, hb, hml, hown, hts⟩ := id F
  have okT := (r_ok hR).1
  have okM := (r_ok hR).2
  have hk5 : k < 512 := by omega
  refine lv_aload_n hx hb d_LW_law_435 rfl (lv_at hl 2 rfl) ?_
  refine lv_aload_n hx hb d_LW_law_436 rfl (lv_at hl 1 rfl) ?_
  refine lv_iload_n hx hb d_LW_law_437 rfl (lv_at hl 0 rfl) ?_
  refine lv_iconst (v := 1) hx hb d_LW_law_438 (by decide) ?_
  refine lv_iadd hx hb d_LW_law_439 ?_
  refine lw_sld F hI hX hbl (lw_in (c := 1) hk hL (by omega)) d_LW_law_440 ?_
  refine lv_aload_n hx hb d_LW_law_441 rfl (lv_at hl 1 rfl) ?_
  refine lv_iload_n hx hb d_LW_law_442 rfl (lv_at hl 0 rfl) ?_
  refine lv_iconst (v := 2) hx hb d_LW_law_443 (by decide) ?_
  refine lv_iadd hx hb d_LW_law_444 ?_
  refine lw_sld F hI hX hbl (lw_in (c := 2) hk hL (by omega)) d_LW_law_445 ?_
  refine lv_aload_n hx hb d_LW_law_446 rfl (lv_at hl 1 rfl) ?_
  refine lv_iload_n hx hb d_LW_law_447 rfl (lv_at hl 0 rfl) ?_
  refine lv_iconst (v := 3) hx hb d_LW_law_448 (by decide) ?_
  refine lv_iadd hx hb d_LW_law_449 ?_
  refine lw_sld F hI hX hbl (lw_in (c := 3) hk hL (by omega)) d_LW_law_450 ?_
  refine lv_aload_n hx hb d_LW_law_451 rfl (lv_at hl 1 rfl) ?_
  refine lv_iload_n hx hb d_LW_law_452 rfl (lv_at hl 0 rfl) ?_
  refine lv_iconst (v := 4) hx hb d_LW_law_453 (by decide) ?_
  refine lv_iadd hx hb d_LW_law_454 ?_
  refine lw_sld F hI hX hbl (lw_in (c := 4) hk hL (by omega)) d_LW_law_455 ?_
  refine lw_TI4 F hI (c_TH_swap l D cI cZ ad _ _ _ _ _ okT) wk_LW_52 rfl ⟨Nat.le_of_ble_eq_true rfl, Nat.le_of_ble_eq_true rfl⟩ hl.1 (Nat.le_of_ble_eq_true rfl) ⟨Nat.le_of_ble_eq_true rfl, Nat.le_of_ble_eq_true rfl⟩ d_LW_law_456 (fun H locs hI => ?_)
  refine lv_aload_n hx hb d_LW_law_459 rfl (lv_at hl 3 rfl) ?_
  refine lv_aload_n hx hb d_LW_law_460 rfl (lv_at hl 1 rfl) ?_
  refine lv_iload_n hx hb d_LW_law_461 rfl (lv_at hl 0 rfl) ?_
  refine lv_iconst (v := 1) hx hb d_LW_law_462 (by decide) ?_
  refine lv_iadd hx hb d_LW_law_463 ?_
  refine lw_sld F hI hX hbl (lw_in (c := 1) hk hL (by omega)) d_LW_law_464 ?_
  refine lv_aload_n hx hb d_LW_law_465 rfl (lv_at hl 1 rfl) ?_
  refine lv_iload_n hx hb d_LW_law_466 rfl (lv_at hl 0 rfl) ?_
  refine lv_iconst (v := 2) hx hb d_LW_law_467 (by decide) ?_
  refine lv_iadd hx hb d_LW_law_468 ?_
  refine lw_sld F hI hX hbl (lw_in (c := 2) hk hL (by omega)) d_LW_law_469 ?_
  refine lv_aload_n hx hb d_LW_law_470 rfl (lv_at hl 1 rfl) ?_
  refine lv_iload_n hx hb d_LW_law_471 rfl (lv_at hl 0 rfl) ?_
  refine lv_iconst (v := 3) hx hb d_LW_law_472 (by decide) ?_
  refine lv_iadd hx hb d_LW_law_473 ?_
  refine lw_sld F hI hX hbl (lw_in (c := 3) hk hL (by omega)) d_LW_law_474 ?_
  refine lv_aload_n hx hb d_LW_law_475 rfl (lv_at hl 1 rfl) ?_
  refine lv_iload_n hx hb d_LW_law_476 rfl (lv_at hl 0 rfl) ?_
  refine lv_iconst (v := 4) hx hb d_LW_law_477 (by decide) ?_
  refine lv_iadd hx hb d_LW_law_478 ?_
  refine lw_sld F hI hX hbl (lw_in (c := 4) hk hL (by omega)) d_LW_law_479 ?_
  refine lw_MI4 F hI (c_MD_swap l D cI cZ bd _ _ _ _ _ okM) wk_LW_55 rfl ⟨Nat.le_of_ble_eq_true rfl, Nat.le_of_ble_eq_true rfl⟩ hl.1 (Nat.le_of_ble_eq_true rfl) ⟨Nat.le_of_ble_eq_true rfl, Nat.le_of_ble_eq_true rfl⟩ d_LW_law_480 (fun H locs hI => ?_)
  refine lv_icmp_eq (tgt := 733) hx hb d_LW_law_483 (by decide) (fun c_483 => ?_) (fun c_483 => ?_)
  · exact K _ _ H locs (r_swap hR _ _ _ _).2 hI
  · exact absurd (r_swap hR _ _ _ _).1 c_483
set_option maxHeartbeats 4000000 in
set_option maxRecDepth 100000 in
theorem lw_c8 {p : Program} {l : Launch} {e : Env} {s : State} {m : MethodId} {below : List Frame} {meth : Method} {c : Code} {D : va_G} {cI cZ : ClassId} {b L k : Nat} {xs : Nat → Int32} {ad bd : Nat → Nat} {u : TS} {v : MS} {H : Heap} {locs : List Loc} {ls : Array Slot} {Q : State → Prop} (hL : L ≤ 2561) (F : CallFix p m c code 4 s #[Value.ref b] lw_tb R_LW) (hX : va_X b L xs s s.heap) (hbl : b < s.heap.size) (hk : 1 + 5 * k + 5 ≤ L) (hR : rI k u v)
    (hI : cw_I D cI cZ (fun q => s.heap.size ≤ q) s.heap s (th_W cI cZ ad u ++ md_W cI cZ bd v) H locs) (hl : lv_has ls 4 [(3, .int (nI (1 + 5 * k))), (0, .ref b), (1, .ref (ad 0)), (2, .ref (bd 0))])
    (K : ∀ (u' : TS) (v' : MS) (H : Heap) (locs : List Loc), rI (k + 1) u' v' → cw_I D cI cZ (fun q => s.heap.size ≤ q) s.heap s (th_W cI cZ ad u' ++ md_W cI cZ bd v') H locs → W p l e room_1 s m #[Value.ref b] below meth c H locs 15 2184 Q (F0 m 733 ls [])) :
    W p l e room_1 s m #[Value.ref b] below meth c H locs 15 2184 Q (F0 m 488 ls []) := by
  obtain ⟨hx, hb, hml, hown, hts⟩ := id F
  have okT := (r_ok hR).1
  have okM := (r_ok hR).2
  have hk5 : k < 512 := by omega
  refine lv_aload_n hx hb d_LW_law_488 rfl (lv_at hl 2 rfl) ?_
  refine lv_aload_n hx hb d_LW_law_489 rfl (lv_at hl 1 rfl) ?_
  refine lv_iload_n hx hb d_LW_law_490 rfl (lv_at hl 0 rfl) ?_
  refine lv_iconst (v := 1) hx hb d_LW_law_491 (by decide) ?_
  refine lv_iadd hx hb d_LW_law_492 ?_
  refine lw_sld F hI hX hbl (lw_in (c := 1) hk hL (by omega)) d_LW_law_493 ?_
  refine lv_aload_n hx hb d_LW_law_494 rfl (lv_at hl 1 rfl) ?_
  refine lv_iload_n hx hb d_LW_law_495 rfl (lv_at hl 0 rfl) ?_
  refine lv_iconst (v := 2) hx hb d_LW_law_496 (by decide) ?_
  refine lv_iadd hx hb d_LW_law_497 ?_
  refine lw_sld F hI hX hbl (lw_in (c := 2) hk hL (by omega)) d_LW_law_498 ?_
  refine lv_aload_n hx hb d_LW_law_499 rfl (lv_at hl 1 rfl) ?_
  refine lv_iload_n hx hb d_LW_law_500 rfl (lv_at hl 0 rfl) ?_
  refine lv_iconst (v := 3) hx hb d_LW_law_501 (by decide) ?_
  refine lv_iadd hx hb d_LW_law_502 ?_
  refine lw_sld F hI hX hbl (lw_in (c := 3) hk hL (by omega)) d_LW_law_503 ?_
  refine lw_TI3 F hI (c_TH_setNumber l D cI cZ ad _ _ _ _ okT) wk_LW_56 rfl ⟨Nat.le_of_ble_eq_true rfl, Nat.le_of_ble_eq_true rfl⟩ hl.1 (Nat.le_of_ble_eq_true rfl) ⟨Nat.le_of_ble_eq_true rfl, Nat.le_of_ble_eq_true rfl⟩ d_LW_law_504 (fun H locs hI => ?_)
  refine lv_aload_n hx hb d_LW_law_507 rfl (lv_at hl 3 rfl) ?_
  refine lv_aload_n hx hb d_LW_law_508 rfl (lv_at hl 1 rfl) ?_
  refine lv_iload_n hx hb d_LW_law_509 rfl (lv_at hl 0 rfl) ?_
  refine lv_iconst (v := 1) hx hb d_LW_law_510 (by decide) ?_
  refine lv_iadd hx hb d_LW_law_511 ?_
  refine lw_sld F hI hX hbl (lw_in (c := 1) hk hL (by omega)) d_LW_law_512 ?_
  refine lv_aload_n hx hb d_LW_law_513 rfl (lv_at hl 1 rfl) ?_
  refine lv_iload_n hx hb d_LW_law_514 rfl (lv_at hl 0 rfl) ?_
  refine lv_iconst (v := 2) hx hb d_LW_law_515 (by decide) ?_
  refine lv_iadd hx hb d_LW_law_516 ?_
  refine lw_sld F hI hX hbl (lw_in (c := 2) hk hL (by omega)) d_LW_law_517 ?_
  refine lv_aload_n hx hb d_LW_law_518 rfl (lv_at hl 1 rfl) ?_
  refine lv_iload_n hx hb d_LW_law_519 rfl (lv_at hl 0 rfl) ?_
  refine lv_iconst (v := 3) hx hb d_LW_law_520 (by decide) ?_
  refine lv_iadd hx hb d_LW_law_521 ?_
  refine lw_sld F hI hX hbl (lw_in (c := 3) hk hL (by omega)) d_LW_law_522 ?_
  refine lw_MI3 F hI (c_MD_setNumber l D cI cZ bd _ _ _ _ okM) wk_LW_59 rfl ⟨Nat.le_of_ble_eq_true rfl, Nat.le_of_ble_eq_true rfl⟩ hl.1 (Nat.le_of_ble_eq_true rfl) ⟨Nat.le_of_ble_eq_true rfl, Nat.le_of_ble_eq_true rfl⟩ d_LW_law_523 (fun H locs hI => ?_)
  refine lv_icmp_eq (tgt := 733) hx hb d_LW_law_526 (by decide) (fun c_526 => ?_) (fun c_526 => ?_)
  · exact K _ _ H locs (r_setNumber hR _ _ _).2 hI
  · exact absurd (r_setNumber hR _ _ _).1 c_526
set_option maxHeartbeats 4000000 in
set_option maxRecDepth 100000 in
theorem lw_c9 {p : Program} {l : Launch} {e : Env} {s : State} {m : MethodId} {below : List Frame} {meth : Method} {c : Code} {D : va_G} {cI cZ : ClassId} {b L k : Nat} {xs : Nat → Int32} {ad bd : Nat → Nat} {u : TS} {v : MS} {H : Heap} {locs : List Loc} {ls : Array Slot} {Q : State → Prop} (hL : L ≤ 2561) (F : CallFix p m c code 4 s #[Value.ref b] lw_tb R_LW) (hX : va_X b L xs s s.heap) (hbl : b < s.heap.size) (hk : 1 + 5 * k + 5 ≤ L) (hR : rI k u v)
    (hI : cw_I D cI cZ (fun q => s.heap.size ≤ q) s.heap s (th_W cI cZ ad u ++ md_W cI cZ bd v) H locs) (hl : lv_has ls 4 [(3, .int (nI (1 + 5 * k))), (0, .ref b), (1, .ref (ad 0)), (2, .ref (bd 0))])
    (K : ∀ (u' : TS) (v' : MS) (H : Heap) (locs : List Loc), rI (k + 1) u' v' → cw_I D cI cZ (fun q => s.heap.size ≤ q) s.heap s (th_W cI cZ ad u' ++ md_W cI cZ bd v') H locs → W p l e room_1 s m #[Value.ref b] below meth c H locs 15 2184 Q (F0 m 733 ls [])) :
    W p l e room_1 s m #[Value.ref b] below meth c H locs 15 2184 Q (F0 m 531 ls []) := by
  obtain ⟨hx, hb, hml, hown, hts⟩ := id F
  have okT := (r_ok hR).1
  have okM := (r_ok hR).2
  have hk5 : k < 512 := by omega
  refine lv_aload_n hx hb d_LW_law_531 rfl (lv_at hl 2 rfl) ?_
  refine lv_aload_n hx hb d_LW_law_532 rfl (lv_at hl 1 rfl) ?_
  refine lv_iload_n hx hb d_LW_law_533 rfl (lv_at hl 0 rfl) ?_
  refine lv_iconst (v := 1) hx hb d_LW_law_534 (by decide) ?_
  refine lv_iadd hx hb d_LW_law_535 ?_
  refine lw_sld F hI hX hbl (lw_in (c := 1) hk hL (by omega)) d_LW_law_536 ?_
  refine lv_aload_n hx hb d_LW_law_537 rfl (lv_at hl 1 rfl) ?_
  refine lv_iload_n hx hb d_LW_law_538 rfl (lv_at hl 0 rfl) ?_
  refine lv_iconst (v := 2) hx hb d_LW_law_539 (by decide) ?_
  refine lv_iadd hx hb d_LW_law_540 ?_
  refine lw_sld F hI hX hbl (lw_in (c := 2) hk hL (by omega)) d_LW_law_541 ?_
  refine lw_TI2 F hI (c_TH_number l D cI cZ ad _ _ _ okT) wk_LW_60 rfl ⟨Nat.le_of_ble_eq_true rfl, Nat.le_of_ble_eq_true rfl⟩ hl.1 (Nat.le_of_ble_eq_true rfl) ⟨Nat.le_of_ble_eq_true rfl, Nat.le_of_ble_eq_true rfl⟩ d_LW_law_542 (fun H locs hI => ?_)
  refine lv_aload_n hx hb d_LW_law_545 rfl (lv_at hl 3 rfl) ?_
  refine lv_aload_n hx hb d_LW_law_546 rfl (lv_at hl 1 rfl) ?_
  refine lv_iload_n hx hb d_LW_law_547 rfl (lv_at hl 0 rfl) ?_
  refine lv_iconst (v := 1) hx hb d_LW_law_548 (by decide) ?_
  refine lv_iadd hx hb d_LW_law_549 ?_
  refine lw_sld F hI hX hbl (lw_in (c := 1) hk hL (by omega)) d_LW_law_550 ?_
  refine lv_aload_n hx hb d_LW_law_551 rfl (lv_at hl 1 rfl) ?_
  refine lv_iload_n hx hb d_LW_law_552 rfl (lv_at hl 0 rfl) ?_
  refine lv_iconst (v := 2) hx hb d_LW_law_553 (by decide) ?_
  refine lv_iadd hx hb d_LW_law_554 ?_
  refine lw_sld F hI hX hbl (lw_in (c := 2) hk hL (by omega)) d_LW_law_555 ?_
  refine lw_MI2 F hI (c_MD_number l D cI cZ bd _ _ _ okM) wk_LW_63 rfl ⟨Nat.le_of_ble_eq_true rfl, Nat.le_of_ble_eq_true rfl⟩ hl.1 (Nat.le_of_ble_eq_true rfl) ⟨Nat.le_of_ble_eq_true rfl, Nat.le_of_ble_eq_true rfl⟩ d_LW_law_556 (fun H locs hI => ?_)
  refine lv_icmp_eq (tgt := 733) hx hb d_LW_law_559 (by decide) (fun c_559 => ?_) (fun c_559 => ?_)
  · exact K _ _ H locs (r_number hR _ _).2 hI
  · exact absurd (r_number hR _ _).1 c_559
set_option maxHeartbeats 4000000 in
set_option maxRecDepth 100000 in
theorem lw_c10 {p : Program} {l : Launch} {e : Env} {s : State} {m : MethodId} {below : List Frame} {meth : Method} {c : Code} {D : va_G} {cI cZ : ClassId} {b L k : Nat} {xs : Nat → Int32} {ad bd : Nat → Nat} {u : TS} {v : MS} {H : Heap} {locs : List Loc} {ls : Array Slot} {Q : State → Prop} (hL : L ≤ 2561) (F : CallFix p m c code 4 s #[Value.ref b] lw_tb R_LW) (hX : va_X b L xs s s.heap) (hbl : b < s.heap.size) (hk : 1 + 5 * k + 5 ≤ L) (hR : rI k u v)
    (hI : cw_I D cI cZ (fun q => s.heap.size ≤ q) s.heap s (th_W cI cZ ad u ++ md_W cI cZ bd v) H locs) (hl : lv_has ls 4 [(3, .int (nI (1 + 5 * k))), (0, .ref b), (1, .ref (ad 0)), (2, .ref (bd 0))])
    (K : ∀ (u' : TS) (v' : MS) (H : Heap) (locs : List Loc), rI (k + 1) u' v' → cw_I D cI cZ (fun q => s.heap.size ≤ q) s.heap s (th_W cI cZ ad u' ++ md_W cI cZ bd v') H locs → W p l e room_1 s m #[Value.ref b] below meth c H locs 15 2184 Q (F0 m 733 ls [])) :
    W p l e room_1 s m #[Value.ref b] below meth c H locs 15 2184 Q (F0 m 564 ls []) := by
  obtain ⟨hx, hb, hml, hown, hts⟩ := id F
  have okT := (r_ok hR).1
  have okM := (r_ok hR).2
  have hk5 : k < 512 := by omega
  refine lv_aload_n hx hb d_LW_law_564 rfl (lv_at hl 2 rfl) ?_
  refine lv_aload_n hx hb d_LW_law_565 rfl (lv_at hl 1 rfl) ?_
  refine lv_iload_n hx hb d_LW_law_566 rfl (lv_at hl 0 rfl) ?_
  refine lv_iconst (v := 1) hx hb d_LW_law_567 (by decide) ?_
  refine lv_iadd hx hb d_LW_law_568 ?_
  refine lw_sld F hI hX hbl (lw_in (c := 1) hk hL (by omega)) d_LW_law_569 ?_
  refine lv_aload_n hx hb d_LW_law_570 rfl (lv_at hl 1 rfl) ?_
  refine lv_iload_n hx hb d_LW_law_571 rfl (lv_at hl 0 rfl) ?_
  refine lv_iconst (v := 2) hx hb d_LW_law_572 (by decide) ?_
  refine lv_iadd hx hb d_LW_law_573 ?_
  refine lw_sld F hI hX hbl (lw_in (c := 2) hk hL (by omega)) d_LW_law_574 ?_
  refine lw_TI2 F hI (c_TH_serial l D cI cZ ad _ _ _ okT) wk_LW_64 rfl ⟨Nat.le_of_ble_eq_true rfl, Nat.le_of_ble_eq_true rfl⟩ hl.1 (Nat.le_of_ble_eq_true rfl) ⟨Nat.le_of_ble_eq_true rfl, Nat.le_of_ble_eq_true rfl⟩ d_LW_law_575 (fun H locs hI => ?_)
  refine lv_aload_n hx hb d_LW_law_578 rfl (lv_at hl 3 rfl) ?_
  refine lv_aload_n hx hb d_LW_law_579 rfl (lv_at hl 1 rfl) ?_
  refine lv_iload_n hx hb d_LW_law_580 rfl (lv_at hl 0 rfl) ?_
  refine lv_iconst (v := 1) hx hb d_LW_law_581 (by decide) ?_
  refine lv_iadd hx hb d_LW_law_582 ?_
  refine lw_sld F hI hX hbl (lw_in (c := 1) hk hL (by omega)) d_LW_law_583 ?_
  refine lv_aload_n hx hb d_LW_law_584 rfl (lv_at hl 1 rfl) ?_
  refine lv_iload_n hx hb d_LW_law_585 rfl (lv_at hl 0 rfl) ?_
  refine lv_iconst (v := 2) hx hb d_LW_law_586 (by decide) ?_
  refine lv_iadd hx hb d_LW_law_587 ?_
  refine lw_sld F hI hX hbl (lw_in (c := 2) hk hL (by omega)) d_LW_law_588 ?_
  refine lw_MI2 F hI (c_MD_serial l D cI cZ bd _ _ _ okM) wk_LW_67 rfl ⟨Nat.le_of_ble_eq_true rfl, Nat.le_of_ble_eq_true rfl⟩ hl.1 (Nat.le_of_ble_eq_true rfl) ⟨Nat.le_of_ble_eq_true rfl, Nat.le_of_ble_eq_true rfl⟩ d_LW_law_589 (fun H locs hI => ?_)
  refine lv_icmp_eq (tgt := 733) hx hb d_LW_law_592 (by decide) (fun c_592 => ?_) (fun c_592 => ?_)
  · exact K _ _ H locs (r_serial hR _ _).2 hI
  · exact absurd (r_serial hR _ _).1 c_592
set_option maxHeartbeats 4000000 in
set_option maxRecDepth 100000 in
theorem lw_c11 {p : Program} {l : Launch} {e : Env} {s : State} {m : MethodId} {below : List Frame} {meth : Method} {c : Code} {D : va_G} {cI cZ : ClassId} {b L k : Nat} {xs : Nat → Int32} {ad bd : Nat → Nat} {u : TS} {v : MS} {H : Heap} {locs : List Loc} {ls : Array Slot} {Q : State → Prop} (hL : L ≤ 2561) (F : CallFix p m c code 4 s #[Value.ref b] lw_tb R_LW) (hX : va_X b L xs s s.heap) (hbl : b < s.heap.size) (hk : 1 + 5 * k + 5 ≤ L) (hR : rI k u v)
    (hI : cw_I D cI cZ (fun q => s.heap.size ≤ q) s.heap s (th_W cI cZ ad u ++ md_W cI cZ bd v) H locs) (hl : lv_has ls 4 [(3, .int (nI (1 + 5 * k))), (0, .ref b), (1, .ref (ad 0)), (2, .ref (bd 0))])
    (K : ∀ (u' : TS) (v' : MS) (H : Heap) (locs : List Loc), rI (k + 1) u' v' → cw_I D cI cZ (fun q => s.heap.size ≤ q) s.heap s (th_W cI cZ ad u' ++ md_W cI cZ bd v') H locs → W p l e room_1 s m #[Value.ref b] below meth c H locs 15 2184 Q (F0 m 733 ls [])) :
    W p l e room_1 s m #[Value.ref b] below meth c H locs 15 2184 Q (F0 m 597 ls []) := by
  obtain ⟨hx, hb, hml, hown, hts⟩ := id F
  have okT := (r_ok hR).1
  have okM := (r_ok hR).2
  have hk5 : k < 512 := by omega
  refine lv_aload_n hx hb d_LW_law_597 rfl (lv_at hl 2 rfl) ?_
  refine lv_aload_n hx hb d_LW_law_598 rfl (lv_at hl 1 rfl) ?_
  refine lv_iload_n hx hb d_LW_law_599 rfl (lv_at hl 0 rfl) ?_
  refine lv_iconst (v := 1) hx hb d_LW_law_600 (by decide) ?_
  refine lv_iadd hx hb d_LW_law_601 ?_
  refine lw_sld F hI hX hbl (lw_in (c := 1) hk hL (by omega)) d_LW_law_602 ?_
  refine lv_aload_n hx hb d_LW_law_603 rfl (lv_at hl 1 rfl) ?_
  refine lv_iload_n hx hb d_LW_law_604 rfl (lv_at hl 0 rfl) ?_
  refine lv_iconst (v := 2) hx hb d_LW_law_605 (by decide) ?_
  refine lv_iadd hx hb d_LW_law_606 ?_
  refine lw_sld F hI hX hbl (lw_in (c := 2) hk hL (by omega)) d_LW_law_607 ?_
  refine lv_aload_n hx hb d_LW_law_608 rfl (lv_at hl 1 rfl) ?_
  refine lv_iload_n hx hb d_LW_law_609 rfl (lv_at hl 0 rfl) ?_
  refine lv_iconst (v := 3) hx hb d_LW_law_610 (by decide) ?_
  refine lv_iadd hx hb d_LW_law_611 ?_
  refine lw_sld F hI hX hbl (lw_in (c := 3) hk hL (by omega)) d_LW_law_612 ?_
  refine lw_TI3 F hI (c_TH_serialIn l D cI cZ ad _ _ _ _ okT) wk_LW_68 rfl ⟨Nat.le_of_ble_eq_true rfl, Nat.le_of_ble_eq_true rfl⟩ hl.1 (Nat.le_of_ble_eq_true rfl) ⟨Nat.le_of_ble_eq_true rfl, Nat.le_of_ble_eq_true rfl⟩ d_LW_law_613 (fun H locs hI => ?_)
  refine lv_aload_n hx hb d_LW_law_616 rfl (lv_at hl 3 rfl) ?_
  refine lv_aload_n hx hb d_LW_law_617 rfl (lv_at hl 1 rfl) ?_
  refine lv_iload_n hx hb d_LW_law_618 rfl (lv_at hl 0 rfl) ?_
  refine lv_iconst (v := 1) hx hb d_LW_law_619 (by decide) ?_
  refine lv_iadd hx hb d_LW_law_620 ?_
  refine lw_sld F hI hX hbl (lw_in (c := 1) hk hL (by omega)) d_LW_law_621 ?_
  refine lv_aload_n hx hb d_LW_law_622 rfl (lv_at hl 1 rfl) ?_
  refine lv_iload_n hx hb d_LW_law_623 rfl (lv_at hl 0 rfl) ?_
  refine lv_iconst (v := 2) hx hb d_LW_law_624 (by decide) ?_
  refine lv_iadd hx hb d_LW_law_625 ?_
  refine lw_sld F hI hX hbl (lw_in (c := 2) hk hL (by omega)) d_LW_law_626 ?_
  refine lv_aload_n hx hb d_LW_law_627 rfl (lv_at hl 1 rfl) ?_
  refine lv_iload_n hx hb d_LW_law_628 rfl (lv_at hl 0 rfl) ?_
  refine lv_iconst (v := 3) hx hb d_LW_law_629 (by decide) ?_
  refine lv_iadd hx hb d_LW_law_630 ?_
  refine lw_sld F hI hX hbl (lw_in (c := 3) hk hL (by omega)) d_LW_law_631 ?_
  refine lw_MI3 F hI (c_MD_serialIn l D cI cZ bd _ _ _ _ okM) wk_LW_71 rfl ⟨Nat.le_of_ble_eq_true rfl, Nat.le_of_ble_eq_true rfl⟩ hl.1 (Nat.le_of_ble_eq_true rfl) ⟨Nat.le_of_ble_eq_true rfl, Nat.le_of_ble_eq_true rfl⟩ d_LW_law_632 (fun H locs hI => ?_)
  refine lv_icmp_eq (tgt := 733) hx hb d_LW_law_635 (by decide) (fun c_635 => ?_) (fun c_635 => ?_)
  · exact K _ _ H locs (r_serialIn hR _ _ _).2 hI
  · exact absurd (r_serialIn hR _ _ _).1 c_635
set_option maxHeartbeats 4000000 in
set_option maxRecDepth 100000 in
theorem lw_c12 {p : Program} {l : Launch} {e : Env} {s : State} {m : MethodId} {below : List Frame} {meth : Method} {c : Code} {D : va_G} {cI cZ : ClassId} {b L k : Nat} {xs : Nat → Int32} {ad bd : Nat → Nat} {u : TS} {v : MS} {H : Heap} {locs : List Loc} {ls : Array Slot} {Q : State → Prop} (hL : L ≤ 2561) (F : CallFix p m c code 4 s #[Value.ref b] lw_tb R_LW) (hX : va_X b L xs s s.heap) (hbl : b < s.heap.size) (hk : 1 + 5 * k + 5 ≤ L) (hR : rI k u v)
    (hI : cw_I D cI cZ (fun q => s.heap.size ≤ q) s.heap s (th_W cI cZ ad u ++ md_W cI cZ bd v) H locs) (hl : lv_has ls 4 [(3, .int (nI (1 + 5 * k))), (0, .ref b), (1, .ref (ad 0)), (2, .ref (bd 0))])
    (K : ∀ (u' : TS) (v' : MS) (H : Heap) (locs : List Loc), rI (k + 1) u' v' → cw_I D cI cZ (fun q => s.heap.size ≤ q) s.heap s (th_W cI cZ ad u' ++ md_W cI cZ bd v') H locs → W p l e room_1 s m #[Value.ref b] below meth c H locs 15 2184 Q (F0 m 733 ls [])) :
    W p l e room_1 s m #[Value.ref b] below meth c H locs 15 2184 Q (F0 m 640 ls []) := by
  obtain ⟨hx, hb, hml, hown, hts⟩ := id F
  have okT := (r_ok hR).1
  have okM := (r_ok hR).2
  have hk5 : k < 512 := by omega
  refine lv_aload_n hx hb d_LW_law_640 rfl (lv_at hl 2 rfl) ?_
  refine lv_aload_n hx hb d_LW_law_641 rfl (lv_at hl 1 rfl) ?_
  refine lv_iload_n hx hb d_LW_law_642 rfl (lv_at hl 0 rfl) ?_
  refine lv_iconst (v := 1) hx hb d_LW_law_643 (by decide) ?_
  refine lv_iadd hx hb d_LW_law_644 ?_
  refine lw_sld F hI hX hbl (lw_in (c := 1) hk hL (by omega)) d_LW_law_645 ?_
  refine lw_TI1 F hI (c_TH_serialOf l D cI cZ ad _ _ okT) wk_LW_72 rfl ⟨Nat.le_of_ble_eq_true rfl, Nat.le_of_ble_eq_true rfl⟩ hl.1 (Nat.le_of_ble_eq_true rfl) ⟨Nat.le_of_ble_eq_true rfl, Nat.le_of_ble_eq_true rfl⟩ d_LW_law_646 (fun H locs hI => ?_)
  refine lv_aload_n hx hb d_LW_law_649 rfl (lv_at hl 3 rfl) ?_
  refine lv_aload_n hx hb d_LW_law_650 rfl (lv_at hl 1 rfl) ?_
  refine lv_iload_n hx hb d_LW_law_651 rfl (lv_at hl 0 rfl) ?_
  refine lv_iconst (v := 1) hx hb d_LW_law_652 (by decide) ?_
  refine lv_iadd hx hb d_LW_law_653 ?_
  refine lw_sld F hI hX hbl (lw_in (c := 1) hk hL (by omega)) d_LW_law_654 ?_
  refine lw_MI1 F hI (c_MD_serialOf l D cI cZ bd _ _ okM) wk_LW_76 rfl ⟨Nat.le_of_ble_eq_true rfl, Nat.le_of_ble_eq_true rfl⟩ hl.1 (Nat.le_of_ble_eq_true rfl) ⟨Nat.le_of_ble_eq_true rfl, Nat.le_of_ble_eq_true rfl⟩ d_LW_law_655 (fun H locs hI => ?_)
  refine lv_icmp_eq (tgt := 733) hx hb d_LW_law_658 (by decide) (fun c_658 => ?_) (fun c_658 => ?_)
  · exact K _ _ H locs (r_serialOf hR _).2 hI
  · exact absurd (r_serialOf hR _).1 c_658
set_option maxHeartbeats 4000000 in
set_option maxRecDepth 100000 in
theorem lw_c13 {p : Program} {l : Launch} {e : Env} {s : State} {m : MethodId} {below : List Frame} {meth : Method} {c : Code} {D : va_G} {cI cZ : ClassId} {b L k : Nat} {xs : Nat → Int32} {ad bd : Nat → Nat} {u : TS} {v : MS} {H : Heap} {locs : List Loc} {ls : Array Slot} {Q : State → Prop} (hL : L ≤ 2561) (F : CallFix p m c code 4 s #[Value.ref b] lw_tb R_LW) (hX : va_X b L xs s s.heap) (hbl : b < s.heap.size) (hk : 1 + 5 * k + 5 ≤ L) (hR : rI k u v)
    (hI : cw_I D cI cZ (fun q => s.heap.size ≤ q) s.heap s (th_W cI cZ ad u ++ md_W cI cZ bd v) H locs) (hl : lv_has ls 4 [(3, .int (nI (1 + 5 * k))), (0, .ref b), (1, .ref (ad 0)), (2, .ref (bd 0))])
    (K : ∀ (u' : TS) (v' : MS) (H : Heap) (locs : List Loc), rI (k + 1) u' v' → cw_I D cI cZ (fun q => s.heap.size ≤ q) s.heap s (th_W cI cZ ad u' ++ md_W cI cZ bd v') H locs → W p l e room_1 s m #[Value.ref b] below meth c H locs 15 2184 Q (F0 m 733 ls [])) :
    W p l e room_1 s m #[Value.ref b] below meth c H locs 15 2184 Q (F0 m 663 ls []) := by
  obtain ⟨hx, hb, hml, hown, hts⟩ := id F
  have okT := (r_ok hR).1
  have okM := (r_ok hR).2
  have hk5 : k < 512 := by omega
  refine lv_aload_n hx hb d_LW_law_663 rfl (lv_at hl 2 rfl) ?_
  refine lw_TI0 F hI (c_TH_made l D cI cZ ad _) wk_LW_77 rfl ⟨Nat.le_of_ble_eq_true rfl, Nat.le_of_ble_eq_true rfl⟩ hl.1 (Nat.le_of_ble_eq_true rfl) ⟨Nat.le_of_ble_eq_true rfl, Nat.le_of_ble_eq_true rfl⟩ d_LW_law_664 (fun H locs hI => ?_)
  refine lv_aload_n hx hb d_LW_law_667 rfl (lv_at hl 3 rfl) ?_
  refine lw_MI0 F hI (c_MD_made l D cI cZ bd _) wk_LW_81 rfl ⟨Nat.le_of_ble_eq_true rfl, Nat.le_of_ble_eq_true rfl⟩ hl.1 (Nat.le_of_ble_eq_true rfl) ⟨Nat.le_of_ble_eq_true rfl, Nat.le_of_ble_eq_true rfl⟩ d_LW_law_668 (fun H locs hI => ?_)
  refine lv_icmp_eq (tgt := 733) hx hb d_LW_law_671 (by decide) (fun c_671 => ?_) (fun c_671 => ?_)
  · exact K _ _ H locs (rI_up hR) hI
  · exact absurd (r_made hR) c_671
set_option maxHeartbeats 4000000 in
set_option maxRecDepth 100000 in
theorem lw_c14 {p : Program} {l : Launch} {e : Env} {s : State} {m : MethodId} {below : List Frame} {meth : Method} {c : Code} {D : va_G} {cI cZ : ClassId} {b L k : Nat} {xs : Nat → Int32} {ad bd : Nat → Nat} {u : TS} {v : MS} {H : Heap} {locs : List Loc} {ls : Array Slot} {Q : State → Prop} (hL : L ≤ 2561) (F : CallFix p m c code 4 s #[Value.ref b] lw_tb R_LW) (hX : va_X b L xs s s.heap) (hbl : b < s.heap.size) (hk : 1 + 5 * k + 5 ≤ L) (hR : rI k u v)
    (hI : cw_I D cI cZ (fun q => s.heap.size ≤ q) s.heap s (th_W cI cZ ad u ++ md_W cI cZ bd v) H locs) (hl : lv_has ls 4 [(3, .int (nI (1 + 5 * k))), (0, .ref b), (1, .ref (ad 0)), (2, .ref (bd 0))])
    (K : ∀ (u' : TS) (v' : MS) (H : Heap) (locs : List Loc), rI (k + 1) u' v' → cw_I D cI cZ (fun q => s.heap.size ≤ q) s.heap s (th_W cI cZ ad u' ++ md_W cI cZ bd v') H locs → W p l e room_1 s m #[Value.ref b] below meth c H locs 15 2184 Q (F0 m 733 ls [])) :
    W p l e room_1 s m #[Value.ref b] below meth c H locs 15 2184 Q (F0 m 676 ls []) := by
  obtain ⟨hx, hb, hml, hown, hts⟩ := id F
  have okT := (r_ok hR).1
  have okM := (r_ok hR).2
  have hk5 : k < 512 := by omega
  refine lv_aload_n hx hb d_LW_law_676 rfl (lv_at hl 2 rfl) ?_
  refine lw_TI0 F hI (c_TH_live l D cI cZ ad _ okT) wk_LW_82 rfl ⟨Nat.le_of_ble_eq_true rfl, Nat.le_of_ble_eq_true rfl⟩ hl.1 (Nat.le_of_ble_eq_true rfl) ⟨Nat.le_of_ble_eq_true rfl, Nat.le_of_ble_eq_true rfl⟩ d_LW_law_677 (fun H locs hI => ?_)
  refine lv_aload_n hx hb d_LW_law_680 rfl (lv_at hl 3 rfl) ?_
  refine lw_MI0 F hI (c_MD_live l D cI cZ bd _ okM) wk_LW_85 rfl ⟨Nat.le_of_ble_eq_true rfl, Nat.le_of_ble_eq_true rfl⟩ hl.1 (Nat.le_of_ble_eq_true rfl) ⟨Nat.le_of_ble_eq_true rfl, Nat.le_of_ble_eq_true rfl⟩ d_LW_law_681 (fun H locs hI => ?_)
  refine lv_icmp_eq (tgt := 733) hx hb d_LW_law_684 (by decide) (fun c_684 => ?_) (fun c_684 => ?_)
  · exact K _ _ H locs (r_live hR hk5).2 hI
  · exact absurd (r_live hR hk5).1 c_684
set_option maxHeartbeats 4000000 in
set_option maxRecDepth 100000 in
theorem lw_c15 {p : Program} {l : Launch} {e : Env} {s : State} {m : MethodId} {below : List Frame} {meth : Method} {c : Code} {D : va_G} {cI cZ : ClassId} {b L k : Nat} {xs : Nat → Int32} {ad bd : Nat → Nat} {u : TS} {v : MS} {H : Heap} {locs : List Loc} {ls : Array Slot} {Q : State → Prop} (hL : L ≤ 2561) (F : CallFix p m c code 4 s #[Value.ref b] lw_tb R_LW) (hX : va_X b L xs s s.heap) (hbl : b < s.heap.size) (hk : 1 + 5 * k + 5 ≤ L) (hR : rI k u v)
    (hI : cw_I D cI cZ (fun q => s.heap.size ≤ q) s.heap s (th_W cI cZ ad u ++ md_W cI cZ bd v) H locs) (hl : lv_has ls 4 [(3, .int (nI (1 + 5 * k))), (0, .ref b), (1, .ref (ad 0)), (2, .ref (bd 0))])
    (K : ∀ (u' : TS) (v' : MS) (H : Heap) (locs : List Loc), rI (k + 1) u' v' → cw_I D cI cZ (fun q => s.heap.size ≤ q) s.heap s (th_W cI cZ ad u' ++ md_W cI cZ bd v') H locs → W p l e room_1 s m #[Value.ref b] below meth c H locs 15 2184 Q (F0 m 733 ls [])) :
    W p l e room_1 s m #[Value.ref b] below meth c H locs 15 2184 Q (F0 m 689 ls []) := by
  obtain ⟨hx, hb, hml, hown, hts⟩ := id F
  have okT := (r_ok hR).1
  have okM := (r_ok hR).2
  have hk5 : k < 512 := by omega
  refine lv_aload_n hx hb d_LW_law_689 rfl (lv_at hl 2 rfl) ?_
  refine lv_aload_n hx hb d_LW_law_690 rfl (lv_at hl 1 rfl) ?_
  refine lv_iload_n hx hb d_LW_law_691 rfl (lv_at hl 0 rfl) ?_
  refine lv_iconst (v := 1) hx hb d_LW_law_692 (by decide) ?_
  refine lv_iadd hx hb d_LW_law_693 ?_
  refine lw_sld F hI hX hbl (lw_in (c := 1) hk hL (by omega)) d_LW_law_694 ?_
  refine lw_TV1 F hI (c_TH_rest l D cI cZ ad _ _ okT) wk_LW_86 rfl ⟨Nat.le_of_ble_eq_true rfl, Nat.le_of_ble_eq_true rfl⟩ hl.1 (Nat.le_of_ble_eq_true rfl) ⟨Nat.le_of_ble_eq_true rfl, Nat.le_of_ble_eq_true rfl⟩ d_LW_law_695 (fun H locs hI => ?_)
  refine lv_aload_n hx hb d_LW_law_698 rfl (lv_at hl 3 rfl) ?_
  refine lv_aload_n hx hb d_LW_law_699 rfl (lv_at hl 1 rfl) ?_
  refine lv_iload_n hx hb d_LW_law_700 rfl (lv_at hl 0 rfl) ?_
  refine lv_iconst (v := 1) hx hb d_LW_law_701 (by decide) ?_
  refine lv_iadd hx hb d_LW_law_702 ?_
  refine lw_sld F hI hX hbl (lw_in (c := 1) hk hL (by omega)) d_LW_law_703 ?_
  refine lw_MV1 F hI (c_MD_rest l D cI cZ bd _ _) wk_LW_89 rfl ⟨Nat.le_of_ble_eq_true rfl, Nat.le_of_ble_eq_true rfl⟩ hl.1 (Nat.le_of_ble_eq_true rfl) ⟨Nat.le_of_ble_eq_true rfl, Nat.le_of_ble_eq_true rfl⟩ d_LW_law_704 (fun H locs hI => ?_)
  refine lv_goto (tgt := 733) hx hb d_LW_law_707 (by decide) ?_
  exact K _ _ H locs (r_rest hR _) hI
set_option maxHeartbeats 4000000 in
set_option maxRecDepth 100000 in
theorem lw_c16 {p : Program} {l : Launch} {e : Env} {s : State} {m : MethodId} {below : List Frame} {meth : Method} {c : Code} {D : va_G} {cI cZ : ClassId} {b L k : Nat} {xs : Nat → Int32} {ad bd : Nat → Nat} {u : TS} {v : MS} {H : Heap} {locs : List Loc} {ls : Array Slot} {Q : State → Prop} (hL : L ≤ 2561) (F : CallFix p m c code 4 s #[Value.ref b] lw_tb R_LW) (hX : va_X b L xs s s.heap) (hbl : b < s.heap.size) (hk : 1 + 5 * k + 5 ≤ L) (hR : rI k u v)
    (hI : cw_I D cI cZ (fun q => s.heap.size ≤ q) s.heap s (th_W cI cZ ad u ++ md_W cI cZ bd v) H locs) (hl : lv_has ls 4 [(3, .int (nI (1 + 5 * k))), (0, .ref b), (1, .ref (ad 0)), (2, .ref (bd 0))])
    (K : ∀ (u' : TS) (v' : MS) (H : Heap) (locs : List Loc), rI (k + 1) u' v' → cw_I D cI cZ (fun q => s.heap.size ≤ q) s.heap s (th_W cI cZ ad u' ++ md_W cI cZ bd v') H locs → W p l e room_1 s m #[Value.ref b] below meth c H locs 15 2184 Q (F0 m 733 ls [])) :
    W p l e room_1 s m #[Value.ref b] below meth c H locs 15 2184 Q (F0 m 710 ls []) := by
  obtain ⟨hx, hb, hml, hown, hts⟩ := id F
  have okT := (r_ok hR).1
  have okM := (r_ok hR).2
  have hk5 : k < 512 := by omega
  refine lv_aload_n hx hb d_LW_law_710 rfl (lv_at hl 2 rfl) ?_
  refine lv_aload_n hx hb d_LW_law_711 rfl (lv_at hl 1 rfl) ?_
  refine lv_iload_n hx hb d_LW_law_712 rfl (lv_at hl 0 rfl) ?_
  refine lv_iconst (v := 1) hx hb d_LW_law_713 (by decide) ?_
  refine lv_iadd hx hb d_LW_law_714 ?_
  refine lw_sld F hI hX hbl (lw_in (c := 1) hk hL (by omega)) d_LW_law_715 ?_
  refine lw_TI1 F hI (c_TH_pause l D cI cZ ad _ _ okT) wk_LW_90 rfl ⟨Nat.le_of_ble_eq_true rfl, Nat.le_of_ble_eq_true rfl⟩ hl.1 (Nat.le_of_ble_eq_true rfl) ⟨Nat.le_of_ble_eq_true rfl, Nat.le_of_ble_eq_true rfl⟩ d_LW_law_716 (fun H locs hI => ?_)
  refine lv_aload_n hx hb d_LW_law_719 rfl (lv_at hl 3 rfl) ?_
  refine lv_aload_n hx hb d_LW_law_720 rfl (lv_at hl 1 rfl) ?_
  refine lv_iload_n hx hb d_LW_law_721 rfl (lv_at hl 0 rfl) ?_
  refine lv_iconst (v := 1) hx hb d_LW_law_722 (by decide) ?_
  refine lv_iadd hx hb d_LW_law_723 ?_
  refine lw_sld F hI hX hbl (lw_in (c := 1) hk hL (by omega)) d_LW_law_724 ?_
  refine lw_MI1 F hI (c_MD_pause l D cI cZ bd _ _) wk_LW_93 rfl ⟨Nat.le_of_ble_eq_true rfl, Nat.le_of_ble_eq_true rfl⟩ hl.1 (Nat.le_of_ble_eq_true rfl) ⟨Nat.le_of_ble_eq_true rfl, Nat.le_of_ble_eq_true rfl⟩ d_LW_law_725 (fun H locs hI => ?_)
  refine lv_icmp_eq (tgt := 733) hx hb d_LW_law_728 (by decide) (fun c_728 => ?_) (fun c_728 => ?_)
  · exact K _ _ H locs (r_pause hR _).2 hI
  · exact absurd (r_pause hR _).1 c_728
end
section
-- the law's loop and its start, printed by law.py
set_option maxHeartbeats 4000000 in
set_option maxRecDepth 100000 in
theorem law_loop {p : Program} {l : Launch} {e : Env} {s : State} {m : MethodId} {below : List Frame} {meth : Method} {c : Code} {D : va_G} {cI cZ : ClassId} {b L : Nat} {xs : Nat → Int32} {ad bd : Nat → Nat} (hL : L ≤ 2561) (F : CallFix p m c code 4 s #[Value.ref b] lw_tb R_LW) (hr : meth.sig.returnType = ret) (hlocks : meth.locks = false) (hX : va_X b L xs s s.heap) (hbl : b < s.heap.size) :
    ∀ (n k : Nat) (u : TS) (v : MS) (H : Heap) (locs : List Loc) (ls : Array Slot), k ≤ 512 → 513 ≤ k + n → rI k u v → cw_I D cI cZ (fun q => s.heap.size ≤ q) s.heap s (th_W cI cZ ad u ++ md_W cI cZ bd v) H locs → lv_has ls 4 [(3, .int (nI (1 + 5 * k))), (0, .ref b), (1, .ref (ad 0)), (2, .ref (bd 0))] → W p l e room_1 s m #[Value.ref b] below meth c H locs 15 2184 (lw_Z below #[Value.ref b] s) (F0 m 28 ls []) := by
  obtain ⟨hx, hb, hml, hown, hts⟩ := id F
  intro n
  induction n with
  | zero =>
    intro k u v H locs ls h1 h2
    exact absurd h2 (by omega)
  | succ n ih =>
    intro k u v H locs ls hk hkn hR hI hl
    have hS := hI.2.2.2.1
    have hbA : ¬ (fun q : Nat => s.heap.size ≤ q) b := Nat.not_le.mpr hbl
    refine lv_iload_n hx hb d_LW_law_28 rfl (lv_at hl 0 rfl) ?_
    refine lv_aload_n hx hb d_LW_law_29 rfl (lv_at hl 1 rfl) ?_
    refine va_slen hx hb hX hbl hbA hS d_LW_law_30 ?_
    refine lv_iconst (v := 5) hx hb d_LW_law_31 (by decide) ?_
    refine lv_isub hx hb d_LW_law_32 ?_
    refine lv_icmp_gt (tgt := 739) hx hb d_LW_law_33 (by decide) (fun c_33 => ?_) (fun c_33 => ?_)
    · refine lv_iconst (v := 1) hx hb d_LW_law_739 (by decide) ?_
      refine va_forget (fun q hq => hS.2.2 q hq) ?_
      exact lw_ret hx hb hr hlocks d_LW_law_740
    · have hk5 : 1 + 5 * k + 5 ≤ L := Decidable.not_not.mp (fun q => c_33 ((lw_exit hk hL).mpr q))
      have K : ∀ (u' : TS) (v' : MS) (H : Heap) (locs : List Loc), rI (k + 1) u' v' → cw_I D cI cZ (fun q => s.heap.size ≤ q) s.heap s (th_W cI cZ ad u' ++ md_W cI cZ bd v') H locs → W p l e room_1 s m #[Value.ref b] below meth c H locs 15 2184 (lw_Z below #[Value.ref b] s) (F0 m 733 ls []) := by
        intro u' v' H locs hR hI
        refine lv_iinc (v := nI (1 + 5 * (k + 1))) (lv' := [(3, .int (nI (1 + 5 * (k + 1)))), (0, .ref b), (1, .ref (ad 0)), (2, .ref (bd 0))]) hx hb d_LW_law_733 hl (k := 0) rfl (show nI (1 + 5 * k) + nI 5 = _ by rw [nI_add]; congr 1) (by decide) rfl (fun ls hl => ?_)
        refine lv_goto (tgt := 28) hx hb d_LW_law_736 (by decide) ?_
        exact ih (k + 1) u' v' H locs ls (by omega) (by omega) hR hI hl
      refine lv_aload_n hx hb d_LW_law_36 rfl (lv_at hl 1 rfl) ?_
      refine lv_iload_n hx hb d_LW_law_37 rfl (lv_at hl 0 rfl) ?_
      refine lw_sld F hI hX hbl (lw_in0 hk5 hL) d_LW_law_38 ?_
      refine lv_bipush (v := 31) hx hb d_LW_law_39 (by decide) ?_
      refine lv_iand hx hb d_LW_law_41 ?_
      refine lv_topi (fun z ez => ?_)
      obtain ⟨j, hj, ej⟩ := pk_andE (xs (nI (1 + 5 * k)).toNatClampNeg) (m := 31) 5 (by decide)
      rw [ej] at ez
      subst ez
      rcases (show j = 0 ∨ j = 1 ∨ j = 2 ∨ j = 3 ∨ j = 4 ∨ j = 5 ∨ j = 6 ∨ j = 7 ∨ j = 8 ∨ j = 9 ∨ j = 10 ∨ j = 11 ∨ j = 12 ∨ j = 13 ∨ j = 14 ∨ j = 15 ∨ j = 16 ∨ 17 ≤ j by omega) with rfl | rfl | rfl | rfl | rfl | rfl | rfl | rfl | rfl | rfl | rfl | rfl | rfl | rfl | rfl | rfl | rfl | h17
      · refine lv_tableIn (off := 82) (tgt := 124) hx hb d_LW_law_42 (by decide) (by decide) (by decide) (by decide) ?_
        exact lw_c0 hL F hX hbl hk5 hR hI hl K
      · refine lv_tableIn (off := 125) (tgt := 167) hx hb d_LW_law_42 (by decide) (by decide) (by decide) (by decide) ?_
        exact lw_c1 hL F hX hbl hk5 hR hI hl K
      · refine lv_tableIn (off := 168) (tgt := 210) hx hb d_LW_law_42 (by decide) (by decide) (by decide) (by decide) ?_
        exact lw_c2 hL F hX hbl hk5 hR hI hl K
      · refine lv_tableIn (off := 201) (tgt := 243) hx hb d_LW_law_42 (by decide) (by decide) (by decide) (by decide) ?_
        exact lw_c3 hL F hX hbl hk5 hR hI hl K
      · refine lv_tableIn (off := 254) (tgt := 296) hx hb d_LW_law_42 (by decide) (by decide) (by decide) (by decide) ?_
        exact lw_c4 hL F hX hbl hk5 hR hI hl K
      · refine lv_tableIn (off := 307) (tgt := 349) hx hb d_LW_law_42 (by decide) (by decide) (by decide) (by decide) ?_
        exact lw_c5 hL F hX hbl hk5 hR hI hl K
      · refine lv_tableIn (off := 350) (tgt := 392) hx hb d_LW_law_42 (by decide) (by decide) (by decide) (by decide) ?_
        exact lw_c6 hL F hX hbl hk5 hR hI hl K
      · refine lv_tableIn (off := 393) (tgt := 435) hx hb d_LW_law_42 (by decide) (by decide) (by decide) (by decide) ?_
        exact lw_c7 hL F hX hbl hk5 hR hI hl K
      · refine lv_tableIn (off := 446) (tgt := 488) hx hb d_LW_law_42 (by decide) (by decide) (by decide) (by decide) ?_
        exact lw_c8 hL F hX hbl hk5 hR hI hl K
      · refine lv_tableIn (off := 489) (tgt := 531) hx hb d_LW_law_42 (by decide) (by decide) (by decide) (by decide) ?_
        exact lw_c9 hL F hX hbl hk5 hR hI hl K
      · refine lv_tableIn (off := 522) (tgt := 564) hx hb d_LW_law_42 (by decide) (by decide) (by decide) (by decide) ?_
        exact lw_c10 hL F hX hbl hk5 hR hI hl K
      · refine lv_tableIn (off := 555) (tgt := 597) hx hb d_LW_law_42 (by decide) (by decide) (by decide) (by decide) ?_
        exact lw_c11 hL F hX hbl hk5 hR hI hl K
      · refine lv_tableIn (off := 598) (tgt := 640) hx hb d_LW_law_42 (by decide) (by decide) (by decide) (by decide) ?_
        exact lw_c12 hL F hX hbl hk5 hR hI hl K
      · refine lv_tableIn (off := 621) (tgt := 663) hx hb d_LW_law_42 (by decide) (by decide) (by decide) (by decide) ?_
        exact lw_c13 hL F hX hbl hk5 hR hI hl K
      · refine lv_tableIn (off := 634) (tgt := 676) hx hb d_LW_law_42 (by decide) (by decide) (by decide) (by decide) ?_
        exact lw_c14 hL F hX hbl hk5 hR hI hl K
      · refine lv_tableIn (off := 647) (tgt := 689) hx hb d_LW_law_42 (by decide) (by decide) (by decide) (by decide) ?_
        exact lw_c15 hL F hX hbl hk5 hR hI hl K
      · refine lv_tableIn (off := 668) (tgt := 710) hx hb d_LW_law_42 (by decide) (by decide) (by decide) (by decide) ?_
        exact lw_c16 hL F hX hbl hk5 hR hI hl K
      · have hj31 : (nI j).toInt = (j : Int) := nI_toInt (by omega)
        refine lv_tableOut (tgt := 733) hx hb d_LW_law_42 (Or.inr (by rw [hj31]; omega)) (by decide) ?_
        exact K u v H locs (rI_up hR) hI
set_option maxHeartbeats 4000000 in
set_option maxRecDepth 100000 in
/-- THE LAW, from its entry -/
theorem whole_start {p : Program} {e : Env} {s : State} {m : MethodId} {below : List Frame} {meth : Method} {c : Code} (l : Launch) {b L : Nat} {xs : Nat → Int32} (hL : L ≤ 2561) (C0 : lw_At p s m meth c b L xs) : W p l e room_1 s m #[Value.ref b] below meth c s.heap [] 0 0 (lw_Z below #[Value.ref b] s) (entryFrame m ([Value.ref b] : List Value).toArray 4) := by
  obtain ⟨hx, hb, hr, hml, hown, hts0, hX, hbl, hlocks, hgv⟩ := id C0
  have hts : ∀ w ∈ lw_tb, w.before #[Value.ref b] s = true := fun w hw => hts0 w (List.mem_filter.mp hw).1
  have F : CallFix p m c code 4 s #[Value.ref b] lw_tb R_LW := ⟨hx, hb, hml, hown, hts⟩
  obtain ⟨c0, iS0, hKn0⟩ := u_known (C := R_TH) (T := F_TH) (N := 14) (n := 14) hts i_TH (hts _ kx_TH)
  obtain ⟨c1, iS1, hKn1⟩ := u_known (C := R_MD) (T := F_MD) (N := 7) (n := 7) hts i_MD (hts _ kx_MD)
  obtain ⟨cI, kI, coI, hcI1, hcI2, hcI3⟩ := Cond.arrayClass_spec (hts _ ka_int)
  obtain ⟨cZ, kZ, coZ, hcZ1, hcZ2, hcZ3⟩ := Cond.arrayClass_spec (hts _ ka_boolean)
  obtain ⟨D, hKc⟩ : ∃ (D : va_G), ∀ (k : Nat) (q : vw_C), classes[k]? = some q → u_Kn s q.1 q.2.1 q.2.2 (D.1 k) (D.2 k) := by
    refine ⟨(fun k => if k = 0 then c0 else c1, fun k => if k = 0 then iS0 else iS1), ?_⟩
    intro k q hq
    match k, hq with
    | 0, hq => cases hq; exact hKn0
    | 1, hq => cases hq; exact hKn1
    | k + 2, hq => simp [classes] at hq
  have hK : va_K D classes (cw_tys cI cZ) s := by
    refine ⟨hKc, fun k q h => ?_⟩
    match k, h with
    | 0, h => cases h; exact ⟨fun n z => ⟨fun k h => (by cases h), kI, hcI2, coI, hcI3⟩, hcI1⟩
    | 1, h => cases h; exact ⟨fun n z => ⟨fun k h => (by cases h), kZ, hcZ2, coZ, hcZ3⟩, hcZ1⟩
    | k + 2, h => simp [cw_tys] at h
  have hI : cw_I D cI cZ (fun q => s.heap.size ≤ q) s.heap s [] s.heap [] := ⟨hK, fun k q h => by simp at h, ⟨fun i j p q h => by simp at h, fun k q h => by simp at h⟩, va_S.rf, fun _ h => h⟩
  have hl := lv_entry ([.ref b]) (n := 4) (Nat.le_of_ble_eq_true rfl)
  rw [lg_entry_eq]
  generalize (lg_sl ([.ref b]) ++ List.replicate (4 - (lg_sl ([.ref b])).length) Slot.unset).toArray = ls at hl ⊢
  have hl : lv_has ls 4 [(0, .ref b)] := hl
  refine va_new (D := D) (cl := classes) (tys := cw_tys cI cZ) (ci := 0) (fs := [.int 0, .null, .null, .null, .null, .null, .null, .null, .null, .int 0, .int 0, .int 0, .int 0, .int 0]) (C := R_TH) (T := F_TH) (N := 14) hx hb hts i_TH t_TH t_TH_ok hown (hts _ kk_LW_7) (hts _ kx_TH) (hts _ kn_TH) hI.1 hI.2.1 hI.2.2.1 hI.2.2.2.1 hI.2.2.2.2 rfl (fun j hj => by rcases (show j = 0 ∨ j = 1 ∨ j = 2 ∨ j = 3 ∨ j = 4 ∨ j = 5 ∨ j = 6 ∨ j = 7 ∨ j = 8 ∨ j = 9 ∨ j = 10 ∨ j = 11 ∨ j = 12 ∨ j = 13 by omega) with rfl | rfl | rfl | rfl | rfl | rfl | rfl | rfl | rfl | rfl | rfl | rfl | rfl | rfl <;> rfl) (Nat.le_of_ble_eq_true rfl) (Nat.le_of_ble_eq_true rfl) d_LW_law_0 (fun q0 H hP hD hS => ?_)
  have hI : cw_I D cI cZ (fun q => s.heap.size ≤ q) s.heap s [(q0, .inr (0, [.int 0, .null, .null, .null, .null, .null, .null, .null, .null, .int 0, .int 0, .int 0, .int 0, .int 0]))] H [] := ⟨hK, hP, hD, hS, fun _ h => h⟩
  refine lv_dup hx hb d_LW_law_3 rfl ?_
  refine lv_aload_n hx hb d_LW_law_4 rfl (lv_at hl 0 rfl) ?_
  refine lv_iconst (v := 0) hx hb d_LW_law_5 (by decide) ?_
  refine lw_cellc F hI hL hX hbl ⟨Nat.le_of_ble_eq_true rfl, Nat.le_of_ble_eq_true rfl⟩ hl.1 (Nat.le_of_ble_eq_true rfl) ⟨Nat.le_of_ble_eq_true rfl, Nat.le_of_ble_eq_true rfl⟩ d_LW_law_6 (fun H locs hI => ?_)
  refine ct_C.call (As := [.int (lw_cell L xs)]) (wr := []) [0] [] F hI (c_TH_init l D cI cZ q0 (lw_cell L xs)) rfl rfl rfl rfl (fun _ h => absurd h List.not_mem_nil) kl_LW_15 ki_TH_init kn_TH kc_TH_init rfl ⟨by decide +kernel, by decide +kernel, show (parseMethodDescriptor y_TH_init.desc).map (fun d => d.parameters.length) = some 1 by decide +kernel⟩ rfl rfl ⟨Nat.le_of_ble_eq_true rfl, Nat.le_of_ble_eq_true rfl⟩ hl.1 (Nat.le_of_ble_eq_true rfl) ⟨Nat.le_of_ble_eq_true rfl, Nat.le_of_ble_eq_true rfl⟩ d_LW_law_9 (fun ad H2 locs2 hp hI2 => ?_)
  subst hp
  refine W.widen (k := 9) (n := 111) (Nat.le_of_ble_eq_true rfl) (Nat.le_of_ble_eq_true rfl) ?_
  refine lv_astore_n (lv' := [(1, .ref (ad 0)), (0, .ref b)]) hx hb d_LW_law_12 rfl hl (by decide) rfl (fun ls hl => ?_)
  refine va_new (D := D) (cl := classes) (tys := cw_tys cI cZ) (ci := 1) (fs := [.null, .null, .null, .null, .null, .int 0, .int 0]) (C := R_MD) (T := F_MD) (N := 7) hx hb hts i_MD t_MD t_MD_ok hown (hts _ kk_LW_18) (hts _ kx_MD) (hts _ kn_MD) hI2.1 hI2.2.1 hI2.2.2.1 hI2.2.2.2.1 hI2.2.2.2.2 rfl (fun j hj => by rcases (show j = 0 ∨ j = 1 ∨ j = 2 ∨ j = 3 ∨ j = 4 ∨ j = 5 ∨ j = 6 by omega) with rfl | rfl | rfl | rfl | rfl | rfl | rfl <;> rfl) (Nat.le_of_ble_eq_true rfl) (Nat.le_of_ble_eq_true rfl) d_LW_law_13 (fun q1 H3 hP3 hD3 hS3 => ?_)
  have hI : cw_I D cI cZ (fun q => s.heap.size ≤ q) s.heap s (th_W cI cZ ad (th_start (lw_cell L xs)) ++ [(q1, .inr (1, [.null, .null, .null, .null, .null, .int 0, .int 0]))]) H3 locs2 := ⟨hK, hP3, hD3, hS3, fun _ h => h⟩
  refine lv_dup hx hb d_LW_law_16 rfl ?_
  refine lv_aload_n hx hb d_LW_law_17 rfl (lv_at hl 1 rfl) ?_
  refine lv_iconst (v := 0) hx hb d_LW_law_18 (by decide) ?_
  refine lw_cellc F hI hL hX hbl ⟨Nat.le_of_ble_eq_true rfl, Nat.le_of_ble_eq_true rfl⟩ hl.1 (Nat.le_of_ble_eq_true rfl) ⟨Nat.le_of_ble_eq_true rfl, Nat.le_of_ble_eq_true rfl⟩ d_LW_law_19 (fun H4 locs4 hI4 => ?_)
  refine ct_C.call (As := [.int (lw_cell L xs)]) (wr := th_W cI cZ ad (th_start (lw_cell L xs))) [9] [0, 1, 2, 3, 4, 5, 6, 7, 8] F hI4 (c_MD_init l D cI cZ q1 (lw_cell L xs)) rfl rfl rfl rfl (by decide) kl_LW_20 ki_MD_init kn_MD kc_MD_init rfl ⟨by decide +kernel, by decide +kernel, show (parseMethodDescriptor y_MD_init.desc).map (fun d => d.parameters.length) = some 1 by decide +kernel⟩ rfl rfl ⟨Nat.le_of_ble_eq_true rfl, Nat.le_of_ble_eq_true rfl⟩ hl.1 (Nat.le_of_ble_eq_true rfl) ⟨Nat.le_of_ble_eq_true rfl, Nat.le_of_ble_eq_true rfl⟩ d_LW_law_22 (fun bd H5 locs5 hp5 hI5 => ?_)
  subst hp5
  refine W.widen (k := 15) (n := 2184) (Nat.le_of_ble_eq_true rfl) (Nat.le_of_ble_eq_true rfl) ?_
  refine lv_astore_n (lv' := [(2, .ref (bd 0)), (1, .ref (ad 0)), (0, .ref b)]) hx hb d_LW_law_25 rfl hl (by decide) rfl (fun ls hl => ?_)
  refine lv_iconst (v := 1) hx hb d_LW_law_26 (by decide) ?_
  refine lv_istore_n (lv' := [(3, .int 1), (2, .ref (bd 0)), (1, .ref (ad 0)), (0, .ref b)]) hx hb d_LW_law_27 rfl hl (by decide) rfl (fun ls hl => ?_)
  exact law_loop hL F hr hlocks hX hbl 513 0 _ _ H5 locs5 ls (by omega) (by omega) (r_start (lw_cell L xs)) hI5 (lv_sub hl [0, 3, 2, 1] rfl)
set_option maxHeartbeats 4000000 in
theorem lw_walk (l : Launch) (b : Addr) (xs : List Int32) : MetFree l x (headSpec (Jvm.Cond.code x code maxLocals ret :: tables_1) room_1) (lw_P b xs) (fun _ _ _ _ _ => True) lw_Q := by
  refine MetFree.of_bodyS (code := code) (maxLocals := maxLocals) (ret := ret) (by decide) ?_ ?_
  · intro args s m h hn
    obtain ⟨meth, c, h1, h2, h3, h4, h5, h6, -, -⟩ := Cond.code_spec hn (atoms_spec (ws := Jvm.Cond.code x code maxLocals ret :: tables_1) h _ List.mem_cons_self)
    exact ⟨meth, c, h1, h2, h3, h4, h5, h6⟩
  · intro p e s m args below meth c s₁ B hml0 hP _
    obtain ⟨rfl, hx, hbd, hgv⟩ := hP
    obtain ⟨scr, harrAt, hlist, hof, hsmall⟩ := hx
    obtain ⟨hcb, hkn, -, -⟩ := State.arrayAt?_spec harrAt
    have hown : s.vm.findClass R_law = some m.cls := findClass_of_methodNamed B.named
    have hts0 : ∀ c ∈ (Jvm.Cond.code x code maxLocals ret :: tables_1), c.before #[Value.ref b] s = true := atoms_spec (ws := Jvm.Cond.code x code maxLocals ret :: tables_1) B.pre
    have hts : ∀ w ∈ lw_tbl, w.before #[Value.ref b] s = true := k2_hts_sels lw_privs (fun w hw => hts0 w (List.mem_cons_of_mem _ hw)) lw_privs_ok
    have hml : c.maxLocals = 4 := B.maxLocals_eq (hts0 _ List.mem_cons_self)
    have X₀ : Stand p l e room_1 s m #[Value.ref b] below meth c s₁ [] 0 0 := Stand.of_body B
    have hh0 : s₁.heap = s.heap := by rw [B.state]; rfl
    have hsz : scr.slots.size = xs.length := by rw [← Array.length_toList, hlist, List.length_map]
    have hval : ∀ j : Nat, j < xs.length → scr.slots[j]? = some (.int (xs.getD j 0)) := fun j hj => by
      rw [← Array.getElem?_toList, hlist]
      simp [hj]
    have hbl : b < s.heap.size := (Array.getElem?_eq_some_iff.mp hcb).1
    have hX : va_X b xs.length (fun j => xs.getD j 0) s s.heap := ⟨scr, hcb, hof, hkn, hsz, hval⟩
    have K : W p l e room_1 s m #[Value.ref b] below meth c s₁.heap [] 0 0 (lw_Z below #[Value.ref b] s) (entryFrame m ([Value.ref b] : List Value).toArray 4) := by
      rw [hh0]
      exact whole_start l hbd ⟨B.exec, B.bytes, B.returns, hml, hown, hts, hX, hbl, B.notSynchronized, hgv⟩
    obtain ⟨t, a1, o, b1, b2, b3⟩ := K s₁ rfl X₀
    exact ⟨t, o, a1, b1, b2, b3⟩
theorem lw_pre_spec {args : Array Value} {s : State} (h : (Jvm.Cond.and given_1 narrow_1).before args s = true) (hr : rest_1_c.before args s = true) : ∃ (b : Addr) (xs : List Int32), lw_P b xs args s := by
  have hs := flat_of_before _ h
  have hq := flat_of_before _ hr
  have hc : (Cond.count 1).before args s = true := hs _ (by decide +kernel)
  have harr : (Cond.arrayOf (.arg 0) .int).before args s = true := hs _ (by decide +kernel)
  have hle : (Cond.le (.length (.arg 0)) (.int 2561)).before args s = true := hs _ (by decide +kernel)
  have hlen : (Cond.isInt (.length (.arg 0))).before args s = true := hq _ (by decide +kernel)
  have hall : (Cond.all (.arg 0) (.isInt (.elem (.arg 0) (.index 0)))).before args s = true := hq _ (by decide +kernel)
  obtain ⟨b, xs, hb, hx⟩ := State.ints_of_pre rfl harr hlen hall
  have hsm : xs.length < 2 ^ 31 := hx.choose_spec.2.2.2
  have hev : (Term.length (.arg 0)).eval args s none [] s = some (.int xs.length.toInt32) := hx.length_eval hb
  have hv := Cond.le_ints hev (show (Term.int 2561).eval args s none [] s = some (.int 2561) from rfl)
  have hd : xs.length.toInt32 ≤ 2561 := by
    simpa [Cond.before, Cond.holds, hv] using hle
  have hN : xs.length ≤ 2561 := (Int32.ofNat_le_ofNat hsm (by decide)).mp (show Int32.ofNat xs.length ≤ Int32.ofNat 2561 from hd)
  exact ⟨b, xs, Cond.one_arg hc (show args[0]? = some (.ref b) from hb), hx, hN, h⟩
theorem lw_comes (l : Launch) : Comes l x (Jvm.Cond.code x code maxLocals ret :: tables_1) room_1 (fun tb e args s => Calls_1 tb e args s ∧ rest_1 tb e args s ∧ Pre_1 tb e args s)
    (fun _ _ args s o t => lw_Q args s o t) := by
  intro p e ha hc hk s m args below hf hfit hheap happ hpre
  obtain ⟨b, xs, hP⟩ := lw_pre_spec hpre.2.2 hpre.2.1
  obtain ⟨k, o, h1, h2, h3, hQ⟩ := lw_walk l b xs p e ha hc hk s m args below hf ((Spec.applies_iff_loose hf).mp happ).1 hP trivial
  exact ⟨k, o, h1, h2, h3, hQ⟩
theorem lw_frame {s t : State} {o : Outcome} {args : Array Value} (h : Framed s o t [] 15 2184) :
    Framed s o t (fieldLocs frame_1_writes args s ++ arrayLocs frame_1_arrays args s ++ staticLocs frame_1_statics s) 15 2184 := h
theorem lw_limb (L : Cond) (hL : ∀ (args : Array Value) (s t : State), L.after args s (.returned (some (.int 1))) t = true) :
    ArmFor flags0 classFile x code maxLocals ret World_1 tables_1 room_1 Calls_1 rest_1 Pre_1
      (fun tb e a s o t => postC L tb e a s o t ∧ Framed s o t (fieldLocs frame_1_writes a s ++ arrayLocs frame_1_arrays a s ++ staticLocs frame_1_statics s) 15 2184) := by
  intro l _ _ _ p e ha hc hk s m args below hf hfit hheap happ hpre
  obtain ⟨k, o, h1, h2, h3, rfl, hF⟩ := lw_comes l p e ha hc hk s m args below hf hfit hheap happ hpre
  exact ⟨k, _, h1, h2, h3, hL args s _, lw_frame hF⟩
theorem i_vc : Claimed_1_1 ∧ Claimed_1_2 := ⟨lw_limb limb_1_1 (fun args s t => by simp [limb_1_1, Cond.after, Cond.holds, Cond.value]), lw_limb limb_1_2 (fun args s t => Cond.after_iff.mpr (by
  first | (rw [show limb_1_2 = Cond.eq .result (.int 1) from rfl, Cond.eq_ints (x := 1) (y := 1) rfl rfl]; simp; done) | (simp [limb_1_2, Cond.value, Term.eval]; done)))⟩
end
