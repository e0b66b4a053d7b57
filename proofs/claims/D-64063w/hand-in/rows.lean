section
-- ===== PART A: goes FIRST, ahead of the names: the tables' words, and 'selects' of the private methods out of them =====
/-- a private method of a class that the tables say can be made, by its rows of tables_1 -/
def lw_okq (q : MethodName × Nat) : Prop := (q.1.cls ≠ "java/lang/invoke/MethodHandle" ∧ q.1.cls ≠ "java/lang/invoke/VarHandle") ∧ Cond.instantiable q.1.cls q.2 ∈ tables_1 ∧ Cond.privateMethod q.1 ∈ tables_1 ∧ Cond.instanceMethod q.1 ∈ tables_1
theorem lw_p0 : lw_okq (⟨"BranchPacker$Grove", "start", "()V"⟩, 7) := ⟨⟨by decide +kernel, by decide +kernel⟩, List.mem_of_getElem? (i := 46) (by decide +kernel), List.mem_of_getElem? (i := 195) (by decide +kernel), List.mem_of_getElem? (i := 196) (by decide +kernel)⟩
theorem lw_p1 : lw_okq (⟨"BranchPacker$Grove", "can", "(I)Z"⟩, 7) := ⟨⟨by decide +kernel, by decide +kernel⟩, List.mem_of_getElem? (i := 46) (by decide +kernel), List.mem_of_getElem? (i := 199) (by decide +kernel), List.mem_of_getElem? (i := 200) (by decide +kernel)⟩
theorem lw_p2 : lw_okq (⟨"BranchPacker$Ways", "one", "(III)V"⟩, 9) := ⟨⟨by decide +kernel, by decide +kernel⟩, List.mem_of_getElem? (i := 52) (by decide +kernel), List.mem_of_getElem? (i := 211) (by decide +kernel), List.mem_of_getElem? (i := 212) (by decide +kernel)⟩
theorem lw_p3 : lw_okq (⟨"BranchPacker$Ways", "find", "(II)Z"⟩, 9) := ⟨⟨by decide +kernel, by decide +kernel⟩, List.mem_of_getElem? (i := 52) (by decide +kernel), List.mem_of_getElem? (i := 222) (by decide +kernel), List.mem_of_getElem? (i := 223) (by decide +kernel)⟩
theorem lw_p4 : lw_okq (⟨"BranchPacker", "hasPacking", "()Z"⟩, 3) := ⟨⟨by decide +kernel, by decide +kernel⟩, List.mem_of_getElem? (i := 10) (by decide +kernel), List.mem_of_getElem? (i := 249) (by decide +kernel), List.mem_of_getElem? (i := 250) (by decide +kernel)⟩
theorem lw_p5 : lw_okq (⟨"BranchPacker$Grove", "step", "(I)V"⟩, 7) := ⟨⟨by decide +kernel, by decide +kernel⟩, List.mem_of_getElem? (i := 46) (by decide +kernel), List.mem_of_getElem? (i := 258) (by decide +kernel), List.mem_of_getElem? (i := 259) (by decide +kernel)⟩
theorem lw_p6 : lw_okq (⟨"BranchPackerModel", "isArc", "(I)Z"⟩, 12) := ⟨⟨by decide +kernel, by decide +kernel⟩, List.mem_of_getElem? (i := 281) (by decide +kernel), List.mem_of_getElem? (i := 336) (by decide +kernel), List.mem_of_getElem? (i := 337) (by decide +kernel)⟩
theorem lw_p7 : lw_okq (⟨"BranchPackerModel", "remove", "(I)V"⟩, 12) := ⟨⟨by decide +kernel, by decide +kernel⟩, List.mem_of_getElem? (i := 281) (by decide +kernel), List.mem_of_getElem? (i := 340) (by decide +kernel), List.mem_of_getElem? (i := 341) (by decide +kernel)⟩
theorem lw_p8 : lw_okq (⟨"BranchPackerModel", "isSet", "(I)Z"⟩, 12) := ⟨⟨by decide +kernel, by decide +kernel⟩, List.mem_of_getElem? (i := 281) (by decide +kernel), List.mem_of_getElem? (i := 348) (by decide +kernel), List.mem_of_getElem? (i := 349) (by decide +kernel)⟩
theorem lw_p9 : lw_okq (⟨"BranchPackerModel", "all", "()I"⟩, 12) := ⟨⟨by decide +kernel, by decide +kernel⟩, List.mem_of_getElem? (i := 281) (by decide +kernel), List.mem_of_getElem? (i := 352) (by decide +kernel), List.mem_of_getElem? (i := 353) (by decide +kernel)⟩
theorem lw_p10 : lw_okq (⟨"BranchPackerModel", "entryOf", "(II)I"⟩, 12) := ⟨⟨by decide +kernel, by decide +kernel⟩, List.mem_of_getElem? (i := 281) (by decide +kernel), List.mem_of_getElem? (i := 372) (by decide +kernel), List.mem_of_getElem? (i := 373) (by decide +kernel)⟩
theorem lw_p11 : lw_okq (⟨"BranchPackerModel", "canGoOn", "(III)Z"⟩, 12) := ⟨⟨by decide +kernel, by decide +kernel⟩, List.mem_of_getElem? (i := 281) (by decide +kernel), List.mem_of_getElem? (i := 399) (by decide +kernel), List.mem_of_getElem? (i := 400) (by decide +kernel)⟩
theorem lw_p12 : lw_okq (⟨"BranchPackerModel", "isDone", "(IIII)Z"⟩, 12) := ⟨⟨by decide +kernel, by decide +kernel⟩, List.mem_of_getElem? (i := 281) (by decide +kernel), List.mem_of_getElem? (i := 403) (by decide +kernel), List.mem_of_getElem? (i := 404) (by decide +kernel)⟩
theorem lw_p13 : lw_okq (⟨"BranchPackerModel", "isStopped", "(III)Z"⟩, 12) := ⟨⟨by decide +kernel, by decide +kernel⟩, List.mem_of_getElem? (i := 281) (by decide +kernel), List.mem_of_getElem? (i := 407) (by decide +kernel), List.mem_of_getElem? (i := 408) (by decide +kernel)⟩
theorem lw_p14 : lw_okq (⟨"BranchPackerModel", "grows", "(III)Z"⟩, 12) := ⟨⟨by decide +kernel, by decide +kernel⟩, List.mem_of_getElem? (i := 281) (by decide +kernel), List.mem_of_getElem? (i := 411) (by decide +kernel), List.mem_of_getElem? (i := 412) (by decide +kernel)⟩
theorem lw_p15 : lw_okq (⟨"BranchPackerModel", "pack", "()Z"⟩, 12) := ⟨⟨by decide +kernel, by decide +kernel⟩, List.mem_of_getElem? (i := 281) (by decide +kernel), List.mem_of_getElem? (i := 419) (by decide +kernel), List.mem_of_getElem? (i := 420) (by decide +kernel)⟩
def lw_privs_1 : List (MethodName × Nat) := [(⟨"BranchPacker$Grove", "start", "()V"⟩, 7), (⟨"BranchPacker$Grove", "can", "(I)Z"⟩, 7), (⟨"BranchPacker$Ways", "one", "(III)V"⟩, 9), (⟨"BranchPacker$Ways", "find", "(II)Z"⟩, 9), (⟨"BranchPacker", "hasPacking", "()Z"⟩, 3), (⟨"BranchPacker$Grove", "step", "(I)V"⟩, 7), (⟨"BranchPackerModel", "isArc", "(I)Z"⟩, 12), (⟨"BranchPackerModel", "remove", "(I)V"⟩, 12), (⟨"BranchPackerModel", "isSet", "(I)Z"⟩, 12), (⟨"BranchPackerModel", "all", "()I"⟩, 12), (⟨"BranchPackerModel", "entryOf", "(II)I"⟩, 12), (⟨"BranchPackerModel", "canGoOn", "(III)Z"⟩, 12), (⟨"BranchPackerModel", "isDone", "(IIII)Z"⟩, 12), (⟨"BranchPackerModel", "isStopped", "(III)Z"⟩, 12), (⟨"BranchPackerModel", "grows", "(III)Z"⟩, 12), (⟨"BranchPackerModel", "pack", "()Z"⟩, 12)]
theorem lw_r1 : ∀ q ∈ lw_privs_1, lw_okq q := List.forall_mem_cons.mpr ⟨lw_p0, List.forall_mem_cons.mpr ⟨lw_p1, List.forall_mem_cons.mpr ⟨lw_p2, List.forall_mem_cons.mpr ⟨lw_p3, List.forall_mem_cons.mpr ⟨lw_p4, List.forall_mem_cons.mpr ⟨lw_p5, List.forall_mem_cons.mpr ⟨lw_p6, List.forall_mem_cons.mpr ⟨lw_p7, List.forall_mem_cons.mpr ⟨lw_p8, List.forall_mem_cons.mpr ⟨lw_p9, List.forall_mem_cons.mpr ⟨lw_p10, List.forall_mem_cons.mpr ⟨lw_p11, List.forall_mem_cons.mpr ⟨lw_p12, List.forall_mem_cons.mpr ⟨lw_p13, List.forall_mem_cons.mpr ⟨lw_p14, List.forall_mem_cons.mpr ⟨lw_p15, fun _ h => absurd h List.not_mem_nil⟩⟩⟩⟩⟩⟩⟩⟩⟩⟩⟩⟩⟩⟩⟩⟩
def lw_privs : List (MethodName × Nat) := lw_privs_1
def lw_tbl : List Cond := k2_sels lw_privs ++ tables_1
theorem lw_privs_ok : ∀ q ∈ lw_privs, lw_okq q := lw_r1
-- ===== end of PART A; then your names; then what follows =====
end
section
-- NAMES, printed by gen/names.py
def R_BP : String := "BranchPacker"
def R_Net : String := "BranchPacker$Net"
def R_Ways : String := "BranchPacker$Ways"
def R_Grove : String := "BranchPacker$Grove"
def R_Mod : String := "BranchPackerModel"
def F_BP : u_T := fun k => match k with
  | 0 => ("BranchPacker", "net", "LBranchPacker$Net;", true)
  | 1 => ("BranchPacker", "grove", "LBranchPacker$Grove;", true)
  | _ => ("BranchPacker", "grown", "Z", false)
def t_BP : Nat → FieldType := fun k => match k with
  | 0 => .object "BranchPacker$Net"
  | 1 => .object "BranchPacker$Grove"
  | _ => .boolean
def F_Net : u_T := fun k => match k with
  | 0 => ("BranchPacker$Net", "vertices", "I", false)
  | 1 => ("BranchPacker$Net", "arcs", "I", false)
  | 2 => ("BranchPacker$Net", "from", "[B", true)
  | _ => ("BranchPacker$Net", "to", "[B", true)
def t_Net : Nat → FieldType := fun k => match k with
  | 0 => .int
  | 1 => .int
  | 2 => .array .byte
  | _ => .array .byte
def F_Ways : u_T := fun k => match k with
  | 0 => ("BranchPacker$Ways", "first", "[I", true)
  | 1 => ("BranchPacker$Ways", "next", "[I", true)
  | 2 => ("BranchPacker$Ways", "head", "[I", true)
  | 3 => ("BranchPacker$Ways", "room", "[I", true)
  | 4 => ("BranchPacker$Ways", "full", "[I", true)
  | 5 => ("BranchPacker$Ways", "came", "[I", true)
  | 6 => ("BranchPacker$Ways", "queue", "[I", true)
  | 7 => ("BranchPacker$Ways", "nodes", "I", false)
  | _ => ("BranchPacker$Ways", "links", "I", false)
def t_Ways : Nat → FieldType := fun k => match k with
  | 0 => .array .int
  | 1 => .array .int
  | 2 => .array .int
  | 3 => .array .int
  | 4 => .array .int
  | 5 => .array .int
  | 6 => .array .int
  | 7 => .int
  | _ => .int
def F_Grove : u_T := fun k => match k with
  | 0 => ("BranchPacker$Grove", "net", "LBranchPacker$Net;", true)
  | 1 => ("BranchPacker$Grove", "ways", "LBranchPacker$Ways;", true)
  | 2 => ("BranchPacker$Grove", "roots", "[B", true)
  | 3 => ("BranchPacker$Grove", "count", "I", false)
  | 4 => ("BranchPacker$Grove", "have", "[I", true)
  | 5 => ("BranchPacker$Grove", "owners", "[I", true)
  | _ => ("BranchPacker$Grove", "done", "Z", false)
def t_Grove : Nat → FieldType := fun k => match k with
  | 0 => .object "BranchPacker$Net"
  | 1 => .object "BranchPacker$Ways"
  | 2 => .array .byte
  | 3 => .int
  | 4 => .array .int
  | 5 => .array .int
  | _ => .boolean
def F_Mod : u_T := fun k => match k with
  | 0 => ("BranchPackerModel", "n", "I", false)
  | 1 => ("BranchPackerModel", "arcs", "I", false)
  | 2 => ("BranchPackerModel", "branchings", "I", false)
  | 3 => ("BranchPackerModel", "from", "[I", true)
  | 4 => ("BranchPackerModel", "to", "[I", true)
  | 5 => ("BranchPackerModel", "roots", "[I", true)
  | 6 => ("BranchPackerModel", "owners", "[I", true)
  | 7 => ("BranchPackerModel", "ways", "[I", true)
  | 8 => ("BranchPackerModel", "trees", "[I", true)
  | 9 => ("BranchPackerModel", "hads", "[I", true)
  | 10 => ("BranchPackerModel", "useds", "[I", true)
  | _ => ("BranchPackerModel", "nexts", "[I", true)
def t_Mod : Nat → FieldType := fun k => match k with
  | 0 => .int
  | 1 => .int
  | 2 => .int
  | 3 => .array .int
  | 4 => .array .int
  | 5 => .array .int
  | 6 => .array .int
  | 7 => .array .int
  | 8 => .array .int
  | 9 => .array .int
  | 10 => .array .int
  | _ => .array .int
abbrev classes : List vw_C := [(R_BP, F_BP, 3), (R_Net, F_Net, 4), (R_Ways, F_Ways, 9), (R_Grove, F_Grove, 7), (R_Mod, F_Mod, 12)]
def gw : List Cond := lw_tbl.filter goodWord
theorem gm {w : Cond} (i : Nat) (h : lw_tbl[i]? = some w) (g : goodWord w = true) : w ∈ gw := List.mem_filter.mpr ⟨List.mem_of_getElem? h, g⟩
abbrev b_BP_init : ByteArray := prog_1_method_1_code
def y_BP_init : MethodName := ⟨"BranchPacker", "<init>", "()V"⟩
abbrev b_BP_begin : ByteArray := prog_1_method_2_code
def y_BP_begin : MethodName := ⟨"BranchPacker", "begin", "(I)Z"⟩
abbrev b_BP_arc : ByteArray := prog_1_method_3_code
def y_BP_arc : MethodName := ⟨"BranchPacker", "arc", "(II)I"⟩
abbrev b_BP_drop : ByteArray := prog_1_method_4_code
def y_BP_drop : MethodName := ⟨"BranchPacker", "drop", "(I)Z"⟩
abbrev b_BP_plant : ByteArray := prog_1_method_5_code
def y_BP_plant : MethodName := ⟨"BranchPacker", "plant", "(I)I"⟩
abbrev b_BP_fell : ByteArray := prog_1_method_6_code
def y_BP_fell : MethodName := ⟨"BranchPacker", "fell", "()I"⟩
abbrev b_BP_count : ByteArray := prog_1_method_7_code
def y_BP_count : MethodName := ⟨"BranchPacker", "count", "(I)I"⟩
abbrev b_BP_end : ByteArray := prog_1_method_8_code
def y_BP_end : MethodName := ⟨"BranchPacker", "end", "(II)I"⟩
abbrev b_BP_entry : ByteArray := prog_1_method_9_code
def y_BP_entry : MethodName := ⟨"BranchPacker", "entry", "(I)I"⟩
abbrev b_BP_missed : ByteArray := prog_1_method_10_code
def y_BP_missed : MethodName := ⟨"BranchPacker", "missed", "(I)I"⟩
abbrev b_BP_packs : ByteArray := prog_1_method_11_code
def y_BP_packs : MethodName := ⟨"BranchPacker", "packs", "()Z"⟩
abbrev b_BP_stopper : ByteArray := prog_1_method_12_code
def y_BP_stopper : MethodName := ⟨"BranchPacker", "stopper", "()I"⟩
abbrev b_BP_isBefore : ByteArray := prog_1_method_13_code
def y_BP_isBefore : MethodName := ⟨"BranchPacker", "isBefore", "(II)Z"⟩
abbrev b_BP_hasPacking : ByteArray := prog_1_method_14_code
def y_BP_hasPacking : MethodName := ⟨"BranchPacker", "hasPacking", "()Z"⟩
abbrev b_BP_owner : ByteArray := prog_1_method_15_code
def y_BP_owner : MethodName := ⟨"BranchPacker", "owner", "(I)I"⟩
abbrev b_BP_way : ByteArray := prog_1_method_16_code
def y_BP_way : MethodName := ⟨"BranchPacker", "way", "(II)I"⟩
abbrev b_BP_spare : ByteArray := prog_1_method_17_code
def y_BP_spare : MethodName := ⟨"BranchPacker", "spare", "(I)Z"⟩
abbrev b_BP_most : ByteArray := prog_1_method_18_code
def y_BP_most : MethodName := ⟨"BranchPacker", "most", "(I)I"⟩
abbrev b_Mod_init : ByteArray := prog_6_method_1_code
def y_Mod_init : MethodName := ⟨"BranchPackerModel", "<init>", "()V"⟩
abbrev b_Mod_has : ByteArray := prog_6_method_3_code
def y_Mod_has : MethodName := ⟨"BranchPackerModel", "has", "(II)Z"⟩
abbrev b_Mod_all : ByteArray := prog_6_method_4_code
def y_Mod_all : MethodName := ⟨"BranchPackerModel", "all", "()I"⟩
abbrev b_Mod_isSet : ByteArray := prog_6_method_5_code
def y_Mod_isSet : MethodName := ⟨"BranchPackerModel", "isSet", "(I)Z"⟩
abbrev b_Mod_isArc : ByteArray := prog_6_method_6_code
def y_Mod_isArc : MethodName := ⟨"BranchPackerModel", "isArc", "(I)Z"⟩
abbrev b_Mod_size : ByteArray := prog_6_method_7_code
def y_Mod_size : MethodName := ⟨"BranchPackerModel", "size", "(I)I"⟩
abbrev b_Mod_isBefore : ByteArray := prog_6_method_8_code
def y_Mod_isBefore : MethodName := ⟨"BranchPackerModel", "isBefore", "(II)Z"⟩
abbrev b_Mod_begin : ByteArray := prog_6_method_9_code
def y_Mod_begin : MethodName := ⟨"BranchPackerModel", "begin", "(I)Z"⟩
abbrev b_Mod_arc : ByteArray := prog_6_method_10_code
def y_Mod_arc : MethodName := ⟨"BranchPackerModel", "arc", "(II)I"⟩
abbrev b_Mod_drop : ByteArray := prog_6_method_11_code
def y_Mod_drop : MethodName := ⟨"BranchPackerModel", "drop", "(I)Z"⟩
abbrev b_Mod_remove : ByteArray := prog_6_method_12_code
def y_Mod_remove : MethodName := ⟨"BranchPackerModel", "remove", "(I)V"⟩
abbrev b_Mod_plant : ByteArray := prog_6_method_13_code
def y_Mod_plant : MethodName := ⟨"BranchPackerModel", "plant", "(I)I"⟩
abbrev b_Mod_fell : ByteArray := prog_6_method_14_code
def y_Mod_fell : MethodName := ⟨"BranchPackerModel", "fell", "()I"⟩
abbrev b_Mod_count : ByteArray := prog_6_method_15_code
def y_Mod_count : MethodName := ⟨"BranchPackerModel", "count", "(I)I"⟩
abbrev b_Mod_end : ByteArray := prog_6_method_16_code
def y_Mod_end : MethodName := ⟨"BranchPackerModel", "end", "(II)I"⟩
abbrev b_Mod_entryOf : ByteArray := prog_6_method_17_code
def y_Mod_entryOf : MethodName := ⟨"BranchPackerModel", "entryOf", "(II)I"⟩
abbrev b_Mod_entry : ByteArray := prog_6_method_18_code
def y_Mod_entry : MethodName := ⟨"BranchPackerModel", "entry", "(I)I"⟩
abbrev b_Mod_missed : ByteArray := prog_6_method_19_code
def y_Mod_missed : MethodName := ⟨"BranchPackerModel", "missed", "(I)I"⟩
abbrev b_Mod_stopper : ByteArray := prog_6_method_20_code
def y_Mod_stopper : MethodName := ⟨"BranchPackerModel", "stopper", "()I"⟩
abbrev b_Mod_isStopped : ByteArray := prog_6_method_21_code
def y_Mod_isStopped : MethodName := ⟨"BranchPackerModel", "isStopped", "(III)Z"⟩
abbrev b_Mod_isDone : ByteArray := prog_6_method_22_code
def y_Mod_isDone : MethodName := ⟨"BranchPackerModel", "isDone", "(IIII)Z"⟩
abbrev b_Mod_canGoOn : ByteArray := prog_6_method_23_code
def y_Mod_canGoOn : MethodName := ⟨"BranchPackerModel", "canGoOn", "(III)Z"⟩
abbrev b_Mod_grows : ByteArray := prog_6_method_24_code
def y_Mod_grows : MethodName := ⟨"BranchPackerModel", "grows", "(III)Z"⟩
abbrev b_Mod_packs : ByteArray := prog_6_method_25_code
def y_Mod_packs : MethodName := ⟨"BranchPackerModel", "packs", "()Z"⟩
abbrev b_Mod_pack : ByteArray := prog_6_method_26_code
def y_Mod_pack : MethodName := ⟨"BranchPackerModel", "pack", "()Z"⟩
abbrev b_Mod_owner : ByteArray := prog_6_method_27_code
def y_Mod_owner : MethodName := ⟨"BranchPackerModel", "owner", "(I)I"⟩
abbrev b_Mod_way : ByteArray := prog_6_method_28_code
def y_Mod_way : MethodName := ⟨"BranchPackerModel", "way", "(II)I"⟩
abbrev b_Mod_spare : ByteArray := prog_6_method_29_code
def y_Mod_spare : MethodName := ⟨"BranchPackerModel", "spare", "(I)Z"⟩
abbrev b_Mod_most : ByteArray := prog_6_method_30_code
def y_Mod_most : MethodName := ⟨"BranchPackerModel", "most", "(I)I"⟩
abbrev b_Grove_init : ByteArray := prog_2_method_1_code
def y_Grove_init : MethodName := ⟨"BranchPacker$Grove", "<init>", "(LBranchPacker$Net;)V"⟩
abbrev b_Grove_start : ByteArray := prog_2_method_2_code
def y_Grove_start : MethodName := ⟨"BranchPacker$Grove", "start", "()V"⟩
abbrev b_Grove_can : ByteArray := prog_2_method_3_code
def y_Grove_can : MethodName := ⟨"BranchPacker$Grove", "can", "(I)Z"⟩
abbrev b_Grove_packs : ByteArray := prog_2_method_4_code
def y_Grove_packs : MethodName := ⟨"BranchPacker$Grove", "packs", "(I)Z"⟩
abbrev b_Grove_grow : ByteArray := prog_2_method_5_code
def y_Grove_grow : MethodName := ⟨"BranchPacker$Grove", "grow", "()V"⟩
abbrev b_Grove_step : ByteArray := prog_2_method_6_code
def y_Grove_step : MethodName := ⟨"BranchPacker$Grove", "step", "(I)V"⟩
abbrev b_Grove_missed : ByteArray := prog_2_method_7_code
def y_Grove_missed : MethodName := ⟨"BranchPacker$Grove", "missed", "(I)I"⟩
abbrev b_Grove_most : ByteArray := prog_2_method_8_code
def y_Grove_most : MethodName := ⟨"BranchPacker$Grove", "most", "(I)I"⟩
abbrev b_Net_init : ByteArray := prog_3_method_1_code
def y_Net_init : MethodName := ⟨"BranchPacker$Net", "<init>", "()V"⟩
abbrev b_Net_all : ByteArray := prog_3_method_2_code
def y_Net_all : MethodName := ⟨"BranchPacker$Net", "all", "()I"⟩
abbrev b_Net_isVertex : ByteArray := prog_3_method_3_code
def y_Net_isVertex : MethodName := ⟨"BranchPacker$Net", "isVertex", "(I)Z"⟩
abbrev b_Net_isArc : ByteArray := prog_3_method_4_code
def y_Net_isArc : MethodName := ⟨"BranchPacker$Net", "isArc", "(I)Z"⟩
abbrev b_Net_isSet : ByteArray := prog_3_method_5_code
def y_Net_isSet : MethodName := ⟨"BranchPacker$Net", "isSet", "(I)Z"⟩
abbrev b_Net_enters : ByteArray := prog_3_method_6_code
def y_Net_enters : MethodName := ⟨"BranchPacker$Net", "enters", "(II)Z"⟩
abbrev b_Net_drop : ByteArray := prog_3_method_7_code
def y_Net_drop : MethodName := ⟨"BranchPacker$Net", "drop", "(I)V"⟩
abbrev b_Ways_init : ByteArray := prog_4_method_1_code
def y_Ways_init : MethodName := ⟨"BranchPacker$Ways", "<init>", "()V"⟩
abbrev b_Ways_begin : ByteArray := prog_4_method_2_code
def y_Ways_begin : MethodName := ⟨"BranchPacker$Ways", "begin", "(I)V"⟩
abbrev b_Ways_link : ByteArray := prog_4_method_3_code
def y_Ways_link : MethodName := ⟨"BranchPacker$Ways", "link", "(III)V"⟩
abbrev b_Ways_one : ByteArray := prog_4_method_4_code
def y_Ways_one : MethodName := ⟨"BranchPacker$Ways", "one", "(III)V"⟩
abbrev b_Ways_count : ByteArray := prog_4_method_5_code
def y_Ways_count : MethodName := ⟨"BranchPacker$Ways", "count", "(III)I"⟩
abbrev b_Ways_find : ByteArray := prog_4_method_6_code
def y_Ways_find : MethodName := ⟨"BranchPacker$Ways", "find", "(II)Z"⟩
abbrev b_Int_bitCount : ByteArray := prog_7_method_49_code
def y_Int_bitCount : MethodName := ⟨"java/lang/Integer", "bitCount", "(I)I"⟩
abbrev b_Int_lowestOneBit : ByteArray := prog_7_method_46_code
def y_Int_lowestOneBit : MethodName := ⟨"java/lang/Integer", "lowestOneBit", "(I)I"⟩
theorem m_0 : Cond.selects "BranchPacker$Grove" y_Grove_start y_Grove_start ∈ gw := gm 0 (by decide +kernel) rfl
theorem m_1 : Cond.selects "BranchPacker$Grove" y_Grove_can y_Grove_can ∈ gw := gm 1 (by decide +kernel) rfl
theorem m_2 : Cond.selects "BranchPacker$Ways" y_Ways_one y_Ways_one ∈ gw := gm 2 (by decide +kernel) rfl
theorem m_3 : Cond.selects "BranchPacker$Ways" y_Ways_find y_Ways_find ∈ gw := gm 3 (by decide +kernel) rfl
theorem m_4 : Cond.selects "BranchPacker" y_BP_hasPacking y_BP_hasPacking ∈ gw := gm 4 (by decide +kernel) rfl
theorem m_5 : Cond.selects "BranchPacker$Grove" y_Grove_step y_Grove_step ∈ gw := gm 5 (by decide +kernel) rfl
theorem m_6 : Cond.selects "BranchPackerModel" y_Mod_isArc y_Mod_isArc ∈ gw := gm 6 (by decide +kernel) rfl
theorem m_7 : Cond.selects "BranchPackerModel" y_Mod_remove y_Mod_remove ∈ gw := gm 7 (by decide +kernel) rfl
theorem m_8 : Cond.selects "BranchPackerModel" y_Mod_isSet y_Mod_isSet ∈ gw := gm 8 (by decide +kernel) rfl
theorem m_9 : Cond.selects "BranchPackerModel" y_Mod_all y_Mod_all ∈ gw := gm 9 (by decide +kernel) rfl
theorem m_10 : Cond.selects "BranchPackerModel" y_Mod_entryOf y_Mod_entryOf ∈ gw := gm 10 (by decide +kernel) rfl
theorem m_11 : Cond.selects "BranchPackerModel" y_Mod_canGoOn y_Mod_canGoOn ∈ gw := gm 11 (by decide +kernel) rfl
theorem m_12 : Cond.selects "BranchPackerModel" y_Mod_isDone y_Mod_isDone ∈ gw := gm 12 (by decide +kernel) rfl
theorem m_13 : Cond.selects "BranchPackerModel" y_Mod_isStopped y_Mod_isStopped ∈ gw := gm 13 (by decide +kernel) rfl
theorem m_14 : Cond.selects "BranchPackerModel" y_Mod_grows y_Mod_grows ∈ gw := gm 14 (by decide +kernel) rfl
theorem m_15 : Cond.selects "BranchPackerModel" y_Mod_pack y_Mod_pack ∈ gw := gm 15 (by decide +kernel) rfl
theorem m_16 : Cond.initialized "BranchPackerLaw" ∈ gw := gm 16 (by decide +kernel) rfl
theorem m_17 : Cond.initialized "BranchPacker" ∈ gw := gm 17 (by decide +kernel) rfl
theorem m_18 : Cond.initialized "BranchPacker$Net" ∈ gw := gm 18 (by decide +kernel) rfl
theorem m_19 : Cond.initialized "BranchPacker$Grove" ∈ gw := gm 19 (by decide +kernel) rfl
theorem m_20 : Cond.initialized "BranchPacker$Ways" ∈ gw := gm 20 (by decide +kernel) rfl
theorem m_21 : Cond.initialized "BranchPackerModel" ∈ gw := gm 21 (by decide +kernel) rfl
theorem m_22 : Cond.initialized "java/lang/System" ∈ gw := gm 22 (by decide +kernel) rfl
theorem m_23 : Cond.initialized "java/lang/Integer" ∈ gw := gm 23 (by decide +kernel) rfl
theorem m_24 : Cond.initialized "java/lang/Math" ∈ gw := gm 24 (by decide +kernel) rfl
theorem m_25 : Cond.classLink "BranchPackerLaw" 7 "BranchPacker" ∈ gw := gm 25 (by decide +kernel) rfl
theorem m_26 : Cond.instantiable "BranchPacker" 3 ∈ gw := gm 26 (by decide +kernel) rfl
theorem m_27 : Cond.methodLink "BranchPackerLaw" 9 y_BP_init ∈ gw := gm 27 (by decide +kernel) rfl
theorem m_28 : Cond.instanceMethod y_BP_init ∈ gw := gm 28 (by decide +kernel) rfl
theorem m_29 : Cond.code y_BP_init b_BP_init 1 none ∈ gw := gm 29 (by decide +kernel) rfl
theorem m_30 : Cond.methodLink "BranchPacker" 1 (⟨"java/lang/Object", "<init>", "()V"⟩) ∈ gw := gm 30 (by decide +kernel) rfl
theorem m_31 : Cond.instanceMethod (⟨"java/lang/Object", "<init>", "()V"⟩) ∈ gw := gm 31 (by decide +kernel) rfl
theorem m_32 : Cond.code ⟨"java/lang/Object", "<init>", "()V"⟩ object_method_1_code 1 none ∈ gw := gm 32 (by decide +kernel) rfl
theorem m_33 : Cond.classLink "BranchPacker" 7 "BranchPacker$Net" ∈ gw := gm 33 (by decide +kernel) rfl
theorem m_34 : Cond.instantiable "BranchPacker$Net" 4 ∈ gw := gm 34 (by decide +kernel) rfl
theorem m_36 : Cond.instanceMethod y_Net_init ∈ gw := gm 36 (by decide +kernel) rfl
theorem m_37 : Cond.code y_Net_init b_Net_init 1 none ∈ gw := gm 37 (by decide +kernel) rfl
theorem m_38 : Cond.methodLink "BranchPacker$Net" 3 (⟨"java/lang/Object", "<init>", "()V"⟩) ∈ gw := gm 38 (by decide +kernel) rfl
theorem m_39 : Cond.fieldLink "BranchPacker$Net" 9 "BranchPacker$Net" "vertices" "I" ∈ gw := gm 39 (by decide +kernel) rfl
theorem m_40 : Cond.fieldLink "BranchPacker" 25 "BranchPacker$Net" "vertices" "I" ∈ gw := gm 40 (by decide +kernel) rfl
theorem m_41 : Cond.fieldLink "BranchPacker$Grove" 42 "BranchPacker$Net" "vertices" "I" ∈ gw := gm 41 (by decide +kernel) rfl
theorem m_42 : Cond.fieldLink "BranchPacker" 29 "BranchPacker$Net" "arcs" "I" ∈ gw := gm 42 (by decide +kernel) rfl
theorem m_43 : Cond.fieldLink "BranchPacker$Grove" 37 "BranchPacker$Net" "arcs" "I" ∈ gw := gm 43 (by decide +kernel) rfl
theorem m_44 : Cond.fieldLink "BranchPacker$Net" 22 "BranchPacker$Net" "arcs" "I" ∈ gw := gm 44 (by decide +kernel) rfl
theorem m_45 : Cond.fieldLink "BranchPacker$Net" 15 "BranchPacker$Net" "from" "[B" ∈ gw := gm 45 (by decide +kernel) rfl
theorem m_46 : Cond.fieldLink "BranchPacker" 43 "BranchPacker$Net" "from" "[B" ∈ gw := gm 46 (by decide +kernel) rfl
theorem m_47 : Cond.fieldLink "BranchPacker$Grove" 53 "BranchPacker$Net" "from" "[B" ∈ gw := gm 47 (by decide +kernel) rfl
theorem m_48 : Cond.fieldLink "BranchPacker$Net" 19 "BranchPacker$Net" "to" "[B" ∈ gw := gm 48 (by decide +kernel) rfl
theorem m_49 : Cond.fieldLink "BranchPacker" 47 "BranchPacker$Net" "to" "[B" ∈ gw := gm 49 (by decide +kernel) rfl
theorem m_50 : Cond.fieldLink "BranchPacker$Grove" 56 "BranchPacker$Net" "to" "[B" ∈ gw := gm 50 (by decide +kernel) rfl
theorem m_51 : Cond.lays "BranchPacker$Net" "BranchPacker$Net" "vertices" "I" ∈ gw := gm 51 (by decide +kernel) rfl
theorem m_53 : Cond.lays "BranchPacker$Net" "BranchPacker$Net" "arcs" "I" ∈ gw := gm 53 (by decide +kernel) rfl
theorem m_55 : Cond.laysFinal "BranchPacker$Net" "BranchPacker$Net" "from" "[B" ∈ gw := gm 55 (by decide +kernel) rfl
theorem m_57 : Cond.laysFinal "BranchPacker$Net" "BranchPacker$Net" "to" "[B" ∈ gw := gm 57 (by decide +kernel) rfl
theorem m_60 : Cond.arrayClass .byte ∈ gw := gm 60 (by decide +kernel) rfl
theorem m_61 : Cond.classLink "BranchPacker" 16 "BranchPacker$Grove" ∈ gw := gm 61 (by decide +kernel) rfl
theorem m_62 : Cond.instantiable "BranchPacker$Grove" 7 ∈ gw := gm 62 (by decide +kernel) rfl
theorem m_63 : Cond.methodLink "BranchPacker" 18 y_Grove_init ∈ gw := gm 63 (by decide +kernel) rfl
theorem m_64 : Cond.instanceMethod y_Grove_init ∈ gw := gm 64 (by decide +kernel) rfl
theorem m_65 : Cond.code y_Grove_init b_Grove_init 2 none ∈ gw := gm 65 (by decide +kernel) rfl
theorem m_66 : Cond.methodLink "BranchPacker$Grove" 3 (⟨"java/lang/Object", "<init>", "()V"⟩) ∈ gw := gm 66 (by decide +kernel) rfl
theorem m_67 : Cond.classLink "BranchPacker$Grove" 9 "BranchPacker$Ways" ∈ gw := gm 67 (by decide +kernel) rfl
theorem m_68 : Cond.instantiable "BranchPacker$Ways" 9 ∈ gw := gm 68 (by decide +kernel) rfl
theorem m_70 : Cond.instanceMethod y_Ways_init ∈ gw := gm 70 (by decide +kernel) rfl
theorem m_71 : Cond.code y_Ways_init b_Ways_init 1 none ∈ gw := gm 71 (by decide +kernel) rfl
theorem m_72 : Cond.methodLink "BranchPacker$Ways" 3 (⟨"java/lang/Object", "<init>", "()V"⟩) ∈ gw := gm 72 (by decide +kernel) rfl
theorem m_73 : Cond.fieldLink "BranchPacker$Ways" 11 "BranchPacker$Ways" "first" "[I" ∈ gw := gm 73 (by decide +kernel) rfl
theorem m_74 : Cond.fieldLink "BranchPacker$Ways" 15 "BranchPacker$Ways" "next" "[I" ∈ gw := gm 74 (by decide +kernel) rfl
theorem m_75 : Cond.fieldLink "BranchPacker$Ways" 18 "BranchPacker$Ways" "head" "[I" ∈ gw := gm 75 (by decide +kernel) rfl
theorem m_76 : Cond.fieldLink "BranchPacker$Ways" 21 "BranchPacker$Ways" "room" "[I" ∈ gw := gm 76 (by decide +kernel) rfl
theorem m_77 : Cond.fieldLink "BranchPacker$Ways" 24 "BranchPacker$Ways" "full" "[I" ∈ gw := gm 77 (by decide +kernel) rfl
theorem m_78 : Cond.fieldLink "BranchPacker$Ways" 27 "BranchPacker$Ways" "came" "[I" ∈ gw := gm 78 (by decide +kernel) rfl
theorem m_79 : Cond.fieldLink "BranchPacker$Ways" 30 "BranchPacker$Ways" "queue" "[I" ∈ gw := gm 79 (by decide +kernel) rfl
theorem m_80 : Cond.fieldLink "BranchPacker$Ways" 33 "BranchPacker$Ways" "nodes" "I" ∈ gw := gm 80 (by decide +kernel) rfl
theorem m_81 : Cond.fieldLink "BranchPacker$Ways" 37 "BranchPacker$Ways" "links" "I" ∈ gw := gm 81 (by decide +kernel) rfl
theorem m_82 : Cond.laysFinal "BranchPacker$Ways" "BranchPacker$Ways" "first" "[I" ∈ gw := gm 82 (by decide +kernel) rfl
theorem m_84 : Cond.laysFinal "BranchPacker$Ways" "BranchPacker$Ways" "next" "[I" ∈ gw := gm 84 (by decide +kernel) rfl
theorem m_86 : Cond.laysFinal "BranchPacker$Ways" "BranchPacker$Ways" "head" "[I" ∈ gw := gm 86 (by decide +kernel) rfl
theorem m_88 : Cond.laysFinal "BranchPacker$Ways" "BranchPacker$Ways" "room" "[I" ∈ gw := gm 88 (by decide +kernel) rfl
theorem m_90 : Cond.laysFinal "BranchPacker$Ways" "BranchPacker$Ways" "full" "[I" ∈ gw := gm 90 (by decide +kernel) rfl
theorem m_92 : Cond.laysFinal "BranchPacker$Ways" "BranchPacker$Ways" "came" "[I" ∈ gw := gm 92 (by decide +kernel) rfl
theorem m_94 : Cond.laysFinal "BranchPacker$Ways" "BranchPacker$Ways" "queue" "[I" ∈ gw := gm 94 (by decide +kernel) rfl
theorem m_96 : Cond.lays "BranchPacker$Ways" "BranchPacker$Ways" "nodes" "I" ∈ gw := gm 96 (by decide +kernel) rfl
theorem m_98 : Cond.lays "BranchPacker$Ways" "BranchPacker$Ways" "links" "I" ∈ gw := gm 98 (by decide +kernel) rfl
theorem m_101 : Cond.arrayClass .int ∈ gw := gm 101 (by decide +kernel) rfl
theorem m_102 : Cond.fieldLink "BranchPacker$Grove" 29 "BranchPacker$Grove" "net" "LBranchPacker$Net;" ∈ gw := gm 102 (by decide +kernel) rfl
theorem m_103 : Cond.fieldLink "BranchPacker$Grove" 12 "BranchPacker$Grove" "ways" "LBranchPacker$Ways;" ∈ gw := gm 103 (by decide +kernel) rfl
theorem m_104 : Cond.fieldLink "BranchPacker$Grove" 18 "BranchPacker$Grove" "roots" "[B" ∈ gw := gm 104 (by decide +kernel) rfl
theorem m_105 : Cond.fieldLink "BranchPacker" 60 "BranchPacker$Grove" "roots" "[B" ∈ gw := gm 105 (by decide +kernel) rfl
theorem m_106 : Cond.fieldLink "BranchPacker$Grove" 33 "BranchPacker$Grove" "count" "I" ∈ gw := gm 106 (by decide +kernel) rfl
theorem m_107 : Cond.fieldLink "BranchPacker" 32 "BranchPacker$Grove" "count" "I" ∈ gw := gm 107 (by decide +kernel) rfl
theorem m_108 : Cond.fieldLink "BranchPacker$Grove" 22 "BranchPacker$Grove" "have" "[I" ∈ gw := gm 108 (by decide +kernel) rfl
theorem m_109 : Cond.fieldLink "BranchPacker$Grove" 26 "BranchPacker$Grove" "owners" "[I" ∈ gw := gm 109 (by decide +kernel) rfl
theorem m_110 : Cond.fieldLink "BranchPacker" 104 "BranchPacker$Grove" "owners" "[I" ∈ gw := gm 110 (by decide +kernel) rfl
theorem m_111 : Cond.fieldLink "BranchPacker$Grove" 69 "BranchPacker$Grove" "done" "Z" ∈ gw := gm 111 (by decide +kernel) rfl
theorem m_112 : Cond.fieldLink "BranchPacker" 98 "BranchPacker$Grove" "done" "Z" ∈ gw := gm 112 (by decide +kernel) rfl
theorem m_113 : Cond.laysFinal "BranchPacker$Grove" "BranchPacker$Grove" "net" "LBranchPacker$Net;" ∈ gw := gm 113 (by decide +kernel) rfl
theorem m_115 : Cond.laysFinal "BranchPacker$Grove" "BranchPacker$Grove" "ways" "LBranchPacker$Ways;" ∈ gw := gm 115 (by decide +kernel) rfl
theorem m_117 : Cond.laysFinal "BranchPacker$Grove" "BranchPacker$Grove" "roots" "[B" ∈ gw := gm 117 (by decide +kernel) rfl
theorem m_119 : Cond.lays "BranchPacker$Grove" "BranchPacker$Grove" "count" "I" ∈ gw := gm 119 (by decide +kernel) rfl
theorem m_121 : Cond.laysFinal "BranchPacker$Grove" "BranchPacker$Grove" "have" "[I" ∈ gw := gm 121 (by decide +kernel) rfl
theorem m_123 : Cond.laysFinal "BranchPacker$Grove" "BranchPacker$Grove" "owners" "[I" ∈ gw := gm 123 (by decide +kernel) rfl
theorem m_125 : Cond.lays "BranchPacker$Grove" "BranchPacker$Grove" "done" "Z" ∈ gw := gm 125 (by decide +kernel) rfl
theorem m_128 : Cond.fieldLink "BranchPacker" 10 "BranchPacker" "net" "LBranchPacker$Net;" ∈ gw := gm 128 (by decide +kernel) rfl
theorem m_129 : Cond.fieldLink "BranchPacker" 21 "BranchPacker" "grove" "LBranchPacker$Grove;" ∈ gw := gm 129 (by decide +kernel) rfl
theorem m_130 : Cond.fieldLink "BranchPacker" 35 "BranchPacker" "grown" "Z" ∈ gw := gm 130 (by decide +kernel) rfl
theorem m_131 : Cond.laysFinal "BranchPacker" "BranchPacker" "net" "LBranchPacker$Net;" ∈ gw := gm 131 (by decide +kernel) rfl
theorem m_133 : Cond.laysFinal "BranchPacker" "BranchPacker" "grove" "LBranchPacker$Grove;" ∈ gw := gm 133 (by decide +kernel) rfl
theorem m_135 : Cond.lays "BranchPacker" "BranchPacker" "grown" "Z" ∈ gw := gm 135 (by decide +kernel) rfl
theorem m_138 : Cond.methodLink "BranchPackerLaw" 13 y_BP_begin ∈ gw := gm 138 (by decide +kernel) rfl
theorem m_139 : Cond.instanceMethod y_BP_begin ∈ gw := gm 139 (by decide +kernel) rfl
theorem m_140 : Cond.selects "BranchPacker" y_BP_begin y_BP_begin ∈ gw := gm 140 (by decide +kernel) rfl
theorem m_141 : Cond.code y_BP_begin b_BP_begin 2 (some .boolean) ∈ gw := gm 141 (by decide +kernel) rfl
theorem m_142 : Cond.methodLink "BranchPackerLaw" 18 y_BP_arc ∈ gw := gm 142 (by decide +kernel) rfl
theorem m_143 : Cond.instanceMethod y_BP_arc ∈ gw := gm 143 (by decide +kernel) rfl
theorem m_144 : Cond.selects "BranchPacker" y_BP_arc y_BP_arc ∈ gw := gm 144 (by decide +kernel) rfl
theorem m_145 : Cond.code y_BP_arc b_BP_arc 3 (some .int) ∈ gw := gm 145 (by decide +kernel) rfl
theorem m_146 : Cond.methodLink "BranchPacker" 39 y_Net_isVertex ∈ gw := gm 146 (by decide +kernel) rfl
theorem m_147 : Cond.instanceMethod y_Net_isVertex ∈ gw := gm 147 (by decide +kernel) rfl
theorem m_148 : Cond.selects "BranchPacker$Net" y_Net_isVertex y_Net_isVertex ∈ gw := gm 148 (by decide +kernel) rfl
theorem m_149 : Cond.code y_Net_isVertex b_Net_isVertex 2 (some .boolean) ∈ gw := gm 149 (by decide +kernel) rfl
theorem m_150 : Cond.methodLink "BranchPackerLaw" 23 y_BP_drop ∈ gw := gm 150 (by decide +kernel) rfl
theorem m_151 : Cond.instanceMethod y_BP_drop ∈ gw := gm 151 (by decide +kernel) rfl
theorem m_152 : Cond.selects "BranchPacker" y_BP_drop y_BP_drop ∈ gw := gm 152 (by decide +kernel) rfl
theorem m_153 : Cond.code y_BP_drop b_BP_drop 2 (some .boolean) ∈ gw := gm 153 (by decide +kernel) rfl
theorem m_154 : Cond.methodLink "BranchPacker" 50 y_Net_isArc ∈ gw := gm 154 (by decide +kernel) rfl
theorem m_155 : Cond.instanceMethod y_Net_isArc ∈ gw := gm 155 (by decide +kernel) rfl
theorem m_156 : Cond.selects "BranchPacker$Net" y_Net_isArc y_Net_isArc ∈ gw := gm 156 (by decide +kernel) rfl
theorem m_157 : Cond.code y_Net_isArc b_Net_isArc 2 (some .boolean) ∈ gw := gm 157 (by decide +kernel) rfl
theorem m_158 : Cond.methodLink "BranchPacker" 53 y_Net_drop ∈ gw := gm 158 (by decide +kernel) rfl
theorem m_159 : Cond.instanceMethod y_Net_drop ∈ gw := gm 159 (by decide +kernel) rfl
theorem m_160 : Cond.selects "BranchPacker$Net" y_Net_drop y_Net_drop ∈ gw := gm 160 (by decide +kernel) rfl
theorem m_161 : Cond.code y_Net_drop b_Net_drop 3 none ∈ gw := gm 161 (by decide +kernel) rfl
theorem m_162 : Cond.methodLink "BranchPackerLaw" 27 y_BP_plant ∈ gw := gm 162 (by decide +kernel) rfl
theorem m_163 : Cond.instanceMethod y_BP_plant ∈ gw := gm 163 (by decide +kernel) rfl
theorem m_164 : Cond.selects "BranchPacker" y_BP_plant y_BP_plant ∈ gw := gm 164 (by decide +kernel) rfl
theorem m_165 : Cond.code y_BP_plant b_BP_plant 2 (some .int) ∈ gw := gm 165 (by decide +kernel) rfl
theorem m_166 : Cond.methodLink "BranchPacker" 57 y_Net_isSet ∈ gw := gm 166 (by decide +kernel) rfl
theorem m_167 : Cond.instanceMethod y_Net_isSet ∈ gw := gm 167 (by decide +kernel) rfl
theorem m_168 : Cond.selects "BranchPacker$Net" y_Net_isSet y_Net_isSet ∈ gw := gm 168 (by decide +kernel) rfl
theorem m_169 : Cond.code y_Net_isSet b_Net_isSet 2 (some .boolean) ∈ gw := gm 169 (by decide +kernel) rfl
theorem m_170 : Cond.methodLink "BranchPacker$Net" 25 y_Net_all ∈ gw := gm 170 (by decide +kernel) rfl
theorem m_171 : Cond.instanceMethod y_Net_all ∈ gw := gm 171 (by decide +kernel) rfl
theorem m_172 : Cond.selects "BranchPacker$Net" y_Net_all y_Net_all ∈ gw := gm 172 (by decide +kernel) rfl
theorem m_173 : Cond.code y_Net_all b_Net_all 1 (some .int) ∈ gw := gm 173 (by decide +kernel) rfl
theorem m_174 : Cond.methodLink "BranchPackerLaw" 32 y_BP_fell ∈ gw := gm 174 (by decide +kernel) rfl
theorem m_175 : Cond.instanceMethod y_BP_fell ∈ gw := gm 175 (by decide +kernel) rfl
theorem m_176 : Cond.selects "BranchPacker" y_BP_fell y_BP_fell ∈ gw := gm 176 (by decide +kernel) rfl
theorem m_177 : Cond.code y_BP_fell b_BP_fell 1 (some .int) ∈ gw := gm 177 (by decide +kernel) rfl
theorem m_178 : Cond.methodLink "BranchPackerLaw" 37 y_BP_count ∈ gw := gm 178 (by decide +kernel) rfl
theorem m_179 : Cond.instanceMethod y_BP_count ∈ gw := gm 179 (by decide +kernel) rfl
theorem m_180 : Cond.selects "BranchPacker" y_BP_count y_BP_count ∈ gw := gm 180 (by decide +kernel) rfl
theorem m_181 : Cond.code y_BP_count b_BP_count 2 (some .int) ∈ gw := gm 181 (by decide +kernel) rfl
theorem m_182 : Cond.methodLink "BranchPackerLaw" 41 y_BP_end ∈ gw := gm 182 (by decide +kernel) rfl
theorem m_183 : Cond.instanceMethod y_BP_end ∈ gw := gm 183 (by decide +kernel) rfl
theorem m_184 : Cond.selects "BranchPacker" y_BP_end y_BP_end ∈ gw := gm 184 (by decide +kernel) rfl
theorem m_185 : Cond.code y_BP_end b_BP_end 3 (some .int) ∈ gw := gm 185 (by decide +kernel) rfl
theorem m_186 : Cond.methodLink "BranchPackerLaw" 45 y_BP_entry ∈ gw := gm 186 (by decide +kernel) rfl
theorem m_187 : Cond.instanceMethod y_BP_entry ∈ gw := gm 187 (by decide +kernel) rfl
theorem m_188 : Cond.selects "BranchPacker" y_BP_entry y_BP_entry ∈ gw := gm 188 (by decide +kernel) rfl
theorem m_189 : Cond.code y_BP_entry b_BP_entry 4 (some .int) ∈ gw := gm 189 (by decide +kernel) rfl
theorem m_190 : Cond.methodLink "BranchPacker" 63 y_Net_enters ∈ gw := gm 190 (by decide +kernel) rfl
theorem m_191 : Cond.instanceMethod y_Net_enters ∈ gw := gm 191 (by decide +kernel) rfl
theorem m_192 : Cond.selects "BranchPacker$Net" y_Net_enters y_Net_enters ∈ gw := gm 192 (by decide +kernel) rfl
theorem m_193 : Cond.code y_Net_enters b_Net_enters 3 (some .boolean) ∈ gw := gm 193 (by decide +kernel) rfl
theorem m_194 : Cond.methodLink "BranchPackerLaw" 49 y_BP_missed ∈ gw := gm 194 (by decide +kernel) rfl
theorem m_195 : Cond.instanceMethod y_BP_missed ∈ gw := gm 195 (by decide +kernel) rfl
theorem m_196 : Cond.selects "BranchPacker" y_BP_missed y_BP_missed ∈ gw := gm 196 (by decide +kernel) rfl
theorem m_197 : Cond.code y_BP_missed b_BP_missed 2 (some .int) ∈ gw := gm 197 (by decide +kernel) rfl
theorem m_198 : Cond.methodLink "BranchPacker" 67 y_Grove_missed ∈ gw := gm 198 (by decide +kernel) rfl
theorem m_199 : Cond.instanceMethod y_Grove_missed ∈ gw := gm 199 (by decide +kernel) rfl
theorem m_200 : Cond.selects "BranchPacker$Grove" y_Grove_missed y_Grove_missed ∈ gw := gm 200 (by decide +kernel) rfl
theorem m_201 : Cond.code y_Grove_missed b_Grove_missed 4 (some .int) ∈ gw := gm 201 (by decide +kernel) rfl
theorem m_202 : Cond.methodLink "BranchPackerLaw" 53 y_BP_packs ∈ gw := gm 202 (by decide +kernel) rfl
theorem m_203 : Cond.instanceMethod y_BP_packs ∈ gw := gm 203 (by decide +kernel) rfl
theorem m_204 : Cond.selects "BranchPacker" y_BP_packs y_BP_packs ∈ gw := gm 204 (by decide +kernel) rfl
theorem m_205 : Cond.code y_BP_packs b_BP_packs 1 (some .boolean) ∈ gw := gm 205 (by decide +kernel) rfl
theorem m_206 : Cond.methodLink "BranchPacker" 71 y_Grove_packs ∈ gw := gm 206 (by decide +kernel) rfl
theorem m_207 : Cond.instanceMethod y_Grove_packs ∈ gw := gm 207 (by decide +kernel) rfl
theorem m_208 : Cond.selects "BranchPacker$Grove" y_Grove_packs y_Grove_packs ∈ gw := gm 208 (by decide +kernel) rfl
theorem m_209 : Cond.code y_Grove_packs b_Grove_packs 2 (some .boolean) ∈ gw := gm 209 (by decide +kernel) rfl
theorem m_210 : Cond.methodLink "BranchPacker$Grove" 62 y_Grove_start ∈ gw := gm 210 (by decide +kernel) rfl
theorem m_212 : Cond.instanceMethod y_Grove_start ∈ gw := gm 212 (by decide +kernel) rfl
theorem m_213 : Cond.code y_Grove_start b_Grove_start 2 none ∈ gw := gm 213 (by decide +kernel) rfl
theorem m_214 : Cond.methodLink "BranchPacker$Grove" 65 y_Grove_can ∈ gw := gm 214 (by decide +kernel) rfl
theorem m_216 : Cond.instanceMethod y_Grove_can ∈ gw := gm 216 (by decide +kernel) rfl
theorem m_217 : Cond.code y_Grove_can b_Grove_can 5 (some .boolean) ∈ gw := gm 217 (by decide +kernel) rfl
theorem m_218 : Cond.methodLink "BranchPacker$Grove" 45 y_Ways_begin ∈ gw := gm 218 (by decide +kernel) rfl
theorem m_219 : Cond.instanceMethod y_Ways_begin ∈ gw := gm 219 (by decide +kernel) rfl
theorem m_220 : Cond.selects "BranchPacker$Ways" y_Ways_begin y_Ways_begin ∈ gw := gm 220 (by decide +kernel) rfl
theorem m_221 : Cond.code y_Ways_begin b_Ways_begin 3 none ∈ gw := gm 221 (by decide +kernel) rfl
theorem m_222 : Cond.methodLink "BranchPacker$Grove" 49 y_Ways_link ∈ gw := gm 222 (by decide +kernel) rfl
theorem m_223 : Cond.instanceMethod y_Ways_link ∈ gw := gm 223 (by decide +kernel) rfl
theorem m_224 : Cond.selects "BranchPacker$Ways" y_Ways_link y_Ways_link ∈ gw := gm 224 (by decide +kernel) rfl
theorem m_225 : Cond.code y_Ways_link b_Ways_link 4 none ∈ gw := gm 225 (by decide +kernel) rfl
theorem m_226 : Cond.methodLink "BranchPacker$Ways" 40 y_Ways_one ∈ gw := gm 226 (by decide +kernel) rfl
theorem m_228 : Cond.instanceMethod y_Ways_one ∈ gw := gm 228 (by decide +kernel) rfl
theorem m_229 : Cond.code y_Ways_one b_Ways_one 4 none ∈ gw := gm 229 (by decide +kernel) rfl
theorem m_230 : Cond.methodLink "BranchPacker$Grove" 59 y_Ways_count ∈ gw := gm 230 (by decide +kernel) rfl
theorem m_231 : Cond.instanceMethod y_Ways_count ∈ gw := gm 231 (by decide +kernel) rfl
theorem m_232 : Cond.selects "BranchPacker$Ways" y_Ways_count y_Ways_count ∈ gw := gm 232 (by decide +kernel) rfl
theorem m_233 : Cond.code y_Ways_count b_Ways_count 7 (some .int) ∈ gw := gm 233 (by decide +kernel) rfl
theorem m_234 : Cond.methodLink "BranchPacker$Ways" 44 (⟨"java/lang/System", "arraycopy", "(Ljava/lang/Object;ILjava/lang/Object;II)V"⟩) ∈ gw := gm 234 (by decide +kernel) rfl
theorem m_235 : Cond.static (⟨"java/lang/System", "arraycopy", "(Ljava/lang/Object;ILjava/lang/Object;II)V"⟩) ∈ gw := gm 235 (by decide +kernel) rfl
theorem m_236 : Cond.native (⟨"java/lang/System", "arraycopy", "(Ljava/lang/Object;ILjava/lang/Object;II)V"⟩) ∈ gw := gm 236 (by decide +kernel) rfl
theorem m_237 : Cond.methodLink "BranchPacker$Ways" 50 y_Ways_find ∈ gw := gm 237 (by decide +kernel) rfl
theorem m_239 : Cond.instanceMethod y_Ways_find ∈ gw := gm 239 (by decide +kernel) rfl
theorem m_240 : Cond.code y_Ways_find b_Ways_find 7 (some .boolean) ∈ gw := gm 240 (by decide +kernel) rfl
theorem m_241 : Cond.methodLink "BranchPackerLaw" 58 y_BP_stopper ∈ gw := gm 241 (by decide +kernel) rfl
theorem m_242 : Cond.instanceMethod y_BP_stopper ∈ gw := gm 242 (by decide +kernel) rfl
theorem m_243 : Cond.selects "BranchPacker" y_BP_stopper y_BP_stopper ∈ gw := gm 243 (by decide +kernel) rfl
theorem m_244 : Cond.code y_BP_stopper b_BP_stopper 3 (some .int) ∈ gw := gm 244 (by decide +kernel) rfl
theorem m_245 : Cond.methodLink "BranchPacker" 74 y_BP_packs ∈ gw := gm 245 (by decide +kernel) rfl
theorem m_246 : Cond.methodLink "BranchPacker" 77 y_Net_all ∈ gw := gm 246 (by decide +kernel) rfl
theorem m_247 : Cond.methodLink "BranchPacker" 81 y_BP_entry ∈ gw := gm 247 (by decide +kernel) rfl
theorem m_248 : Cond.methodLink "BranchPacker" 84 y_BP_isBefore ∈ gw := gm 248 (by decide +kernel) rfl
theorem m_249 : Cond.static y_BP_isBefore ∈ gw := gm 249 (by decide +kernel) rfl
theorem m_250 : Cond.code y_BP_isBefore b_BP_isBefore 3 (some .boolean) ∈ gw := gm 250 (by decide +kernel) rfl
theorem m_251 : Cond.methodLink "BranchPacker" 87 y_Int_bitCount ∈ gw := gm 251 (by decide +kernel) rfl
theorem m_252 : Cond.static y_Int_bitCount ∈ gw := gm 252 (by decide +kernel) rfl
theorem m_253 : Cond.code y_Int_bitCount b_Int_bitCount 1 (some .int) ∈ gw := gm 253 (by decide +kernel) rfl
theorem m_254 : Cond.constant "java/lang/Integer" 265 1431655765 ∈ gw := gm 254 (by decide +kernel) rfl
theorem m_255 : Cond.constant "java/lang/Integer" 266 858993459 ∈ gw := gm 255 (by decide +kernel) rfl
theorem m_256 : Cond.constant "java/lang/Integer" 267 252645135 ∈ gw := gm 256 (by decide +kernel) rfl
theorem m_257 : Cond.methodLink "BranchPacker" 92 y_Int_lowestOneBit ∈ gw := gm 257 (by decide +kernel) rfl
theorem m_258 : Cond.static y_Int_lowestOneBit ∈ gw := gm 258 (by decide +kernel) rfl
theorem m_259 : Cond.code y_Int_lowestOneBit b_Int_lowestOneBit 1 (some .int) ∈ gw := gm 259 (by decide +kernel) rfl
theorem m_260 : Cond.methodLink "BranchPackerLaw" 62 y_BP_owner ∈ gw := gm 260 (by decide +kernel) rfl
theorem m_261 : Cond.instanceMethod y_BP_owner ∈ gw := gm 261 (by decide +kernel) rfl
theorem m_262 : Cond.selects "BranchPacker" y_BP_owner y_BP_owner ∈ gw := gm 262 (by decide +kernel) rfl
theorem m_263 : Cond.code y_BP_owner b_BP_owner 2 (some .int) ∈ gw := gm 263 (by decide +kernel) rfl
theorem m_264 : Cond.methodLink "BranchPacker" 101 y_BP_hasPacking ∈ gw := gm 264 (by decide +kernel) rfl
theorem m_266 : Cond.instanceMethod y_BP_hasPacking ∈ gw := gm 266 (by decide +kernel) rfl
theorem m_267 : Cond.code y_BP_hasPacking b_BP_hasPacking 1 (some .boolean) ∈ gw := gm 267 (by decide +kernel) rfl
theorem m_268 : Cond.methodLink "BranchPacker" 95 y_Grove_grow ∈ gw := gm 268 (by decide +kernel) rfl
theorem m_269 : Cond.instanceMethod y_Grove_grow ∈ gw := gm 269 (by decide +kernel) rfl
theorem m_270 : Cond.selects "BranchPacker$Grove" y_Grove_grow y_Grove_grow ∈ gw := gm 270 (by decide +kernel) rfl
theorem m_271 : Cond.code y_Grove_grow b_Grove_grow 2 none ∈ gw := gm 271 (by decide +kernel) rfl
theorem m_272 : Cond.methodLink "BranchPacker$Grove" 73 y_Net_all ∈ gw := gm 272 (by decide +kernel) rfl
theorem m_273 : Cond.methodLink "BranchPacker$Grove" 77 y_Grove_step ∈ gw := gm 273 (by decide +kernel) rfl
theorem m_275 : Cond.instanceMethod y_Grove_step ∈ gw := gm 275 (by decide +kernel) rfl
theorem m_276 : Cond.code y_Grove_step b_Grove_step 5 none ∈ gw := gm 276 (by decide +kernel) rfl
theorem m_277 : Cond.methodLink "BranchPackerLaw" 66 y_BP_way ∈ gw := gm 277 (by decide +kernel) rfl
theorem m_278 : Cond.instanceMethod y_BP_way ∈ gw := gm 278 (by decide +kernel) rfl
theorem m_279 : Cond.selects "BranchPacker" y_BP_way y_BP_way ∈ gw := gm 279 (by decide +kernel) rfl
theorem m_280 : Cond.code y_BP_way b_BP_way 5 (some .int) ∈ gw := gm 280 (by decide +kernel) rfl
theorem m_281 : Cond.methodLink "BranchPackerLaw" 70 y_BP_spare ∈ gw := gm 281 (by decide +kernel) rfl
theorem m_282 : Cond.instanceMethod y_BP_spare ∈ gw := gm 282 (by decide +kernel) rfl
theorem m_283 : Cond.selects "BranchPacker" y_BP_spare y_BP_spare ∈ gw := gm 283 (by decide +kernel) rfl
theorem m_284 : Cond.code y_BP_spare b_BP_spare 2 (some .boolean) ∈ gw := gm 284 (by decide +kernel) rfl
theorem m_285 : Cond.methodLink "BranchPackerLaw" 74 y_BP_most ∈ gw := gm 285 (by decide +kernel) rfl
theorem m_286 : Cond.instanceMethod y_BP_most ∈ gw := gm 286 (by decide +kernel) rfl
theorem m_287 : Cond.selects "BranchPacker" y_BP_most y_BP_most ∈ gw := gm 287 (by decide +kernel) rfl
theorem m_288 : Cond.code y_BP_most b_BP_most 2 (some .int) ∈ gw := gm 288 (by decide +kernel) rfl
theorem m_289 : Cond.methodLink "BranchPacker" 108 y_Grove_most ∈ gw := gm 289 (by decide +kernel) rfl
theorem m_290 : Cond.instanceMethod y_Grove_most ∈ gw := gm 290 (by decide +kernel) rfl
theorem m_291 : Cond.selects "BranchPacker$Grove" y_Grove_most y_Grove_most ∈ gw := gm 291 (by decide +kernel) rfl
theorem m_292 : Cond.code y_Grove_most b_Grove_most 5 (some .int) ∈ gw := gm 292 (by decide +kernel) rfl
theorem m_293 : Cond.methodLink "BranchPacker$Grove" 80 (⟨"java/lang/Math", "min", "(II)I"⟩) ∈ gw := gm 293 (by decide +kernel) rfl
theorem m_294 : Cond.static (⟨"java/lang/Math", "min", "(II)I"⟩) ∈ gw := gm 294 (by decide +kernel) rfl
theorem m_295 : Cond.code ⟨"java/lang/Math", "min", "(II)I"⟩ prog_8_method_69_code 2 (some .int) ∈ gw := gm 295 (by decide +kernel) rfl
theorem m_296 : Cond.classLink "BranchPackerLaw" 10 "BranchPackerModel" ∈ gw := gm 296 (by decide +kernel) rfl
theorem m_297 : Cond.instantiable "BranchPackerModel" 12 ∈ gw := gm 297 (by decide +kernel) rfl
theorem m_298 : Cond.methodLink "BranchPackerLaw" 12 y_Mod_init ∈ gw := gm 298 (by decide +kernel) rfl
theorem m_299 : Cond.instanceMethod y_Mod_init ∈ gw := gm 299 (by decide +kernel) rfl
theorem m_300 : Cond.code y_Mod_init b_Mod_init 1 none ∈ gw := gm 300 (by decide +kernel) rfl
theorem m_301 : Cond.methodLink "BranchPackerModel" 1 (⟨"java/lang/Object", "<init>", "()V"⟩) ∈ gw := gm 301 (by decide +kernel) rfl
theorem m_302 : Cond.fieldLink "BranchPackerModel" 7 "BranchPackerModel" "n" "I" ∈ gw := gm 302 (by decide +kernel) rfl
theorem m_303 : Cond.fieldLink "BranchPackerModel" 45 "BranchPackerModel" "arcs" "I" ∈ gw := gm 303 (by decide +kernel) rfl
theorem m_304 : Cond.fieldLink "BranchPackerModel" 56 "BranchPackerModel" "branchings" "I" ∈ gw := gm 304 (by decide +kernel) rfl
theorem m_305 : Cond.fieldLink "BranchPackerModel" 13 "BranchPackerModel" "from" "[I" ∈ gw := gm 305 (by decide +kernel) rfl
theorem m_306 : Cond.fieldLink "BranchPackerModel" 17 "BranchPackerModel" "to" "[I" ∈ gw := gm 306 (by decide +kernel) rfl
theorem m_307 : Cond.fieldLink "BranchPackerModel" 20 "BranchPackerModel" "roots" "[I" ∈ gw := gm 307 (by decide +kernel) rfl
theorem m_308 : Cond.fieldLink "BranchPackerModel" 23 "BranchPackerModel" "owners" "[I" ∈ gw := gm 308 (by decide +kernel) rfl
theorem m_309 : Cond.fieldLink "BranchPackerModel" 26 "BranchPackerModel" "ways" "[I" ∈ gw := gm 309 (by decide +kernel) rfl
theorem m_310 : Cond.fieldLink "BranchPackerModel" 29 "BranchPackerModel" "trees" "[I" ∈ gw := gm 310 (by decide +kernel) rfl
theorem m_311 : Cond.fieldLink "BranchPackerModel" 32 "BranchPackerModel" "hads" "[I" ∈ gw := gm 311 (by decide +kernel) rfl
theorem m_312 : Cond.fieldLink "BranchPackerModel" 35 "BranchPackerModel" "useds" "[I" ∈ gw := gm 312 (by decide +kernel) rfl
theorem m_313 : Cond.fieldLink "BranchPackerModel" 38 "BranchPackerModel" "nexts" "[I" ∈ gw := gm 313 (by decide +kernel) rfl
theorem m_314 : Cond.lays "BranchPackerModel" "BranchPackerModel" "n" "I" ∈ gw := gm 314 (by decide +kernel) rfl
theorem m_316 : Cond.lays "BranchPackerModel" "BranchPackerModel" "arcs" "I" ∈ gw := gm 316 (by decide +kernel) rfl
theorem m_318 : Cond.lays "BranchPackerModel" "BranchPackerModel" "branchings" "I" ∈ gw := gm 318 (by decide +kernel) rfl
theorem m_320 : Cond.laysFinal "BranchPackerModel" "BranchPackerModel" "from" "[I" ∈ gw := gm 320 (by decide +kernel) rfl
theorem m_322 : Cond.laysFinal "BranchPackerModel" "BranchPackerModel" "to" "[I" ∈ gw := gm 322 (by decide +kernel) rfl
theorem m_324 : Cond.laysFinal "BranchPackerModel" "BranchPackerModel" "roots" "[I" ∈ gw := gm 324 (by decide +kernel) rfl
theorem m_326 : Cond.laysFinal "BranchPackerModel" "BranchPackerModel" "owners" "[I" ∈ gw := gm 326 (by decide +kernel) rfl
theorem m_328 : Cond.laysFinal "BranchPackerModel" "BranchPackerModel" "ways" "[I" ∈ gw := gm 328 (by decide +kernel) rfl
theorem m_330 : Cond.laysFinal "BranchPackerModel" "BranchPackerModel" "trees" "[I" ∈ gw := gm 330 (by decide +kernel) rfl
theorem m_332 : Cond.laysFinal "BranchPackerModel" "BranchPackerModel" "hads" "[I" ∈ gw := gm 332 (by decide +kernel) rfl
theorem m_334 : Cond.laysFinal "BranchPackerModel" "BranchPackerModel" "useds" "[I" ∈ gw := gm 334 (by decide +kernel) rfl
theorem m_336 : Cond.laysFinal "BranchPackerModel" "BranchPackerModel" "nexts" "[I" ∈ gw := gm 336 (by decide +kernel) rfl
theorem m_339 : Cond.methodLink "BranchPackerLaw" 17 y_Mod_begin ∈ gw := gm 339 (by decide +kernel) rfl
theorem m_340 : Cond.instanceMethod y_Mod_begin ∈ gw := gm 340 (by decide +kernel) rfl
theorem m_341 : Cond.selects "BranchPackerModel" y_Mod_begin y_Mod_begin ∈ gw := gm 341 (by decide +kernel) rfl
theorem m_342 : Cond.code y_Mod_begin b_Mod_begin 2 (some .boolean) ∈ gw := gm 342 (by decide +kernel) rfl
theorem m_343 : Cond.methodLink "BranchPackerLaw" 22 y_Mod_arc ∈ gw := gm 343 (by decide +kernel) rfl
theorem m_344 : Cond.instanceMethod y_Mod_arc ∈ gw := gm 344 (by decide +kernel) rfl
theorem m_345 : Cond.selects "BranchPackerModel" y_Mod_arc y_Mod_arc ∈ gw := gm 345 (by decide +kernel) rfl
theorem m_346 : Cond.code y_Mod_arc b_Mod_arc 3 (some .int) ∈ gw := gm 346 (by decide +kernel) rfl
theorem m_347 : Cond.methodLink "BranchPackerLaw" 26 y_Mod_drop ∈ gw := gm 347 (by decide +kernel) rfl
theorem m_348 : Cond.instanceMethod y_Mod_drop ∈ gw := gm 348 (by decide +kernel) rfl
theorem m_349 : Cond.selects "BranchPackerModel" y_Mod_drop y_Mod_drop ∈ gw := gm 349 (by decide +kernel) rfl
theorem m_350 : Cond.code y_Mod_drop b_Mod_drop 2 (some .boolean) ∈ gw := gm 350 (by decide +kernel) rfl
theorem m_351 : Cond.methodLink "BranchPackerModel" 59 y_Mod_isArc ∈ gw := gm 351 (by decide +kernel) rfl
theorem m_353 : Cond.instanceMethod y_Mod_isArc ∈ gw := gm 353 (by decide +kernel) rfl
theorem m_354 : Cond.code y_Mod_isArc b_Mod_isArc 2 (some .boolean) ∈ gw := gm 354 (by decide +kernel) rfl
theorem m_355 : Cond.methodLink "BranchPackerModel" 63 y_Mod_remove ∈ gw := gm 355 (by decide +kernel) rfl
theorem m_357 : Cond.instanceMethod y_Mod_remove ∈ gw := gm 357 (by decide +kernel) rfl
theorem m_358 : Cond.code y_Mod_remove b_Mod_remove 3 none ∈ gw := gm 358 (by decide +kernel) rfl
theorem m_359 : Cond.methodLink "BranchPackerLaw" 31 y_Mod_plant ∈ gw := gm 359 (by decide +kernel) rfl
theorem m_360 : Cond.instanceMethod y_Mod_plant ∈ gw := gm 360 (by decide +kernel) rfl
theorem m_361 : Cond.selects "BranchPackerModel" y_Mod_plant y_Mod_plant ∈ gw := gm 361 (by decide +kernel) rfl
theorem m_362 : Cond.code y_Mod_plant b_Mod_plant 2 (some .int) ∈ gw := gm 362 (by decide +kernel) rfl
theorem m_363 : Cond.methodLink "BranchPackerModel" 67 y_Mod_isSet ∈ gw := gm 363 (by decide +kernel) rfl
theorem m_365 : Cond.instanceMethod y_Mod_isSet ∈ gw := gm 365 (by decide +kernel) rfl
theorem m_366 : Cond.code y_Mod_isSet b_Mod_isSet 2 (some .boolean) ∈ gw := gm 366 (by decide +kernel) rfl
theorem m_367 : Cond.methodLink "BranchPackerModel" 41 y_Mod_all ∈ gw := gm 367 (by decide +kernel) rfl
theorem m_369 : Cond.instanceMethod y_Mod_all ∈ gw := gm 369 (by decide +kernel) rfl
theorem m_370 : Cond.code y_Mod_all b_Mod_all 1 (some .int) ∈ gw := gm 370 (by decide +kernel) rfl
theorem m_371 : Cond.methodLink "BranchPackerLaw" 36 y_Mod_fell ∈ gw := gm 371 (by decide +kernel) rfl
theorem m_372 : Cond.instanceMethod y_Mod_fell ∈ gw := gm 372 (by decide +kernel) rfl
theorem m_373 : Cond.selects "BranchPackerModel" y_Mod_fell y_Mod_fell ∈ gw := gm 373 (by decide +kernel) rfl
theorem m_374 : Cond.code y_Mod_fell b_Mod_fell 1 (some .int) ∈ gw := gm 374 (by decide +kernel) rfl
theorem m_375 : Cond.methodLink "BranchPackerLaw" 40 y_Mod_count ∈ gw := gm 375 (by decide +kernel) rfl
theorem m_376 : Cond.instanceMethod y_Mod_count ∈ gw := gm 376 (by decide +kernel) rfl
theorem m_377 : Cond.selects "BranchPackerModel" y_Mod_count y_Mod_count ∈ gw := gm 377 (by decide +kernel) rfl
theorem m_378 : Cond.code y_Mod_count b_Mod_count 2 (some .int) ∈ gw := gm 378 (by decide +kernel) rfl
theorem m_379 : Cond.methodLink "BranchPackerLaw" 44 y_Mod_end ∈ gw := gm 379 (by decide +kernel) rfl
theorem m_380 : Cond.instanceMethod y_Mod_end ∈ gw := gm 380 (by decide +kernel) rfl
theorem m_381 : Cond.selects "BranchPackerModel" y_Mod_end y_Mod_end ∈ gw := gm 381 (by decide +kernel) rfl
theorem m_382 : Cond.code y_Mod_end b_Mod_end 3 (some .int) ∈ gw := gm 382 (by decide +kernel) rfl
theorem m_383 : Cond.methodLink "BranchPackerLaw" 48 y_Mod_entry ∈ gw := gm 383 (by decide +kernel) rfl
theorem m_384 : Cond.instanceMethod y_Mod_entry ∈ gw := gm 384 (by decide +kernel) rfl
theorem m_385 : Cond.selects "BranchPackerModel" y_Mod_entry y_Mod_entry ∈ gw := gm 385 (by decide +kernel) rfl
theorem m_386 : Cond.code y_Mod_entry b_Mod_entry 2 (some .int) ∈ gw := gm 386 (by decide +kernel) rfl
theorem m_387 : Cond.methodLink "BranchPackerModel" 70 y_Mod_entryOf ∈ gw := gm 387 (by decide +kernel) rfl
theorem m_389 : Cond.instanceMethod y_Mod_entryOf ∈ gw := gm 389 (by decide +kernel) rfl
theorem m_390 : Cond.code y_Mod_entryOf b_Mod_entryOf 5 (some .int) ∈ gw := gm 390 (by decide +kernel) rfl
theorem m_391 : Cond.methodLink "BranchPackerModel" 48 y_Mod_has ∈ gw := gm 391 (by decide +kernel) rfl
theorem m_392 : Cond.static y_Mod_has ∈ gw := gm 392 (by decide +kernel) rfl
theorem m_393 : Cond.code y_Mod_has b_Mod_has 2 (some .boolean) ∈ gw := gm 393 (by decide +kernel) rfl
theorem m_394 : Cond.methodLink "BranchPackerLaw" 52 y_Mod_missed ∈ gw := gm 394 (by decide +kernel) rfl
theorem m_395 : Cond.instanceMethod y_Mod_missed ∈ gw := gm 395 (by decide +kernel) rfl
theorem m_396 : Cond.selects "BranchPackerModel" y_Mod_missed y_Mod_missed ∈ gw := gm 396 (by decide +kernel) rfl
theorem m_397 : Cond.code y_Mod_missed b_Mod_missed 4 (some .int) ∈ gw := gm 397 (by decide +kernel) rfl
theorem m_398 : Cond.methodLink "BranchPackerLaw" 61 y_Mod_stopper ∈ gw := gm 398 (by decide +kernel) rfl
theorem m_399 : Cond.instanceMethod y_Mod_stopper ∈ gw := gm 399 (by decide +kernel) rfl
theorem m_400 : Cond.selects "BranchPackerModel" y_Mod_stopper y_Mod_stopper ∈ gw := gm 400 (by decide +kernel) rfl
theorem m_401 : Cond.code y_Mod_stopper b_Mod_stopper 3 (some .int) ∈ gw := gm 401 (by decide +kernel) rfl
theorem m_402 : Cond.methodLink "BranchPackerModel" 74 y_Mod_entry ∈ gw := gm 402 (by decide +kernel) rfl
theorem m_403 : Cond.methodLink "BranchPackerModel" 77 y_Mod_missed ∈ gw := gm 403 (by decide +kernel) rfl
theorem m_404 : Cond.methodLink "BranchPackerModel" 80 y_Mod_isBefore ∈ gw := gm 404 (by decide +kernel) rfl
theorem m_405 : Cond.static y_Mod_isBefore ∈ gw := gm 405 (by decide +kernel) rfl
theorem m_406 : Cond.code y_Mod_isBefore b_Mod_isBefore 3 (some .boolean) ∈ gw := gm 406 (by decide +kernel) rfl
theorem m_407 : Cond.methodLink "BranchPackerModel" 52 y_Mod_size ∈ gw := gm 407 (by decide +kernel) rfl
theorem m_408 : Cond.static y_Mod_size ∈ gw := gm 408 (by decide +kernel) rfl
theorem m_409 : Cond.code y_Mod_size b_Mod_size 3 (some .int) ∈ gw := gm 409 (by decide +kernel) rfl
theorem m_410 : Cond.methodLink "BranchPackerLaw" 57 y_Mod_packs ∈ gw := gm 410 (by decide +kernel) rfl
theorem m_411 : Cond.instanceMethod y_Mod_packs ∈ gw := gm 411 (by decide +kernel) rfl
theorem m_412 : Cond.selects "BranchPackerModel" y_Mod_packs y_Mod_packs ∈ gw := gm 412 (by decide +kernel) rfl
theorem m_413 : Cond.code y_Mod_packs b_Mod_packs 1 (some .boolean) ∈ gw := gm 413 (by decide +kernel) rfl
theorem m_414 : Cond.methodLink "BranchPackerModel" 94 y_Mod_canGoOn ∈ gw := gm 414 (by decide +kernel) rfl
theorem m_416 : Cond.instanceMethod y_Mod_canGoOn ∈ gw := gm 416 (by decide +kernel) rfl
theorem m_417 : Cond.code y_Mod_canGoOn b_Mod_canGoOn 7 (some .boolean) ∈ gw := gm 417 (by decide +kernel) rfl
theorem m_418 : Cond.methodLink "BranchPackerModel" 87 y_Mod_isDone ∈ gw := gm 418 (by decide +kernel) rfl
theorem m_420 : Cond.instanceMethod y_Mod_isDone ∈ gw := gm 420 (by decide +kernel) rfl
theorem m_421 : Cond.code y_Mod_isDone b_Mod_isDone 7 (some .boolean) ∈ gw := gm 421 (by decide +kernel) rfl
theorem m_422 : Cond.methodLink "BranchPackerModel" 83 y_Mod_isStopped ∈ gw := gm 422 (by decide +kernel) rfl
theorem m_424 : Cond.instanceMethod y_Mod_isStopped ∈ gw := gm 424 (by decide +kernel) rfl
theorem m_425 : Cond.code y_Mod_isStopped b_Mod_isStopped 7 (some .boolean) ∈ gw := gm 425 (by decide +kernel) rfl
theorem m_426 : Cond.methodLink "BranchPackerModel" 91 y_Mod_grows ∈ gw := gm 426 (by decide +kernel) rfl
theorem m_428 : Cond.instanceMethod y_Mod_grows ∈ gw := gm 428 (by decide +kernel) rfl
theorem m_429 : Cond.code y_Mod_grows b_Mod_grows 4 (some .boolean) ∈ gw := gm 429 (by decide +kernel) rfl
theorem m_430 : Cond.methodLink "BranchPackerLaw" 65 y_Mod_owner ∈ gw := gm 430 (by decide +kernel) rfl
theorem m_431 : Cond.instanceMethod y_Mod_owner ∈ gw := gm 431 (by decide +kernel) rfl
theorem m_432 : Cond.selects "BranchPackerModel" y_Mod_owner y_Mod_owner ∈ gw := gm 432 (by decide +kernel) rfl
theorem m_433 : Cond.code y_Mod_owner b_Mod_owner 2 (some .int) ∈ gw := gm 433 (by decide +kernel) rfl
theorem m_434 : Cond.methodLink "BranchPackerModel" 101 y_Mod_pack ∈ gw := gm 434 (by decide +kernel) rfl
theorem m_436 : Cond.instanceMethod y_Mod_pack ∈ gw := gm 436 (by decide +kernel) rfl
theorem m_437 : Cond.code y_Mod_pack b_Mod_pack 5 (some .boolean) ∈ gw := gm 437 (by decide +kernel) rfl
theorem m_438 : Cond.methodLink "BranchPackerModel" 97 y_Mod_packs ∈ gw := gm 438 (by decide +kernel) rfl
theorem m_439 : Cond.methodLink "BranchPackerLaw" 69 y_Mod_way ∈ gw := gm 439 (by decide +kernel) rfl
theorem m_440 : Cond.instanceMethod y_Mod_way ∈ gw := gm 440 (by decide +kernel) rfl
theorem m_441 : Cond.selects "BranchPackerModel" y_Mod_way y_Mod_way ∈ gw := gm 441 (by decide +kernel) rfl
theorem m_442 : Cond.code y_Mod_way b_Mod_way 4 (some .int) ∈ gw := gm 442 (by decide +kernel) rfl
theorem m_443 : Cond.methodLink "BranchPackerLaw" 73 y_Mod_spare ∈ gw := gm 443 (by decide +kernel) rfl
theorem m_444 : Cond.instanceMethod y_Mod_spare ∈ gw := gm 444 (by decide +kernel) rfl
theorem m_445 : Cond.selects "BranchPackerModel" y_Mod_spare y_Mod_spare ∈ gw := gm 445 (by decide +kernel) rfl
theorem m_446 : Cond.code y_Mod_spare b_Mod_spare 6 (some .boolean) ∈ gw := gm 446 (by decide +kernel) rfl
theorem m_447 : Cond.methodLink "BranchPackerLaw" 77 y_Mod_most ∈ gw := gm 447 (by decide +kernel) rfl
theorem m_448 : Cond.instanceMethod y_Mod_most ∈ gw := gm 448 (by decide +kernel) rfl
theorem m_449 : Cond.selects "BranchPackerModel" y_Mod_most y_Mod_most ∈ gw := gm 449 (by decide +kernel) rfl
theorem m_450 : Cond.code y_Mod_most b_Mod_most 5 (some .int) ∈ gw := gm 450 (by decide +kernel) rfl
theorem n_BP : ∀ a, a < 3 → ∀ b, b < 3 → a ≠ b → (F_BP a).2.1 ≠ (F_BP b).2.1 := by decide +kernel
theorem t_BP_ok : ∀ k, k < 3 → parseFieldDescriptor (F_BP k).2.2.1 = some (t_BP k) := by decide +kernel
theorem i_BP : ∀ w ∈ u_ws R_BP F_BP 3, w ∈ gw := by
  intro w hw
  simp only [u_ws, List.mem_map, List.mem_range] at hw
  obtain ⟨k, hk, rfl⟩ := hw
  match k, hk with
  | 0, _ => exact m_131
  | 1, _ => exact m_133
  | 2, _ => exact m_135
  | k + 3, hk => omega
theorem n_Net : ∀ a, a < 4 → ∀ b, b < 4 → a ≠ b → (F_Net a).2.1 ≠ (F_Net b).2.1 := by decide +kernel
theorem t_Net_ok : ∀ k, k < 4 → parseFieldDescriptor (F_Net k).2.2.1 = some (t_Net k) := by decide +kernel
theorem i_Net : ∀ w ∈ u_ws R_Net F_Net 4, w ∈ gw := by
  intro w hw
  simp only [u_ws, List.mem_map, List.mem_range] at hw
  obtain ⟨k, hk, rfl⟩ := hw
  match k, hk with
  | 0, _ => exact m_51
  | 1, _ => exact m_53
  | 2, _ => exact m_55
  | 3, _ => exact m_57
  | k + 4, hk => omega
theorem n_Ways : ∀ a, a < 9 → ∀ b, b < 9 → a ≠ b → (F_Ways a).2.1 ≠ (F_Ways b).2.1 := by decide +kernel
theorem t_Ways_ok : ∀ k, k < 9 → parseFieldDescriptor (F_Ways k).2.2.1 = some (t_Ways k) := by decide +kernel
theorem i_Ways : ∀ w ∈ u_ws R_Ways F_Ways 9, w ∈ gw := by
  intro w hw
  simp only [u_ws, List.mem_map, List.mem_range] at hw
  obtain ⟨k, hk, rfl⟩ := hw
  match k, hk with
  | 0, _ => exact m_82
  | 1, _ => exact m_84
  | 2, _ => exact m_86
  | 3, _ => exact m_88
  | 4, _ => exact m_90
  | 5, _ => exact m_92
  | 6, _ => exact m_94
  | 7, _ => exact m_96
  | 8, _ => exact m_98
  | k + 9, hk => omega
theorem n_Grove : ∀ a, a < 7 → ∀ b, b < 7 → a ≠ b → (F_Grove a).2.1 ≠ (F_Grove b).2.1 := by decide +kernel
theorem t_Grove_ok : ∀ k, k < 7 → parseFieldDescriptor (F_Grove k).2.2.1 = some (t_Grove k) := by decide +kernel
theorem i_Grove : ∀ w ∈ u_ws R_Grove F_Grove 7, w ∈ gw := by
  intro w hw
  simp only [u_ws, List.mem_map, List.mem_range] at hw
  obtain ⟨k, hk, rfl⟩ := hw
  match k, hk with
  | 0, _ => exact m_113
  | 1, _ => exact m_115
  | 2, _ => exact m_117
  | 3, _ => exact m_119
  | 4, _ => exact m_121
  | 5, _ => exact m_123
  | 6, _ => exact m_125
  | k + 7, hk => omega
theorem n_Mod : ∀ a, a < 12 → ∀ b, b < 12 → a ≠ b → (F_Mod a).2.1 ≠ (F_Mod b).2.1 := by decide +kernel
theorem t_Mod_ok : ∀ k, k < 12 → parseFieldDescriptor (F_Mod k).2.2.1 = some (t_Mod k) := by decide +kernel
theorem i_Mod : ∀ w ∈ u_ws R_Mod F_Mod 12, w ∈ gw := by
  intro w hw
  simp only [u_ws, List.mem_map, List.mem_range] at hw
  obtain ⟨k, hk, rfl⟩ := hw
  match k, hk with
  | 0, _ => exact m_314
  | 1, _ => exact m_316
  | 2, _ => exact m_318
  | 3, _ => exact m_320
  | 4, _ => exact m_322
  | 5, _ => exact m_324
  | 6, _ => exact m_326
  | 7, _ => exact m_328
  | 8, _ => exact m_330
  | 9, _ => exact m_332
  | 10, _ => exact m_334
  | 11, _ => exact m_336
  | k + 12, hk => omega
end
section
-- DECODE ROWS, printed by gen/names.py
theorem d_BP_init_0 : decode b_BP_init 0 = .ok (.aload_n 0, 1) := by decide +kernel
theorem d_BP_init_1 : decode b_BP_init 1 = .ok (.invokespecial 1, 3) := by decide +kernel
theorem d_BP_init_4 : decode b_BP_init 4 = .ok (.aload_n 0, 1) := by decide +kernel
theorem d_BP_init_5 : decode b_BP_init 5 = .ok (.new 7, 3) := by decide +kernel
theorem d_BP_init_8 : decode b_BP_init 8 = .ok (.dup, 1) := by decide +kernel
theorem d_BP_init_9 : decode b_BP_init 9 = .ok (.invokespecial 9, 3) := by decide +kernel
theorem d_BP_init_12 : decode b_BP_init 12 = .ok (.putfield 10, 3) := by decide +kernel
theorem d_BP_init_15 : decode b_BP_init 15 = .ok (.aload_n 0, 1) := by decide +kernel
theorem d_BP_init_16 : decode b_BP_init 16 = .ok (.new 16, 3) := by decide +kernel
theorem d_BP_init_19 : decode b_BP_init 19 = .ok (.dup, 1) := by decide +kernel
theorem d_BP_init_20 : decode b_BP_init 20 = .ok (.aload_n 0, 1) := by decide +kernel
theorem d_BP_init_21 : decode b_BP_init 21 = .ok (.getfield 10, 3) := by decide +kernel
theorem d_BP_init_24 : decode b_BP_init 24 = .ok (.invokespecial 18, 3) := by decide +kernel
theorem d_BP_init_27 : decode b_BP_init 27 = .ok (.putfield 21, 3) := by decide +kernel
theorem d_BP_init_30 : decode b_BP_init 30 = .ok (.return_, 1) := by decide +kernel
theorem d_BP_begin_0 : decode b_BP_begin 0 = .ok (.iload_n 1, 1) := by decide +kernel
theorem d_BP_begin_1 : decode b_BP_begin 1 = .ok (.iconst 1, 1) := by decide +kernel
theorem d_BP_begin_2 : decode b_BP_begin 2 = .ok (.if_icmp .lt 9, 3) := by decide +kernel
theorem d_BP_begin_5 : decode b_BP_begin 5 = .ok (.iload_n 1, 1) := by decide +kernel
theorem d_BP_begin_6 : decode b_BP_begin 6 = .ok (.bipush 7, 2) := by decide +kernel
theorem d_BP_begin_8 : decode b_BP_begin 8 = .ok (.if_icmp .le 5, 3) := by decide +kernel
theorem d_BP_begin_11 : decode b_BP_begin 11 = .ok (.iconst 0, 1) := by decide +kernel
theorem d_BP_begin_12 : decode b_BP_begin 12 = .ok (.ireturn, 1) := by decide +kernel
theorem d_BP_begin_13 : decode b_BP_begin 13 = .ok (.aload_n 0, 1) := by decide +kernel
theorem d_BP_begin_14 : decode b_BP_begin 14 = .ok (.getfield 10, 3) := by decide +kernel
theorem d_BP_begin_17 : decode b_BP_begin 17 = .ok (.iload_n 1, 1) := by decide +kernel
theorem d_BP_begin_18 : decode b_BP_begin 18 = .ok (.putfield 25, 3) := by decide +kernel
theorem d_BP_begin_21 : decode b_BP_begin 21 = .ok (.aload_n 0, 1) := by decide +kernel
theorem d_BP_begin_22 : decode b_BP_begin 22 = .ok (.getfield 10, 3) := by decide +kernel
theorem d_BP_begin_25 : decode b_BP_begin 25 = .ok (.iconst 0, 1) := by decide +kernel
theorem d_BP_begin_26 : decode b_BP_begin 26 = .ok (.putfield 29, 3) := by decide +kernel
theorem d_BP_begin_29 : decode b_BP_begin 29 = .ok (.aload_n 0, 1) := by decide +kernel
theorem d_BP_begin_30 : decode b_BP_begin 30 = .ok (.getfield 21, 3) := by decide +kernel
theorem d_BP_begin_33 : decode b_BP_begin 33 = .ok (.iconst 0, 1) := by decide +kernel
theorem d_BP_begin_34 : decode b_BP_begin 34 = .ok (.putfield 32, 3) := by decide +kernel
theorem d_BP_begin_37 : decode b_BP_begin 37 = .ok (.aload_n 0, 1) := by decide +kernel
theorem d_BP_begin_38 : decode b_BP_begin 38 = .ok (.iconst 0, 1) := by decide +kernel
theorem d_BP_begin_39 : decode b_BP_begin 39 = .ok (.putfield 35, 3) := by decide +kernel
theorem d_BP_begin_42 : decode b_BP_begin 42 = .ok (.iconst 1, 1) := by decide +kernel
theorem d_BP_begin_43 : decode b_BP_begin 43 = .ok (.ireturn, 1) := by decide +kernel
theorem d_BP_arc_0 : decode b_BP_arc 0 = .ok (.aload_n 0, 1) := by decide +kernel
theorem d_BP_arc_1 : decode b_BP_arc 1 = .ok (.getfield 10, 3) := by decide +kernel
theorem d_BP_arc_4 : decode b_BP_arc 4 = .ok (.getfield 29, 3) := by decide +kernel
theorem d_BP_arc_7 : decode b_BP_arc 7 = .ok (.bipush 14, 2) := by decide +kernel
theorem d_BP_arc_9 : decode b_BP_arc 9 = .ok (.if_icmp .eq 30, 3) := by decide +kernel
theorem d_BP_arc_12 : decode b_BP_arc 12 = .ok (.aload_n 0, 1) := by decide +kernel
theorem d_BP_arc_13 : decode b_BP_arc 13 = .ok (.getfield 10, 3) := by decide +kernel
theorem d_BP_arc_16 : decode b_BP_arc 16 = .ok (.iload_n 1, 1) := by decide +kernel
theorem d_BP_arc_17 : decode b_BP_arc 17 = .ok (.invokevirtual 39, 3) := by decide +kernel
theorem d_BP_arc_20 : decode b_BP_arc 20 = .ok (.ifCond .eq 19, 3) := by decide +kernel
theorem d_BP_arc_23 : decode b_BP_arc 23 = .ok (.aload_n 0, 1) := by decide +kernel
theorem d_BP_arc_24 : decode b_BP_arc 24 = .ok (.getfield 10, 3) := by decide +kernel
theorem d_BP_arc_27 : decode b_BP_arc 27 = .ok (.iload_n 2, 1) := by decide +kernel
theorem d_BP_arc_28 : decode b_BP_arc 28 = .ok (.invokevirtual 39, 3) := by decide +kernel
theorem d_BP_arc_31 : decode b_BP_arc 31 = .ok (.ifCond .eq 8, 3) := by decide +kernel
theorem d_BP_arc_34 : decode b_BP_arc 34 = .ok (.iload_n 1, 1) := by decide +kernel
theorem d_BP_arc_35 : decode b_BP_arc 35 = .ok (.iload_n 2, 1) := by decide +kernel
theorem d_BP_arc_36 : decode b_BP_arc 36 = .ok (.if_icmp .ne 5, 3) := by decide +kernel
theorem d_BP_arc_39 : decode b_BP_arc 39 = .ok (.iconst (-1), 1) := by decide +kernel
theorem d_BP_arc_40 : decode b_BP_arc 40 = .ok (.ireturn, 1) := by decide +kernel
theorem d_BP_arc_41 : decode b_BP_arc 41 = .ok (.aload_n 0, 1) := by decide +kernel
theorem d_BP_arc_42 : decode b_BP_arc 42 = .ok (.getfield 10, 3) := by decide +kernel
theorem d_BP_arc_45 : decode b_BP_arc 45 = .ok (.getfield 43, 3) := by decide +kernel
theorem d_BP_arc_48 : decode b_BP_arc 48 = .ok (.aload_n 0, 1) := by decide +kernel
theorem d_BP_arc_49 : decode b_BP_arc 49 = .ok (.getfield 10, 3) := by decide +kernel
theorem d_BP_arc_52 : decode b_BP_arc 52 = .ok (.getfield 29, 3) := by decide +kernel
theorem d_BP_arc_55 : decode b_BP_arc 55 = .ok (.iload_n 1, 1) := by decide +kernel
theorem d_BP_arc_56 : decode b_BP_arc 56 = .ok (.i2b, 1) := by decide +kernel
theorem d_BP_arc_57 : decode b_BP_arc 57 = .ok (.bastore, 1) := by decide +kernel
theorem d_BP_arc_58 : decode b_BP_arc 58 = .ok (.aload_n 0, 1) := by decide +kernel
theorem d_BP_arc_59 : decode b_BP_arc 59 = .ok (.getfield 10, 3) := by decide +kernel
theorem d_BP_arc_62 : decode b_BP_arc 62 = .ok (.getfield 47, 3) := by decide +kernel
theorem d_BP_arc_65 : decode b_BP_arc 65 = .ok (.aload_n 0, 1) := by decide +kernel
theorem d_BP_arc_66 : decode b_BP_arc 66 = .ok (.getfield 10, 3) := by decide +kernel
theorem d_BP_arc_69 : decode b_BP_arc 69 = .ok (.getfield 29, 3) := by decide +kernel
theorem d_BP_arc_72 : decode b_BP_arc 72 = .ok (.iload_n 2, 1) := by decide +kernel
theorem d_BP_arc_73 : decode b_BP_arc 73 = .ok (.i2b, 1) := by decide +kernel
theorem d_BP_arc_74 : decode b_BP_arc 74 = .ok (.bastore, 1) := by decide +kernel
theorem d_BP_arc_75 : decode b_BP_arc 75 = .ok (.aload_n 0, 1) := by decide +kernel
theorem d_BP_arc_76 : decode b_BP_arc 76 = .ok (.iconst 0, 1) := by decide +kernel
theorem d_BP_arc_77 : decode b_BP_arc 77 = .ok (.putfield 35, 3) := by decide +kernel
theorem d_BP_arc_80 : decode b_BP_arc 80 = .ok (.aload_n 0, 1) := by decide +kernel
theorem d_BP_arc_81 : decode b_BP_arc 81 = .ok (.getfield 10, 3) := by decide +kernel
theorem d_BP_arc_84 : decode b_BP_arc 84 = .ok (.dup, 1) := by decide +kernel
theorem d_BP_arc_85 : decode b_BP_arc 85 = .ok (.getfield 29, 3) := by decide +kernel
theorem d_BP_arc_88 : decode b_BP_arc 88 = .ok (.dup_x1, 1) := by decide +kernel
theorem d_BP_arc_89 : decode b_BP_arc 89 = .ok (.iconst 1, 1) := by decide +kernel
theorem d_BP_arc_90 : decode b_BP_arc 90 = .ok (.iadd, 1) := by decide +kernel
theorem d_BP_arc_91 : decode b_BP_arc 91 = .ok (.putfield 29, 3) := by decide +kernel
theorem d_BP_arc_94 : decode b_BP_arc 94 = .ok (.ireturn, 1) := by decide +kernel
theorem d_BP_drop_0 : decode b_BP_drop 0 = .ok (.aload_n 0, 1) := by decide +kernel
theorem d_BP_drop_1 : decode b_BP_drop 1 = .ok (.getfield 10, 3) := by decide +kernel
theorem d_BP_drop_4 : decode b_BP_drop 4 = .ok (.iload_n 1, 1) := by decide +kernel
theorem d_BP_drop_5 : decode b_BP_drop 5 = .ok (.invokevirtual 50, 3) := by decide +kernel
theorem d_BP_drop_8 : decode b_BP_drop 8 = .ok (.ifCond .ne 5, 3) := by decide +kernel
theorem d_BP_drop_11 : decode b_BP_drop 11 = .ok (.iconst 0, 1) := by decide +kernel
theorem d_BP_drop_12 : decode b_BP_drop 12 = .ok (.ireturn, 1) := by decide +kernel
theorem d_BP_drop_13 : decode b_BP_drop 13 = .ok (.aload_n 0, 1) := by decide +kernel
theorem d_BP_drop_14 : decode b_BP_drop 14 = .ok (.getfield 10, 3) := by decide +kernel
theorem d_BP_drop_17 : decode b_BP_drop 17 = .ok (.iload_n 1, 1) := by decide +kernel
theorem d_BP_drop_18 : decode b_BP_drop 18 = .ok (.invokevirtual 53, 3) := by decide +kernel
theorem d_BP_drop_21 : decode b_BP_drop 21 = .ok (.aload_n 0, 1) := by decide +kernel
theorem d_BP_drop_22 : decode b_BP_drop 22 = .ok (.iconst 0, 1) := by decide +kernel
theorem d_BP_drop_23 : decode b_BP_drop 23 = .ok (.putfield 35, 3) := by decide +kernel
theorem d_BP_drop_26 : decode b_BP_drop 26 = .ok (.iconst 1, 1) := by decide +kernel
theorem d_BP_drop_27 : decode b_BP_drop 27 = .ok (.ireturn, 1) := by decide +kernel
theorem d_BP_plant_0 : decode b_BP_plant 0 = .ok (.aload_n 0, 1) := by decide +kernel
theorem d_BP_plant_1 : decode b_BP_plant 1 = .ok (.getfield 21, 3) := by decide +kernel
theorem d_BP_plant_4 : decode b_BP_plant 4 = .ok (.getfield 32, 3) := by decide +kernel
theorem d_BP_plant_7 : decode b_BP_plant 7 = .ok (.iconst 3, 1) := by decide +kernel
theorem d_BP_plant_8 : decode b_BP_plant 8 = .ok (.if_icmp .eq 18, 3) := by decide +kernel
theorem d_BP_plant_11 : decode b_BP_plant 11 = .ok (.aload_n 0, 1) := by decide +kernel
theorem d_BP_plant_12 : decode b_BP_plant 12 = .ok (.getfield 10, 3) := by decide +kernel
theorem d_BP_plant_15 : decode b_BP_plant 15 = .ok (.iload_n 1, 1) := by decide +kernel
theorem d_BP_plant_16 : decode b_BP_plant 16 = .ok (.invokevirtual 57, 3) := by decide +kernel
theorem d_BP_plant_19 : decode b_BP_plant 19 = .ok (.ifCond .eq 7, 3) := by decide +kernel
theorem d_BP_plant_22 : decode b_BP_plant 22 = .ok (.iload_n 1, 1) := by decide +kernel
theorem d_BP_plant_23 : decode b_BP_plant 23 = .ok (.ifCond .ne 5, 3) := by decide +kernel
theorem d_BP_plant_26 : decode b_BP_plant 26 = .ok (.iconst (-1), 1) := by decide +kernel
theorem d_BP_plant_27 : decode b_BP_plant 27 = .ok (.ireturn, 1) := by decide +kernel
theorem d_BP_plant_28 : decode b_BP_plant 28 = .ok (.aload_n 0, 1) := by decide +kernel
theorem d_BP_plant_29 : decode b_BP_plant 29 = .ok (.getfield 21, 3) := by decide +kernel
theorem d_BP_plant_32 : decode b_BP_plant 32 = .ok (.getfield 60, 3) := by decide +kernel
theorem d_BP_plant_35 : decode b_BP_plant 35 = .ok (.aload_n 0, 1) := by decide +kernel
theorem d_BP_plant_36 : decode b_BP_plant 36 = .ok (.getfield 21, 3) := by decide +kernel
theorem d_BP_plant_39 : decode b_BP_plant 39 = .ok (.getfield 32, 3) := by decide +kernel
theorem d_BP_plant_42 : decode b_BP_plant 42 = .ok (.iload_n 1, 1) := by decide +kernel
theorem d_BP_plant_43 : decode b_BP_plant 43 = .ok (.i2b, 1) := by decide +kernel
theorem d_BP_plant_44 : decode b_BP_plant 44 = .ok (.bastore, 1) := by decide +kernel
theorem d_BP_plant_45 : decode b_BP_plant 45 = .ok (.aload_n 0, 1) := by decide +kernel
theorem d_BP_plant_46 : decode b_BP_plant 46 = .ok (.iconst 0, 1) := by decide +kernel
theorem d_BP_plant_47 : decode b_BP_plant 47 = .ok (.putfield 35, 3) := by decide +kernel
theorem d_BP_plant_50 : decode b_BP_plant 50 = .ok (.aload_n 0, 1) := by decide +kernel
theorem d_BP_plant_51 : decode b_BP_plant 51 = .ok (.getfield 21, 3) := by decide +kernel
theorem d_BP_plant_54 : decode b_BP_plant 54 = .ok (.dup, 1) := by decide +kernel
theorem d_BP_plant_55 : decode b_BP_plant 55 = .ok (.getfield 32, 3) := by decide +kernel
theorem d_BP_plant_58 : decode b_BP_plant 58 = .ok (.dup_x1, 1) := by decide +kernel
theorem d_BP_plant_59 : decode b_BP_plant 59 = .ok (.iconst 1, 1) := by decide +kernel
theorem d_BP_plant_60 : decode b_BP_plant 60 = .ok (.iadd, 1) := by decide +kernel
theorem d_BP_plant_61 : decode b_BP_plant 61 = .ok (.putfield 32, 3) := by decide +kernel
theorem d_BP_plant_64 : decode b_BP_plant 64 = .ok (.ireturn, 1) := by decide +kernel
theorem d_BP_fell_0 : decode b_BP_fell 0 = .ok (.aload_n 0, 1) := by decide +kernel
theorem d_BP_fell_1 : decode b_BP_fell 1 = .ok (.getfield 21, 3) := by decide +kernel
theorem d_BP_fell_4 : decode b_BP_fell 4 = .ok (.getfield 32, 3) := by decide +kernel
theorem d_BP_fell_7 : decode b_BP_fell 7 = .ok (.ifCond .ne 5, 3) := by decide +kernel
theorem d_BP_fell_10 : decode b_BP_fell 10 = .ok (.iconst (-1), 1) := by decide +kernel
theorem d_BP_fell_11 : decode b_BP_fell 11 = .ok (.ireturn, 1) := by decide +kernel
theorem d_BP_fell_12 : decode b_BP_fell 12 = .ok (.aload_n 0, 1) := by decide +kernel
theorem d_BP_fell_13 : decode b_BP_fell 13 = .ok (.iconst 0, 1) := by decide +kernel
theorem d_BP_fell_14 : decode b_BP_fell 14 = .ok (.putfield 35, 3) := by decide +kernel
theorem d_BP_fell_17 : decode b_BP_fell 17 = .ok (.aload_n 0, 1) := by decide +kernel
theorem d_BP_fell_18 : decode b_BP_fell 18 = .ok (.getfield 21, 3) := by decide +kernel
theorem d_BP_fell_21 : decode b_BP_fell 21 = .ok (.dup, 1) := by decide +kernel
theorem d_BP_fell_22 : decode b_BP_fell 22 = .ok (.getfield 32, 3) := by decide +kernel
theorem d_BP_fell_25 : decode b_BP_fell 25 = .ok (.iconst 1, 1) := by decide +kernel
theorem d_BP_fell_26 : decode b_BP_fell 26 = .ok (.isub, 1) := by decide +kernel
theorem d_BP_fell_27 : decode b_BP_fell 27 = .ok (.dup_x1, 1) := by decide +kernel
theorem d_BP_fell_28 : decode b_BP_fell 28 = .ok (.putfield 32, 3) := by decide +kernel
theorem d_BP_fell_31 : decode b_BP_fell 31 = .ok (.ireturn, 1) := by decide +kernel
theorem d_BP_count_0 : decode b_BP_count 0 = .ok (.iload_n 1, 1) := by decide +kernel
theorem d_BP_count_1 : decode b_BP_count 1 = .ok (.ifCond .ne 13, 3) := by decide +kernel
theorem d_BP_count_4 : decode b_BP_count 4 = .ok (.aload_n 0, 1) := by decide +kernel
theorem d_BP_count_5 : decode b_BP_count 5 = .ok (.getfield 10, 3) := by decide +kernel
theorem d_BP_count_8 : decode b_BP_count 8 = .ok (.getfield 25, 3) := by decide +kernel
theorem d_BP_count_11 : decode b_BP_count 11 = .ok (.goto 34, 3) := by decide +kernel
theorem d_BP_count_14 : decode b_BP_count 14 = .ok (.iload_n 1, 1) := by decide +kernel
theorem d_BP_count_15 : decode b_BP_count 15 = .ok (.iconst 1, 1) := by decide +kernel
theorem d_BP_count_16 : decode b_BP_count 16 = .ok (.if_icmp .ne 13, 3) := by decide +kernel
theorem d_BP_count_19 : decode b_BP_count 19 = .ok (.aload_n 0, 1) := by decide +kernel
theorem d_BP_count_20 : decode b_BP_count 20 = .ok (.getfield 10, 3) := by decide +kernel
theorem d_BP_count_23 : decode b_BP_count 23 = .ok (.getfield 29, 3) := by decide +kernel
theorem d_BP_count_26 : decode b_BP_count 26 = .ok (.goto 19, 3) := by decide +kernel
theorem d_BP_count_29 : decode b_BP_count 29 = .ok (.iload_n 1, 1) := by decide +kernel
theorem d_BP_count_30 : decode b_BP_count 30 = .ok (.iconst 2, 1) := by decide +kernel
theorem d_BP_count_31 : decode b_BP_count 31 = .ok (.if_icmp .ne 13, 3) := by decide +kernel
theorem d_BP_count_34 : decode b_BP_count 34 = .ok (.aload_n 0, 1) := by decide +kernel
theorem d_BP_count_35 : decode b_BP_count 35 = .ok (.getfield 21, 3) := by decide +kernel
theorem d_BP_count_38 : decode b_BP_count 38 = .ok (.getfield 32, 3) := by decide +kernel
theorem d_BP_count_41 : decode b_BP_count 41 = .ok (.goto 4, 3) := by decide +kernel
theorem d_BP_count_44 : decode b_BP_count 44 = .ok (.iconst (-1), 1) := by decide +kernel
theorem d_BP_count_45 : decode b_BP_count 45 = .ok (.ireturn, 1) := by decide +kernel
theorem d_BP_end_0 : decode b_BP_end 0 = .ok (.aload_n 0, 1) := by decide +kernel
theorem d_BP_end_1 : decode b_BP_end 1 = .ok (.getfield 10, 3) := by decide +kernel
theorem d_BP_end_4 : decode b_BP_end 4 = .ok (.iload_n 1, 1) := by decide +kernel
theorem d_BP_end_5 : decode b_BP_end 5 = .ok (.invokevirtual 50, 3) := by decide +kernel
theorem d_BP_end_8 : decode b_BP_end 8 = .ok (.ifCond .eq 12, 3) := by decide +kernel
theorem d_BP_end_11 : decode b_BP_end 11 = .ok (.iload_n 2, 1) := by decide +kernel
theorem d_BP_end_12 : decode b_BP_end 12 = .ok (.ifCond .lt 8, 3) := by decide +kernel
theorem d_BP_end_15 : decode b_BP_end 15 = .ok (.iload_n 2, 1) := by decide +kernel
theorem d_BP_end_16 : decode b_BP_end 16 = .ok (.iconst 1, 1) := by decide +kernel
theorem d_BP_end_17 : decode b_BP_end 17 = .ok (.if_icmp .le 7, 3) := by decide +kernel
theorem d_BP_end_20 : decode b_BP_end 20 = .ok (.iconst (-1), 1) := by decide +kernel
theorem d_BP_end_21 : decode b_BP_end 21 = .ok (.goto 28, 3) := by decide +kernel
theorem d_BP_end_24 : decode b_BP_end 24 = .ok (.iload_n 2, 1) := by decide +kernel
theorem d_BP_end_25 : decode b_BP_end 25 = .ok (.ifCond .ne 15, 3) := by decide +kernel
theorem d_BP_end_28 : decode b_BP_end 28 = .ok (.aload_n 0, 1) := by decide +kernel
theorem d_BP_end_29 : decode b_BP_end 29 = .ok (.getfield 10, 3) := by decide +kernel
theorem d_BP_end_32 : decode b_BP_end 32 = .ok (.getfield 43, 3) := by decide +kernel
theorem d_BP_end_35 : decode b_BP_end 35 = .ok (.iload_n 1, 1) := by decide +kernel
theorem d_BP_end_36 : decode b_BP_end 36 = .ok (.baload, 1) := by decide +kernel
theorem d_BP_end_37 : decode b_BP_end 37 = .ok (.goto 12, 3) := by decide +kernel
theorem d_BP_end_40 : decode b_BP_end 40 = .ok (.aload_n 0, 1) := by decide +kernel
theorem d_BP_end_41 : decode b_BP_end 41 = .ok (.getfield 10, 3) := by decide +kernel
theorem d_BP_end_44 : decode b_BP_end 44 = .ok (.getfield 47, 3) := by decide +kernel
theorem d_BP_end_47 : decode b_BP_end 47 = .ok (.iload_n 1, 1) := by decide +kernel
theorem d_BP_end_48 : decode b_BP_end 48 = .ok (.baload, 1) := by decide +kernel
theorem d_BP_end_49 : decode b_BP_end 49 = .ok (.ireturn, 1) := by decide +kernel
theorem d_BP_entry_0 : decode b_BP_entry 0 = .ok (.aload_n 0, 1) := by decide +kernel
theorem d_BP_entry_1 : decode b_BP_entry 1 = .ok (.getfield 10, 3) := by decide +kernel
theorem d_BP_entry_4 : decode b_BP_entry 4 = .ok (.iload_n 1, 1) := by decide +kernel
theorem d_BP_entry_5 : decode b_BP_entry 5 = .ok (.invokevirtual 57, 3) := by decide +kernel
theorem d_BP_entry_8 : decode b_BP_entry 8 = .ok (.ifCond .ne 5, 3) := by decide +kernel
theorem d_BP_entry_11 : decode b_BP_entry 11 = .ok (.iconst (-1), 1) := by decide +kernel
theorem d_BP_entry_12 : decode b_BP_entry 12 = .ok (.ireturn, 1) := by decide +kernel
theorem d_BP_entry_13 : decode b_BP_entry 13 = .ok (.iconst 0, 1) := by decide +kernel
theorem d_BP_entry_14 : decode b_BP_entry 14 = .ok (.istore_n 2, 1) := by decide +kernel
theorem d_BP_entry_15 : decode b_BP_entry 15 = .ok (.iconst 0, 1) := by decide +kernel
theorem d_BP_entry_16 : decode b_BP_entry 16 = .ok (.istore_n 3, 1) := by decide +kernel
theorem d_BP_entry_17 : decode b_BP_entry 17 = .ok (.iload_n 3, 1) := by decide +kernel
theorem d_BP_entry_18 : decode b_BP_entry 18 = .ok (.aload_n 0, 1) := by decide +kernel
theorem d_BP_entry_19 : decode b_BP_entry 19 = .ok (.getfield 10, 3) := by decide +kernel
theorem d_BP_entry_22 : decode b_BP_entry 22 = .ok (.getfield 29, 3) := by decide +kernel
theorem d_BP_entry_25 : decode b_BP_entry 25 = .ok (.if_icmp .ge 29, 3) := by decide +kernel
theorem d_BP_entry_28 : decode b_BP_entry 28 = .ok (.iload_n 2, 1) := by decide +kernel
theorem d_BP_entry_29 : decode b_BP_entry 29 = .ok (.aload_n 0, 1) := by decide +kernel
theorem d_BP_entry_30 : decode b_BP_entry 30 = .ok (.getfield 10, 3) := by decide +kernel
theorem d_BP_entry_33 : decode b_BP_entry 33 = .ok (.iload_n 3, 1) := by decide +kernel
theorem d_BP_entry_34 : decode b_BP_entry 34 = .ok (.iload_n 1, 1) := by decide +kernel
theorem d_BP_entry_35 : decode b_BP_entry 35 = .ok (.invokevirtual 63, 3) := by decide +kernel
theorem d_BP_entry_38 : decode b_BP_entry 38 = .ok (.ifCond .eq 7, 3) := by decide +kernel
theorem d_BP_entry_41 : decode b_BP_entry 41 = .ok (.iconst 1, 1) := by decide +kernel
theorem d_BP_entry_42 : decode b_BP_entry 42 = .ok (.goto 4, 3) := by decide +kernel
theorem d_BP_entry_45 : decode b_BP_entry 45 = .ok (.iconst 0, 1) := by decide +kernel
theorem d_BP_entry_46 : decode b_BP_entry 46 = .ok (.iadd, 1) := by decide +kernel
theorem d_BP_entry_47 : decode b_BP_entry 47 = .ok (.istore_n 2, 1) := by decide +kernel
theorem d_BP_entry_48 : decode b_BP_entry 48 = .ok (.iinc 3 1, 3) := by decide +kernel
theorem d_BP_entry_51 : decode b_BP_entry 51 = .ok (.goto (-34), 3) := by decide +kernel
theorem d_BP_entry_54 : decode b_BP_entry 54 = .ok (.iload_n 2, 1) := by decide +kernel
theorem d_BP_entry_55 : decode b_BP_entry 55 = .ok (.ireturn, 1) := by decide +kernel
theorem d_BP_missed_0 : decode b_BP_missed 0 = .ok (.aload_n 0, 1) := by decide +kernel
theorem d_BP_missed_1 : decode b_BP_missed 1 = .ok (.getfield 10, 3) := by decide +kernel
theorem d_BP_missed_4 : decode b_BP_missed 4 = .ok (.iload_n 1, 1) := by decide +kernel
theorem d_BP_missed_5 : decode b_BP_missed 5 = .ok (.invokevirtual 57, 3) := by decide +kernel
theorem d_BP_missed_8 : decode b_BP_missed 8 = .ok (.ifCond .eq 14, 3) := by decide +kernel
theorem d_BP_missed_11 : decode b_BP_missed 11 = .ok (.aload_n 0, 1) := by decide +kernel
theorem d_BP_missed_12 : decode b_BP_missed 12 = .ok (.getfield 21, 3) := by decide +kernel
theorem d_BP_missed_15 : decode b_BP_missed 15 = .ok (.iload_n 1, 1) := by decide +kernel
theorem d_BP_missed_16 : decode b_BP_missed 16 = .ok (.invokevirtual 67, 3) := by decide +kernel
theorem d_BP_missed_19 : decode b_BP_missed 19 = .ok (.goto 4, 3) := by decide +kernel
theorem d_BP_missed_22 : decode b_BP_missed 22 = .ok (.iconst (-1), 1) := by decide +kernel
theorem d_BP_missed_23 : decode b_BP_missed 23 = .ok (.ireturn, 1) := by decide +kernel
theorem d_BP_packs_0 : decode b_BP_packs 0 = .ok (.aload_n 0, 1) := by decide +kernel
theorem d_BP_packs_1 : decode b_BP_packs 1 = .ok (.iconst 0, 1) := by decide +kernel
theorem d_BP_packs_2 : decode b_BP_packs 2 = .ok (.putfield 35, 3) := by decide +kernel
theorem d_BP_packs_5 : decode b_BP_packs 5 = .ok (.aload_n 0, 1) := by decide +kernel
theorem d_BP_packs_6 : decode b_BP_packs 6 = .ok (.getfield 21, 3) := by decide +kernel
theorem d_BP_packs_9 : decode b_BP_packs 9 = .ok (.iconst (-1), 1) := by decide +kernel
theorem d_BP_packs_10 : decode b_BP_packs 10 = .ok (.invokevirtual 71, 3) := by decide +kernel
theorem d_BP_packs_13 : decode b_BP_packs 13 = .ok (.ireturn, 1) := by decide +kernel
theorem d_BP_stopper_0 : decode b_BP_stopper 0 = .ok (.iconst 0, 1) := by decide +kernel
theorem d_BP_stopper_1 : decode b_BP_stopper 1 = .ok (.istore_n 1, 1) := by decide +kernel
theorem d_BP_stopper_2 : decode b_BP_stopper 2 = .ok (.aload_n 0, 1) := by decide +kernel
theorem d_BP_stopper_3 : decode b_BP_stopper 3 = .ok (.invokevirtual 74, 3) := by decide +kernel
theorem d_BP_stopper_6 : decode b_BP_stopper 6 = .ok (.ifCond .eq 5, 3) := by decide +kernel
theorem d_BP_stopper_9 : decode b_BP_stopper 9 = .ok (.iload_n 1, 1) := by decide +kernel
theorem d_BP_stopper_10 : decode b_BP_stopper 10 = .ok (.ireturn, 1) := by decide +kernel
theorem d_BP_stopper_11 : decode b_BP_stopper 11 = .ok (.iconst 1, 1) := by decide +kernel
theorem d_BP_stopper_12 : decode b_BP_stopper 12 = .ok (.istore_n 2, 1) := by decide +kernel
theorem d_BP_stopper_13 : decode b_BP_stopper 13 = .ok (.iload_n 2, 1) := by decide +kernel
theorem d_BP_stopper_14 : decode b_BP_stopper 14 = .ok (.aload_n 0, 1) := by decide +kernel
theorem d_BP_stopper_15 : decode b_BP_stopper 15 = .ok (.getfield 10, 3) := by decide +kernel
theorem d_BP_stopper_18 : decode b_BP_stopper 18 = .ok (.invokevirtual 77, 3) := by decide +kernel
theorem d_BP_stopper_21 : decode b_BP_stopper 21 = .ok (.if_icmp .gt 39, 3) := by decide +kernel
theorem d_BP_stopper_24 : decode b_BP_stopper 24 = .ok (.aload_n 0, 1) := by decide +kernel
theorem d_BP_stopper_25 : decode b_BP_stopper 25 = .ok (.iload_n 2, 1) := by decide +kernel
theorem d_BP_stopper_26 : decode b_BP_stopper 26 = .ok (.invokevirtual 81, 3) := by decide +kernel
theorem d_BP_stopper_29 : decode b_BP_stopper 29 = .ok (.aload_n 0, 1) := by decide +kernel
theorem d_BP_stopper_30 : decode b_BP_stopper 30 = .ok (.getfield 21, 3) := by decide +kernel
theorem d_BP_stopper_33 : decode b_BP_stopper 33 = .ok (.iload_n 2, 1) := by decide +kernel
theorem d_BP_stopper_34 : decode b_BP_stopper 34 = .ok (.invokevirtual 67, 3) := by decide +kernel
theorem d_BP_stopper_37 : decode b_BP_stopper 37 = .ok (.if_icmp .ge 17, 3) := by decide +kernel
theorem d_BP_stopper_40 : decode b_BP_stopper 40 = .ok (.iload_n 1, 1) := by decide +kernel
theorem d_BP_stopper_41 : decode b_BP_stopper 41 = .ok (.ifCond .eq 11, 3) := by decide +kernel
theorem d_BP_stopper_44 : decode b_BP_stopper 44 = .ok (.iload_n 2, 1) := by decide +kernel
theorem d_BP_stopper_45 : decode b_BP_stopper 45 = .ok (.iload_n 1, 1) := by decide +kernel
theorem d_BP_stopper_46 : decode b_BP_stopper 46 = .ok (.invokestatic 84, 3) := by decide +kernel
theorem d_BP_stopper_49 : decode b_BP_stopper 49 = .ok (.ifCond .eq 5, 3) := by decide +kernel
theorem d_BP_stopper_52 : decode b_BP_stopper 52 = .ok (.iload_n 2, 1) := by decide +kernel
theorem d_BP_stopper_53 : decode b_BP_stopper 53 = .ok (.istore_n 1, 1) := by decide +kernel
theorem d_BP_stopper_54 : decode b_BP_stopper 54 = .ok (.iinc 2 1, 3) := by decide +kernel
theorem d_BP_stopper_57 : decode b_BP_stopper 57 = .ok (.goto (-44), 3) := by decide +kernel
theorem d_BP_stopper_60 : decode b_BP_stopper 60 = .ok (.iload_n 1, 1) := by decide +kernel
theorem d_BP_stopper_61 : decode b_BP_stopper 61 = .ok (.ireturn, 1) := by decide +kernel
theorem d_BP_isBefore_0 : decode b_BP_isBefore 0 = .ok (.iload_n 0, 1) := by decide +kernel
theorem d_BP_isBefore_1 : decode b_BP_isBefore 1 = .ok (.invokestatic 87, 3) := by decide +kernel
theorem d_BP_isBefore_4 : decode b_BP_isBefore 4 = .ok (.iload_n 1, 1) := by decide +kernel
theorem d_BP_isBefore_5 : decode b_BP_isBefore 5 = .ok (.invokestatic 87, 3) := by decide +kernel
theorem d_BP_isBefore_8 : decode b_BP_isBefore 8 = .ok (.isub, 1) := by decide +kernel
theorem d_BP_isBefore_9 : decode b_BP_isBefore 9 = .ok (.istore_n 2, 1) := by decide +kernel
theorem d_BP_isBefore_10 : decode b_BP_isBefore 10 = .ok (.iload_n 2, 1) := by decide +kernel
theorem d_BP_isBefore_11 : decode b_BP_isBefore 11 = .ok (.ifCond .eq 15, 3) := by decide +kernel
theorem d_BP_isBefore_14 : decode b_BP_isBefore 14 = .ok (.iload_n 2, 1) := by decide +kernel
theorem d_BP_isBefore_15 : decode b_BP_isBefore 15 = .ok (.ifCond .ge 7, 3) := by decide +kernel
theorem d_BP_isBefore_18 : decode b_BP_isBefore 18 = .ok (.iconst 1, 1) := by decide +kernel
theorem d_BP_isBefore_19 : decode b_BP_isBefore 19 = .ok (.goto 23, 3) := by decide +kernel
theorem d_BP_isBefore_22 : decode b_BP_isBefore 22 = .ok (.iconst 0, 1) := by decide +kernel
theorem d_BP_isBefore_23 : decode b_BP_isBefore 23 = .ok (.goto 19, 3) := by decide +kernel
theorem d_BP_isBefore_26 : decode b_BP_isBefore 26 = .ok (.iload_n 0, 1) := by decide +kernel
theorem d_BP_isBefore_27 : decode b_BP_isBefore 27 = .ok (.iload_n 0, 1) := by decide +kernel
theorem d_BP_isBefore_28 : decode b_BP_isBefore 28 = .ok (.iload_n 1, 1) := by decide +kernel
theorem d_BP_isBefore_29 : decode b_BP_isBefore 29 = .ok (.ixor, 1) := by decide +kernel
theorem d_BP_isBefore_30 : decode b_BP_isBefore 30 = .ok (.invokestatic 92, 3) := by decide +kernel
theorem d_BP_isBefore_33 : decode b_BP_isBefore 33 = .ok (.iand, 1) := by decide +kernel
theorem d_BP_isBefore_34 : decode b_BP_isBefore 34 = .ok (.ifCond .eq 7, 3) := by decide +kernel
theorem d_BP_isBefore_37 : decode b_BP_isBefore 37 = .ok (.iconst 1, 1) := by decide +kernel
theorem d_BP_isBefore_38 : decode b_BP_isBefore 38 = .ok (.goto 4, 3) := by decide +kernel
theorem d_BP_isBefore_41 : decode b_BP_isBefore 41 = .ok (.iconst 0, 1) := by decide +kernel
theorem d_BP_isBefore_42 : decode b_BP_isBefore 42 = .ok (.ireturn, 1) := by decide +kernel
theorem d_BP_hasPacking_0 : decode b_BP_hasPacking 0 = .ok (.aload_n 0, 1) := by decide +kernel
theorem d_BP_hasPacking_1 : decode b_BP_hasPacking 1 = .ok (.getfield 35, 3) := by decide +kernel
theorem d_BP_hasPacking_4 : decode b_BP_hasPacking 4 = .ok (.ifCond .ne 15, 3) := by decide +kernel
theorem d_BP_hasPacking_7 : decode b_BP_hasPacking 7 = .ok (.aload_n 0, 1) := by decide +kernel
theorem d_BP_hasPacking_8 : decode b_BP_hasPacking 8 = .ok (.getfield 21, 3) := by decide +kernel
theorem d_BP_hasPacking_11 : decode b_BP_hasPacking 11 = .ok (.invokevirtual 95, 3) := by decide +kernel
theorem d_BP_hasPacking_14 : decode b_BP_hasPacking 14 = .ok (.aload_n 0, 1) := by decide +kernel
theorem d_BP_hasPacking_15 : decode b_BP_hasPacking 15 = .ok (.iconst 1, 1) := by decide +kernel
theorem d_BP_hasPacking_16 : decode b_BP_hasPacking 16 = .ok (.putfield 35, 3) := by decide +kernel
theorem d_BP_hasPacking_19 : decode b_BP_hasPacking 19 = .ok (.aload_n 0, 1) := by decide +kernel
theorem d_BP_hasPacking_20 : decode b_BP_hasPacking 20 = .ok (.getfield 21, 3) := by decide +kernel
theorem d_BP_hasPacking_23 : decode b_BP_hasPacking 23 = .ok (.getfield 98, 3) := by decide +kernel
theorem d_BP_hasPacking_26 : decode b_BP_hasPacking 26 = .ok (.ireturn, 1) := by decide +kernel
theorem d_BP_owner_0 : decode b_BP_owner 0 = .ok (.aload_n 0, 1) := by decide +kernel
theorem d_BP_owner_1 : decode b_BP_owner 1 = .ok (.getfield 10, 3) := by decide +kernel
theorem d_BP_owner_4 : decode b_BP_owner 4 = .ok (.iload_n 1, 1) := by decide +kernel
theorem d_BP_owner_5 : decode b_BP_owner 5 = .ok (.invokevirtual 50, 3) := by decide +kernel
theorem d_BP_owner_8 : decode b_BP_owner 8 = .ok (.ifCond .eq 22, 3) := by decide +kernel
theorem d_BP_owner_11 : decode b_BP_owner 11 = .ok (.aload_n 0, 1) := by decide +kernel
theorem d_BP_owner_12 : decode b_BP_owner 12 = .ok (.invokevirtual 101, 3) := by decide +kernel
theorem d_BP_owner_15 : decode b_BP_owner 15 = .ok (.ifCond .eq 15, 3) := by decide +kernel
theorem d_BP_owner_18 : decode b_BP_owner 18 = .ok (.aload_n 0, 1) := by decide +kernel
theorem d_BP_owner_19 : decode b_BP_owner 19 = .ok (.getfield 21, 3) := by decide +kernel
theorem d_BP_owner_22 : decode b_BP_owner 22 = .ok (.getfield 104, 3) := by decide +kernel
theorem d_BP_owner_25 : decode b_BP_owner 25 = .ok (.iload_n 1, 1) := by decide +kernel
theorem d_BP_owner_26 : decode b_BP_owner 26 = .ok (.iaload, 1) := by decide +kernel
theorem d_BP_owner_27 : decode b_BP_owner 27 = .ok (.goto 4, 3) := by decide +kernel
theorem d_BP_owner_30 : decode b_BP_owner 30 = .ok (.iconst (-1), 1) := by decide +kernel
theorem d_BP_owner_31 : decode b_BP_owner 31 = .ok (.ireturn, 1) := by decide +kernel
theorem d_BP_way_0 : decode b_BP_way 0 = .ok (.iload_n 1, 1) := by decide +kernel
theorem d_BP_way_1 : decode b_BP_way 1 = .ok (.ifCond .lt 32, 3) := by decide +kernel
theorem d_BP_way_4 : decode b_BP_way 4 = .ok (.iload_n 1, 1) := by decide +kernel
theorem d_BP_way_5 : decode b_BP_way 5 = .ok (.aload_n 0, 1) := by decide +kernel
theorem d_BP_way_6 : decode b_BP_way 6 = .ok (.getfield 21, 3) := by decide +kernel
theorem d_BP_way_9 : decode b_BP_way 9 = .ok (.getfield 32, 3) := by decide +kernel
theorem d_BP_way_12 : decode b_BP_way 12 = .ok (.if_icmp .ge 21, 3) := by decide +kernel
theorem d_BP_way_15 : decode b_BP_way 15 = .ok (.aload_n 0, 1) := by decide +kernel
theorem d_BP_way_16 : decode b_BP_way 16 = .ok (.getfield 10, 3) := by decide +kernel
theorem d_BP_way_19 : decode b_BP_way 19 = .ok (.iload_n 2, 1) := by decide +kernel
theorem d_BP_way_20 : decode b_BP_way 20 = .ok (.invokevirtual 39, 3) := by decide +kernel
theorem d_BP_way_23 : decode b_BP_way 23 = .ok (.ifCond .eq 10, 3) := by decide +kernel
theorem d_BP_way_26 : decode b_BP_way 26 = .ok (.aload_n 0, 1) := by decide +kernel
theorem d_BP_way_27 : decode b_BP_way 27 = .ok (.invokevirtual 101, 3) := by decide +kernel
theorem d_BP_way_30 : decode b_BP_way 30 = .ok (.ifCond .ne 5, 3) := by decide +kernel
theorem d_BP_way_33 : decode b_BP_way 33 = .ok (.iconst (-1), 1) := by decide +kernel
theorem d_BP_way_34 : decode b_BP_way 34 = .ok (.ireturn, 1) := by decide +kernel
theorem d_BP_way_35 : decode b_BP_way 35 = .ok (.iconst (-1), 1) := by decide +kernel
theorem d_BP_way_36 : decode b_BP_way 36 = .ok (.istore_n 3, 1) := by decide +kernel
theorem d_BP_way_37 : decode b_BP_way 37 = .ok (.iconst 0, 1) := by decide +kernel
theorem d_BP_way_38 : decode b_BP_way 38 = .ok (.istore 4, 2) := by decide +kernel
theorem d_BP_way_40 : decode b_BP_way 40 = .ok (.iload 4, 2) := by decide +kernel
theorem d_BP_way_42 : decode b_BP_way 42 = .ok (.aload_n 0, 1) := by decide +kernel
theorem d_BP_way_43 : decode b_BP_way 43 = .ok (.getfield 10, 3) := by decide +kernel
theorem d_BP_way_46 : decode b_BP_way 46 = .ok (.getfield 29, 3) := by decide +kernel
theorem d_BP_way_49 : decode b_BP_way 49 = .ok (.if_icmp .ge 44, 3) := by decide +kernel
theorem d_BP_way_52 : decode b_BP_way 52 = .ok (.aload_n 0, 1) := by decide +kernel
theorem d_BP_way_53 : decode b_BP_way 53 = .ok (.getfield 21, 3) := by decide +kernel
theorem d_BP_way_56 : decode b_BP_way 56 = .ok (.getfield 104, 3) := by decide +kernel
theorem d_BP_way_59 : decode b_BP_way 59 = .ok (.iload 4, 2) := by decide +kernel
theorem d_BP_way_61 : decode b_BP_way 61 = .ok (.iaload, 1) := by decide +kernel
theorem d_BP_way_62 : decode b_BP_way 62 = .ok (.iload_n 1, 1) := by decide +kernel
theorem d_BP_way_63 : decode b_BP_way 63 = .ok (.if_icmp .ne 22, 3) := by decide +kernel
theorem d_BP_way_66 : decode b_BP_way 66 = .ok (.aload_n 0, 1) := by decide +kernel
theorem d_BP_way_67 : decode b_BP_way 67 = .ok (.getfield 10, 3) := by decide +kernel
theorem d_BP_way_70 : decode b_BP_way 70 = .ok (.getfield 47, 3) := by decide +kernel
theorem d_BP_way_73 : decode b_BP_way 73 = .ok (.iload 4, 2) := by decide +kernel
theorem d_BP_way_75 : decode b_BP_way 75 = .ok (.baload, 1) := by decide +kernel
theorem d_BP_way_76 : decode b_BP_way 76 = .ok (.iload_n 2, 1) := by decide +kernel
theorem d_BP_way_77 : decode b_BP_way 77 = .ok (.if_icmp .ne 8, 3) := by decide +kernel
theorem d_BP_way_80 : decode b_BP_way 80 = .ok (.iload 4, 2) := by decide +kernel
theorem d_BP_way_82 : decode b_BP_way 82 = .ok (.goto 4, 3) := by decide +kernel
theorem d_BP_way_85 : decode b_BP_way 85 = .ok (.iload_n 3, 1) := by decide +kernel
theorem d_BP_way_86 : decode b_BP_way 86 = .ok (.istore_n 3, 1) := by decide +kernel
theorem d_BP_way_87 : decode b_BP_way 87 = .ok (.iinc 4 1, 3) := by decide +kernel
theorem d_BP_way_90 : decode b_BP_way 90 = .ok (.goto (-50), 3) := by decide +kernel
theorem d_BP_way_93 : decode b_BP_way 93 = .ok (.iload_n 3, 1) := by decide +kernel
theorem d_BP_way_94 : decode b_BP_way 94 = .ok (.ireturn, 1) := by decide +kernel
theorem d_BP_spare_0 : decode b_BP_spare 0 = .ok (.aload_n 0, 1) := by decide +kernel
theorem d_BP_spare_1 : decode b_BP_spare 1 = .ok (.getfield 10, 3) := by decide +kernel
theorem d_BP_spare_4 : decode b_BP_spare 4 = .ok (.iload_n 1, 1) := by decide +kernel
theorem d_BP_spare_5 : decode b_BP_spare 5 = .ok (.invokevirtual 50, 3) := by decide +kernel
theorem d_BP_spare_8 : decode b_BP_spare 8 = .ok (.ifCond .ne 5, 3) := by decide +kernel
theorem d_BP_spare_11 : decode b_BP_spare 11 = .ok (.iconst 0, 1) := by decide +kernel
theorem d_BP_spare_12 : decode b_BP_spare 12 = .ok (.ireturn, 1) := by decide +kernel
theorem d_BP_spare_13 : decode b_BP_spare 13 = .ok (.aload_n 0, 1) := by decide +kernel
theorem d_BP_spare_14 : decode b_BP_spare 14 = .ok (.iconst 0, 1) := by decide +kernel
theorem d_BP_spare_15 : decode b_BP_spare 15 = .ok (.putfield 35, 3) := by decide +kernel
theorem d_BP_spare_18 : decode b_BP_spare 18 = .ok (.aload_n 0, 1) := by decide +kernel
theorem d_BP_spare_19 : decode b_BP_spare 19 = .ok (.getfield 21, 3) := by decide +kernel
theorem d_BP_spare_22 : decode b_BP_spare 22 = .ok (.iload_n 1, 1) := by decide +kernel
theorem d_BP_spare_23 : decode b_BP_spare 23 = .ok (.invokevirtual 71, 3) := by decide +kernel
theorem d_BP_spare_26 : decode b_BP_spare 26 = .ok (.ireturn, 1) := by decide +kernel
theorem d_BP_most_0 : decode b_BP_most 0 = .ok (.aload_n 0, 1) := by decide +kernel
theorem d_BP_most_1 : decode b_BP_most 1 = .ok (.getfield 10, 3) := by decide +kernel
theorem d_BP_most_4 : decode b_BP_most 4 = .ok (.iload_n 1, 1) := by decide +kernel
theorem d_BP_most_5 : decode b_BP_most 5 = .ok (.invokevirtual 57, 3) := by decide +kernel
theorem d_BP_most_8 : decode b_BP_most 8 = .ok (.ifCond .eq 18, 3) := by decide +kernel
theorem d_BP_most_11 : decode b_BP_most 11 = .ok (.iload_n 1, 1) := by decide +kernel
theorem d_BP_most_12 : decode b_BP_most 12 = .ok (.ifCond .eq 14, 3) := by decide +kernel
theorem d_BP_most_15 : decode b_BP_most 15 = .ok (.aload_n 0, 1) := by decide +kernel
theorem d_BP_most_16 : decode b_BP_most 16 = .ok (.getfield 21, 3) := by decide +kernel
theorem d_BP_most_19 : decode b_BP_most 19 = .ok (.iload_n 1, 1) := by decide +kernel
theorem d_BP_most_20 : decode b_BP_most 20 = .ok (.invokevirtual 108, 3) := by decide +kernel
theorem d_BP_most_23 : decode b_BP_most 23 = .ok (.goto 4, 3) := by decide +kernel
theorem d_BP_most_26 : decode b_BP_most 26 = .ok (.iconst (-1), 1) := by decide +kernel
theorem d_BP_most_27 : decode b_BP_most 27 = .ok (.ireturn, 1) := by decide +kernel
theorem d_Grove_init_0 : decode b_Grove_init 0 = .ok (.aload_n 0, 1) := by decide +kernel
theorem d_Grove_init_1 : decode b_Grove_init 1 = .ok (.invokespecial 3, 3) := by decide +kernel
theorem d_Grove_init_4 : decode b_Grove_init 4 = .ok (.aload_n 0, 1) := by decide +kernel
theorem d_Grove_init_5 : decode b_Grove_init 5 = .ok (.new 9, 3) := by decide +kernel
theorem d_Grove_init_8 : decode b_Grove_init 8 = .ok (.dup, 1) := by decide +kernel
theorem d_Grove_init_9 : decode b_Grove_init 9 = .ok (.invokespecial 11, 3) := by decide +kernel
theorem d_Grove_init_12 : decode b_Grove_init 12 = .ok (.putfield 12, 3) := by decide +kernel
theorem d_Grove_init_15 : decode b_Grove_init 15 = .ok (.aload_n 0, 1) := by decide +kernel
theorem d_Grove_init_16 : decode b_Grove_init 16 = .ok (.iconst 3, 1) := by decide +kernel
theorem d_Grove_init_17 : decode b_Grove_init 17 = .ok (.newarray .byte, 2) := by decide +kernel
theorem d_Grove_init_19 : decode b_Grove_init 19 = .ok (.putfield 18, 3) := by decide +kernel
theorem d_Grove_init_22 : decode b_Grove_init 22 = .ok (.aload_n 0, 1) := by decide +kernel
theorem d_Grove_init_23 : decode b_Grove_init 23 = .ok (.iconst 3, 1) := by decide +kernel
theorem d_Grove_init_24 : decode b_Grove_init 24 = .ok (.newarray .int, 2) := by decide +kernel
theorem d_Grove_init_26 : decode b_Grove_init 26 = .ok (.putfield 22, 3) := by decide +kernel
theorem d_Grove_init_29 : decode b_Grove_init 29 = .ok (.aload_n 0, 1) := by decide +kernel
theorem d_Grove_init_30 : decode b_Grove_init 30 = .ok (.bipush 14, 2) := by decide +kernel
theorem d_Grove_init_32 : decode b_Grove_init 32 = .ok (.newarray .int, 2) := by decide +kernel
theorem d_Grove_init_34 : decode b_Grove_init 34 = .ok (.putfield 26, 3) := by decide +kernel
theorem d_Grove_init_37 : decode b_Grove_init 37 = .ok (.aload_n 0, 1) := by decide +kernel
theorem d_Grove_init_38 : decode b_Grove_init 38 = .ok (.aload_n 1, 1) := by decide +kernel
theorem d_Grove_init_39 : decode b_Grove_init 39 = .ok (.putfield 29, 3) := by decide +kernel
theorem d_Grove_init_42 : decode b_Grove_init 42 = .ok (.return_, 1) := by decide +kernel
theorem d_Grove_start_0 : decode b_Grove_start 0 = .ok (.iconst 0, 1) := by decide +kernel
theorem d_Grove_start_1 : decode b_Grove_start 1 = .ok (.istore_n 1, 1) := by decide +kernel
theorem d_Grove_start_2 : decode b_Grove_start 2 = .ok (.iload_n 1, 1) := by decide +kernel
theorem d_Grove_start_3 : decode b_Grove_start 3 = .ok (.aload_n 0, 1) := by decide +kernel
theorem d_Grove_start_4 : decode b_Grove_start 4 = .ok (.getfield 33, 3) := by decide +kernel
theorem d_Grove_start_7 : decode b_Grove_start 7 = .ok (.if_icmp .ge 21, 3) := by decide +kernel
theorem d_Grove_start_10 : decode b_Grove_start 10 = .ok (.aload_n 0, 1) := by decide +kernel
theorem d_Grove_start_11 : decode b_Grove_start 11 = .ok (.getfield 22, 3) := by decide +kernel
theorem d_Grove_start_14 : decode b_Grove_start 14 = .ok (.iload_n 1, 1) := by decide +kernel
theorem d_Grove_start_15 : decode b_Grove_start 15 = .ok (.aload_n 0, 1) := by decide +kernel
theorem d_Grove_start_16 : decode b_Grove_start 16 = .ok (.getfield 18, 3) := by decide +kernel
theorem d_Grove_start_19 : decode b_Grove_start 19 = .ok (.iload_n 1, 1) := by decide +kernel
theorem d_Grove_start_20 : decode b_Grove_start 20 = .ok (.baload, 1) := by decide +kernel
theorem d_Grove_start_21 : decode b_Grove_start 21 = .ok (.iastore, 1) := by decide +kernel
theorem d_Grove_start_22 : decode b_Grove_start 22 = .ok (.iinc 1 1, 3) := by decide +kernel
theorem d_Grove_start_25 : decode b_Grove_start 25 = .ok (.goto (-23), 3) := by decide +kernel
theorem d_Grove_start_28 : decode b_Grove_start 28 = .ok (.iconst 0, 1) := by decide +kernel
theorem d_Grove_start_29 : decode b_Grove_start 29 = .ok (.istore_n 1, 1) := by decide +kernel
theorem d_Grove_start_30 : decode b_Grove_start 30 = .ok (.iload_n 1, 1) := by decide +kernel
theorem d_Grove_start_31 : decode b_Grove_start 31 = .ok (.aload_n 0, 1) := by decide +kernel
theorem d_Grove_start_32 : decode b_Grove_start 32 = .ok (.getfield 29, 3) := by decide +kernel
theorem d_Grove_start_35 : decode b_Grove_start 35 = .ok (.getfield 37, 3) := by decide +kernel
theorem d_Grove_start_38 : decode b_Grove_start 38 = .ok (.if_icmp .ge 16, 3) := by decide +kernel
theorem d_Grove_start_41 : decode b_Grove_start 41 = .ok (.aload_n 0, 1) := by decide +kernel
theorem d_Grove_start_42 : decode b_Grove_start 42 = .ok (.getfield 26, 3) := by decide +kernel
theorem d_Grove_start_45 : decode b_Grove_start 45 = .ok (.iload_n 1, 1) := by decide +kernel
theorem d_Grove_start_46 : decode b_Grove_start 46 = .ok (.iconst (-1), 1) := by decide +kernel
theorem d_Grove_start_47 : decode b_Grove_start 47 = .ok (.iastore, 1) := by decide +kernel
theorem d_Grove_start_48 : decode b_Grove_start 48 = .ok (.iinc 1 1, 3) := by decide +kernel
theorem d_Grove_start_51 : decode b_Grove_start 51 = .ok (.goto (-21), 3) := by decide +kernel
theorem d_Grove_start_54 : decode b_Grove_start 54 = .ok (.return_, 1) := by decide +kernel
theorem d_Grove_can_0 : decode b_Grove_can 0 = .ok (.aload_n 0, 1) := by decide +kernel
theorem d_Grove_can_1 : decode b_Grove_can 1 = .ok (.getfield 29, 3) := by decide +kernel
theorem d_Grove_can_4 : decode b_Grove_can 4 = .ok (.getfield 42, 3) := by decide +kernel
theorem d_Grove_can_7 : decode b_Grove_can 7 = .ok (.istore_n 2, 1) := by decide +kernel
theorem d_Grove_can_8 : decode b_Grove_can 8 = .ok (.aload_n 0, 1) := by decide +kernel
theorem d_Grove_can_9 : decode b_Grove_can 9 = .ok (.getfield 12, 3) := by decide +kernel
theorem d_Grove_can_12 : decode b_Grove_can 12 = .ok (.iload_n 2, 1) := by decide +kernel
theorem d_Grove_can_13 : decode b_Grove_can 13 = .ok (.iconst 1, 1) := by decide +kernel
theorem d_Grove_can_14 : decode b_Grove_can 14 = .ok (.iadd, 1) := by decide +kernel
theorem d_Grove_can_15 : decode b_Grove_can 15 = .ok (.aload_n 0, 1) := by decide +kernel
theorem d_Grove_can_16 : decode b_Grove_can 16 = .ok (.getfield 33, 3) := by decide +kernel
theorem d_Grove_can_19 : decode b_Grove_can 19 = .ok (.iadd, 1) := by decide +kernel
theorem d_Grove_can_20 : decode b_Grove_can 20 = .ok (.invokevirtual 45, 3) := by decide +kernel
theorem d_Grove_can_23 : decode b_Grove_can 23 = .ok (.iconst 0, 1) := by decide +kernel
theorem d_Grove_can_24 : decode b_Grove_can 24 = .ok (.istore_n 3, 1) := by decide +kernel
theorem d_Grove_can_25 : decode b_Grove_can 25 = .ok (.iload_n 3, 1) := by decide +kernel
theorem d_Grove_can_26 : decode b_Grove_can 26 = .ok (.aload_n 0, 1) := by decide +kernel
theorem d_Grove_can_27 : decode b_Grove_can 27 = .ok (.getfield 33, 3) := by decide +kernel
theorem d_Grove_can_30 : decode b_Grove_can 30 = .ok (.if_icmp .ge 74, 3) := by decide +kernel
theorem d_Grove_can_33 : decode b_Grove_can 33 = .ok (.aload_n 0, 1) := by decide +kernel
theorem d_Grove_can_34 : decode b_Grove_can 34 = .ok (.getfield 12, 3) := by decide +kernel
theorem d_Grove_can_37 : decode b_Grove_can 37 = .ok (.iload_n 2, 1) := by decide +kernel
theorem d_Grove_can_38 : decode b_Grove_can 38 = .ok (.iload_n 2, 1) := by decide +kernel
theorem d_Grove_can_39 : decode b_Grove_can 39 = .ok (.iconst 1, 1) := by decide +kernel
theorem d_Grove_can_40 : decode b_Grove_can 40 = .ok (.iadd, 1) := by decide +kernel
theorem d_Grove_can_41 : decode b_Grove_can 41 = .ok (.iload_n 3, 1) := by decide +kernel
theorem d_Grove_can_42 : decode b_Grove_can 42 = .ok (.iadd, 1) := by decide +kernel
theorem d_Grove_can_43 : decode b_Grove_can 43 = .ok (.iconst 1, 1) := by decide +kernel
theorem d_Grove_can_44 : decode b_Grove_can 44 = .ok (.invokevirtual 49, 3) := by decide +kernel
theorem d_Grove_can_47 : decode b_Grove_can 47 = .ok (.iconst 0, 1) := by decide +kernel
theorem d_Grove_can_48 : decode b_Grove_can 48 = .ok (.istore 4, 2) := by decide +kernel
theorem d_Grove_can_50 : decode b_Grove_can 50 = .ok (.iload 4, 2) := by decide +kernel
theorem d_Grove_can_52 : decode b_Grove_can 52 = .ok (.aload_n 0, 1) := by decide +kernel
theorem d_Grove_can_53 : decode b_Grove_can 53 = .ok (.getfield 29, 3) := by decide +kernel
theorem d_Grove_can_56 : decode b_Grove_can 56 = .ok (.getfield 42, 3) := by decide +kernel
theorem d_Grove_can_59 : decode b_Grove_can 59 = .ok (.if_icmp .ge 39, 3) := by decide +kernel
theorem d_Grove_can_62 : decode b_Grove_can 62 = .ok (.aload_n 0, 1) := by decide +kernel
theorem d_Grove_can_63 : decode b_Grove_can 63 = .ok (.getfield 22, 3) := by decide +kernel
theorem d_Grove_can_66 : decode b_Grove_can 66 = .ok (.iload_n 3, 1) := by decide +kernel
theorem d_Grove_can_67 : decode b_Grove_can 67 = .ok (.iaload, 1) := by decide +kernel
theorem d_Grove_can_68 : decode b_Grove_can 68 = .ok (.iload 4, 2) := by decide +kernel
theorem d_Grove_can_70 : decode b_Grove_can 70 = .ok (.ishr, 1) := by decide +kernel
theorem d_Grove_can_71 : decode b_Grove_can 71 = .ok (.iconst 1, 1) := by decide +kernel
theorem d_Grove_can_72 : decode b_Grove_can 72 = .ok (.iand, 1) := by decide +kernel
theorem d_Grove_can_73 : decode b_Grove_can 73 = .ok (.iconst 1, 1) := by decide +kernel
theorem d_Grove_can_74 : decode b_Grove_can 74 = .ok (.if_icmp .ne 18, 3) := by decide +kernel
theorem d_Grove_can_77 : decode b_Grove_can 77 = .ok (.aload_n 0, 1) := by decide +kernel
theorem d_Grove_can_78 : decode b_Grove_can 78 = .ok (.getfield 12, 3) := by decide +kernel
theorem d_Grove_can_81 : decode b_Grove_can 81 = .ok (.iload_n 2, 1) := by decide +kernel
theorem d_Grove_can_82 : decode b_Grove_can 82 = .ok (.iconst 1, 1) := by decide +kernel
theorem d_Grove_can_83 : decode b_Grove_can 83 = .ok (.iadd, 1) := by decide +kernel
theorem d_Grove_can_84 : decode b_Grove_can 84 = .ok (.iload_n 3, 1) := by decide +kernel
theorem d_Grove_can_85 : decode b_Grove_can 85 = .ok (.iadd, 1) := by decide +kernel
theorem d_Grove_can_86 : decode b_Grove_can 86 = .ok (.iload 4, 2) := by decide +kernel
theorem d_Grove_can_88 : decode b_Grove_can 88 = .ok (.iconst 1, 1) := by decide +kernel
theorem d_Grove_can_89 : decode b_Grove_can 89 = .ok (.invokevirtual 49, 3) := by decide +kernel
theorem d_Grove_can_92 : decode b_Grove_can 92 = .ok (.iinc 4 1, 3) := by decide +kernel
theorem d_Grove_can_95 : decode b_Grove_can 95 = .ok (.goto (-45), 3) := by decide +kernel
theorem d_Grove_can_98 : decode b_Grove_can 98 = .ok (.iinc 3 1, 3) := by decide +kernel
theorem d_Grove_can_101 : decode b_Grove_can 101 = .ok (.goto (-76), 3) := by decide +kernel
theorem d_Grove_can_104 : decode b_Grove_can 104 = .ok (.iconst 0, 1) := by decide +kernel
theorem d_Grove_can_105 : decode b_Grove_can 105 = .ok (.istore_n 3, 1) := by decide +kernel
theorem d_Grove_can_106 : decode b_Grove_can 106 = .ok (.iload_n 3, 1) := by decide +kernel
theorem d_Grove_can_107 : decode b_Grove_can 107 = .ok (.aload_n 0, 1) := by decide +kernel
theorem d_Grove_can_108 : decode b_Grove_can 108 = .ok (.getfield 29, 3) := by decide +kernel
theorem d_Grove_can_111 : decode b_Grove_can 111 = .ok (.getfield 37, 3) := by decide +kernel
theorem d_Grove_can_114 : decode b_Grove_can 114 = .ok (.if_icmp .ge 50, 3) := by decide +kernel
theorem d_Grove_can_117 : decode b_Grove_can 117 = .ok (.aload_n 0, 1) := by decide +kernel
theorem d_Grove_can_118 : decode b_Grove_can 118 = .ok (.getfield 26, 3) := by decide +kernel
theorem d_Grove_can_121 : decode b_Grove_can 121 = .ok (.iload_n 3, 1) := by decide +kernel
theorem d_Grove_can_122 : decode b_Grove_can 122 = .ok (.iaload, 1) := by decide +kernel
theorem d_Grove_can_123 : decode b_Grove_can 123 = .ok (.iconst (-1), 1) := by decide +kernel
theorem d_Grove_can_124 : decode b_Grove_can 124 = .ok (.if_icmp .ne 34, 3) := by decide +kernel
theorem d_Grove_can_127 : decode b_Grove_can 127 = .ok (.iload_n 3, 1) := by decide +kernel
theorem d_Grove_can_128 : decode b_Grove_can 128 = .ok (.iload_n 1, 1) := by decide +kernel
theorem d_Grove_can_129 : decode b_Grove_can 129 = .ok (.if_icmp .eq 29, 3) := by decide +kernel
theorem d_Grove_can_132 : decode b_Grove_can 132 = .ok (.aload_n 0, 1) := by decide +kernel
theorem d_Grove_can_133 : decode b_Grove_can 133 = .ok (.getfield 12, 3) := by decide +kernel
theorem d_Grove_can_136 : decode b_Grove_can 136 = .ok (.aload_n 0, 1) := by decide +kernel
theorem d_Grove_can_137 : decode b_Grove_can 137 = .ok (.getfield 29, 3) := by decide +kernel
theorem d_Grove_can_140 : decode b_Grove_can 140 = .ok (.getfield 53, 3) := by decide +kernel
theorem d_Grove_can_143 : decode b_Grove_can 143 = .ok (.iload_n 3, 1) := by decide +kernel
theorem d_Grove_can_144 : decode b_Grove_can 144 = .ok (.baload, 1) := by decide +kernel
theorem d_Grove_can_145 : decode b_Grove_can 145 = .ok (.aload_n 0, 1) := by decide +kernel
theorem d_Grove_can_146 : decode b_Grove_can 146 = .ok (.getfield 29, 3) := by decide +kernel
theorem d_Grove_can_149 : decode b_Grove_can 149 = .ok (.getfield 56, 3) := by decide +kernel
theorem d_Grove_can_152 : decode b_Grove_can 152 = .ok (.iload_n 3, 1) := by decide +kernel
theorem d_Grove_can_153 : decode b_Grove_can 153 = .ok (.baload, 1) := by decide +kernel
theorem d_Grove_can_154 : decode b_Grove_can 154 = .ok (.iconst 1, 1) := by decide +kernel
theorem d_Grove_can_155 : decode b_Grove_can 155 = .ok (.invokevirtual 49, 3) := by decide +kernel
theorem d_Grove_can_158 : decode b_Grove_can 158 = .ok (.iinc 3 1, 3) := by decide +kernel
theorem d_Grove_can_161 : decode b_Grove_can 161 = .ok (.goto (-55), 3) := by decide +kernel
theorem d_Grove_can_164 : decode b_Grove_can 164 = .ok (.iconst 1, 1) := by decide +kernel
theorem d_Grove_can_165 : decode b_Grove_can 165 = .ok (.istore_n 3, 1) := by decide +kernel
theorem d_Grove_can_166 : decode b_Grove_can 166 = .ok (.iconst 0, 1) := by decide +kernel
theorem d_Grove_can_167 : decode b_Grove_can 167 = .ok (.istore 4, 2) := by decide +kernel
theorem d_Grove_can_169 : decode b_Grove_can 169 = .ok (.iload 4, 2) := by decide +kernel
theorem d_Grove_can_171 : decode b_Grove_can 171 = .ok (.aload_n 0, 1) := by decide +kernel
theorem d_Grove_can_172 : decode b_Grove_can 172 = .ok (.getfield 29, 3) := by decide +kernel
theorem d_Grove_can_175 : decode b_Grove_can 175 = .ok (.getfield 42, 3) := by decide +kernel
theorem d_Grove_can_178 : decode b_Grove_can 178 = .ok (.if_icmp .ge 40, 3) := by decide +kernel
theorem d_Grove_can_181 : decode b_Grove_can 181 = .ok (.iload_n 3, 1) := by decide +kernel
theorem d_Grove_can_182 : decode b_Grove_can 182 = .ok (.ifCond .eq 36, 3) := by decide +kernel
theorem d_Grove_can_185 : decode b_Grove_can 185 = .ok (.aload_n 0, 1) := by decide +kernel
theorem d_Grove_can_186 : decode b_Grove_can 186 = .ok (.getfield 12, 3) := by decide +kernel
theorem d_Grove_can_189 : decode b_Grove_can 189 = .ok (.iload_n 2, 1) := by decide +kernel
theorem d_Grove_can_190 : decode b_Grove_can 190 = .ok (.iload 4, 2) := by decide +kernel
theorem d_Grove_can_192 : decode b_Grove_can 192 = .ok (.aload_n 0, 1) := by decide +kernel
theorem d_Grove_can_193 : decode b_Grove_can 193 = .ok (.getfield 33, 3) := by decide +kernel
theorem d_Grove_can_196 : decode b_Grove_can 196 = .ok (.invokevirtual 59, 3) := by decide +kernel
theorem d_Grove_can_199 : decode b_Grove_can 199 = .ok (.aload_n 0, 1) := by decide +kernel
theorem d_Grove_can_200 : decode b_Grove_can 200 = .ok (.getfield 33, 3) := by decide +kernel
theorem d_Grove_can_203 : decode b_Grove_can 203 = .ok (.if_icmp .ne 7, 3) := by decide +kernel
theorem d_Grove_can_206 : decode b_Grove_can 206 = .ok (.iconst 1, 1) := by decide +kernel
theorem d_Grove_can_207 : decode b_Grove_can 207 = .ok (.goto 4, 3) := by decide +kernel
theorem d_Grove_can_210 : decode b_Grove_can 210 = .ok (.iconst 0, 1) := by decide +kernel
theorem d_Grove_can_211 : decode b_Grove_can 211 = .ok (.istore_n 3, 1) := by decide +kernel
theorem d_Grove_can_212 : decode b_Grove_can 212 = .ok (.iinc 4 1, 3) := by decide +kernel
theorem d_Grove_can_215 : decode b_Grove_can 215 = .ok (.goto (-46), 3) := by decide +kernel
theorem d_Grove_can_218 : decode b_Grove_can 218 = .ok (.iload_n 3, 1) := by decide +kernel
theorem d_Grove_can_219 : decode b_Grove_can 219 = .ok (.ireturn, 1) := by decide +kernel
theorem d_Grove_packs_0 : decode b_Grove_packs 0 = .ok (.aload_n 0, 1) := by decide +kernel
theorem d_Grove_packs_1 : decode b_Grove_packs 1 = .ok (.invokevirtual 62, 3) := by decide +kernel
theorem d_Grove_packs_4 : decode b_Grove_packs 4 = .ok (.aload_n 0, 1) := by decide +kernel
theorem d_Grove_packs_5 : decode b_Grove_packs 5 = .ok (.iload_n 1, 1) := by decide +kernel
theorem d_Grove_packs_6 : decode b_Grove_packs 6 = .ok (.invokevirtual 65, 3) := by decide +kernel
theorem d_Grove_packs_9 : decode b_Grove_packs 9 = .ok (.ireturn, 1) := by decide +kernel
theorem d_Grove_grow_0 : decode b_Grove_grow 0 = .ok (.aload_n 0, 1) := by decide +kernel
theorem d_Grove_grow_1 : decode b_Grove_grow 1 = .ok (.invokevirtual 62, 3) := by decide +kernel
theorem d_Grove_grow_4 : decode b_Grove_grow 4 = .ok (.aload_n 0, 1) := by decide +kernel
theorem d_Grove_grow_5 : decode b_Grove_grow 5 = .ok (.aload_n 0, 1) := by decide +kernel
theorem d_Grove_grow_6 : decode b_Grove_grow 6 = .ok (.iconst (-1), 1) := by decide +kernel
theorem d_Grove_grow_7 : decode b_Grove_grow 7 = .ok (.invokevirtual 65, 3) := by decide +kernel
theorem d_Grove_grow_10 : decode b_Grove_grow 10 = .ok (.putfield 69, 3) := by decide +kernel
theorem d_Grove_grow_13 : decode b_Grove_grow 13 = .ok (.iconst 0, 1) := by decide +kernel
theorem d_Grove_grow_14 : decode b_Grove_grow 14 = .ok (.istore_n 1, 1) := by decide +kernel
theorem d_Grove_grow_15 : decode b_Grove_grow 15 = .ok (.iload_n 1, 1) := by decide +kernel
theorem d_Grove_grow_16 : decode b_Grove_grow 16 = .ok (.aload_n 0, 1) := by decide +kernel
theorem d_Grove_grow_17 : decode b_Grove_grow 17 = .ok (.getfield 33, 3) := by decide +kernel
theorem d_Grove_grow_20 : decode b_Grove_grow 20 = .ok (.if_icmp .ge 40, 3) := by decide +kernel
theorem d_Grove_grow_23 : decode b_Grove_grow 23 = .ok (.aload_n 0, 1) := by decide +kernel
theorem d_Grove_grow_24 : decode b_Grove_grow 24 = .ok (.getfield 69, 3) := by decide +kernel
theorem d_Grove_grow_27 : decode b_Grove_grow 27 = .ok (.ifCond .eq 33, 3) := by decide +kernel
theorem d_Grove_grow_30 : decode b_Grove_grow 30 = .ok (.aload_n 0, 1) := by decide +kernel
theorem d_Grove_grow_31 : decode b_Grove_grow 31 = .ok (.getfield 22, 3) := by decide +kernel
theorem d_Grove_grow_34 : decode b_Grove_grow 34 = .ok (.iload_n 1, 1) := by decide +kernel
theorem d_Grove_grow_35 : decode b_Grove_grow 35 = .ok (.iaload, 1) := by decide +kernel
theorem d_Grove_grow_36 : decode b_Grove_grow 36 = .ok (.aload_n 0, 1) := by decide +kernel
theorem d_Grove_grow_37 : decode b_Grove_grow 37 = .ok (.getfield 29, 3) := by decide +kernel
theorem d_Grove_grow_40 : decode b_Grove_grow 40 = .ok (.invokevirtual 73, 3) := by decide +kernel
theorem d_Grove_grow_43 : decode b_Grove_grow 43 = .ok (.if_icmp .eq 11, 3) := by decide +kernel
theorem d_Grove_grow_46 : decode b_Grove_grow 46 = .ok (.aload_n 0, 1) := by decide +kernel
theorem d_Grove_grow_47 : decode b_Grove_grow 47 = .ok (.iload_n 1, 1) := by decide +kernel
theorem d_Grove_grow_48 : decode b_Grove_grow 48 = .ok (.invokevirtual 77, 3) := by decide +kernel
theorem d_Grove_grow_51 : decode b_Grove_grow 51 = .ok (.goto (-21), 3) := by decide +kernel
theorem d_Grove_grow_54 : decode b_Grove_grow 54 = .ok (.iinc 1 1, 3) := by decide +kernel
theorem d_Grove_grow_57 : decode b_Grove_grow 57 = .ok (.goto (-42), 3) := by decide +kernel
theorem d_Grove_grow_60 : decode b_Grove_grow 60 = .ok (.return_, 1) := by decide +kernel
theorem d_Grove_step_0 : decode b_Grove_step 0 = .ok (.iconst 0, 1) := by decide +kernel
theorem d_Grove_step_1 : decode b_Grove_step 1 = .ok (.istore_n 2, 1) := by decide +kernel
theorem d_Grove_step_2 : decode b_Grove_step 2 = .ok (.iload_n 2, 1) := by decide +kernel
theorem d_Grove_step_3 : decode b_Grove_step 3 = .ok (.aload_n 0, 1) := by decide +kernel
theorem d_Grove_step_4 : decode b_Grove_step 4 = .ok (.getfield 29, 3) := by decide +kernel
theorem d_Grove_step_7 : decode b_Grove_step 7 = .ok (.getfield 37, 3) := by decide +kernel
theorem d_Grove_step_10 : decode b_Grove_step 10 = .ok (.if_icmp .ge 122, 3) := by decide +kernel
theorem d_Grove_step_13 : decode b_Grove_step 13 = .ok (.aload_n 0, 1) := by decide +kernel
theorem d_Grove_step_14 : decode b_Grove_step 14 = .ok (.getfield 29, 3) := by decide +kernel
theorem d_Grove_step_17 : decode b_Grove_step 17 = .ok (.getfield 53, 3) := by decide +kernel
theorem d_Grove_step_20 : decode b_Grove_step 20 = .ok (.iload_n 2, 1) := by decide +kernel
theorem d_Grove_step_21 : decode b_Grove_step 21 = .ok (.baload, 1) := by decide +kernel
theorem d_Grove_step_22 : decode b_Grove_step 22 = .ok (.istore_n 3, 1) := by decide +kernel
theorem d_Grove_step_23 : decode b_Grove_step 23 = .ok (.aload_n 0, 1) := by decide +kernel
theorem d_Grove_step_24 : decode b_Grove_step 24 = .ok (.getfield 29, 3) := by decide +kernel
theorem d_Grove_step_27 : decode b_Grove_step 27 = .ok (.getfield 56, 3) := by decide +kernel
theorem d_Grove_step_30 : decode b_Grove_step 30 = .ok (.iload_n 2, 1) := by decide +kernel
theorem d_Grove_step_31 : decode b_Grove_step 31 = .ok (.baload, 1) := by decide +kernel
theorem d_Grove_step_32 : decode b_Grove_step 32 = .ok (.istore 4, 2) := by decide +kernel
theorem d_Grove_step_34 : decode b_Grove_step 34 = .ok (.aload_n 0, 1) := by decide +kernel
theorem d_Grove_step_35 : decode b_Grove_step 35 = .ok (.getfield 26, 3) := by decide +kernel
theorem d_Grove_step_38 : decode b_Grove_step 38 = .ok (.iload_n 2, 1) := by decide +kernel
theorem d_Grove_step_39 : decode b_Grove_step 39 = .ok (.iaload, 1) := by decide +kernel
theorem d_Grove_step_40 : decode b_Grove_step 40 = .ok (.iconst (-1), 1) := by decide +kernel
theorem d_Grove_step_41 : decode b_Grove_step 41 = .ok (.if_icmp .ne 85, 3) := by decide +kernel
theorem d_Grove_step_44 : decode b_Grove_step 44 = .ok (.aload_n 0, 1) := by decide +kernel
theorem d_Grove_step_45 : decode b_Grove_step 45 = .ok (.getfield 22, 3) := by decide +kernel
theorem d_Grove_step_48 : decode b_Grove_step 48 = .ok (.iload_n 1, 1) := by decide +kernel
theorem d_Grove_step_49 : decode b_Grove_step 49 = .ok (.iaload, 1) := by decide +kernel
theorem d_Grove_step_50 : decode b_Grove_step 50 = .ok (.iload_n 3, 1) := by decide +kernel
theorem d_Grove_step_51 : decode b_Grove_step 51 = .ok (.ishr, 1) := by decide +kernel
theorem d_Grove_step_52 : decode b_Grove_step 52 = .ok (.iconst 1, 1) := by decide +kernel
theorem d_Grove_step_53 : decode b_Grove_step 53 = .ok (.iand, 1) := by decide +kernel
theorem d_Grove_step_54 : decode b_Grove_step 54 = .ok (.ifCond .eq 72, 3) := by decide +kernel
theorem d_Grove_step_57 : decode b_Grove_step 57 = .ok (.aload_n 0, 1) := by decide +kernel
theorem d_Grove_step_58 : decode b_Grove_step 58 = .ok (.getfield 22, 3) := by decide +kernel
theorem d_Grove_step_61 : decode b_Grove_step 61 = .ok (.iload_n 1, 1) := by decide +kernel
theorem d_Grove_step_62 : decode b_Grove_step 62 = .ok (.iaload, 1) := by decide +kernel
theorem d_Grove_step_63 : decode b_Grove_step 63 = .ok (.iload 4, 2) := by decide +kernel
theorem d_Grove_step_65 : decode b_Grove_step 65 = .ok (.ishr, 1) := by decide +kernel
theorem d_Grove_step_66 : decode b_Grove_step 66 = .ok (.iconst 1, 1) := by decide +kernel
theorem d_Grove_step_67 : decode b_Grove_step 67 = .ok (.iand, 1) := by decide +kernel
theorem d_Grove_step_68 : decode b_Grove_step 68 = .ok (.iconst 1, 1) := by decide +kernel
theorem d_Grove_step_69 : decode b_Grove_step 69 = .ok (.if_icmp .ne 6, 3) := by decide +kernel
theorem d_Grove_step_72 : decode b_Grove_step 72 = .ok (.goto 54, 3) := by decide +kernel
theorem d_Grove_step_75 : decode b_Grove_step 75 = .ok (.aload_n 0, 1) := by decide +kernel
theorem d_Grove_step_76 : decode b_Grove_step 76 = .ok (.getfield 26, 3) := by decide +kernel
theorem d_Grove_step_79 : decode b_Grove_step 79 = .ok (.iload_n 2, 1) := by decide +kernel
theorem d_Grove_step_80 : decode b_Grove_step 80 = .ok (.iload_n 1, 1) := by decide +kernel
theorem d_Grove_step_81 : decode b_Grove_step 81 = .ok (.iastore, 1) := by decide +kernel
theorem d_Grove_step_82 : decode b_Grove_step 82 = .ok (.aload_n 0, 1) := by decide +kernel
theorem d_Grove_step_83 : decode b_Grove_step 83 = .ok (.getfield 22, 3) := by decide +kernel
theorem d_Grove_step_86 : decode b_Grove_step 86 = .ok (.iload_n 1, 1) := by decide +kernel
theorem d_Grove_step_87 : decode b_Grove_step 87 = .ok (.dup2, 1) := by decide +kernel
theorem d_Grove_step_88 : decode b_Grove_step 88 = .ok (.iaload, 1) := by decide +kernel
theorem d_Grove_step_89 : decode b_Grove_step 89 = .ok (.iconst 1, 1) := by decide +kernel
theorem d_Grove_step_90 : decode b_Grove_step 90 = .ok (.iload 4, 2) := by decide +kernel
theorem d_Grove_step_92 : decode b_Grove_step 92 = .ok (.ishl, 1) := by decide +kernel
theorem d_Grove_step_93 : decode b_Grove_step 93 = .ok (.ior, 1) := by decide +kernel
theorem d_Grove_step_94 : decode b_Grove_step 94 = .ok (.iastore, 1) := by decide +kernel
theorem d_Grove_step_95 : decode b_Grove_step 95 = .ok (.aload_n 0, 1) := by decide +kernel
theorem d_Grove_step_96 : decode b_Grove_step 96 = .ok (.iconst (-1), 1) := by decide +kernel
theorem d_Grove_step_97 : decode b_Grove_step 97 = .ok (.invokevirtual 65, 3) := by decide +kernel
theorem d_Grove_step_100 : decode b_Grove_step 100 = .ok (.ifCond .eq 4, 3) := by decide +kernel
theorem d_Grove_step_103 : decode b_Grove_step 103 = .ok (.return_, 1) := by decide +kernel
theorem d_Grove_step_104 : decode b_Grove_step 104 = .ok (.aload_n 0, 1) := by decide +kernel
theorem d_Grove_step_105 : decode b_Grove_step 105 = .ok (.getfield 26, 3) := by decide +kernel
theorem d_Grove_step_108 : decode b_Grove_step 108 = .ok (.iload_n 2, 1) := by decide +kernel
theorem d_Grove_step_109 : decode b_Grove_step 109 = .ok (.iconst (-1), 1) := by decide +kernel
theorem d_Grove_step_110 : decode b_Grove_step 110 = .ok (.iastore, 1) := by decide +kernel
theorem d_Grove_step_111 : decode b_Grove_step 111 = .ok (.aload_n 0, 1) := by decide +kernel
theorem d_Grove_step_112 : decode b_Grove_step 112 = .ok (.getfield 22, 3) := by decide +kernel
theorem d_Grove_step_115 : decode b_Grove_step 115 = .ok (.iload_n 1, 1) := by decide +kernel
theorem d_Grove_step_116 : decode b_Grove_step 116 = .ok (.dup2, 1) := by decide +kernel
theorem d_Grove_step_117 : decode b_Grove_step 117 = .ok (.iaload, 1) := by decide +kernel
theorem d_Grove_step_118 : decode b_Grove_step 118 = .ok (.iconst 1, 1) := by decide +kernel
theorem d_Grove_step_119 : decode b_Grove_step 119 = .ok (.iload 4, 2) := by decide +kernel
theorem d_Grove_step_121 : decode b_Grove_step 121 = .ok (.ishl, 1) := by decide +kernel
theorem d_Grove_step_122 : decode b_Grove_step 122 = .ok (.iconst (-1), 1) := by decide +kernel
theorem d_Grove_step_123 : decode b_Grove_step 123 = .ok (.ixor, 1) := by decide +kernel
theorem d_Grove_step_124 : decode b_Grove_step 124 = .ok (.iand, 1) := by decide +kernel
theorem d_Grove_step_125 : decode b_Grove_step 125 = .ok (.iastore, 1) := by decide +kernel
theorem d_Grove_step_126 : decode b_Grove_step 126 = .ok (.iinc 2 1, 3) := by decide +kernel
theorem d_Grove_step_129 : decode b_Grove_step 129 = .ok (.goto (-127), 3) := by decide +kernel
theorem d_Grove_step_132 : decode b_Grove_step 132 = .ok (.return_, 1) := by decide +kernel
theorem d_Grove_missed_0 : decode b_Grove_missed 0 = .ok (.iconst 0, 1) := by decide +kernel
theorem d_Grove_missed_1 : decode b_Grove_missed 1 = .ok (.istore_n 2, 1) := by decide +kernel
theorem d_Grove_missed_2 : decode b_Grove_missed 2 = .ok (.iconst 0, 1) := by decide +kernel
theorem d_Grove_missed_3 : decode b_Grove_missed 3 = .ok (.istore_n 3, 1) := by decide +kernel
theorem d_Grove_missed_4 : decode b_Grove_missed 4 = .ok (.iload_n 3, 1) := by decide +kernel
theorem d_Grove_missed_5 : decode b_Grove_missed 5 = .ok (.aload_n 0, 1) := by decide +kernel
theorem d_Grove_missed_6 : decode b_Grove_missed 6 = .ok (.getfield 33, 3) := by decide +kernel
theorem d_Grove_missed_9 : decode b_Grove_missed 9 = .ok (.if_icmp .ge 28, 3) := by decide +kernel
theorem d_Grove_missed_12 : decode b_Grove_missed 12 = .ok (.iload_n 2, 1) := by decide +kernel
theorem d_Grove_missed_13 : decode b_Grove_missed 13 = .ok (.aload_n 0, 1) := by decide +kernel
theorem d_Grove_missed_14 : decode b_Grove_missed 14 = .ok (.getfield 18, 3) := by decide +kernel
theorem d_Grove_missed_17 : decode b_Grove_missed 17 = .ok (.iload_n 3, 1) := by decide +kernel
theorem d_Grove_missed_18 : decode b_Grove_missed 18 = .ok (.baload, 1) := by decide +kernel
theorem d_Grove_missed_19 : decode b_Grove_missed 19 = .ok (.iload_n 1, 1) := by decide +kernel
theorem d_Grove_missed_20 : decode b_Grove_missed 20 = .ok (.iand, 1) := by decide +kernel
theorem d_Grove_missed_21 : decode b_Grove_missed 21 = .ok (.ifCond .ne 7, 3) := by decide +kernel
theorem d_Grove_missed_24 : decode b_Grove_missed 24 = .ok (.iconst 1, 1) := by decide +kernel
theorem d_Grove_missed_25 : decode b_Grove_missed 25 = .ok (.goto 4, 3) := by decide +kernel
theorem d_Grove_missed_28 : decode b_Grove_missed 28 = .ok (.iconst 0, 1) := by decide +kernel
theorem d_Grove_missed_29 : decode b_Grove_missed 29 = .ok (.iadd, 1) := by decide +kernel
theorem d_Grove_missed_30 : decode b_Grove_missed 30 = .ok (.istore_n 2, 1) := by decide +kernel
theorem d_Grove_missed_31 : decode b_Grove_missed 31 = .ok (.iinc 3 1, 3) := by decide +kernel
theorem d_Grove_missed_34 : decode b_Grove_missed 34 = .ok (.goto (-30), 3) := by decide +kernel
theorem d_Grove_missed_37 : decode b_Grove_missed 37 = .ok (.iload_n 2, 1) := by decide +kernel
theorem d_Grove_missed_38 : decode b_Grove_missed 38 = .ok (.ireturn, 1) := by decide +kernel
theorem d_Grove_most_0 : decode b_Grove_most 0 = .ok (.aload_n 0, 1) := by decide +kernel
theorem d_Grove_most_1 : decode b_Grove_most 1 = .ok (.getfield 29, 3) := by decide +kernel
theorem d_Grove_most_4 : decode b_Grove_most 4 = .ok (.getfield 42, 3) := by decide +kernel
theorem d_Grove_most_7 : decode b_Grove_most 7 = .ok (.istore_n 2, 1) := by decide +kernel
theorem d_Grove_most_8 : decode b_Grove_most 8 = .ok (.aload_n 0, 1) := by decide +kernel
theorem d_Grove_most_9 : decode b_Grove_most 9 = .ok (.getfield 12, 3) := by decide +kernel
theorem d_Grove_most_12 : decode b_Grove_most 12 = .ok (.iload_n 2, 1) := by decide +kernel
theorem d_Grove_most_13 : decode b_Grove_most 13 = .ok (.iconst 1, 1) := by decide +kernel
theorem d_Grove_most_14 : decode b_Grove_most 14 = .ok (.iadd, 1) := by decide +kernel
theorem d_Grove_most_15 : decode b_Grove_most 15 = .ok (.invokevirtual 45, 3) := by decide +kernel
theorem d_Grove_most_18 : decode b_Grove_most 18 = .ok (.iconst 0, 1) := by decide +kernel
theorem d_Grove_most_19 : decode b_Grove_most 19 = .ok (.istore_n 3, 1) := by decide +kernel
theorem d_Grove_most_20 : decode b_Grove_most 20 = .ok (.iload_n 3, 1) := by decide +kernel
theorem d_Grove_most_21 : decode b_Grove_most 21 = .ok (.aload_n 0, 1) := by decide +kernel
theorem d_Grove_most_22 : decode b_Grove_most 22 = .ok (.getfield 29, 3) := by decide +kernel
theorem d_Grove_most_25 : decode b_Grove_most 25 = .ok (.getfield 42, 3) := by decide +kernel
theorem d_Grove_most_28 : decode b_Grove_most 28 = .ok (.if_icmp .ge 29, 3) := by decide +kernel
theorem d_Grove_most_31 : decode b_Grove_most 31 = .ok (.iload_n 1, 1) := by decide +kernel
theorem d_Grove_most_32 : decode b_Grove_most 32 = .ok (.iload_n 3, 1) := by decide +kernel
theorem d_Grove_most_33 : decode b_Grove_most 33 = .ok (.ishr, 1) := by decide +kernel
theorem d_Grove_most_34 : decode b_Grove_most 34 = .ok (.iconst 1, 1) := by decide +kernel
theorem d_Grove_most_35 : decode b_Grove_most 35 = .ok (.iand, 1) := by decide +kernel
theorem d_Grove_most_36 : decode b_Grove_most 36 = .ok (.iconst 1, 1) := by decide +kernel
theorem d_Grove_most_37 : decode b_Grove_most 37 = .ok (.if_icmp .ne 14, 3) := by decide +kernel
theorem d_Grove_most_40 : decode b_Grove_most 40 = .ok (.aload_n 0, 1) := by decide +kernel
theorem d_Grove_most_41 : decode b_Grove_most 41 = .ok (.getfield 12, 3) := by decide +kernel
theorem d_Grove_most_44 : decode b_Grove_most 44 = .ok (.iload_n 2, 1) := by decide +kernel
theorem d_Grove_most_45 : decode b_Grove_most 45 = .ok (.iload_n 3, 1) := by decide +kernel
theorem d_Grove_most_46 : decode b_Grove_most 46 = .ok (.bipush 14, 2) := by decide +kernel
theorem d_Grove_most_48 : decode b_Grove_most 48 = .ok (.invokevirtual 49, 3) := by decide +kernel
theorem d_Grove_most_51 : decode b_Grove_most 51 = .ok (.iinc 3 1, 3) := by decide +kernel
theorem d_Grove_most_54 : decode b_Grove_most 54 = .ok (.goto (-34), 3) := by decide +kernel
theorem d_Grove_most_57 : decode b_Grove_most 57 = .ok (.iconst 0, 1) := by decide +kernel
theorem d_Grove_most_58 : decode b_Grove_most 58 = .ok (.istore_n 3, 1) := by decide +kernel
theorem d_Grove_most_59 : decode b_Grove_most 59 = .ok (.iload_n 3, 1) := by decide +kernel
theorem d_Grove_most_60 : decode b_Grove_most 60 = .ok (.aload_n 0, 1) := by decide +kernel
theorem d_Grove_most_61 : decode b_Grove_most 61 = .ok (.getfield 29, 3) := by decide +kernel
theorem d_Grove_most_64 : decode b_Grove_most 64 = .ok (.getfield 37, 3) := by decide +kernel
theorem d_Grove_most_67 : decode b_Grove_most 67 = .ok (.if_icmp .ge 35, 3) := by decide +kernel
theorem d_Grove_most_70 : decode b_Grove_most 70 = .ok (.aload_n 0, 1) := by decide +kernel
theorem d_Grove_most_71 : decode b_Grove_most 71 = .ok (.getfield 12, 3) := by decide +kernel
theorem d_Grove_most_74 : decode b_Grove_most 74 = .ok (.aload_n 0, 1) := by decide +kernel
theorem d_Grove_most_75 : decode b_Grove_most 75 = .ok (.getfield 29, 3) := by decide +kernel
theorem d_Grove_most_78 : decode b_Grove_most 78 = .ok (.getfield 53, 3) := by decide +kernel
theorem d_Grove_most_81 : decode b_Grove_most 81 = .ok (.iload_n 3, 1) := by decide +kernel
theorem d_Grove_most_82 : decode b_Grove_most 82 = .ok (.baload, 1) := by decide +kernel
theorem d_Grove_most_83 : decode b_Grove_most 83 = .ok (.aload_n 0, 1) := by decide +kernel
theorem d_Grove_most_84 : decode b_Grove_most 84 = .ok (.getfield 29, 3) := by decide +kernel
theorem d_Grove_most_87 : decode b_Grove_most 87 = .ok (.getfield 56, 3) := by decide +kernel
theorem d_Grove_most_90 : decode b_Grove_most 90 = .ok (.iload_n 3, 1) := by decide +kernel
theorem d_Grove_most_91 : decode b_Grove_most 91 = .ok (.baload, 1) := by decide +kernel
theorem d_Grove_most_92 : decode b_Grove_most 92 = .ok (.iconst 1, 1) := by decide +kernel
theorem d_Grove_most_93 : decode b_Grove_most 93 = .ok (.invokevirtual 49, 3) := by decide +kernel
theorem d_Grove_most_96 : decode b_Grove_most 96 = .ok (.iinc 3 1, 3) := by decide +kernel
theorem d_Grove_most_99 : decode b_Grove_most 99 = .ok (.goto (-40), 3) := by decide +kernel
theorem d_Grove_most_102 : decode b_Grove_most 102 = .ok (.bipush 99, 2) := by decide +kernel
theorem d_Grove_most_104 : decode b_Grove_most 104 = .ok (.istore_n 3, 1) := by decide +kernel
theorem d_Grove_most_105 : decode b_Grove_most 105 = .ok (.iconst 0, 1) := by decide +kernel
theorem d_Grove_most_106 : decode b_Grove_most 106 = .ok (.istore 4, 2) := by decide +kernel
theorem d_Grove_most_108 : decode b_Grove_most 108 = .ok (.iload 4, 2) := by decide +kernel
theorem d_Grove_most_110 : decode b_Grove_most 110 = .ok (.aload_n 0, 1) := by decide +kernel
theorem d_Grove_most_111 : decode b_Grove_most 111 = .ok (.getfield 29, 3) := by decide +kernel
theorem d_Grove_most_114 : decode b_Grove_most 114 = .ok (.getfield 42, 3) := by decide +kernel
theorem d_Grove_most_117 : decode b_Grove_most 117 = .ok (.if_icmp .ge 35, 3) := by decide +kernel
theorem d_Grove_most_120 : decode b_Grove_most 120 = .ok (.iload_n 1, 1) := by decide +kernel
theorem d_Grove_most_121 : decode b_Grove_most 121 = .ok (.iload 4, 2) := by decide +kernel
theorem d_Grove_most_123 : decode b_Grove_most 123 = .ok (.ishr, 1) := by decide +kernel
theorem d_Grove_most_124 : decode b_Grove_most 124 = .ok (.iconst 1, 1) := by decide +kernel
theorem d_Grove_most_125 : decode b_Grove_most 125 = .ok (.iand, 1) := by decide +kernel
theorem d_Grove_most_126 : decode b_Grove_most 126 = .ok (.ifCond .ne 20, 3) := by decide +kernel
theorem d_Grove_most_129 : decode b_Grove_most 129 = .ok (.iload_n 3, 1) := by decide +kernel
theorem d_Grove_most_130 : decode b_Grove_most 130 = .ok (.aload_n 0, 1) := by decide +kernel
theorem d_Grove_most_131 : decode b_Grove_most 131 = .ok (.getfield 12, 3) := by decide +kernel
theorem d_Grove_most_134 : decode b_Grove_most 134 = .ok (.iload_n 2, 1) := by decide +kernel
theorem d_Grove_most_135 : decode b_Grove_most 135 = .ok (.iload 4, 2) := by decide +kernel
theorem d_Grove_most_137 : decode b_Grove_most 137 = .ok (.bipush 14, 2) := by decide +kernel
theorem d_Grove_most_139 : decode b_Grove_most 139 = .ok (.invokevirtual 59, 3) := by decide +kernel
theorem d_Grove_most_142 : decode b_Grove_most 142 = .ok (.invokestatic 80, 3) := by decide +kernel
theorem d_Grove_most_145 : decode b_Grove_most 145 = .ok (.istore_n 3, 1) := by decide +kernel
theorem d_Grove_most_146 : decode b_Grove_most 146 = .ok (.iinc 4 1, 3) := by decide +kernel
theorem d_Grove_most_149 : decode b_Grove_most 149 = .ok (.goto (-41), 3) := by decide +kernel
theorem d_Grove_most_152 : decode b_Grove_most 152 = .ok (.iload_n 3, 1) := by decide +kernel
theorem d_Grove_most_153 : decode b_Grove_most 153 = .ok (.ireturn, 1) := by decide +kernel
theorem d_Net_init_0 : decode b_Net_init 0 = .ok (.aload_n 0, 1) := by decide +kernel
theorem d_Net_init_1 : decode b_Net_init 1 = .ok (.invokespecial 3, 3) := by decide +kernel
theorem d_Net_init_4 : decode b_Net_init 4 = .ok (.aload_n 0, 1) := by decide +kernel
theorem d_Net_init_5 : decode b_Net_init 5 = .ok (.iconst 1, 1) := by decide +kernel
theorem d_Net_init_6 : decode b_Net_init 6 = .ok (.putfield 9, 3) := by decide +kernel
theorem d_Net_init_9 : decode b_Net_init 9 = .ok (.aload_n 0, 1) := by decide +kernel
theorem d_Net_init_10 : decode b_Net_init 10 = .ok (.bipush 14, 2) := by decide +kernel
theorem d_Net_init_12 : decode b_Net_init 12 = .ok (.newarray .byte, 2) := by decide +kernel
theorem d_Net_init_14 : decode b_Net_init 14 = .ok (.putfield 15, 3) := by decide +kernel
theorem d_Net_init_17 : decode b_Net_init 17 = .ok (.aload_n 0, 1) := by decide +kernel
theorem d_Net_init_18 : decode b_Net_init 18 = .ok (.bipush 14, 2) := by decide +kernel
theorem d_Net_init_20 : decode b_Net_init 20 = .ok (.newarray .byte, 2) := by decide +kernel
theorem d_Net_init_22 : decode b_Net_init 22 = .ok (.putfield 19, 3) := by decide +kernel
theorem d_Net_init_25 : decode b_Net_init 25 = .ok (.return_, 1) := by decide +kernel
theorem d_Net_all_0 : decode b_Net_all 0 = .ok (.iconst 1, 1) := by decide +kernel
theorem d_Net_all_1 : decode b_Net_all 1 = .ok (.aload_n 0, 1) := by decide +kernel
theorem d_Net_all_2 : decode b_Net_all 2 = .ok (.getfield 9, 3) := by decide +kernel
theorem d_Net_all_5 : decode b_Net_all 5 = .ok (.ishl, 1) := by decide +kernel
theorem d_Net_all_6 : decode b_Net_all 6 = .ok (.iconst 1, 1) := by decide +kernel
theorem d_Net_all_7 : decode b_Net_all 7 = .ok (.isub, 1) := by decide +kernel
theorem d_Net_all_8 : decode b_Net_all 8 = .ok (.ireturn, 1) := by decide +kernel
theorem d_Net_isVertex_0 : decode b_Net_isVertex 0 = .ok (.iload_n 1, 1) := by decide +kernel
theorem d_Net_isVertex_1 : decode b_Net_isVertex 1 = .ok (.ifCond .lt 15, 3) := by decide +kernel
theorem d_Net_isVertex_4 : decode b_Net_isVertex 4 = .ok (.iload_n 1, 1) := by decide +kernel
theorem d_Net_isVertex_5 : decode b_Net_isVertex 5 = .ok (.aload_n 0, 1) := by decide +kernel
theorem d_Net_isVertex_6 : decode b_Net_isVertex 6 = .ok (.getfield 9, 3) := by decide +kernel
theorem d_Net_isVertex_9 : decode b_Net_isVertex 9 = .ok (.if_icmp .ge 7, 3) := by decide +kernel
theorem d_Net_isVertex_12 : decode b_Net_isVertex 12 = .ok (.iconst 1, 1) := by decide +kernel
theorem d_Net_isVertex_13 : decode b_Net_isVertex 13 = .ok (.goto 4, 3) := by decide +kernel
theorem d_Net_isVertex_16 : decode b_Net_isVertex 16 = .ok (.iconst 0, 1) := by decide +kernel
theorem d_Net_isVertex_17 : decode b_Net_isVertex 17 = .ok (.ireturn, 1) := by decide +kernel
theorem d_Net_isArc_0 : decode b_Net_isArc 0 = .ok (.iload_n 1, 1) := by decide +kernel
theorem d_Net_isArc_1 : decode b_Net_isArc 1 = .ok (.ifCond .lt 15, 3) := by decide +kernel
theorem d_Net_isArc_4 : decode b_Net_isArc 4 = .ok (.iload_n 1, 1) := by decide +kernel
theorem d_Net_isArc_5 : decode b_Net_isArc 5 = .ok (.aload_n 0, 1) := by decide +kernel
theorem d_Net_isArc_6 : decode b_Net_isArc 6 = .ok (.getfield 22, 3) := by decide +kernel
theorem d_Net_isArc_9 : decode b_Net_isArc 9 = .ok (.if_icmp .ge 7, 3) := by decide +kernel
theorem d_Net_isArc_12 : decode b_Net_isArc 12 = .ok (.iconst 1, 1) := by decide +kernel
theorem d_Net_isArc_13 : decode b_Net_isArc 13 = .ok (.goto 4, 3) := by decide +kernel
theorem d_Net_isArc_16 : decode b_Net_isArc 16 = .ok (.iconst 0, 1) := by decide +kernel
theorem d_Net_isArc_17 : decode b_Net_isArc 17 = .ok (.ireturn, 1) := by decide +kernel
theorem d_Net_isSet_0 : decode b_Net_isSet 0 = .ok (.iload_n 1, 1) := by decide +kernel
theorem d_Net_isSet_1 : decode b_Net_isSet 1 = .ok (.ifCond .lt 15, 3) := by decide +kernel
theorem d_Net_isSet_4 : decode b_Net_isSet 4 = .ok (.iload_n 1, 1) := by decide +kernel
theorem d_Net_isSet_5 : decode b_Net_isSet 5 = .ok (.aload_n 0, 1) := by decide +kernel
theorem d_Net_isSet_6 : decode b_Net_isSet 6 = .ok (.invokevirtual 25, 3) := by decide +kernel
theorem d_Net_isSet_9 : decode b_Net_isSet 9 = .ok (.if_icmp .gt 7, 3) := by decide +kernel
theorem d_Net_isSet_12 : decode b_Net_isSet 12 = .ok (.iconst 1, 1) := by decide +kernel
theorem d_Net_isSet_13 : decode b_Net_isSet 13 = .ok (.goto 4, 3) := by decide +kernel
theorem d_Net_isSet_16 : decode b_Net_isSet 16 = .ok (.iconst 0, 1) := by decide +kernel
theorem d_Net_isSet_17 : decode b_Net_isSet 17 = .ok (.ireturn, 1) := by decide +kernel
theorem d_Net_enters_0 : decode b_Net_enters 0 = .ok (.iload_n 2, 1) := by decide +kernel
theorem d_Net_enters_1 : decode b_Net_enters 1 = .ok (.aload_n 0, 1) := by decide +kernel
theorem d_Net_enters_2 : decode b_Net_enters 2 = .ok (.getfield 19, 3) := by decide +kernel
theorem d_Net_enters_5 : decode b_Net_enters 5 = .ok (.iload_n 1, 1) := by decide +kernel
theorem d_Net_enters_6 : decode b_Net_enters 6 = .ok (.baload, 1) := by decide +kernel
theorem d_Net_enters_7 : decode b_Net_enters 7 = .ok (.ishr, 1) := by decide +kernel
theorem d_Net_enters_8 : decode b_Net_enters 8 = .ok (.iconst 1, 1) := by decide +kernel
theorem d_Net_enters_9 : decode b_Net_enters 9 = .ok (.iand, 1) := by decide +kernel
theorem d_Net_enters_10 : decode b_Net_enters 10 = .ok (.iconst 1, 1) := by decide +kernel
theorem d_Net_enters_11 : decode b_Net_enters 11 = .ok (.if_icmp .ne 20, 3) := by decide +kernel
theorem d_Net_enters_14 : decode b_Net_enters 14 = .ok (.iload_n 2, 1) := by decide +kernel
theorem d_Net_enters_15 : decode b_Net_enters 15 = .ok (.aload_n 0, 1) := by decide +kernel
theorem d_Net_enters_16 : decode b_Net_enters 16 = .ok (.getfield 15, 3) := by decide +kernel
theorem d_Net_enters_19 : decode b_Net_enters 19 = .ok (.iload_n 1, 1) := by decide +kernel
theorem d_Net_enters_20 : decode b_Net_enters 20 = .ok (.baload, 1) := by decide +kernel
theorem d_Net_enters_21 : decode b_Net_enters 21 = .ok (.ishr, 1) := by decide +kernel
theorem d_Net_enters_22 : decode b_Net_enters 22 = .ok (.iconst 1, 1) := by decide +kernel
theorem d_Net_enters_23 : decode b_Net_enters 23 = .ok (.iand, 1) := by decide +kernel
theorem d_Net_enters_24 : decode b_Net_enters 24 = .ok (.ifCond .ne 7, 3) := by decide +kernel
theorem d_Net_enters_27 : decode b_Net_enters 27 = .ok (.iconst 1, 1) := by decide +kernel
theorem d_Net_enters_28 : decode b_Net_enters 28 = .ok (.goto 4, 3) := by decide +kernel
theorem d_Net_enters_31 : decode b_Net_enters 31 = .ok (.iconst 0, 1) := by decide +kernel
theorem d_Net_enters_32 : decode b_Net_enters 32 = .ok (.ireturn, 1) := by decide +kernel
theorem d_Net_drop_0 : decode b_Net_drop 0 = .ok (.iload_n 1, 1) := by decide +kernel
theorem d_Net_drop_1 : decode b_Net_drop 1 = .ok (.iconst 1, 1) := by decide +kernel
theorem d_Net_drop_2 : decode b_Net_drop 2 = .ok (.iadd, 1) := by decide +kernel
theorem d_Net_drop_3 : decode b_Net_drop 3 = .ok (.istore_n 2, 1) := by decide +kernel
theorem d_Net_drop_4 : decode b_Net_drop 4 = .ok (.iload_n 2, 1) := by decide +kernel
theorem d_Net_drop_5 : decode b_Net_drop 5 = .ok (.aload_n 0, 1) := by decide +kernel
theorem d_Net_drop_6 : decode b_Net_drop 6 = .ok (.getfield 22, 3) := by decide +kernel
theorem d_Net_drop_9 : decode b_Net_drop 9 = .ok (.if_icmp .ge 37, 3) := by decide +kernel
theorem d_Net_drop_12 : decode b_Net_drop 12 = .ok (.aload_n 0, 1) := by decide +kernel
theorem d_Net_drop_13 : decode b_Net_drop 13 = .ok (.getfield 15, 3) := by decide +kernel
theorem d_Net_drop_16 : decode b_Net_drop 16 = .ok (.iload_n 2, 1) := by decide +kernel
theorem d_Net_drop_17 : decode b_Net_drop 17 = .ok (.iconst 1, 1) := by decide +kernel
theorem d_Net_drop_18 : decode b_Net_drop 18 = .ok (.isub, 1) := by decide +kernel
theorem d_Net_drop_19 : decode b_Net_drop 19 = .ok (.aload_n 0, 1) := by decide +kernel
theorem d_Net_drop_20 : decode b_Net_drop 20 = .ok (.getfield 15, 3) := by decide +kernel
theorem d_Net_drop_23 : decode b_Net_drop 23 = .ok (.iload_n 2, 1) := by decide +kernel
theorem d_Net_drop_24 : decode b_Net_drop 24 = .ok (.baload, 1) := by decide +kernel
theorem d_Net_drop_25 : decode b_Net_drop 25 = .ok (.bastore, 1) := by decide +kernel
theorem d_Net_drop_26 : decode b_Net_drop 26 = .ok (.aload_n 0, 1) := by decide +kernel
theorem d_Net_drop_27 : decode b_Net_drop 27 = .ok (.getfield 19, 3) := by decide +kernel
theorem d_Net_drop_30 : decode b_Net_drop 30 = .ok (.iload_n 2, 1) := by decide +kernel
theorem d_Net_drop_31 : decode b_Net_drop 31 = .ok (.iconst 1, 1) := by decide +kernel
theorem d_Net_drop_32 : decode b_Net_drop 32 = .ok (.isub, 1) := by decide +kernel
theorem d_Net_drop_33 : decode b_Net_drop 33 = .ok (.aload_n 0, 1) := by decide +kernel
theorem d_Net_drop_34 : decode b_Net_drop 34 = .ok (.getfield 19, 3) := by decide +kernel
theorem d_Net_drop_37 : decode b_Net_drop 37 = .ok (.iload_n 2, 1) := by decide +kernel
theorem d_Net_drop_38 : decode b_Net_drop 38 = .ok (.baload, 1) := by decide +kernel
theorem d_Net_drop_39 : decode b_Net_drop 39 = .ok (.bastore, 1) := by decide +kernel
theorem d_Net_drop_40 : decode b_Net_drop 40 = .ok (.iinc 2 1, 3) := by decide +kernel
theorem d_Net_drop_43 : decode b_Net_drop 43 = .ok (.goto (-39), 3) := by decide +kernel
theorem d_Net_drop_46 : decode b_Net_drop 46 = .ok (.aload_n 0, 1) := by decide +kernel
theorem d_Net_drop_47 : decode b_Net_drop 47 = .ok (.dup, 1) := by decide +kernel
theorem d_Net_drop_48 : decode b_Net_drop 48 = .ok (.getfield 22, 3) := by decide +kernel
theorem d_Net_drop_51 : decode b_Net_drop 51 = .ok (.iconst 1, 1) := by decide +kernel
theorem d_Net_drop_52 : decode b_Net_drop 52 = .ok (.isub, 1) := by decide +kernel
theorem d_Net_drop_53 : decode b_Net_drop 53 = .ok (.putfield 22, 3) := by decide +kernel
theorem d_Net_drop_56 : decode b_Net_drop 56 = .ok (.return_, 1) := by decide +kernel
theorem d_Ways_init_0 : decode b_Ways_init 0 = .ok (.aload_n 0, 1) := by decide +kernel
theorem d_Ways_init_1 : decode b_Ways_init 1 = .ok (.invokespecial 3, 3) := by decide +kernel
theorem d_Ways_init_4 : decode b_Ways_init 4 = .ok (.aload_n 0, 1) := by decide +kernel
theorem d_Ways_init_5 : decode b_Ways_init 5 = .ok (.bipush 11, 2) := by decide +kernel
theorem d_Ways_init_7 : decode b_Ways_init 7 = .ok (.newarray .int, 2) := by decide +kernel
theorem d_Ways_init_9 : decode b_Ways_init 9 = .ok (.putfield 11, 3) := by decide +kernel
theorem d_Ways_init_12 : decode b_Ways_init 12 = .ok (.aload_n 0, 1) := by decide +kernel
theorem d_Ways_init_13 : decode b_Ways_init 13 = .ok (.bipush 76, 2) := by decide +kernel
theorem d_Ways_init_15 : decode b_Ways_init 15 = .ok (.newarray .int, 2) := by decide +kernel
theorem d_Ways_init_17 : decode b_Ways_init 17 = .ok (.putfield 15, 3) := by decide +kernel
theorem d_Ways_init_20 : decode b_Ways_init 20 = .ok (.aload_n 0, 1) := by decide +kernel
theorem d_Ways_init_21 : decode b_Ways_init 21 = .ok (.bipush 76, 2) := by decide +kernel
theorem d_Ways_init_23 : decode b_Ways_init 23 = .ok (.newarray .int, 2) := by decide +kernel
theorem d_Ways_init_25 : decode b_Ways_init 25 = .ok (.putfield 18, 3) := by decide +kernel
theorem d_Ways_init_28 : decode b_Ways_init 28 = .ok (.aload_n 0, 1) := by decide +kernel
theorem d_Ways_init_29 : decode b_Ways_init 29 = .ok (.bipush 76, 2) := by decide +kernel
theorem d_Ways_init_31 : decode b_Ways_init 31 = .ok (.newarray .int, 2) := by decide +kernel
theorem d_Ways_init_33 : decode b_Ways_init 33 = .ok (.putfield 21, 3) := by decide +kernel
theorem d_Ways_init_36 : decode b_Ways_init 36 = .ok (.aload_n 0, 1) := by decide +kernel
theorem d_Ways_init_37 : decode b_Ways_init 37 = .ok (.bipush 76, 2) := by decide +kernel
theorem d_Ways_init_39 : decode b_Ways_init 39 = .ok (.newarray .int, 2) := by decide +kernel
theorem d_Ways_init_41 : decode b_Ways_init 41 = .ok (.putfield 24, 3) := by decide +kernel
theorem d_Ways_init_44 : decode b_Ways_init 44 = .ok (.aload_n 0, 1) := by decide +kernel
theorem d_Ways_init_45 : decode b_Ways_init 45 = .ok (.bipush 11, 2) := by decide +kernel
theorem d_Ways_init_47 : decode b_Ways_init 47 = .ok (.newarray .int, 2) := by decide +kernel
theorem d_Ways_init_49 : decode b_Ways_init 49 = .ok (.putfield 27, 3) := by decide +kernel
theorem d_Ways_init_52 : decode b_Ways_init 52 = .ok (.aload_n 0, 1) := by decide +kernel
theorem d_Ways_init_53 : decode b_Ways_init 53 = .ok (.bipush 11, 2) := by decide +kernel
theorem d_Ways_init_55 : decode b_Ways_init 55 = .ok (.newarray .int, 2) := by decide +kernel
theorem d_Ways_init_57 : decode b_Ways_init 57 = .ok (.putfield 30, 3) := by decide +kernel
theorem d_Ways_init_60 : decode b_Ways_init 60 = .ok (.return_, 1) := by decide +kernel
theorem d_Ways_begin_0 : decode b_Ways_begin 0 = .ok (.aload_n 0, 1) := by decide +kernel
theorem d_Ways_begin_1 : decode b_Ways_begin 1 = .ok (.iload_n 1, 1) := by decide +kernel
theorem d_Ways_begin_2 : decode b_Ways_begin 2 = .ok (.putfield 33, 3) := by decide +kernel
theorem d_Ways_begin_5 : decode b_Ways_begin 5 = .ok (.aload_n 0, 1) := by decide +kernel
theorem d_Ways_begin_6 : decode b_Ways_begin 6 = .ok (.iconst 0, 1) := by decide +kernel
theorem d_Ways_begin_7 : decode b_Ways_begin 7 = .ok (.putfield 37, 3) := by decide +kernel
theorem d_Ways_begin_10 : decode b_Ways_begin 10 = .ok (.iconst 0, 1) := by decide +kernel
theorem d_Ways_begin_11 : decode b_Ways_begin 11 = .ok (.istore_n 2, 1) := by decide +kernel
theorem d_Ways_begin_12 : decode b_Ways_begin 12 = .ok (.iload_n 2, 1) := by decide +kernel
theorem d_Ways_begin_13 : decode b_Ways_begin 13 = .ok (.iload_n 1, 1) := by decide +kernel
theorem d_Ways_begin_14 : decode b_Ways_begin 14 = .ok (.if_icmp .ge 16, 3) := by decide +kernel
theorem d_Ways_begin_17 : decode b_Ways_begin 17 = .ok (.aload_n 0, 1) := by decide +kernel
theorem d_Ways_begin_18 : decode b_Ways_begin 18 = .ok (.getfield 11, 3) := by decide +kernel
theorem d_Ways_begin_21 : decode b_Ways_begin 21 = .ok (.iload_n 2, 1) := by decide +kernel
theorem d_Ways_begin_22 : decode b_Ways_begin 22 = .ok (.iconst (-1), 1) := by decide +kernel
theorem d_Ways_begin_23 : decode b_Ways_begin 23 = .ok (.iastore, 1) := by decide +kernel
theorem d_Ways_begin_24 : decode b_Ways_begin 24 = .ok (.iinc 2 1, 3) := by decide +kernel
theorem d_Ways_begin_27 : decode b_Ways_begin 27 = .ok (.goto (-15), 3) := by decide +kernel
theorem d_Ways_begin_30 : decode b_Ways_begin 30 = .ok (.return_, 1) := by decide +kernel
theorem d_Ways_link_0 : decode b_Ways_link 0 = .ok (.aload_n 0, 1) := by decide +kernel
theorem d_Ways_link_1 : decode b_Ways_link 1 = .ok (.iload_n 1, 1) := by decide +kernel
theorem d_Ways_link_2 : decode b_Ways_link 2 = .ok (.iload_n 2, 1) := by decide +kernel
theorem d_Ways_link_3 : decode b_Ways_link 3 = .ok (.iload_n 3, 1) := by decide +kernel
theorem d_Ways_link_4 : decode b_Ways_link 4 = .ok (.invokevirtual 40, 3) := by decide +kernel
theorem d_Ways_link_7 : decode b_Ways_link 7 = .ok (.aload_n 0, 1) := by decide +kernel
theorem d_Ways_link_8 : decode b_Ways_link 8 = .ok (.iload_n 2, 1) := by decide +kernel
theorem d_Ways_link_9 : decode b_Ways_link 9 = .ok (.iload_n 1, 1) := by decide +kernel
theorem d_Ways_link_10 : decode b_Ways_link 10 = .ok (.iconst 0, 1) := by decide +kernel
theorem d_Ways_link_11 : decode b_Ways_link 11 = .ok (.invokevirtual 40, 3) := by decide +kernel
theorem d_Ways_link_14 : decode b_Ways_link 14 = .ok (.return_, 1) := by decide +kernel
theorem d_Ways_one_0 : decode b_Ways_one 0 = .ok (.aload_n 0, 1) := by decide +kernel
theorem d_Ways_one_1 : decode b_Ways_one 1 = .ok (.getfield 18, 3) := by decide +kernel
theorem d_Ways_one_4 : decode b_Ways_one 4 = .ok (.aload_n 0, 1) := by decide +kernel
theorem d_Ways_one_5 : decode b_Ways_one 5 = .ok (.getfield 37, 3) := by decide +kernel
theorem d_Ways_one_8 : decode b_Ways_one 8 = .ok (.iload_n 2, 1) := by decide +kernel
theorem d_Ways_one_9 : decode b_Ways_one 9 = .ok (.iastore, 1) := by decide +kernel
theorem d_Ways_one_10 : decode b_Ways_one 10 = .ok (.aload_n 0, 1) := by decide +kernel
theorem d_Ways_one_11 : decode b_Ways_one 11 = .ok (.getfield 24, 3) := by decide +kernel
theorem d_Ways_one_14 : decode b_Ways_one 14 = .ok (.aload_n 0, 1) := by decide +kernel
theorem d_Ways_one_15 : decode b_Ways_one 15 = .ok (.getfield 37, 3) := by decide +kernel
theorem d_Ways_one_18 : decode b_Ways_one 18 = .ok (.iload_n 3, 1) := by decide +kernel
theorem d_Ways_one_19 : decode b_Ways_one 19 = .ok (.iastore, 1) := by decide +kernel
theorem d_Ways_one_20 : decode b_Ways_one 20 = .ok (.aload_n 0, 1) := by decide +kernel
theorem d_Ways_one_21 : decode b_Ways_one 21 = .ok (.getfield 15, 3) := by decide +kernel
theorem d_Ways_one_24 : decode b_Ways_one 24 = .ok (.aload_n 0, 1) := by decide +kernel
theorem d_Ways_one_25 : decode b_Ways_one 25 = .ok (.getfield 37, 3) := by decide +kernel
theorem d_Ways_one_28 : decode b_Ways_one 28 = .ok (.aload_n 0, 1) := by decide +kernel
theorem d_Ways_one_29 : decode b_Ways_one 29 = .ok (.getfield 11, 3) := by decide +kernel
theorem d_Ways_one_32 : decode b_Ways_one 32 = .ok (.iload_n 1, 1) := by decide +kernel
theorem d_Ways_one_33 : decode b_Ways_one 33 = .ok (.iaload, 1) := by decide +kernel
theorem d_Ways_one_34 : decode b_Ways_one 34 = .ok (.iastore, 1) := by decide +kernel
theorem d_Ways_one_35 : decode b_Ways_one 35 = .ok (.aload_n 0, 1) := by decide +kernel
theorem d_Ways_one_36 : decode b_Ways_one 36 = .ok (.getfield 11, 3) := by decide +kernel
theorem d_Ways_one_39 : decode b_Ways_one 39 = .ok (.iload_n 1, 1) := by decide +kernel
theorem d_Ways_one_40 : decode b_Ways_one 40 = .ok (.aload_n 0, 1) := by decide +kernel
theorem d_Ways_one_41 : decode b_Ways_one 41 = .ok (.dup, 1) := by decide +kernel
theorem d_Ways_one_42 : decode b_Ways_one 42 = .ok (.getfield 37, 3) := by decide +kernel
theorem d_Ways_one_45 : decode b_Ways_one 45 = .ok (.dup_x1, 1) := by decide +kernel
theorem d_Ways_one_46 : decode b_Ways_one 46 = .ok (.iconst 1, 1) := by decide +kernel
theorem d_Ways_one_47 : decode b_Ways_one 47 = .ok (.iadd, 1) := by decide +kernel
theorem d_Ways_one_48 : decode b_Ways_one 48 = .ok (.putfield 37, 3) := by decide +kernel
theorem d_Ways_one_51 : decode b_Ways_one 51 = .ok (.iastore, 1) := by decide +kernel
theorem d_Ways_one_52 : decode b_Ways_one 52 = .ok (.return_, 1) := by decide +kernel
theorem d_Ways_count_0 : decode b_Ways_count 0 = .ok (.aload_n 0, 1) := by decide +kernel
theorem d_Ways_count_1 : decode b_Ways_count 1 = .ok (.getfield 24, 3) := by decide +kernel
theorem d_Ways_count_4 : decode b_Ways_count 4 = .ok (.iconst 0, 1) := by decide +kernel
theorem d_Ways_count_5 : decode b_Ways_count 5 = .ok (.aload_n 0, 1) := by decide +kernel
theorem d_Ways_count_6 : decode b_Ways_count 6 = .ok (.getfield 21, 3) := by decide +kernel
theorem d_Ways_count_9 : decode b_Ways_count 9 = .ok (.iconst 0, 1) := by decide +kernel
theorem d_Ways_count_10 : decode b_Ways_count 10 = .ok (.aload_n 0, 1) := by decide +kernel
theorem d_Ways_count_11 : decode b_Ways_count 11 = .ok (.getfield 37, 3) := by decide +kernel
theorem d_Ways_count_14 : decode b_Ways_count 14 = .ok (.invokestatic 44, 3) := by decide +kernel
theorem d_Ways_count_17 : decode b_Ways_count 17 = .ok (.iconst 0, 1) := by decide +kernel
theorem d_Ways_count_18 : decode b_Ways_count 18 = .ok (.istore 4, 2) := by decide +kernel
theorem d_Ways_count_20 : decode b_Ways_count 20 = .ok (.iload 4, 2) := by decide +kernel
theorem d_Ways_count_22 : decode b_Ways_count 22 = .ok (.iload_n 3, 1) := by decide +kernel
theorem d_Ways_count_23 : decode b_Ways_count 23 = .ok (.if_icmp .ge 74, 3) := by decide +kernel
theorem d_Ways_count_26 : decode b_Ways_count 26 = .ok (.aload_n 0, 1) := by decide +kernel
theorem d_Ways_count_27 : decode b_Ways_count 27 = .ok (.iload_n 1, 1) := by decide +kernel
theorem d_Ways_count_28 : decode b_Ways_count 28 = .ok (.iload_n 2, 1) := by decide +kernel
theorem d_Ways_count_29 : decode b_Ways_count 29 = .ok (.invokevirtual 50, 3) := by decide +kernel
theorem d_Ways_count_32 : decode b_Ways_count 32 = .ok (.ifCond .eq 65, 3) := by decide +kernel
theorem d_Ways_count_35 : decode b_Ways_count 35 = .ok (.iload_n 2, 1) := by decide +kernel
theorem d_Ways_count_36 : decode b_Ways_count 36 = .ok (.istore 5, 2) := by decide +kernel
theorem d_Ways_count_38 : decode b_Ways_count 38 = .ok (.iload 5, 2) := by decide +kernel
theorem d_Ways_count_40 : decode b_Ways_count 40 = .ok (.iload_n 1, 1) := by decide +kernel
theorem d_Ways_count_41 : decode b_Ways_count 41 = .ok (.if_icmp .eq 50, 3) := by decide +kernel
theorem d_Ways_count_44 : decode b_Ways_count 44 = .ok (.aload_n 0, 1) := by decide +kernel
theorem d_Ways_count_45 : decode b_Ways_count 45 = .ok (.getfield 27, 3) := by decide +kernel
theorem d_Ways_count_48 : decode b_Ways_count 48 = .ok (.iload 5, 2) := by decide +kernel
theorem d_Ways_count_50 : decode b_Ways_count 50 = .ok (.iaload, 1) := by decide +kernel
theorem d_Ways_count_51 : decode b_Ways_count 51 = .ok (.istore 6, 2) := by decide +kernel
theorem d_Ways_count_53 : decode b_Ways_count 53 = .ok (.aload_n 0, 1) := by decide +kernel
theorem d_Ways_count_54 : decode b_Ways_count 54 = .ok (.getfield 21, 3) := by decide +kernel
theorem d_Ways_count_57 : decode b_Ways_count 57 = .ok (.iload 6, 2) := by decide +kernel
theorem d_Ways_count_59 : decode b_Ways_count 59 = .ok (.dup2, 1) := by decide +kernel
theorem d_Ways_count_60 : decode b_Ways_count 60 = .ok (.iaload, 1) := by decide +kernel
theorem d_Ways_count_61 : decode b_Ways_count 61 = .ok (.iconst 1, 1) := by decide +kernel
theorem d_Ways_count_62 : decode b_Ways_count 62 = .ok (.isub, 1) := by decide +kernel
theorem d_Ways_count_63 : decode b_Ways_count 63 = .ok (.iastore, 1) := by decide +kernel
theorem d_Ways_count_64 : decode b_Ways_count 64 = .ok (.aload_n 0, 1) := by decide +kernel
theorem d_Ways_count_65 : decode b_Ways_count 65 = .ok (.getfield 21, 3) := by decide +kernel
theorem d_Ways_count_68 : decode b_Ways_count 68 = .ok (.iload 6, 2) := by decide +kernel
theorem d_Ways_count_70 : decode b_Ways_count 70 = .ok (.iconst 1, 1) := by decide +kernel
theorem d_Ways_count_71 : decode b_Ways_count 71 = .ok (.ixor, 1) := by decide +kernel
theorem d_Ways_count_72 : decode b_Ways_count 72 = .ok (.dup2, 1) := by decide +kernel
theorem d_Ways_count_73 : decode b_Ways_count 73 = .ok (.iaload, 1) := by decide +kernel
theorem d_Ways_count_74 : decode b_Ways_count 74 = .ok (.iconst 1, 1) := by decide +kernel
theorem d_Ways_count_75 : decode b_Ways_count 75 = .ok (.iadd, 1) := by decide +kernel
theorem d_Ways_count_76 : decode b_Ways_count 76 = .ok (.iastore, 1) := by decide +kernel
theorem d_Ways_count_77 : decode b_Ways_count 77 = .ok (.aload_n 0, 1) := by decide +kernel
theorem d_Ways_count_78 : decode b_Ways_count 78 = .ok (.getfield 18, 3) := by decide +kernel
theorem d_Ways_count_81 : decode b_Ways_count 81 = .ok (.iload 6, 2) := by decide +kernel
theorem d_Ways_count_83 : decode b_Ways_count 83 = .ok (.iconst 1, 1) := by decide +kernel
theorem d_Ways_count_84 : decode b_Ways_count 84 = .ok (.ixor, 1) := by decide +kernel
theorem d_Ways_count_85 : decode b_Ways_count 85 = .ok (.iaload, 1) := by decide +kernel
theorem d_Ways_count_86 : decode b_Ways_count 86 = .ok (.istore 5, 2) := by decide +kernel
theorem d_Ways_count_88 : decode b_Ways_count 88 = .ok (.goto (-50), 3) := by decide +kernel
theorem d_Ways_count_91 : decode b_Ways_count 91 = .ok (.iinc 4 1, 3) := by decide +kernel
theorem d_Ways_count_94 : decode b_Ways_count 94 = .ok (.goto (-74), 3) := by decide +kernel
theorem d_Ways_count_97 : decode b_Ways_count 97 = .ok (.iload 4, 2) := by decide +kernel
theorem d_Ways_count_99 : decode b_Ways_count 99 = .ok (.ireturn, 1) := by decide +kernel
theorem d_Ways_find_0 : decode b_Ways_find 0 = .ok (.iconst 0, 1) := by decide +kernel
theorem d_Ways_find_1 : decode b_Ways_find 1 = .ok (.istore_n 3, 1) := by decide +kernel
theorem d_Ways_find_2 : decode b_Ways_find 2 = .ok (.iload_n 3, 1) := by decide +kernel
theorem d_Ways_find_3 : decode b_Ways_find 3 = .ok (.aload_n 0, 1) := by decide +kernel
theorem d_Ways_find_4 : decode b_Ways_find 4 = .ok (.getfield 33, 3) := by decide +kernel
theorem d_Ways_find_7 : decode b_Ways_find 7 = .ok (.if_icmp .ge 16, 3) := by decide +kernel
theorem d_Ways_find_10 : decode b_Ways_find 10 = .ok (.aload_n 0, 1) := by decide +kernel
theorem d_Ways_find_11 : decode b_Ways_find 11 = .ok (.getfield 27, 3) := by decide +kernel
theorem d_Ways_find_14 : decode b_Ways_find 14 = .ok (.iload_n 3, 1) := by decide +kernel
theorem d_Ways_find_15 : decode b_Ways_find 15 = .ok (.iconst (-1), 1) := by decide +kernel
theorem d_Ways_find_16 : decode b_Ways_find 16 = .ok (.iastore, 1) := by decide +kernel
theorem d_Ways_find_17 : decode b_Ways_find 17 = .ok (.iinc 3 1, 3) := by decide +kernel
theorem d_Ways_find_20 : decode b_Ways_find 20 = .ok (.goto (-18), 3) := by decide +kernel
theorem d_Ways_find_23 : decode b_Ways_find 23 = .ok (.iconst 0, 1) := by decide +kernel
theorem d_Ways_find_24 : decode b_Ways_find 24 = .ok (.istore_n 3, 1) := by decide +kernel
theorem d_Ways_find_25 : decode b_Ways_find 25 = .ok (.aload_n 0, 1) := by decide +kernel
theorem d_Ways_find_26 : decode b_Ways_find 26 = .ok (.getfield 30, 3) := by decide +kernel
theorem d_Ways_find_29 : decode b_Ways_find 29 = .ok (.iload_n 3, 1) := by decide +kernel
theorem d_Ways_find_30 : decode b_Ways_find 30 = .ok (.iinc 3 1, 3) := by decide +kernel
theorem d_Ways_find_33 : decode b_Ways_find 33 = .ok (.iload_n 1, 1) := by decide +kernel
theorem d_Ways_find_34 : decode b_Ways_find 34 = .ok (.iastore, 1) := by decide +kernel
theorem d_Ways_find_35 : decode b_Ways_find 35 = .ok (.iconst 0, 1) := by decide +kernel
theorem d_Ways_find_36 : decode b_Ways_find 36 = .ok (.istore 4, 2) := by decide +kernel
theorem d_Ways_find_38 : decode b_Ways_find 38 = .ok (.iload 4, 2) := by decide +kernel
theorem d_Ways_find_40 : decode b_Ways_find 40 = .ok (.iload_n 3, 1) := by decide +kernel
theorem d_Ways_find_41 : decode b_Ways_find 41 = .ok (.if_icmp .ge 107, 3) := by decide +kernel
theorem d_Ways_find_44 : decode b_Ways_find 44 = .ok (.aload_n 0, 1) := by decide +kernel
theorem d_Ways_find_45 : decode b_Ways_find 45 = .ok (.getfield 27, 3) := by decide +kernel
theorem d_Ways_find_48 : decode b_Ways_find 48 = .ok (.iload_n 2, 1) := by decide +kernel
theorem d_Ways_find_49 : decode b_Ways_find 49 = .ok (.iaload, 1) := by decide +kernel
theorem d_Ways_find_50 : decode b_Ways_find 50 = .ok (.iconst (-1), 1) := by decide +kernel
theorem d_Ways_find_51 : decode b_Ways_find 51 = .ok (.if_icmp .ne 97, 3) := by decide +kernel
theorem d_Ways_find_54 : decode b_Ways_find 54 = .ok (.aload_n 0, 1) := by decide +kernel
theorem d_Ways_find_55 : decode b_Ways_find 55 = .ok (.getfield 11, 3) := by decide +kernel
theorem d_Ways_find_58 : decode b_Ways_find 58 = .ok (.aload_n 0, 1) := by decide +kernel
theorem d_Ways_find_59 : decode b_Ways_find 59 = .ok (.getfield 30, 3) := by decide +kernel
theorem d_Ways_find_62 : decode b_Ways_find 62 = .ok (.iload 4, 2) := by decide +kernel
theorem d_Ways_find_64 : decode b_Ways_find 64 = .ok (.iaload, 1) := by decide +kernel
theorem d_Ways_find_65 : decode b_Ways_find 65 = .ok (.iaload, 1) := by decide +kernel
theorem d_Ways_find_66 : decode b_Ways_find 66 = .ok (.istore 5, 2) := by decide +kernel
theorem d_Ways_find_68 : decode b_Ways_find 68 = .ok (.iload 5, 2) := by decide +kernel
theorem d_Ways_find_70 : decode b_Ways_find 70 = .ok (.iconst (-1), 1) := by decide +kernel
theorem d_Ways_find_71 : decode b_Ways_find 71 = .ok (.if_icmp .eq 71, 3) := by decide +kernel
theorem d_Ways_find_74 : decode b_Ways_find 74 = .ok (.aload_n 0, 1) := by decide +kernel
theorem d_Ways_find_75 : decode b_Ways_find 75 = .ok (.getfield 18, 3) := by decide +kernel
theorem d_Ways_find_78 : decode b_Ways_find 78 = .ok (.iload 5, 2) := by decide +kernel
theorem d_Ways_find_80 : decode b_Ways_find 80 = .ok (.iaload, 1) := by decide +kernel
theorem d_Ways_find_81 : decode b_Ways_find 81 = .ok (.istore 6, 2) := by decide +kernel
theorem d_Ways_find_83 : decode b_Ways_find 83 = .ok (.aload_n 0, 1) := by decide +kernel
theorem d_Ways_find_84 : decode b_Ways_find 84 = .ok (.getfield 21, 3) := by decide +kernel
theorem d_Ways_find_87 : decode b_Ways_find 87 = .ok (.iload 5, 2) := by decide +kernel
theorem d_Ways_find_89 : decode b_Ways_find 89 = .ok (.iaload, 1) := by decide +kernel
theorem d_Ways_find_90 : decode b_Ways_find 90 = .ok (.ifCond .le 40, 3) := by decide +kernel
theorem d_Ways_find_93 : decode b_Ways_find 93 = .ok (.aload_n 0, 1) := by decide +kernel
theorem d_Ways_find_94 : decode b_Ways_find 94 = .ok (.getfield 27, 3) := by decide +kernel
theorem d_Ways_find_97 : decode b_Ways_find 97 = .ok (.iload 6, 2) := by decide +kernel
theorem d_Ways_find_99 : decode b_Ways_find 99 = .ok (.iaload, 1) := by decide +kernel
theorem d_Ways_find_100 : decode b_Ways_find 100 = .ok (.iconst (-1), 1) := by decide +kernel
theorem d_Ways_find_101 : decode b_Ways_find 101 = .ok (.if_icmp .ne 29, 3) := by decide +kernel
theorem d_Ways_find_104 : decode b_Ways_find 104 = .ok (.iload 6, 2) := by decide +kernel
theorem d_Ways_find_106 : decode b_Ways_find 106 = .ok (.iload_n 1, 1) := by decide +kernel
theorem d_Ways_find_107 : decode b_Ways_find 107 = .ok (.if_icmp .eq 23, 3) := by decide +kernel
theorem d_Ways_find_110 : decode b_Ways_find 110 = .ok (.aload_n 0, 1) := by decide +kernel
theorem d_Ways_find_111 : decode b_Ways_find 111 = .ok (.getfield 27, 3) := by decide +kernel
theorem d_Ways_find_114 : decode b_Ways_find 114 = .ok (.iload 6, 2) := by decide +kernel
theorem d_Ways_find_116 : decode b_Ways_find 116 = .ok (.iload 5, 2) := by decide +kernel
theorem d_Ways_find_118 : decode b_Ways_find 118 = .ok (.iastore, 1) := by decide +kernel
theorem d_Ways_find_119 : decode b_Ways_find 119 = .ok (.aload_n 0, 1) := by decide +kernel
theorem d_Ways_find_120 : decode b_Ways_find 120 = .ok (.getfield 30, 3) := by decide +kernel
theorem d_Ways_find_123 : decode b_Ways_find 123 = .ok (.iload_n 3, 1) := by decide +kernel
theorem d_Ways_find_124 : decode b_Ways_find 124 = .ok (.iinc 3 1, 3) := by decide +kernel
theorem d_Ways_find_127 : decode b_Ways_find 127 = .ok (.iload 6, 2) := by decide +kernel
theorem d_Ways_find_129 : decode b_Ways_find 129 = .ok (.iastore, 1) := by decide +kernel
theorem d_Ways_find_130 : decode b_Ways_find 130 = .ok (.aload_n 0, 1) := by decide +kernel
theorem d_Ways_find_131 : decode b_Ways_find 131 = .ok (.getfield 15, 3) := by decide +kernel
theorem d_Ways_find_134 : decode b_Ways_find 134 = .ok (.iload 5, 2) := by decide +kernel
theorem d_Ways_find_136 : decode b_Ways_find 136 = .ok (.iaload, 1) := by decide +kernel
theorem d_Ways_find_137 : decode b_Ways_find 137 = .ok (.istore 5, 2) := by decide +kernel
theorem d_Ways_find_139 : decode b_Ways_find 139 = .ok (.goto (-71), 3) := by decide +kernel
theorem d_Ways_find_142 : decode b_Ways_find 142 = .ok (.iinc 4 1, 3) := by decide +kernel
theorem d_Ways_find_145 : decode b_Ways_find 145 = .ok (.goto (-107), 3) := by decide +kernel
theorem d_Ways_find_148 : decode b_Ways_find 148 = .ok (.aload_n 0, 1) := by decide +kernel
theorem d_Ways_find_149 : decode b_Ways_find 149 = .ok (.getfield 27, 3) := by decide +kernel
theorem d_Ways_find_152 : decode b_Ways_find 152 = .ok (.iload_n 2, 1) := by decide +kernel
theorem d_Ways_find_153 : decode b_Ways_find 153 = .ok (.iaload, 1) := by decide +kernel
theorem d_Ways_find_154 : decode b_Ways_find 154 = .ok (.iconst (-1), 1) := by decide +kernel
theorem d_Ways_find_155 : decode b_Ways_find 155 = .ok (.if_icmp .eq 7, 3) := by decide +kernel
theorem d_Ways_find_158 : decode b_Ways_find 158 = .ok (.iconst 1, 1) := by decide +kernel
theorem d_Ways_find_159 : decode b_Ways_find 159 = .ok (.goto 4, 3) := by decide +kernel
theorem d_Ways_find_162 : decode b_Ways_find 162 = .ok (.iconst 0, 1) := by decide +kernel
theorem d_Ways_find_163 : decode b_Ways_find 163 = .ok (.ireturn, 1) := by decide +kernel
theorem d_Int_bitCount_0 : decode b_Int_bitCount 0 = .ok (.iload_n 0, 1) := by decide +kernel
theorem d_Int_bitCount_1 : decode b_Int_bitCount 1 = .ok (.iload_n 0, 1) := by decide +kernel
theorem d_Int_bitCount_2 : decode b_Int_bitCount 2 = .ok (.iconst 1, 1) := by decide +kernel
theorem d_Int_bitCount_3 : decode b_Int_bitCount 3 = .ok (.iushr, 1) := by decide +kernel
theorem d_Int_bitCount_4 : decode b_Int_bitCount 4 = .ok (.ldc_w 265, 3) := by decide +kernel
theorem d_Int_bitCount_7 : decode b_Int_bitCount 7 = .ok (.iand, 1) := by decide +kernel
theorem d_Int_bitCount_8 : decode b_Int_bitCount 8 = .ok (.isub, 1) := by decide +kernel
theorem d_Int_bitCount_9 : decode b_Int_bitCount 9 = .ok (.istore_n 0, 1) := by decide +kernel
theorem d_Int_bitCount_10 : decode b_Int_bitCount 10 = .ok (.iload_n 0, 1) := by decide +kernel
theorem d_Int_bitCount_11 : decode b_Int_bitCount 11 = .ok (.ldc_w 266, 3) := by decide +kernel
theorem d_Int_bitCount_14 : decode b_Int_bitCount 14 = .ok (.iand, 1) := by decide +kernel
theorem d_Int_bitCount_15 : decode b_Int_bitCount 15 = .ok (.iload_n 0, 1) := by decide +kernel
theorem d_Int_bitCount_16 : decode b_Int_bitCount 16 = .ok (.iconst 2, 1) := by decide +kernel
theorem d_Int_bitCount_17 : decode b_Int_bitCount 17 = .ok (.iushr, 1) := by decide +kernel
theorem d_Int_bitCount_18 : decode b_Int_bitCount 18 = .ok (.ldc_w 266, 3) := by decide +kernel
theorem d_Int_bitCount_21 : decode b_Int_bitCount 21 = .ok (.iand, 1) := by decide +kernel
theorem d_Int_bitCount_22 : decode b_Int_bitCount 22 = .ok (.iadd, 1) := by decide +kernel
theorem d_Int_bitCount_23 : decode b_Int_bitCount 23 = .ok (.istore_n 0, 1) := by decide +kernel
theorem d_Int_bitCount_24 : decode b_Int_bitCount 24 = .ok (.iload_n 0, 1) := by decide +kernel
theorem d_Int_bitCount_25 : decode b_Int_bitCount 25 = .ok (.iload_n 0, 1) := by decide +kernel
theorem d_Int_bitCount_26 : decode b_Int_bitCount 26 = .ok (.iconst 4, 1) := by decide +kernel
theorem d_Int_bitCount_27 : decode b_Int_bitCount 27 = .ok (.iushr, 1) := by decide +kernel
theorem d_Int_bitCount_28 : decode b_Int_bitCount 28 = .ok (.iadd, 1) := by decide +kernel
theorem d_Int_bitCount_29 : decode b_Int_bitCount 29 = .ok (.ldc_w 267, 3) := by decide +kernel
theorem d_Int_bitCount_32 : decode b_Int_bitCount 32 = .ok (.iand, 1) := by decide +kernel
theorem d_Int_bitCount_33 : decode b_Int_bitCount 33 = .ok (.istore_n 0, 1) := by decide +kernel
theorem d_Int_bitCount_34 : decode b_Int_bitCount 34 = .ok (.iload_n 0, 1) := by decide +kernel
theorem d_Int_bitCount_35 : decode b_Int_bitCount 35 = .ok (.iload_n 0, 1) := by decide +kernel
theorem d_Int_bitCount_36 : decode b_Int_bitCount 36 = .ok (.bipush 8, 2) := by decide +kernel
theorem d_Int_bitCount_38 : decode b_Int_bitCount 38 = .ok (.iushr, 1) := by decide +kernel
theorem d_Int_bitCount_39 : decode b_Int_bitCount 39 = .ok (.iadd, 1) := by decide +kernel
theorem d_Int_bitCount_40 : decode b_Int_bitCount 40 = .ok (.istore_n 0, 1) := by decide +kernel
theorem d_Int_bitCount_41 : decode b_Int_bitCount 41 = .ok (.iload_n 0, 1) := by decide +kernel
theorem d_Int_bitCount_42 : decode b_Int_bitCount 42 = .ok (.iload_n 0, 1) := by decide +kernel
theorem d_Int_bitCount_43 : decode b_Int_bitCount 43 = .ok (.bipush 16, 2) := by decide +kernel
theorem d_Int_bitCount_45 : decode b_Int_bitCount 45 = .ok (.iushr, 1) := by decide +kernel
theorem d_Int_bitCount_46 : decode b_Int_bitCount 46 = .ok (.iadd, 1) := by decide +kernel
theorem d_Int_bitCount_47 : decode b_Int_bitCount 47 = .ok (.istore_n 0, 1) := by decide +kernel
theorem d_Int_bitCount_48 : decode b_Int_bitCount 48 = .ok (.iload_n 0, 1) := by decide +kernel
theorem d_Int_bitCount_49 : decode b_Int_bitCount 49 = .ok (.bipush 63, 2) := by decide +kernel
theorem d_Int_bitCount_51 : decode b_Int_bitCount 51 = .ok (.iand, 1) := by decide +kernel
theorem d_Int_bitCount_52 : decode b_Int_bitCount 52 = .ok (.ireturn, 1) := by decide +kernel
theorem d_Int_lowestOneBit_0 : decode b_Int_lowestOneBit 0 = .ok (.iload_n 0, 1) := by decide +kernel
theorem d_Int_lowestOneBit_1 : decode b_Int_lowestOneBit 1 = .ok (.iload_n 0, 1) := by decide +kernel
theorem d_Int_lowestOneBit_2 : decode b_Int_lowestOneBit 2 = .ok (.ineg, 1) := by decide +kernel
theorem d_Int_lowestOneBit_3 : decode b_Int_lowestOneBit 3 = .ok (.iand, 1) := by decide +kernel
theorem d_Int_lowestOneBit_4 : decode b_Int_lowestOneBit 4 = .ok (.ireturn, 1) := by decide +kernel
end
section
-- DECODE ROWS, printed by gen/names.py
theorem d_Mod_init_0 : decode b_Mod_init 0 = .ok (.aload_n 0, 1) := by decide +kernel
theorem d_Mod_init_1 : decode b_Mod_init 1 = .ok (.invokespecial 1, 3) := by decide +kernel
theorem d_Mod_init_4 : decode b_Mod_init 4 = .ok (.aload_n 0, 1) := by decide +kernel
theorem d_Mod_init_5 : decode b_Mod_init 5 = .ok (.iconst 1, 1) := by decide +kernel
theorem d_Mod_init_6 : decode b_Mod_init 6 = .ok (.putfield 7, 3) := by decide +kernel
theorem d_Mod_init_9 : decode b_Mod_init 9 = .ok (.aload_n 0, 1) := by decide +kernel
theorem d_Mod_init_10 : decode b_Mod_init 10 = .ok (.bipush 14, 2) := by decide +kernel
theorem d_Mod_init_12 : decode b_Mod_init 12 = .ok (.newarray .int, 2) := by decide +kernel
theorem d_Mod_init_14 : decode b_Mod_init 14 = .ok (.putfield 13, 3) := by decide +kernel
theorem d_Mod_init_17 : decode b_Mod_init 17 = .ok (.aload_n 0, 1) := by decide +kernel
theorem d_Mod_init_18 : decode b_Mod_init 18 = .ok (.bipush 14, 2) := by decide +kernel
theorem d_Mod_init_20 : decode b_Mod_init 20 = .ok (.newarray .int, 2) := by decide +kernel
theorem d_Mod_init_22 : decode b_Mod_init 22 = .ok (.putfield 17, 3) := by decide +kernel
theorem d_Mod_init_25 : decode b_Mod_init 25 = .ok (.aload_n 0, 1) := by decide +kernel
theorem d_Mod_init_26 : decode b_Mod_init 26 = .ok (.iconst 3, 1) := by decide +kernel
theorem d_Mod_init_27 : decode b_Mod_init 27 = .ok (.newarray .int, 2) := by decide +kernel
theorem d_Mod_init_29 : decode b_Mod_init 29 = .ok (.putfield 20, 3) := by decide +kernel
theorem d_Mod_init_32 : decode b_Mod_init 32 = .ok (.aload_n 0, 1) := by decide +kernel
theorem d_Mod_init_33 : decode b_Mod_init 33 = .ok (.bipush 14, 2) := by decide +kernel
theorem d_Mod_init_35 : decode b_Mod_init 35 = .ok (.newarray .int, 2) := by decide +kernel
theorem d_Mod_init_37 : decode b_Mod_init 37 = .ok (.putfield 23, 3) := by decide +kernel
theorem d_Mod_init_40 : decode b_Mod_init 40 = .ok (.aload_n 0, 1) := by decide +kernel
theorem d_Mod_init_41 : decode b_Mod_init 41 = .ok (.bipush 21, 2) := by decide +kernel
theorem d_Mod_init_43 : decode b_Mod_init 43 = .ok (.newarray .int, 2) := by decide +kernel
theorem d_Mod_init_45 : decode b_Mod_init 45 = .ok (.putfield 26, 3) := by decide +kernel
theorem d_Mod_init_48 : decode b_Mod_init 48 = .ok (.aload_n 0, 1) := by decide +kernel
theorem d_Mod_init_49 : decode b_Mod_init 49 = .ok (.bipush 16, 2) := by decide +kernel
theorem d_Mod_init_51 : decode b_Mod_init 51 = .ok (.newarray .int, 2) := by decide +kernel
theorem d_Mod_init_53 : decode b_Mod_init 53 = .ok (.putfield 29, 3) := by decide +kernel
theorem d_Mod_init_56 : decode b_Mod_init 56 = .ok (.aload_n 0, 1) := by decide +kernel
theorem d_Mod_init_57 : decode b_Mod_init 57 = .ok (.bipush 16, 2) := by decide +kernel
theorem d_Mod_init_59 : decode b_Mod_init 59 = .ok (.newarray .int, 2) := by decide +kernel
theorem d_Mod_init_61 : decode b_Mod_init 61 = .ok (.putfield 32, 3) := by decide +kernel
theorem d_Mod_init_64 : decode b_Mod_init 64 = .ok (.aload_n 0, 1) := by decide +kernel
theorem d_Mod_init_65 : decode b_Mod_init 65 = .ok (.bipush 16, 2) := by decide +kernel
theorem d_Mod_init_67 : decode b_Mod_init 67 = .ok (.newarray .int, 2) := by decide +kernel
theorem d_Mod_init_69 : decode b_Mod_init 69 = .ok (.putfield 35, 3) := by decide +kernel
theorem d_Mod_init_72 : decode b_Mod_init 72 = .ok (.aload_n 0, 1) := by decide +kernel
theorem d_Mod_init_73 : decode b_Mod_init 73 = .ok (.bipush 16, 2) := by decide +kernel
theorem d_Mod_init_75 : decode b_Mod_init 75 = .ok (.newarray .int, 2) := by decide +kernel
theorem d_Mod_init_77 : decode b_Mod_init 77 = .ok (.putfield 38, 3) := by decide +kernel
theorem d_Mod_init_80 : decode b_Mod_init 80 = .ok (.return_, 1) := by decide +kernel
theorem d_Mod_has_0 : decode b_Mod_has 0 = .ok (.iload_n 0, 1) := by decide +kernel
theorem d_Mod_has_1 : decode b_Mod_has 1 = .ok (.iload_n 1, 1) := by decide +kernel
theorem d_Mod_has_2 : decode b_Mod_has 2 = .ok (.ishr, 1) := by decide +kernel
theorem d_Mod_has_3 : decode b_Mod_has 3 = .ok (.iconst 1, 1) := by decide +kernel
theorem d_Mod_has_4 : decode b_Mod_has 4 = .ok (.iand, 1) := by decide +kernel
theorem d_Mod_has_5 : decode b_Mod_has 5 = .ok (.iconst 1, 1) := by decide +kernel
theorem d_Mod_has_6 : decode b_Mod_has 6 = .ok (.if_icmp .ne 7, 3) := by decide +kernel
theorem d_Mod_has_9 : decode b_Mod_has 9 = .ok (.iconst 1, 1) := by decide +kernel
theorem d_Mod_has_10 : decode b_Mod_has 10 = .ok (.goto 4, 3) := by decide +kernel
theorem d_Mod_has_13 : decode b_Mod_has 13 = .ok (.iconst 0, 1) := by decide +kernel
theorem d_Mod_has_14 : decode b_Mod_has 14 = .ok (.ireturn, 1) := by decide +kernel
theorem d_Mod_all_0 : decode b_Mod_all 0 = .ok (.iconst 1, 1) := by decide +kernel
theorem d_Mod_all_1 : decode b_Mod_all 1 = .ok (.aload_n 0, 1) := by decide +kernel
theorem d_Mod_all_2 : decode b_Mod_all 2 = .ok (.getfield 7, 3) := by decide +kernel
theorem d_Mod_all_5 : decode b_Mod_all 5 = .ok (.ishl, 1) := by decide +kernel
theorem d_Mod_all_6 : decode b_Mod_all 6 = .ok (.iconst 1, 1) := by decide +kernel
theorem d_Mod_all_7 : decode b_Mod_all 7 = .ok (.isub, 1) := by decide +kernel
theorem d_Mod_all_8 : decode b_Mod_all 8 = .ok (.ireturn, 1) := by decide +kernel
theorem d_Mod_isSet_0 : decode b_Mod_isSet 0 = .ok (.iload_n 1, 1) := by decide +kernel
theorem d_Mod_isSet_1 : decode b_Mod_isSet 1 = .ok (.ifCond .lt 15, 3) := by decide +kernel
theorem d_Mod_isSet_4 : decode b_Mod_isSet 4 = .ok (.iload_n 1, 1) := by decide +kernel
theorem d_Mod_isSet_5 : decode b_Mod_isSet 5 = .ok (.aload_n 0, 1) := by decide +kernel
theorem d_Mod_isSet_6 : decode b_Mod_isSet 6 = .ok (.invokevirtual 41, 3) := by decide +kernel
theorem d_Mod_isSet_9 : decode b_Mod_isSet 9 = .ok (.if_icmp .gt 7, 3) := by decide +kernel
theorem d_Mod_isSet_12 : decode b_Mod_isSet 12 = .ok (.iconst 1, 1) := by decide +kernel
theorem d_Mod_isSet_13 : decode b_Mod_isSet 13 = .ok (.goto 4, 3) := by decide +kernel
theorem d_Mod_isSet_16 : decode b_Mod_isSet 16 = .ok (.iconst 0, 1) := by decide +kernel
theorem d_Mod_isSet_17 : decode b_Mod_isSet 17 = .ok (.ireturn, 1) := by decide +kernel
theorem d_Mod_isArc_0 : decode b_Mod_isArc 0 = .ok (.iload_n 1, 1) := by decide +kernel
theorem d_Mod_isArc_1 : decode b_Mod_isArc 1 = .ok (.ifCond .lt 15, 3) := by decide +kernel
theorem d_Mod_isArc_4 : decode b_Mod_isArc 4 = .ok (.iload_n 1, 1) := by decide +kernel
theorem d_Mod_isArc_5 : decode b_Mod_isArc 5 = .ok (.aload_n 0, 1) := by decide +kernel
theorem d_Mod_isArc_6 : decode b_Mod_isArc 6 = .ok (.getfield 45, 3) := by decide +kernel
theorem d_Mod_isArc_9 : decode b_Mod_isArc 9 = .ok (.if_icmp .ge 7, 3) := by decide +kernel
theorem d_Mod_isArc_12 : decode b_Mod_isArc 12 = .ok (.iconst 1, 1) := by decide +kernel
theorem d_Mod_isArc_13 : decode b_Mod_isArc 13 = .ok (.goto 4, 3) := by decide +kernel
theorem d_Mod_isArc_16 : decode b_Mod_isArc 16 = .ok (.iconst 0, 1) := by decide +kernel
theorem d_Mod_isArc_17 : decode b_Mod_isArc 17 = .ok (.ireturn, 1) := by decide +kernel
theorem d_Mod_size_0 : decode b_Mod_size 0 = .ok (.iconst 0, 1) := by decide +kernel
theorem d_Mod_size_1 : decode b_Mod_size 1 = .ok (.istore_n 1, 1) := by decide +kernel
theorem d_Mod_size_2 : decode b_Mod_size 2 = .ok (.iconst 0, 1) := by decide +kernel
theorem d_Mod_size_3 : decode b_Mod_size 3 = .ok (.istore_n 2, 1) := by decide +kernel
theorem d_Mod_size_4 : decode b_Mod_size 4 = .ok (.iload_n 2, 1) := by decide +kernel
theorem d_Mod_size_5 : decode b_Mod_size 5 = .ok (.bipush 7, 2) := by decide +kernel
theorem d_Mod_size_7 : decode b_Mod_size 7 = .ok (.if_icmp .ge 25, 3) := by decide +kernel
theorem d_Mod_size_10 : decode b_Mod_size 10 = .ok (.iload_n 0, 1) := by decide +kernel
theorem d_Mod_size_11 : decode b_Mod_size 11 = .ok (.iload_n 2, 1) := by decide +kernel
theorem d_Mod_size_12 : decode b_Mod_size 12 = .ok (.invokestatic 48, 3) := by decide +kernel
theorem d_Mod_size_15 : decode b_Mod_size 15 = .ok (.ifCond .eq 9, 3) := by decide +kernel
theorem d_Mod_size_18 : decode b_Mod_size 18 = .ok (.iload_n 1, 1) := by decide +kernel
theorem d_Mod_size_19 : decode b_Mod_size 19 = .ok (.iconst 1, 1) := by decide +kernel
theorem d_Mod_size_20 : decode b_Mod_size 20 = .ok (.iadd, 1) := by decide +kernel
theorem d_Mod_size_21 : decode b_Mod_size 21 = .ok (.goto 4, 3) := by decide +kernel
theorem d_Mod_size_24 : decode b_Mod_size 24 = .ok (.iload_n 1, 1) := by decide +kernel
theorem d_Mod_size_25 : decode b_Mod_size 25 = .ok (.istore_n 1, 1) := by decide +kernel
theorem d_Mod_size_26 : decode b_Mod_size 26 = .ok (.iinc 2 1, 3) := by decide +kernel
theorem d_Mod_size_29 : decode b_Mod_size 29 = .ok (.goto (-25), 3) := by decide +kernel
theorem d_Mod_size_32 : decode b_Mod_size 32 = .ok (.iload_n 1, 1) := by decide +kernel
theorem d_Mod_size_33 : decode b_Mod_size 33 = .ok (.ireturn, 1) := by decide +kernel
theorem d_Mod_isBefore_0 : decode b_Mod_isBefore 0 = .ok (.iload_n 0, 1) := by decide +kernel
theorem d_Mod_isBefore_1 : decode b_Mod_isBefore 1 = .ok (.invokestatic 52, 3) := by decide +kernel
theorem d_Mod_isBefore_4 : decode b_Mod_isBefore 4 = .ok (.iload_n 1, 1) := by decide +kernel
theorem d_Mod_isBefore_5 : decode b_Mod_isBefore 5 = .ok (.invokestatic 52, 3) := by decide +kernel
theorem d_Mod_isBefore_8 : decode b_Mod_isBefore 8 = .ok (.if_icmp .eq 20, 3) := by decide +kernel
theorem d_Mod_isBefore_11 : decode b_Mod_isBefore 11 = .ok (.iload_n 0, 1) := by decide +kernel
theorem d_Mod_isBefore_12 : decode b_Mod_isBefore 12 = .ok (.invokestatic 52, 3) := by decide +kernel
theorem d_Mod_isBefore_15 : decode b_Mod_isBefore 15 = .ok (.iload_n 1, 1) := by decide +kernel
theorem d_Mod_isBefore_16 : decode b_Mod_isBefore 16 = .ok (.invokestatic 52, 3) := by decide +kernel
theorem d_Mod_isBefore_19 : decode b_Mod_isBefore 19 = .ok (.if_icmp .ge 7, 3) := by decide +kernel
theorem d_Mod_isBefore_22 : decode b_Mod_isBefore 22 = .ok (.iconst 1, 1) := by decide +kernel
theorem d_Mod_isBefore_23 : decode b_Mod_isBefore 23 = .ok (.goto 4, 3) := by decide +kernel
theorem d_Mod_isBefore_26 : decode b_Mod_isBefore 26 = .ok (.iconst 0, 1) := by decide +kernel
theorem d_Mod_isBefore_27 : decode b_Mod_isBefore 27 = .ok (.ireturn, 1) := by decide +kernel
theorem d_Mod_isBefore_28 : decode b_Mod_isBefore 28 = .ok (.iconst 0, 1) := by decide +kernel
theorem d_Mod_isBefore_29 : decode b_Mod_isBefore 29 = .ok (.istore_n 2, 1) := by decide +kernel
theorem d_Mod_isBefore_30 : decode b_Mod_isBefore 30 = .ok (.iload_n 2, 1) := by decide +kernel
theorem d_Mod_isBefore_31 : decode b_Mod_isBefore 31 = .ok (.bipush 7, 2) := by decide +kernel
theorem d_Mod_isBefore_33 : decode b_Mod_isBefore 33 = .ok (.if_icmp .ge 22, 3) := by decide +kernel
theorem d_Mod_isBefore_36 : decode b_Mod_isBefore 36 = .ok (.iload_n 0, 1) := by decide +kernel
theorem d_Mod_isBefore_37 : decode b_Mod_isBefore 37 = .ok (.iload_n 2, 1) := by decide +kernel
theorem d_Mod_isBefore_38 : decode b_Mod_isBefore 38 = .ok (.invokestatic 48, 3) := by decide +kernel
theorem d_Mod_isBefore_41 : decode b_Mod_isBefore 41 = .ok (.iload_n 1, 1) := by decide +kernel
theorem d_Mod_isBefore_42 : decode b_Mod_isBefore 42 = .ok (.iload_n 2, 1) := by decide +kernel
theorem d_Mod_isBefore_43 : decode b_Mod_isBefore 43 = .ok (.invokestatic 48, 3) := by decide +kernel
theorem d_Mod_isBefore_46 : decode b_Mod_isBefore 46 = .ok (.if_icmp .ne 9, 3) := by decide +kernel
theorem d_Mod_isBefore_49 : decode b_Mod_isBefore 49 = .ok (.iinc 2 1, 3) := by decide +kernel
theorem d_Mod_isBefore_52 : decode b_Mod_isBefore 52 = .ok (.goto (-22), 3) := by decide +kernel
theorem d_Mod_isBefore_55 : decode b_Mod_isBefore 55 = .ok (.iload_n 2, 1) := by decide +kernel
theorem d_Mod_isBefore_56 : decode b_Mod_isBefore 56 = .ok (.bipush 7, 2) := by decide +kernel
theorem d_Mod_isBefore_58 : decode b_Mod_isBefore 58 = .ok (.if_icmp .ge 15, 3) := by decide +kernel
theorem d_Mod_isBefore_61 : decode b_Mod_isBefore 61 = .ok (.iload_n 0, 1) := by decide +kernel
theorem d_Mod_isBefore_62 : decode b_Mod_isBefore 62 = .ok (.iload_n 2, 1) := by decide +kernel
theorem d_Mod_isBefore_63 : decode b_Mod_isBefore 63 = .ok (.invokestatic 48, 3) := by decide +kernel
theorem d_Mod_isBefore_66 : decode b_Mod_isBefore 66 = .ok (.ifCond .eq 7, 3) := by decide +kernel
theorem d_Mod_isBefore_69 : decode b_Mod_isBefore 69 = .ok (.iconst 1, 1) := by decide +kernel
theorem d_Mod_isBefore_70 : decode b_Mod_isBefore 70 = .ok (.goto 4, 3) := by decide +kernel
theorem d_Mod_isBefore_73 : decode b_Mod_isBefore 73 = .ok (.iconst 0, 1) := by decide +kernel
theorem d_Mod_isBefore_74 : decode b_Mod_isBefore 74 = .ok (.ireturn, 1) := by decide +kernel
theorem d_Mod_begin_0 : decode b_Mod_begin 0 = .ok (.iload_n 1, 1) := by decide +kernel
theorem d_Mod_begin_1 : decode b_Mod_begin 1 = .ok (.iconst 1, 1) := by decide +kernel
theorem d_Mod_begin_2 : decode b_Mod_begin 2 = .ok (.if_icmp .lt 9, 3) := by decide +kernel
theorem d_Mod_begin_5 : decode b_Mod_begin 5 = .ok (.iload_n 1, 1) := by decide +kernel
theorem d_Mod_begin_6 : decode b_Mod_begin 6 = .ok (.bipush 7, 2) := by decide +kernel
theorem d_Mod_begin_8 : decode b_Mod_begin 8 = .ok (.if_icmp .le 5, 3) := by decide +kernel
theorem d_Mod_begin_11 : decode b_Mod_begin 11 = .ok (.iconst 0, 1) := by decide +kernel
theorem d_Mod_begin_12 : decode b_Mod_begin 12 = .ok (.ireturn, 1) := by decide +kernel
theorem d_Mod_begin_13 : decode b_Mod_begin 13 = .ok (.aload_n 0, 1) := by decide +kernel
theorem d_Mod_begin_14 : decode b_Mod_begin 14 = .ok (.iload_n 1, 1) := by decide +kernel
theorem d_Mod_begin_15 : decode b_Mod_begin 15 = .ok (.putfield 7, 3) := by decide +kernel
theorem d_Mod_begin_18 : decode b_Mod_begin 18 = .ok (.aload_n 0, 1) := by decide +kernel
theorem d_Mod_begin_19 : decode b_Mod_begin 19 = .ok (.iconst 0, 1) := by decide +kernel
theorem d_Mod_begin_20 : decode b_Mod_begin 20 = .ok (.putfield 45, 3) := by decide +kernel
theorem d_Mod_begin_23 : decode b_Mod_begin 23 = .ok (.aload_n 0, 1) := by decide +kernel
theorem d_Mod_begin_24 : decode b_Mod_begin 24 = .ok (.iconst 0, 1) := by decide +kernel
theorem d_Mod_begin_25 : decode b_Mod_begin 25 = .ok (.putfield 56, 3) := by decide +kernel
theorem d_Mod_begin_28 : decode b_Mod_begin 28 = .ok (.iconst 1, 1) := by decide +kernel
theorem d_Mod_begin_29 : decode b_Mod_begin 29 = .ok (.ireturn, 1) := by decide +kernel
theorem d_Mod_arc_0 : decode b_Mod_arc 0 = .ok (.aload_n 0, 1) := by decide +kernel
theorem d_Mod_arc_1 : decode b_Mod_arc 1 = .ok (.getfield 45, 3) := by decide +kernel
theorem d_Mod_arc_4 : decode b_Mod_arc 4 = .ok (.bipush 14, 2) := by decide +kernel
theorem d_Mod_arc_6 : decode b_Mod_arc 6 = .ok (.if_icmp .eq 32, 3) := by decide +kernel
theorem d_Mod_arc_9 : decode b_Mod_arc 9 = .ok (.iload_n 1, 1) := by decide +kernel
theorem d_Mod_arc_10 : decode b_Mod_arc 10 = .ok (.ifCond .lt 28, 3) := by decide +kernel
theorem d_Mod_arc_13 : decode b_Mod_arc 13 = .ok (.iload_n 2, 1) := by decide +kernel
theorem d_Mod_arc_14 : decode b_Mod_arc 14 = .ok (.ifCond .lt 24, 3) := by decide +kernel
theorem d_Mod_arc_17 : decode b_Mod_arc 17 = .ok (.iload_n 1, 1) := by decide +kernel
theorem d_Mod_arc_18 : decode b_Mod_arc 18 = .ok (.aload_n 0, 1) := by decide +kernel
theorem d_Mod_arc_19 : decode b_Mod_arc 19 = .ok (.getfield 7, 3) := by decide +kernel
theorem d_Mod_arc_22 : decode b_Mod_arc 22 = .ok (.if_icmp .ge 16, 3) := by decide +kernel
theorem d_Mod_arc_25 : decode b_Mod_arc 25 = .ok (.iload_n 2, 1) := by decide +kernel
theorem d_Mod_arc_26 : decode b_Mod_arc 26 = .ok (.aload_n 0, 1) := by decide +kernel
theorem d_Mod_arc_27 : decode b_Mod_arc 27 = .ok (.getfield 7, 3) := by decide +kernel
theorem d_Mod_arc_30 : decode b_Mod_arc 30 = .ok (.if_icmp .ge 8, 3) := by decide +kernel
theorem d_Mod_arc_33 : decode b_Mod_arc 33 = .ok (.iload_n 1, 1) := by decide +kernel
theorem d_Mod_arc_34 : decode b_Mod_arc 34 = .ok (.iload_n 2, 1) := by decide +kernel
theorem d_Mod_arc_35 : decode b_Mod_arc 35 = .ok (.if_icmp .ne 5, 3) := by decide +kernel
theorem d_Mod_arc_38 : decode b_Mod_arc 38 = .ok (.iconst (-1), 1) := by decide +kernel
theorem d_Mod_arc_39 : decode b_Mod_arc 39 = .ok (.ireturn, 1) := by decide +kernel
theorem d_Mod_arc_40 : decode b_Mod_arc 40 = .ok (.aload_n 0, 1) := by decide +kernel
theorem d_Mod_arc_41 : decode b_Mod_arc 41 = .ok (.getfield 13, 3) := by decide +kernel
theorem d_Mod_arc_44 : decode b_Mod_arc 44 = .ok (.aload_n 0, 1) := by decide +kernel
theorem d_Mod_arc_45 : decode b_Mod_arc 45 = .ok (.getfield 45, 3) := by decide +kernel
theorem d_Mod_arc_48 : decode b_Mod_arc 48 = .ok (.iload_n 1, 1) := by decide +kernel
theorem d_Mod_arc_49 : decode b_Mod_arc 49 = .ok (.iastore, 1) := by decide +kernel
theorem d_Mod_arc_50 : decode b_Mod_arc 50 = .ok (.aload_n 0, 1) := by decide +kernel
theorem d_Mod_arc_51 : decode b_Mod_arc 51 = .ok (.getfield 17, 3) := by decide +kernel
theorem d_Mod_arc_54 : decode b_Mod_arc 54 = .ok (.aload_n 0, 1) := by decide +kernel
theorem d_Mod_arc_55 : decode b_Mod_arc 55 = .ok (.getfield 45, 3) := by decide +kernel
theorem d_Mod_arc_58 : decode b_Mod_arc 58 = .ok (.iload_n 2, 1) := by decide +kernel
theorem d_Mod_arc_59 : decode b_Mod_arc 59 = .ok (.iastore, 1) := by decide +kernel
theorem d_Mod_arc_60 : decode b_Mod_arc 60 = .ok (.aload_n 0, 1) := by decide +kernel
theorem d_Mod_arc_61 : decode b_Mod_arc 61 = .ok (.dup, 1) := by decide +kernel
theorem d_Mod_arc_62 : decode b_Mod_arc 62 = .ok (.getfield 45, 3) := by decide +kernel
theorem d_Mod_arc_65 : decode b_Mod_arc 65 = .ok (.iconst 1, 1) := by decide +kernel
theorem d_Mod_arc_66 : decode b_Mod_arc 66 = .ok (.iadd, 1) := by decide +kernel
theorem d_Mod_arc_67 : decode b_Mod_arc 67 = .ok (.putfield 45, 3) := by decide +kernel
theorem d_Mod_arc_70 : decode b_Mod_arc 70 = .ok (.aload_n 0, 1) := by decide +kernel
theorem d_Mod_arc_71 : decode b_Mod_arc 71 = .ok (.getfield 45, 3) := by decide +kernel
theorem d_Mod_arc_74 : decode b_Mod_arc 74 = .ok (.iconst 1, 1) := by decide +kernel
theorem d_Mod_arc_75 : decode b_Mod_arc 75 = .ok (.isub, 1) := by decide +kernel
theorem d_Mod_arc_76 : decode b_Mod_arc 76 = .ok (.ireturn, 1) := by decide +kernel
theorem d_Mod_drop_0 : decode b_Mod_drop 0 = .ok (.aload_n 0, 1) := by decide +kernel
theorem d_Mod_drop_1 : decode b_Mod_drop 1 = .ok (.iload_n 1, 1) := by decide +kernel
theorem d_Mod_drop_2 : decode b_Mod_drop 2 = .ok (.invokevirtual 59, 3) := by decide +kernel
theorem d_Mod_drop_5 : decode b_Mod_drop 5 = .ok (.ifCond .ne 5, 3) := by decide +kernel
theorem d_Mod_drop_8 : decode b_Mod_drop 8 = .ok (.iconst 0, 1) := by decide +kernel
theorem d_Mod_drop_9 : decode b_Mod_drop 9 = .ok (.ireturn, 1) := by decide +kernel
theorem d_Mod_drop_10 : decode b_Mod_drop 10 = .ok (.aload_n 0, 1) := by decide +kernel
theorem d_Mod_drop_11 : decode b_Mod_drop 11 = .ok (.iload_n 1, 1) := by decide +kernel
theorem d_Mod_drop_12 : decode b_Mod_drop 12 = .ok (.invokevirtual 63, 3) := by decide +kernel
theorem d_Mod_drop_15 : decode b_Mod_drop 15 = .ok (.iconst 1, 1) := by decide +kernel
theorem d_Mod_drop_16 : decode b_Mod_drop 16 = .ok (.ireturn, 1) := by decide +kernel
theorem d_Mod_remove_0 : decode b_Mod_remove 0 = .ok (.aload_n 0, 1) := by decide +kernel
theorem d_Mod_remove_1 : decode b_Mod_remove 1 = .ok (.dup, 1) := by decide +kernel
theorem d_Mod_remove_2 : decode b_Mod_remove 2 = .ok (.getfield 45, 3) := by decide +kernel
theorem d_Mod_remove_5 : decode b_Mod_remove 5 = .ok (.iconst 1, 1) := by decide +kernel
theorem d_Mod_remove_6 : decode b_Mod_remove 6 = .ok (.isub, 1) := by decide +kernel
theorem d_Mod_remove_7 : decode b_Mod_remove 7 = .ok (.putfield 45, 3) := by decide +kernel
theorem d_Mod_remove_10 : decode b_Mod_remove 10 = .ok (.iload_n 1, 1) := by decide +kernel
theorem d_Mod_remove_11 : decode b_Mod_remove 11 = .ok (.istore_n 2, 1) := by decide +kernel
theorem d_Mod_remove_12 : decode b_Mod_remove 12 = .ok (.iload_n 2, 1) := by decide +kernel
theorem d_Mod_remove_13 : decode b_Mod_remove 13 = .ok (.aload_n 0, 1) := by decide +kernel
theorem d_Mod_remove_14 : decode b_Mod_remove 14 = .ok (.getfield 45, 3) := by decide +kernel
theorem d_Mod_remove_17 : decode b_Mod_remove 17 = .ok (.if_icmp .ge 37, 3) := by decide +kernel
theorem d_Mod_remove_20 : decode b_Mod_remove 20 = .ok (.aload_n 0, 1) := by decide +kernel
theorem d_Mod_remove_21 : decode b_Mod_remove 21 = .ok (.getfield 13, 3) := by decide +kernel
theorem d_Mod_remove_24 : decode b_Mod_remove 24 = .ok (.iload_n 2, 1) := by decide +kernel
theorem d_Mod_remove_25 : decode b_Mod_remove 25 = .ok (.aload_n 0, 1) := by decide +kernel
theorem d_Mod_remove_26 : decode b_Mod_remove 26 = .ok (.getfield 13, 3) := by decide +kernel
theorem d_Mod_remove_29 : decode b_Mod_remove 29 = .ok (.iload_n 2, 1) := by decide +kernel
theorem d_Mod_remove_30 : decode b_Mod_remove 30 = .ok (.iconst 1, 1) := by decide +kernel
theorem d_Mod_remove_31 : decode b_Mod_remove 31 = .ok (.iadd, 1) := by decide +kernel
theorem d_Mod_remove_32 : decode b_Mod_remove 32 = .ok (.iaload, 1) := by decide +kernel
theorem d_Mod_remove_33 : decode b_Mod_remove 33 = .ok (.iastore, 1) := by decide +kernel
theorem d_Mod_remove_34 : decode b_Mod_remove 34 = .ok (.aload_n 0, 1) := by decide +kernel
theorem d_Mod_remove_35 : decode b_Mod_remove 35 = .ok (.getfield 17, 3) := by decide +kernel
theorem d_Mod_remove_38 : decode b_Mod_remove 38 = .ok (.iload_n 2, 1) := by decide +kernel
theorem d_Mod_remove_39 : decode b_Mod_remove 39 = .ok (.aload_n 0, 1) := by decide +kernel
theorem d_Mod_remove_40 : decode b_Mod_remove 40 = .ok (.getfield 17, 3) := by decide +kernel
theorem d_Mod_remove_43 : decode b_Mod_remove 43 = .ok (.iload_n 2, 1) := by decide +kernel
theorem d_Mod_remove_44 : decode b_Mod_remove 44 = .ok (.iconst 1, 1) := by decide +kernel
theorem d_Mod_remove_45 : decode b_Mod_remove 45 = .ok (.iadd, 1) := by decide +kernel
theorem d_Mod_remove_46 : decode b_Mod_remove 46 = .ok (.iaload, 1) := by decide +kernel
theorem d_Mod_remove_47 : decode b_Mod_remove 47 = .ok (.iastore, 1) := by decide +kernel
theorem d_Mod_remove_48 : decode b_Mod_remove 48 = .ok (.iinc 2 1, 3) := by decide +kernel
theorem d_Mod_remove_51 : decode b_Mod_remove 51 = .ok (.goto (-39), 3) := by decide +kernel
theorem d_Mod_remove_54 : decode b_Mod_remove 54 = .ok (.return_, 1) := by decide +kernel
theorem d_Mod_plant_0 : decode b_Mod_plant 0 = .ok (.aload_n 0, 1) := by decide +kernel
theorem d_Mod_plant_1 : decode b_Mod_plant 1 = .ok (.getfield 56, 3) := by decide +kernel
theorem d_Mod_plant_4 : decode b_Mod_plant 4 = .ok (.iconst 3, 1) := by decide +kernel
theorem d_Mod_plant_5 : decode b_Mod_plant 5 = .ok (.if_icmp .eq 15, 3) := by decide +kernel
theorem d_Mod_plant_8 : decode b_Mod_plant 8 = .ok (.iload_n 1, 1) := by decide +kernel
theorem d_Mod_plant_9 : decode b_Mod_plant 9 = .ok (.ifCond .eq 11, 3) := by decide +kernel
theorem d_Mod_plant_12 : decode b_Mod_plant 12 = .ok (.aload_n 0, 1) := by decide +kernel
theorem d_Mod_plant_13 : decode b_Mod_plant 13 = .ok (.iload_n 1, 1) := by decide +kernel
theorem d_Mod_plant_14 : decode b_Mod_plant 14 = .ok (.invokevirtual 67, 3) := by decide +kernel
theorem d_Mod_plant_17 : decode b_Mod_plant 17 = .ok (.ifCond .ne 5, 3) := by decide +kernel
theorem d_Mod_plant_20 : decode b_Mod_plant 20 = .ok (.iconst (-1), 1) := by decide +kernel
theorem d_Mod_plant_21 : decode b_Mod_plant 21 = .ok (.ireturn, 1) := by decide +kernel
theorem d_Mod_plant_22 : decode b_Mod_plant 22 = .ok (.aload_n 0, 1) := by decide +kernel
theorem d_Mod_plant_23 : decode b_Mod_plant 23 = .ok (.getfield 20, 3) := by decide +kernel
theorem d_Mod_plant_26 : decode b_Mod_plant 26 = .ok (.aload_n 0, 1) := by decide +kernel
theorem d_Mod_plant_27 : decode b_Mod_plant 27 = .ok (.getfield 56, 3) := by decide +kernel
theorem d_Mod_plant_30 : decode b_Mod_plant 30 = .ok (.iload_n 1, 1) := by decide +kernel
theorem d_Mod_plant_31 : decode b_Mod_plant 31 = .ok (.iastore, 1) := by decide +kernel
theorem d_Mod_plant_32 : decode b_Mod_plant 32 = .ok (.aload_n 0, 1) := by decide +kernel
theorem d_Mod_plant_33 : decode b_Mod_plant 33 = .ok (.dup, 1) := by decide +kernel
theorem d_Mod_plant_34 : decode b_Mod_plant 34 = .ok (.getfield 56, 3) := by decide +kernel
theorem d_Mod_plant_37 : decode b_Mod_plant 37 = .ok (.iconst 1, 1) := by decide +kernel
theorem d_Mod_plant_38 : decode b_Mod_plant 38 = .ok (.iadd, 1) := by decide +kernel
theorem d_Mod_plant_39 : decode b_Mod_plant 39 = .ok (.putfield 56, 3) := by decide +kernel
theorem d_Mod_plant_42 : decode b_Mod_plant 42 = .ok (.aload_n 0, 1) := by decide +kernel
theorem d_Mod_plant_43 : decode b_Mod_plant 43 = .ok (.getfield 56, 3) := by decide +kernel
theorem d_Mod_plant_46 : decode b_Mod_plant 46 = .ok (.iconst 1, 1) := by decide +kernel
theorem d_Mod_plant_47 : decode b_Mod_plant 47 = .ok (.isub, 1) := by decide +kernel
theorem d_Mod_plant_48 : decode b_Mod_plant 48 = .ok (.ireturn, 1) := by decide +kernel
theorem d_Mod_fell_0 : decode b_Mod_fell 0 = .ok (.aload_n 0, 1) := by decide +kernel
theorem d_Mod_fell_1 : decode b_Mod_fell 1 = .ok (.getfield 56, 3) := by decide +kernel
theorem d_Mod_fell_4 : decode b_Mod_fell 4 = .ok (.ifCond .ne 5, 3) := by decide +kernel
theorem d_Mod_fell_7 : decode b_Mod_fell 7 = .ok (.iconst (-1), 1) := by decide +kernel
theorem d_Mod_fell_8 : decode b_Mod_fell 8 = .ok (.ireturn, 1) := by decide +kernel
theorem d_Mod_fell_9 : decode b_Mod_fell 9 = .ok (.aload_n 0, 1) := by decide +kernel
theorem d_Mod_fell_10 : decode b_Mod_fell 10 = .ok (.dup, 1) := by decide +kernel
theorem d_Mod_fell_11 : decode b_Mod_fell 11 = .ok (.getfield 56, 3) := by decide +kernel
theorem d_Mod_fell_14 : decode b_Mod_fell 14 = .ok (.iconst 1, 1) := by decide +kernel
theorem d_Mod_fell_15 : decode b_Mod_fell 15 = .ok (.isub, 1) := by decide +kernel
theorem d_Mod_fell_16 : decode b_Mod_fell 16 = .ok (.putfield 56, 3) := by decide +kernel
theorem d_Mod_fell_19 : decode b_Mod_fell 19 = .ok (.aload_n 0, 1) := by decide +kernel
theorem d_Mod_fell_20 : decode b_Mod_fell 20 = .ok (.getfield 56, 3) := by decide +kernel
theorem d_Mod_fell_23 : decode b_Mod_fell 23 = .ok (.ireturn, 1) := by decide +kernel
theorem d_Mod_count_0 : decode b_Mod_count 0 = .ok (.iload_n 1, 1) := by decide +kernel
theorem d_Mod_count_1 : decode b_Mod_count 1 = .ok (.ifCond .ne 10, 3) := by decide +kernel
theorem d_Mod_count_4 : decode b_Mod_count 4 = .ok (.aload_n 0, 1) := by decide +kernel
theorem d_Mod_count_5 : decode b_Mod_count 5 = .ok (.getfield 7, 3) := by decide +kernel
theorem d_Mod_count_8 : decode b_Mod_count 8 = .ok (.goto 28, 3) := by decide +kernel
theorem d_Mod_count_11 : decode b_Mod_count 11 = .ok (.iload_n 1, 1) := by decide +kernel
theorem d_Mod_count_12 : decode b_Mod_count 12 = .ok (.iconst 1, 1) := by decide +kernel
theorem d_Mod_count_13 : decode b_Mod_count 13 = .ok (.if_icmp .ne 10, 3) := by decide +kernel
theorem d_Mod_count_16 : decode b_Mod_count 16 = .ok (.aload_n 0, 1) := by decide +kernel
theorem d_Mod_count_17 : decode b_Mod_count 17 = .ok (.getfield 45, 3) := by decide +kernel
theorem d_Mod_count_20 : decode b_Mod_count 20 = .ok (.goto 16, 3) := by decide +kernel
theorem d_Mod_count_23 : decode b_Mod_count 23 = .ok (.iload_n 1, 1) := by decide +kernel
theorem d_Mod_count_24 : decode b_Mod_count 24 = .ok (.iconst 2, 1) := by decide +kernel
theorem d_Mod_count_25 : decode b_Mod_count 25 = .ok (.if_icmp .ne 10, 3) := by decide +kernel
theorem d_Mod_count_28 : decode b_Mod_count 28 = .ok (.aload_n 0, 1) := by decide +kernel
theorem d_Mod_count_29 : decode b_Mod_count 29 = .ok (.getfield 56, 3) := by decide +kernel
theorem d_Mod_count_32 : decode b_Mod_count 32 = .ok (.goto 4, 3) := by decide +kernel
theorem d_Mod_count_35 : decode b_Mod_count 35 = .ok (.iconst (-1), 1) := by decide +kernel
theorem d_Mod_count_36 : decode b_Mod_count 36 = .ok (.ireturn, 1) := by decide +kernel
theorem d_Mod_end_0 : decode b_Mod_end 0 = .ok (.aload_n 0, 1) := by decide +kernel
theorem d_Mod_end_1 : decode b_Mod_end 1 = .ok (.iload_n 1, 1) := by decide +kernel
theorem d_Mod_end_2 : decode b_Mod_end 2 = .ok (.invokevirtual 59, 3) := by decide +kernel
theorem d_Mod_end_5 : decode b_Mod_end 5 = .ok (.ifCond .eq 12, 3) := by decide +kernel
theorem d_Mod_end_8 : decode b_Mod_end 8 = .ok (.iload_n 2, 1) := by decide +kernel
theorem d_Mod_end_9 : decode b_Mod_end 9 = .ok (.ifCond .lt 8, 3) := by decide +kernel
theorem d_Mod_end_12 : decode b_Mod_end 12 = .ok (.iload_n 2, 1) := by decide +kernel
theorem d_Mod_end_13 : decode b_Mod_end 13 = .ok (.iconst 1, 1) := by decide +kernel
theorem d_Mod_end_14 : decode b_Mod_end 14 = .ok (.if_icmp .le 7, 3) := by decide +kernel
theorem d_Mod_end_17 : decode b_Mod_end 17 = .ok (.iconst (-1), 1) := by decide +kernel
theorem d_Mod_end_18 : decode b_Mod_end 18 = .ok (.goto 22, 3) := by decide +kernel
theorem d_Mod_end_21 : decode b_Mod_end 21 = .ok (.iload_n 2, 1) := by decide +kernel
theorem d_Mod_end_22 : decode b_Mod_end 22 = .ok (.ifCond .ne 12, 3) := by decide +kernel
theorem d_Mod_end_25 : decode b_Mod_end 25 = .ok (.aload_n 0, 1) := by decide +kernel
theorem d_Mod_end_26 : decode b_Mod_end 26 = .ok (.getfield 13, 3) := by decide +kernel
theorem d_Mod_end_29 : decode b_Mod_end 29 = .ok (.iload_n 1, 1) := by decide +kernel
theorem d_Mod_end_30 : decode b_Mod_end 30 = .ok (.iaload, 1) := by decide +kernel
theorem d_Mod_end_31 : decode b_Mod_end 31 = .ok (.goto 9, 3) := by decide +kernel
theorem d_Mod_end_34 : decode b_Mod_end 34 = .ok (.aload_n 0, 1) := by decide +kernel
theorem d_Mod_end_35 : decode b_Mod_end 35 = .ok (.getfield 17, 3) := by decide +kernel
theorem d_Mod_end_38 : decode b_Mod_end 38 = .ok (.iload_n 1, 1) := by decide +kernel
theorem d_Mod_end_39 : decode b_Mod_end 39 = .ok (.iaload, 1) := by decide +kernel
theorem d_Mod_end_40 : decode b_Mod_end 40 = .ok (.ireturn, 1) := by decide +kernel
theorem d_Mod_entryOf_0 : decode b_Mod_entryOf 0 = .ok (.iconst 0, 1) := by decide +kernel
theorem d_Mod_entryOf_1 : decode b_Mod_entryOf 1 = .ok (.istore_n 3, 1) := by decide +kernel
theorem d_Mod_entryOf_2 : decode b_Mod_entryOf 2 = .ok (.iconst 0, 1) := by decide +kernel
theorem d_Mod_entryOf_3 : decode b_Mod_entryOf 3 = .ok (.istore 4, 2) := by decide +kernel
theorem d_Mod_entryOf_5 : decode b_Mod_entryOf 5 = .ok (.iload 4, 2) := by decide +kernel
theorem d_Mod_entryOf_7 : decode b_Mod_entryOf 7 = .ok (.aload_n 0, 1) := by decide +kernel
theorem d_Mod_entryOf_8 : decode b_Mod_entryOf 8 = .ok (.getfield 45, 3) := by decide +kernel
theorem d_Mod_entryOf_11 : decode b_Mod_entryOf 11 = .ok (.if_icmp .ge 54, 3) := by decide +kernel
theorem d_Mod_entryOf_14 : decode b_Mod_entryOf 14 = .ok (.iload_n 2, 1) := by decide +kernel
theorem d_Mod_entryOf_15 : decode b_Mod_entryOf 15 = .ok (.iload 4, 2) := by decide +kernel
theorem d_Mod_entryOf_17 : decode b_Mod_entryOf 17 = .ok (.invokestatic 48, 3) := by decide +kernel
theorem d_Mod_entryOf_20 : decode b_Mod_entryOf 20 = .ok (.ifCond .ne 37, 3) := by decide +kernel
theorem d_Mod_entryOf_23 : decode b_Mod_entryOf 23 = .ok (.iload_n 1, 1) := by decide +kernel
theorem d_Mod_entryOf_24 : decode b_Mod_entryOf 24 = .ok (.aload_n 0, 1) := by decide +kernel
theorem d_Mod_entryOf_25 : decode b_Mod_entryOf 25 = .ok (.getfield 17, 3) := by decide +kernel
theorem d_Mod_entryOf_28 : decode b_Mod_entryOf 28 = .ok (.iload 4, 2) := by decide +kernel
theorem d_Mod_entryOf_30 : decode b_Mod_entryOf 30 = .ok (.iaload, 1) := by decide +kernel
theorem d_Mod_entryOf_31 : decode b_Mod_entryOf 31 = .ok (.invokestatic 48, 3) := by decide +kernel
theorem d_Mod_entryOf_34 : decode b_Mod_entryOf 34 = .ok (.ifCond .eq 23, 3) := by decide +kernel
theorem d_Mod_entryOf_37 : decode b_Mod_entryOf 37 = .ok (.iload_n 1, 1) := by decide +kernel
theorem d_Mod_entryOf_38 : decode b_Mod_entryOf 38 = .ok (.aload_n 0, 1) := by decide +kernel
theorem d_Mod_entryOf_39 : decode b_Mod_entryOf 39 = .ok (.getfield 13, 3) := by decide +kernel
theorem d_Mod_entryOf_42 : decode b_Mod_entryOf 42 = .ok (.iload 4, 2) := by decide +kernel
theorem d_Mod_entryOf_44 : decode b_Mod_entryOf 44 = .ok (.iaload, 1) := by decide +kernel
theorem d_Mod_entryOf_45 : decode b_Mod_entryOf 45 = .ok (.invokestatic 48, 3) := by decide +kernel
theorem d_Mod_entryOf_48 : decode b_Mod_entryOf 48 = .ok (.ifCond .ne 9, 3) := by decide +kernel
theorem d_Mod_entryOf_51 : decode b_Mod_entryOf 51 = .ok (.iload_n 3, 1) := by decide +kernel
theorem d_Mod_entryOf_52 : decode b_Mod_entryOf 52 = .ok (.iconst 1, 1) := by decide +kernel
theorem d_Mod_entryOf_53 : decode b_Mod_entryOf 53 = .ok (.iadd, 1) := by decide +kernel
theorem d_Mod_entryOf_54 : decode b_Mod_entryOf 54 = .ok (.goto 4, 3) := by decide +kernel
theorem d_Mod_entryOf_57 : decode b_Mod_entryOf 57 = .ok (.iload_n 3, 1) := by decide +kernel
theorem d_Mod_entryOf_58 : decode b_Mod_entryOf 58 = .ok (.istore_n 3, 1) := by decide +kernel
theorem d_Mod_entryOf_59 : decode b_Mod_entryOf 59 = .ok (.iinc 4 1, 3) := by decide +kernel
theorem d_Mod_entryOf_62 : decode b_Mod_entryOf 62 = .ok (.goto (-57), 3) := by decide +kernel
theorem d_Mod_entryOf_65 : decode b_Mod_entryOf 65 = .ok (.iload_n 3, 1) := by decide +kernel
theorem d_Mod_entryOf_66 : decode b_Mod_entryOf 66 = .ok (.ireturn, 1) := by decide +kernel
theorem d_Mod_entry_0 : decode b_Mod_entry 0 = .ok (.aload_n 0, 1) := by decide +kernel
theorem d_Mod_entry_1 : decode b_Mod_entry 1 = .ok (.iload_n 1, 1) := by decide +kernel
theorem d_Mod_entry_2 : decode b_Mod_entry 2 = .ok (.invokevirtual 67, 3) := by decide +kernel
theorem d_Mod_entry_5 : decode b_Mod_entry 5 = .ok (.ifCond .eq 12, 3) := by decide +kernel
theorem d_Mod_entry_8 : decode b_Mod_entry 8 = .ok (.aload_n 0, 1) := by decide +kernel
theorem d_Mod_entry_9 : decode b_Mod_entry 9 = .ok (.iload_n 1, 1) := by decide +kernel
theorem d_Mod_entry_10 : decode b_Mod_entry 10 = .ok (.iconst 0, 1) := by decide +kernel
theorem d_Mod_entry_11 : decode b_Mod_entry 11 = .ok (.invokevirtual 70, 3) := by decide +kernel
theorem d_Mod_entry_14 : decode b_Mod_entry 14 = .ok (.goto 4, 3) := by decide +kernel
theorem d_Mod_entry_17 : decode b_Mod_entry 17 = .ok (.iconst (-1), 1) := by decide +kernel
theorem d_Mod_entry_18 : decode b_Mod_entry 18 = .ok (.ireturn, 1) := by decide +kernel
theorem d_Mod_missed_0 : decode b_Mod_missed 0 = .ok (.aload_n 0, 1) := by decide +kernel
theorem d_Mod_missed_1 : decode b_Mod_missed 1 = .ok (.iload_n 1, 1) := by decide +kernel
theorem d_Mod_missed_2 : decode b_Mod_missed 2 = .ok (.invokevirtual 67, 3) := by decide +kernel
theorem d_Mod_missed_5 : decode b_Mod_missed 5 = .ok (.ifCond .ne 5, 3) := by decide +kernel
theorem d_Mod_missed_8 : decode b_Mod_missed 8 = .ok (.iconst (-1), 1) := by decide +kernel
theorem d_Mod_missed_9 : decode b_Mod_missed 9 = .ok (.ireturn, 1) := by decide +kernel
theorem d_Mod_missed_10 : decode b_Mod_missed 10 = .ok (.iconst 0, 1) := by decide +kernel
theorem d_Mod_missed_11 : decode b_Mod_missed 11 = .ok (.istore_n 2, 1) := by decide +kernel
theorem d_Mod_missed_12 : decode b_Mod_missed 12 = .ok (.iconst 0, 1) := by decide +kernel
theorem d_Mod_missed_13 : decode b_Mod_missed 13 = .ok (.istore_n 3, 1) := by decide +kernel
theorem d_Mod_missed_14 : decode b_Mod_missed 14 = .ok (.iload_n 3, 1) := by decide +kernel
theorem d_Mod_missed_15 : decode b_Mod_missed 15 = .ok (.aload_n 0, 1) := by decide +kernel
theorem d_Mod_missed_16 : decode b_Mod_missed 16 = .ok (.getfield 56, 3) := by decide +kernel
theorem d_Mod_missed_19 : decode b_Mod_missed 19 = .ok (.if_icmp .ge 28, 3) := by decide +kernel
theorem d_Mod_missed_22 : decode b_Mod_missed 22 = .ok (.aload_n 0, 1) := by decide +kernel
theorem d_Mod_missed_23 : decode b_Mod_missed 23 = .ok (.getfield 20, 3) := by decide +kernel
theorem d_Mod_missed_26 : decode b_Mod_missed 26 = .ok (.iload_n 3, 1) := by decide +kernel
theorem d_Mod_missed_27 : decode b_Mod_missed 27 = .ok (.iaload, 1) := by decide +kernel
theorem d_Mod_missed_28 : decode b_Mod_missed 28 = .ok (.iload_n 1, 1) := by decide +kernel
theorem d_Mod_missed_29 : decode b_Mod_missed 29 = .ok (.iand, 1) := by decide +kernel
theorem d_Mod_missed_30 : decode b_Mod_missed 30 = .ok (.ifCond .ne 9, 3) := by decide +kernel
theorem d_Mod_missed_33 : decode b_Mod_missed 33 = .ok (.iload_n 2, 1) := by decide +kernel
theorem d_Mod_missed_34 : decode b_Mod_missed 34 = .ok (.iconst 1, 1) := by decide +kernel
theorem d_Mod_missed_35 : decode b_Mod_missed 35 = .ok (.iadd, 1) := by decide +kernel
theorem d_Mod_missed_36 : decode b_Mod_missed 36 = .ok (.goto 4, 3) := by decide +kernel
theorem d_Mod_missed_39 : decode b_Mod_missed 39 = .ok (.iload_n 2, 1) := by decide +kernel
theorem d_Mod_missed_40 : decode b_Mod_missed 40 = .ok (.istore_n 2, 1) := by decide +kernel
theorem d_Mod_missed_41 : decode b_Mod_missed 41 = .ok (.iinc 3 1, 3) := by decide +kernel
theorem d_Mod_missed_44 : decode b_Mod_missed 44 = .ok (.goto (-30), 3) := by decide +kernel
theorem d_Mod_missed_47 : decode b_Mod_missed 47 = .ok (.iload_n 2, 1) := by decide +kernel
theorem d_Mod_missed_48 : decode b_Mod_missed 48 = .ok (.ireturn, 1) := by decide +kernel
theorem d_Mod_stopper_0 : decode b_Mod_stopper 0 = .ok (.iconst 0, 1) := by decide +kernel
theorem d_Mod_stopper_1 : decode b_Mod_stopper 1 = .ok (.istore_n 1, 1) := by decide +kernel
theorem d_Mod_stopper_2 : decode b_Mod_stopper 2 = .ok (.iconst 1, 1) := by decide +kernel
theorem d_Mod_stopper_3 : decode b_Mod_stopper 3 = .ok (.istore_n 2, 1) := by decide +kernel
theorem d_Mod_stopper_4 : decode b_Mod_stopper 4 = .ok (.iload_n 2, 1) := by decide +kernel
theorem d_Mod_stopper_5 : decode b_Mod_stopper 5 = .ok (.aload_n 0, 1) := by decide +kernel
theorem d_Mod_stopper_6 : decode b_Mod_stopper 6 = .ok (.invokevirtual 41, 3) := by decide +kernel
theorem d_Mod_stopper_9 : decode b_Mod_stopper 9 = .ok (.if_icmp .gt 36, 3) := by decide +kernel
theorem d_Mod_stopper_12 : decode b_Mod_stopper 12 = .ok (.aload_n 0, 1) := by decide +kernel
theorem d_Mod_stopper_13 : decode b_Mod_stopper 13 = .ok (.iload_n 2, 1) := by decide +kernel
theorem d_Mod_stopper_14 : decode b_Mod_stopper 14 = .ok (.invokevirtual 74, 3) := by decide +kernel
theorem d_Mod_stopper_17 : decode b_Mod_stopper 17 = .ok (.aload_n 0, 1) := by decide +kernel
theorem d_Mod_stopper_18 : decode b_Mod_stopper 18 = .ok (.iload_n 2, 1) := by decide +kernel
theorem d_Mod_stopper_19 : decode b_Mod_stopper 19 = .ok (.invokevirtual 77, 3) := by decide +kernel
theorem d_Mod_stopper_22 : decode b_Mod_stopper 22 = .ok (.if_icmp .ge 17, 3) := by decide +kernel
theorem d_Mod_stopper_25 : decode b_Mod_stopper 25 = .ok (.iload_n 1, 1) := by decide +kernel
theorem d_Mod_stopper_26 : decode b_Mod_stopper 26 = .ok (.ifCond .eq 11, 3) := by decide +kernel
theorem d_Mod_stopper_29 : decode b_Mod_stopper 29 = .ok (.iload_n 2, 1) := by decide +kernel
theorem d_Mod_stopper_30 : decode b_Mod_stopper 30 = .ok (.iload_n 1, 1) := by decide +kernel
theorem d_Mod_stopper_31 : decode b_Mod_stopper 31 = .ok (.invokestatic 80, 3) := by decide +kernel
theorem d_Mod_stopper_34 : decode b_Mod_stopper 34 = .ok (.ifCond .eq 5, 3) := by decide +kernel
theorem d_Mod_stopper_37 : decode b_Mod_stopper 37 = .ok (.iload_n 2, 1) := by decide +kernel
theorem d_Mod_stopper_38 : decode b_Mod_stopper 38 = .ok (.istore_n 1, 1) := by decide +kernel
theorem d_Mod_stopper_39 : decode b_Mod_stopper 39 = .ok (.iinc 2 1, 3) := by decide +kernel
theorem d_Mod_stopper_42 : decode b_Mod_stopper 42 = .ok (.goto (-38), 3) := by decide +kernel
theorem d_Mod_stopper_45 : decode b_Mod_stopper 45 = .ok (.iload_n 1, 1) := by decide +kernel
theorem d_Mod_stopper_46 : decode b_Mod_stopper 46 = .ok (.ireturn, 1) := by decide +kernel
theorem d_Mod_isStopped_0 : decode b_Mod_isStopped 0 = .ok (.iconst 1, 1) := by decide +kernel
theorem d_Mod_isStopped_1 : decode b_Mod_isStopped 1 = .ok (.istore 4, 2) := by decide +kernel
theorem d_Mod_isStopped_3 : decode b_Mod_isStopped 3 = .ok (.iload 4, 2) := by decide +kernel
theorem d_Mod_isStopped_5 : decode b_Mod_isStopped 5 = .ok (.aload_n 0, 1) := by decide +kernel
theorem d_Mod_isStopped_6 : decode b_Mod_isStopped 6 = .ok (.invokevirtual 41, 3) := by decide +kernel
theorem d_Mod_isStopped_9 : decode b_Mod_isStopped 9 = .ok (.if_icmp .gt 81, 3) := by decide +kernel
theorem d_Mod_isStopped_12 : decode b_Mod_isStopped 12 = .ok (.iload_n 2, 1) := by decide +kernel
theorem d_Mod_isStopped_13 : decode b_Mod_isStopped 13 = .ok (.iload 4, 2) := by decide +kernel
theorem d_Mod_isStopped_15 : decode b_Mod_isStopped 15 = .ok (.iand, 1) := by decide +kernel
theorem d_Mod_isStopped_16 : decode b_Mod_isStopped 16 = .ok (.ifCond .ne 7, 3) := by decide +kernel
theorem d_Mod_isStopped_19 : decode b_Mod_isStopped 19 = .ok (.iconst 1, 1) := by decide +kernel
theorem d_Mod_isStopped_20 : decode b_Mod_isStopped 20 = .ok (.goto 4, 3) := by decide +kernel
theorem d_Mod_isStopped_23 : decode b_Mod_isStopped 23 = .ok (.iconst 0, 1) := by decide +kernel
theorem d_Mod_isStopped_24 : decode b_Mod_isStopped 24 = .ok (.istore 5, 2) := by decide +kernel
theorem d_Mod_isStopped_26 : decode b_Mod_isStopped 26 = .ok (.iload_n 1, 1) := by decide +kernel
theorem d_Mod_isStopped_27 : decode b_Mod_isStopped 27 = .ok (.iconst 1, 1) := by decide +kernel
theorem d_Mod_isStopped_28 : decode b_Mod_isStopped 28 = .ok (.iadd, 1) := by decide +kernel
theorem d_Mod_isStopped_29 : decode b_Mod_isStopped 29 = .ok (.istore 6, 2) := by decide +kernel
theorem d_Mod_isStopped_31 : decode b_Mod_isStopped 31 = .ok (.iload 6, 2) := by decide +kernel
theorem d_Mod_isStopped_33 : decode b_Mod_isStopped 33 = .ok (.aload_n 0, 1) := by decide +kernel
theorem d_Mod_isStopped_34 : decode b_Mod_isStopped 34 = .ok (.getfield 56, 3) := by decide +kernel
theorem d_Mod_isStopped_37 : decode b_Mod_isStopped 37 = .ok (.if_icmp .ge 33, 3) := by decide +kernel
theorem d_Mod_isStopped_40 : decode b_Mod_isStopped 40 = .ok (.aload_n 0, 1) := by decide +kernel
theorem d_Mod_isStopped_41 : decode b_Mod_isStopped 41 = .ok (.getfield 20, 3) := by decide +kernel
theorem d_Mod_isStopped_44 : decode b_Mod_isStopped 44 = .ok (.iload 6, 2) := by decide +kernel
theorem d_Mod_isStopped_46 : decode b_Mod_isStopped 46 = .ok (.iaload, 1) := by decide +kernel
theorem d_Mod_isStopped_47 : decode b_Mod_isStopped 47 = .ok (.iload 4, 2) := by decide +kernel
theorem d_Mod_isStopped_49 : decode b_Mod_isStopped 49 = .ok (.iand, 1) := by decide +kernel
theorem d_Mod_isStopped_50 : decode b_Mod_isStopped 50 = .ok (.ifCond .ne 10, 3) := by decide +kernel
theorem d_Mod_isStopped_53 : decode b_Mod_isStopped 53 = .ok (.iload 5, 2) := by decide +kernel
theorem d_Mod_isStopped_55 : decode b_Mod_isStopped 55 = .ok (.iconst 1, 1) := by decide +kernel
theorem d_Mod_isStopped_56 : decode b_Mod_isStopped 56 = .ok (.iadd, 1) := by decide +kernel
theorem d_Mod_isStopped_57 : decode b_Mod_isStopped 57 = .ok (.goto 5, 3) := by decide +kernel
theorem d_Mod_isStopped_60 : decode b_Mod_isStopped 60 = .ok (.iload 5, 2) := by decide +kernel
theorem d_Mod_isStopped_62 : decode b_Mod_isStopped 62 = .ok (.istore 5, 2) := by decide +kernel
theorem d_Mod_isStopped_64 : decode b_Mod_isStopped 64 = .ok (.iinc 6 1, 3) := by decide +kernel
theorem d_Mod_isStopped_67 : decode b_Mod_isStopped 67 = .ok (.goto (-36), 3) := by decide +kernel
theorem d_Mod_isStopped_70 : decode b_Mod_isStopped 70 = .ok (.aload_n 0, 1) := by decide +kernel
theorem d_Mod_isStopped_71 : decode b_Mod_isStopped 71 = .ok (.iload 4, 2) := by decide +kernel
theorem d_Mod_isStopped_73 : decode b_Mod_isStopped 73 = .ok (.iload_n 3, 1) := by decide +kernel
theorem d_Mod_isStopped_74 : decode b_Mod_isStopped 74 = .ok (.invokevirtual 70, 3) := by decide +kernel
theorem d_Mod_isStopped_77 : decode b_Mod_isStopped 77 = .ok (.iload 5, 2) := by decide +kernel
theorem d_Mod_isStopped_79 : decode b_Mod_isStopped 79 = .ok (.if_icmp .ge 5, 3) := by decide +kernel
theorem d_Mod_isStopped_82 : decode b_Mod_isStopped 82 = .ok (.iconst 1, 1) := by decide +kernel
theorem d_Mod_isStopped_83 : decode b_Mod_isStopped 83 = .ok (.ireturn, 1) := by decide +kernel
theorem d_Mod_isStopped_84 : decode b_Mod_isStopped 84 = .ok (.iinc 4 1, 3) := by decide +kernel
theorem d_Mod_isStopped_87 : decode b_Mod_isStopped 87 = .ok (.goto (-84), 3) := by decide +kernel
theorem d_Mod_isStopped_90 : decode b_Mod_isStopped 90 = .ok (.iconst 0, 1) := by decide +kernel
theorem d_Mod_isStopped_91 : decode b_Mod_isStopped 91 = .ok (.ireturn, 1) := by decide +kernel
theorem d_Mod_isDone_0 : decode b_Mod_isDone 0 = .ok (.iload_n 2, 1) := by decide +kernel
theorem d_Mod_isDone_1 : decode b_Mod_isDone 1 = .ok (.istore 5, 2) := by decide +kernel
theorem d_Mod_isDone_3 : decode b_Mod_isDone 3 = .ok (.iload_n 3, 1) := by decide +kernel
theorem d_Mod_isDone_4 : decode b_Mod_isDone 4 = .ok (.istore 6, 2) := by decide +kernel
theorem d_Mod_isDone_6 : decode b_Mod_isDone 6 = .ok (.iload 5, 2) := by decide +kernel
theorem d_Mod_isDone_8 : decode b_Mod_isDone 8 = .ok (.aload_n 0, 1) := by decide +kernel
theorem d_Mod_isDone_9 : decode b_Mod_isDone 9 = .ok (.getfield 56, 3) := by decide +kernel
theorem d_Mod_isDone_12 : decode b_Mod_isDone 12 = .ok (.if_icmp .ge 40, 3) := by decide +kernel
theorem d_Mod_isDone_15 : decode b_Mod_isDone 15 = .ok (.iload 6, 2) := by decide +kernel
theorem d_Mod_isDone_17 : decode b_Mod_isDone 17 = .ok (.aload_n 0, 1) := by decide +kernel
theorem d_Mod_isDone_18 : decode b_Mod_isDone 18 = .ok (.invokevirtual 41, 3) := by decide +kernel
theorem d_Mod_isDone_21 : decode b_Mod_isDone 21 = .ok (.if_icmp .ne 31, 3) := by decide +kernel
theorem d_Mod_isDone_24 : decode b_Mod_isDone 24 = .ok (.iinc 5 1, 3) := by decide +kernel
theorem d_Mod_isDone_27 : decode b_Mod_isDone 27 = .ok (.iload 5, 2) := by decide +kernel
theorem d_Mod_isDone_29 : decode b_Mod_isDone 29 = .ok (.aload_n 0, 1) := by decide +kernel
theorem d_Mod_isDone_30 : decode b_Mod_isDone 30 = .ok (.getfield 56, 3) := by decide +kernel
theorem d_Mod_isDone_33 : decode b_Mod_isDone 33 = .ok (.if_icmp .ge 13, 3) := by decide +kernel
theorem d_Mod_isDone_36 : decode b_Mod_isDone 36 = .ok (.aload_n 0, 1) := by decide +kernel
theorem d_Mod_isDone_37 : decode b_Mod_isDone 37 = .ok (.getfield 20, 3) := by decide +kernel
theorem d_Mod_isDone_40 : decode b_Mod_isDone 40 = .ok (.iload 5, 2) := by decide +kernel
theorem d_Mod_isDone_42 : decode b_Mod_isDone 42 = .ok (.iaload, 1) := by decide +kernel
theorem d_Mod_isDone_43 : decode b_Mod_isDone 43 = .ok (.goto 4, 3) := by decide +kernel
theorem d_Mod_isDone_46 : decode b_Mod_isDone 46 = .ok (.iconst 0, 1) := by decide +kernel
theorem d_Mod_isDone_47 : decode b_Mod_isDone 47 = .ok (.istore 6, 2) := by decide +kernel
theorem d_Mod_isDone_49 : decode b_Mod_isDone 49 = .ok (.goto (-43), 3) := by decide +kernel
theorem d_Mod_isDone_52 : decode b_Mod_isDone 52 = .ok (.aload_n 0, 1) := by decide +kernel
theorem d_Mod_isDone_53 : decode b_Mod_isDone 53 = .ok (.getfield 29, 3) := by decide +kernel
theorem d_Mod_isDone_56 : decode b_Mod_isDone 56 = .ok (.iload_n 1, 1) := by decide +kernel
theorem d_Mod_isDone_57 : decode b_Mod_isDone 57 = .ok (.iload 5, 2) := by decide +kernel
theorem d_Mod_isDone_59 : decode b_Mod_isDone 59 = .ok (.iastore, 1) := by decide +kernel
theorem d_Mod_isDone_60 : decode b_Mod_isDone 60 = .ok (.aload_n 0, 1) := by decide +kernel
theorem d_Mod_isDone_61 : decode b_Mod_isDone 61 = .ok (.getfield 32, 3) := by decide +kernel
theorem d_Mod_isDone_64 : decode b_Mod_isDone 64 = .ok (.iload_n 1, 1) := by decide +kernel
theorem d_Mod_isDone_65 : decode b_Mod_isDone 65 = .ok (.iload 6, 2) := by decide +kernel
theorem d_Mod_isDone_67 : decode b_Mod_isDone 67 = .ok (.iastore, 1) := by decide +kernel
theorem d_Mod_isDone_68 : decode b_Mod_isDone 68 = .ok (.aload_n 0, 1) := by decide +kernel
theorem d_Mod_isDone_69 : decode b_Mod_isDone 69 = .ok (.getfield 35, 3) := by decide +kernel
theorem d_Mod_isDone_72 : decode b_Mod_isDone 72 = .ok (.iload_n 1, 1) := by decide +kernel
theorem d_Mod_isDone_73 : decode b_Mod_isDone 73 = .ok (.iload 4, 2) := by decide +kernel
theorem d_Mod_isDone_75 : decode b_Mod_isDone 75 = .ok (.iastore, 1) := by decide +kernel
theorem d_Mod_isDone_76 : decode b_Mod_isDone 76 = .ok (.aload_n 0, 1) := by decide +kernel
theorem d_Mod_isDone_77 : decode b_Mod_isDone 77 = .ok (.getfield 38, 3) := by decide +kernel
theorem d_Mod_isDone_80 : decode b_Mod_isDone 80 = .ok (.iload_n 1, 1) := by decide +kernel
theorem d_Mod_isDone_81 : decode b_Mod_isDone 81 = .ok (.iload 5, 2) := by decide +kernel
theorem d_Mod_isDone_83 : decode b_Mod_isDone 83 = .ok (.aload_n 0, 1) := by decide +kernel
theorem d_Mod_isDone_84 : decode b_Mod_isDone 84 = .ok (.getfield 56, 3) := by decide +kernel
theorem d_Mod_isDone_87 : decode b_Mod_isDone 87 = .ok (.if_icmp .ge 23, 3) := by decide +kernel
theorem d_Mod_isDone_90 : decode b_Mod_isDone 90 = .ok (.aload_n 0, 1) := by decide +kernel
theorem d_Mod_isDone_91 : decode b_Mod_isDone 91 = .ok (.iload 5, 2) := by decide +kernel
theorem d_Mod_isDone_93 : decode b_Mod_isDone 93 = .ok (.iload 6, 2) := by decide +kernel
theorem d_Mod_isDone_95 : decode b_Mod_isDone 95 = .ok (.iload 4, 2) := by decide +kernel
theorem d_Mod_isDone_97 : decode b_Mod_isDone 97 = .ok (.invokevirtual 83, 3) := by decide +kernel
theorem d_Mod_isDone_100 : decode b_Mod_isDone 100 = .ok (.ifCond .eq 10, 3) := by decide +kernel
theorem d_Mod_isDone_103 : decode b_Mod_isDone 103 = .ok (.aload_n 0, 1) := by decide +kernel
theorem d_Mod_isDone_104 : decode b_Mod_isDone 104 = .ok (.getfield 45, 3) := by decide +kernel
theorem d_Mod_isDone_107 : decode b_Mod_isDone 107 = .ok (.goto 4, 3) := by decide +kernel
theorem d_Mod_isDone_110 : decode b_Mod_isDone 110 = .ok (.iconst 0, 1) := by decide +kernel
theorem d_Mod_isDone_111 : decode b_Mod_isDone 111 = .ok (.iastore, 1) := by decide +kernel
theorem d_Mod_isDone_112 : decode b_Mod_isDone 112 = .ok (.iload 5, 2) := by decide +kernel
theorem d_Mod_isDone_114 : decode b_Mod_isDone 114 = .ok (.aload_n 0, 1) := by decide +kernel
theorem d_Mod_isDone_115 : decode b_Mod_isDone 115 = .ok (.getfield 56, 3) := by decide +kernel
theorem d_Mod_isDone_118 : decode b_Mod_isDone 118 = .ok (.if_icmp .ne 7, 3) := by decide +kernel
theorem d_Mod_isDone_121 : decode b_Mod_isDone 121 = .ok (.iconst 1, 1) := by decide +kernel
theorem d_Mod_isDone_122 : decode b_Mod_isDone 122 = .ok (.goto 4, 3) := by decide +kernel
theorem d_Mod_isDone_125 : decode b_Mod_isDone 125 = .ok (.iconst 0, 1) := by decide +kernel
theorem d_Mod_isDone_126 : decode b_Mod_isDone 126 = .ok (.ireturn, 1) := by decide +kernel
theorem d_Mod_canGoOn_0 : decode b_Mod_canGoOn 0 = .ok (.iconst 0, 1) := by decide +kernel
theorem d_Mod_canGoOn_1 : decode b_Mod_canGoOn 1 = .ok (.istore 4, 2) := by decide +kernel
theorem d_Mod_canGoOn_3 : decode b_Mod_canGoOn 3 = .ok (.aload_n 0, 1) := by decide +kernel
theorem d_Mod_canGoOn_4 : decode b_Mod_canGoOn 4 = .ok (.iconst 0, 1) := by decide +kernel
theorem d_Mod_canGoOn_5 : decode b_Mod_canGoOn 5 = .ok (.iload_n 1, 1) := by decide +kernel
theorem d_Mod_canGoOn_6 : decode b_Mod_canGoOn 6 = .ok (.iload_n 2, 1) := by decide +kernel
theorem d_Mod_canGoOn_7 : decode b_Mod_canGoOn 7 = .ok (.iload_n 3, 1) := by decide +kernel
theorem d_Mod_canGoOn_8 : decode b_Mod_canGoOn 8 = .ok (.invokevirtual 87, 3) := by decide +kernel
theorem d_Mod_canGoOn_11 : decode b_Mod_canGoOn 11 = .ok (.istore 5, 2) := by decide +kernel
theorem d_Mod_canGoOn_13 : decode b_Mod_canGoOn 13 = .ok (.iload 5, 2) := by decide +kernel
theorem d_Mod_canGoOn_15 : decode b_Mod_canGoOn 15 = .ok (.ifCond .ne 118, 3) := by decide +kernel
theorem d_Mod_canGoOn_18 : decode b_Mod_canGoOn 18 = .ok (.iload 4, 2) := by decide +kernel
theorem d_Mod_canGoOn_20 : decode b_Mod_canGoOn 20 = .ok (.ifCond .lt 113, 3) := by decide +kernel
theorem d_Mod_canGoOn_23 : decode b_Mod_canGoOn 23 = .ok (.aload_n 0, 1) := by decide +kernel
theorem d_Mod_canGoOn_24 : decode b_Mod_canGoOn 24 = .ok (.getfield 38, 3) := by decide +kernel
theorem d_Mod_canGoOn_27 : decode b_Mod_canGoOn 27 = .ok (.iload 4, 2) := by decide +kernel
theorem d_Mod_canGoOn_29 : decode b_Mod_canGoOn 29 = .ok (.iaload, 1) := by decide +kernel
theorem d_Mod_canGoOn_30 : decode b_Mod_canGoOn 30 = .ok (.istore 6, 2) := by decide +kernel
theorem d_Mod_canGoOn_32 : decode b_Mod_canGoOn 32 = .ok (.iload 6, 2) := by decide +kernel
theorem d_Mod_canGoOn_34 : decode b_Mod_canGoOn 34 = .ok (.aload_n 0, 1) := by decide +kernel
theorem d_Mod_canGoOn_35 : decode b_Mod_canGoOn 35 = .ok (.getfield 45, 3) := by decide +kernel
theorem d_Mod_canGoOn_38 : decode b_Mod_canGoOn 38 = .ok (.if_icmp .ne 9, 3) := by decide +kernel
theorem d_Mod_canGoOn_41 : decode b_Mod_canGoOn 41 = .ok (.iinc 4 (-1), 3) := by decide +kernel
theorem d_Mod_canGoOn_44 : decode b_Mod_canGoOn 44 = .ok (.goto 86, 3) := by decide +kernel
theorem d_Mod_canGoOn_47 : decode b_Mod_canGoOn 47 = .ok (.aload_n 0, 1) := by decide +kernel
theorem d_Mod_canGoOn_48 : decode b_Mod_canGoOn 48 = .ok (.getfield 38, 3) := by decide +kernel
theorem d_Mod_canGoOn_51 : decode b_Mod_canGoOn 51 = .ok (.iload 4, 2) := by decide +kernel
theorem d_Mod_canGoOn_53 : decode b_Mod_canGoOn 53 = .ok (.iload 6, 2) := by decide +kernel
theorem d_Mod_canGoOn_55 : decode b_Mod_canGoOn 55 = .ok (.iconst 1, 1) := by decide +kernel
theorem d_Mod_canGoOn_56 : decode b_Mod_canGoOn 56 = .ok (.iadd, 1) := by decide +kernel
theorem d_Mod_canGoOn_57 : decode b_Mod_canGoOn 57 = .ok (.iastore, 1) := by decide +kernel
theorem d_Mod_canGoOn_58 : decode b_Mod_canGoOn 58 = .ok (.aload_n 0, 1) := by decide +kernel
theorem d_Mod_canGoOn_59 : decode b_Mod_canGoOn 59 = .ok (.aload_n 0, 1) := by decide +kernel
theorem d_Mod_canGoOn_60 : decode b_Mod_canGoOn 60 = .ok (.getfield 32, 3) := by decide +kernel
theorem d_Mod_canGoOn_63 : decode b_Mod_canGoOn 63 = .ok (.iload 4, 2) := by decide +kernel
theorem d_Mod_canGoOn_65 : decode b_Mod_canGoOn 65 = .ok (.iaload, 1) := by decide +kernel
theorem d_Mod_canGoOn_66 : decode b_Mod_canGoOn 66 = .ok (.aload_n 0, 1) := by decide +kernel
theorem d_Mod_canGoOn_67 : decode b_Mod_canGoOn 67 = .ok (.getfield 35, 3) := by decide +kernel
theorem d_Mod_canGoOn_70 : decode b_Mod_canGoOn 70 = .ok (.iload 4, 2) := by decide +kernel
theorem d_Mod_canGoOn_72 : decode b_Mod_canGoOn 72 = .ok (.iaload, 1) := by decide +kernel
theorem d_Mod_canGoOn_73 : decode b_Mod_canGoOn 73 = .ok (.iload 6, 2) := by decide +kernel
theorem d_Mod_canGoOn_75 : decode b_Mod_canGoOn 75 = .ok (.invokevirtual 91, 3) := by decide +kernel
theorem d_Mod_canGoOn_78 : decode b_Mod_canGoOn 78 = .ok (.ifCond .eq 52, 3) := by decide +kernel
theorem d_Mod_canGoOn_81 : decode b_Mod_canGoOn 81 = .ok (.aload_n 0, 1) := by decide +kernel
theorem d_Mod_canGoOn_82 : decode b_Mod_canGoOn 82 = .ok (.iload 4, 2) := by decide +kernel
theorem d_Mod_canGoOn_84 : decode b_Mod_canGoOn 84 = .ok (.iconst 1, 1) := by decide +kernel
theorem d_Mod_canGoOn_85 : decode b_Mod_canGoOn 85 = .ok (.iadd, 1) := by decide +kernel
theorem d_Mod_canGoOn_86 : decode b_Mod_canGoOn 86 = .ok (.aload_n 0, 1) := by decide +kernel
theorem d_Mod_canGoOn_87 : decode b_Mod_canGoOn 87 = .ok (.getfield 29, 3) := by decide +kernel
theorem d_Mod_canGoOn_90 : decode b_Mod_canGoOn 90 = .ok (.iload 4, 2) := by decide +kernel
theorem d_Mod_canGoOn_92 : decode b_Mod_canGoOn 92 = .ok (.iaload, 1) := by decide +kernel
theorem d_Mod_canGoOn_93 : decode b_Mod_canGoOn 93 = .ok (.aload_n 0, 1) := by decide +kernel
theorem d_Mod_canGoOn_94 : decode b_Mod_canGoOn 94 = .ok (.getfield 32, 3) := by decide +kernel
theorem d_Mod_canGoOn_97 : decode b_Mod_canGoOn 97 = .ok (.iload 4, 2) := by decide +kernel
theorem d_Mod_canGoOn_99 : decode b_Mod_canGoOn 99 = .ok (.iaload, 1) := by decide +kernel
theorem d_Mod_canGoOn_100 : decode b_Mod_canGoOn 100 = .ok (.iconst 1, 1) := by decide +kernel
theorem d_Mod_canGoOn_101 : decode b_Mod_canGoOn 101 = .ok (.aload_n 0, 1) := by decide +kernel
theorem d_Mod_canGoOn_102 : decode b_Mod_canGoOn 102 = .ok (.getfield 17, 3) := by decide +kernel
theorem d_Mod_canGoOn_105 : decode b_Mod_canGoOn 105 = .ok (.iload 6, 2) := by decide +kernel
theorem d_Mod_canGoOn_107 : decode b_Mod_canGoOn 107 = .ok (.iaload, 1) := by decide +kernel
theorem d_Mod_canGoOn_108 : decode b_Mod_canGoOn 108 = .ok (.ishl, 1) := by decide +kernel
theorem d_Mod_canGoOn_109 : decode b_Mod_canGoOn 109 = .ok (.ior, 1) := by decide +kernel
theorem d_Mod_canGoOn_110 : decode b_Mod_canGoOn 110 = .ok (.aload_n 0, 1) := by decide +kernel
theorem d_Mod_canGoOn_111 : decode b_Mod_canGoOn 111 = .ok (.getfield 35, 3) := by decide +kernel
theorem d_Mod_canGoOn_114 : decode b_Mod_canGoOn 114 = .ok (.iload 4, 2) := by decide +kernel
theorem d_Mod_canGoOn_116 : decode b_Mod_canGoOn 116 = .ok (.iaload, 1) := by decide +kernel
theorem d_Mod_canGoOn_117 : decode b_Mod_canGoOn 117 = .ok (.iconst 1, 1) := by decide +kernel
theorem d_Mod_canGoOn_118 : decode b_Mod_canGoOn 118 = .ok (.iload 6, 2) := by decide +kernel
theorem d_Mod_canGoOn_120 : decode b_Mod_canGoOn 120 = .ok (.ishl, 1) := by decide +kernel
theorem d_Mod_canGoOn_121 : decode b_Mod_canGoOn 121 = .ok (.ior, 1) := by decide +kernel
theorem d_Mod_canGoOn_122 : decode b_Mod_canGoOn 122 = .ok (.invokevirtual 87, 3) := by decide +kernel
theorem d_Mod_canGoOn_125 : decode b_Mod_canGoOn 125 = .ok (.istore 5, 2) := by decide +kernel
theorem d_Mod_canGoOn_127 : decode b_Mod_canGoOn 127 = .ok (.iinc 4 1, 3) := by decide +kernel
theorem d_Mod_canGoOn_130 : decode b_Mod_canGoOn 130 = .ok (.goto (-117), 3) := by decide +kernel
theorem d_Mod_canGoOn_133 : decode b_Mod_canGoOn 133 = .ok (.iload 5, 2) := by decide +kernel
theorem d_Mod_canGoOn_135 : decode b_Mod_canGoOn 135 = .ok (.ireturn, 1) := by decide +kernel
theorem d_Mod_grows_0 : decode b_Mod_grows 0 = .ok (.iload_n 2, 1) := by decide +kernel
theorem d_Mod_grows_1 : decode b_Mod_grows 1 = .ok (.iload_n 3, 1) := by decide +kernel
theorem d_Mod_grows_2 : decode b_Mod_grows 2 = .ok (.invokestatic 48, 3) := by decide +kernel
theorem d_Mod_grows_5 : decode b_Mod_grows 5 = .ok (.ifCond .ne 33, 3) := by decide +kernel
theorem d_Mod_grows_8 : decode b_Mod_grows 8 = .ok (.iload_n 1, 1) := by decide +kernel
theorem d_Mod_grows_9 : decode b_Mod_grows 9 = .ok (.aload_n 0, 1) := by decide +kernel
theorem d_Mod_grows_10 : decode b_Mod_grows 10 = .ok (.getfield 13, 3) := by decide +kernel
theorem d_Mod_grows_13 : decode b_Mod_grows 13 = .ok (.iload_n 3, 1) := by decide +kernel
theorem d_Mod_grows_14 : decode b_Mod_grows 14 = .ok (.iaload, 1) := by decide +kernel
theorem d_Mod_grows_15 : decode b_Mod_grows 15 = .ok (.invokestatic 48, 3) := by decide +kernel
theorem d_Mod_grows_18 : decode b_Mod_grows 18 = .ok (.ifCond .eq 20, 3) := by decide +kernel
theorem d_Mod_grows_21 : decode b_Mod_grows 21 = .ok (.iload_n 1, 1) := by decide +kernel
theorem d_Mod_grows_22 : decode b_Mod_grows 22 = .ok (.aload_n 0, 1) := by decide +kernel
theorem d_Mod_grows_23 : decode b_Mod_grows 23 = .ok (.getfield 17, 3) := by decide +kernel
theorem d_Mod_grows_26 : decode b_Mod_grows 26 = .ok (.iload_n 3, 1) := by decide +kernel
theorem d_Mod_grows_27 : decode b_Mod_grows 27 = .ok (.iaload, 1) := by decide +kernel
theorem d_Mod_grows_28 : decode b_Mod_grows 28 = .ok (.invokestatic 48, 3) := by decide +kernel
theorem d_Mod_grows_31 : decode b_Mod_grows 31 = .ok (.ifCond .ne 7, 3) := by decide +kernel
theorem d_Mod_grows_34 : decode b_Mod_grows 34 = .ok (.iconst 1, 1) := by decide +kernel
theorem d_Mod_grows_35 : decode b_Mod_grows 35 = .ok (.goto 4, 3) := by decide +kernel
theorem d_Mod_grows_38 : decode b_Mod_grows 38 = .ok (.iconst 0, 1) := by decide +kernel
theorem d_Mod_grows_39 : decode b_Mod_grows 39 = .ok (.ireturn, 1) := by decide +kernel
theorem d_Mod_packs_0 : decode b_Mod_packs 0 = .ok (.aload_n 0, 1) := by decide +kernel
theorem d_Mod_packs_1 : decode b_Mod_packs 1 = .ok (.iconst 0, 1) := by decide +kernel
theorem d_Mod_packs_2 : decode b_Mod_packs 2 = .ok (.aload_n 0, 1) := by decide +kernel
theorem d_Mod_packs_3 : decode b_Mod_packs 3 = .ok (.getfield 56, 3) := by decide +kernel
theorem d_Mod_packs_6 : decode b_Mod_packs 6 = .ok (.ifCond .le 12, 3) := by decide +kernel
theorem d_Mod_packs_9 : decode b_Mod_packs 9 = .ok (.aload_n 0, 1) := by decide +kernel
theorem d_Mod_packs_10 : decode b_Mod_packs 10 = .ok (.getfield 20, 3) := by decide +kernel
theorem d_Mod_packs_13 : decode b_Mod_packs 13 = .ok (.iconst 0, 1) := by decide +kernel
theorem d_Mod_packs_14 : decode b_Mod_packs 14 = .ok (.iaload, 1) := by decide +kernel
theorem d_Mod_packs_15 : decode b_Mod_packs 15 = .ok (.goto 4, 3) := by decide +kernel
theorem d_Mod_packs_18 : decode b_Mod_packs 18 = .ok (.iconst 0, 1) := by decide +kernel
theorem d_Mod_packs_19 : decode b_Mod_packs 19 = .ok (.iconst 0, 1) := by decide +kernel
theorem d_Mod_packs_20 : decode b_Mod_packs 20 = .ok (.invokevirtual 94, 3) := by decide +kernel
theorem d_Mod_packs_23 : decode b_Mod_packs 23 = .ok (.ireturn, 1) := by decide +kernel
theorem d_Mod_pack_0 : decode b_Mod_pack 0 = .ok (.iconst 0, 1) := by decide +kernel
theorem d_Mod_pack_1 : decode b_Mod_pack 1 = .ok (.istore_n 1, 1) := by decide +kernel
theorem d_Mod_pack_2 : decode b_Mod_pack 2 = .ok (.iload_n 1, 1) := by decide +kernel
theorem d_Mod_pack_3 : decode b_Mod_pack 3 = .ok (.bipush 14, 2) := by decide +kernel
theorem d_Mod_pack_5 : decode b_Mod_pack 5 = .ok (.if_icmp .ge 16, 3) := by decide +kernel
theorem d_Mod_pack_8 : decode b_Mod_pack 8 = .ok (.aload_n 0, 1) := by decide +kernel
theorem d_Mod_pack_9 : decode b_Mod_pack 9 = .ok (.getfield 23, 3) := by decide +kernel
theorem d_Mod_pack_12 : decode b_Mod_pack 12 = .ok (.iload_n 1, 1) := by decide +kernel
theorem d_Mod_pack_13 : decode b_Mod_pack 13 = .ok (.iconst (-1), 1) := by decide +kernel
theorem d_Mod_pack_14 : decode b_Mod_pack 14 = .ok (.iastore, 1) := by decide +kernel
theorem d_Mod_pack_15 : decode b_Mod_pack 15 = .ok (.iinc 1 1, 3) := by decide +kernel
theorem d_Mod_pack_18 : decode b_Mod_pack 18 = .ok (.goto (-16), 3) := by decide +kernel
theorem d_Mod_pack_21 : decode b_Mod_pack 21 = .ok (.iconst 0, 1) := by decide +kernel
theorem d_Mod_pack_22 : decode b_Mod_pack 22 = .ok (.istore_n 1, 1) := by decide +kernel
theorem d_Mod_pack_23 : decode b_Mod_pack 23 = .ok (.iload_n 1, 1) := by decide +kernel
theorem d_Mod_pack_24 : decode b_Mod_pack 24 = .ok (.bipush 21, 2) := by decide +kernel
theorem d_Mod_pack_26 : decode b_Mod_pack 26 = .ok (.if_icmp .ge 16, 3) := by decide +kernel
theorem d_Mod_pack_29 : decode b_Mod_pack 29 = .ok (.aload_n 0, 1) := by decide +kernel
theorem d_Mod_pack_30 : decode b_Mod_pack 30 = .ok (.getfield 26, 3) := by decide +kernel
theorem d_Mod_pack_33 : decode b_Mod_pack 33 = .ok (.iload_n 1, 1) := by decide +kernel
theorem d_Mod_pack_34 : decode b_Mod_pack 34 = .ok (.iconst (-1), 1) := by decide +kernel
theorem d_Mod_pack_35 : decode b_Mod_pack 35 = .ok (.iastore, 1) := by decide +kernel
theorem d_Mod_pack_36 : decode b_Mod_pack 36 = .ok (.iinc 1 1, 3) := by decide +kernel
theorem d_Mod_pack_39 : decode b_Mod_pack 39 = .ok (.goto (-16), 3) := by decide +kernel
theorem d_Mod_pack_42 : decode b_Mod_pack 42 = .ok (.aload_n 0, 1) := by decide +kernel
theorem d_Mod_pack_43 : decode b_Mod_pack 43 = .ok (.invokevirtual 97, 3) := by decide +kernel
theorem d_Mod_pack_46 : decode b_Mod_pack 46 = .ok (.ifCond .ne 5, 3) := by decide +kernel
theorem d_Mod_pack_49 : decode b_Mod_pack 49 = .ok (.iconst 0, 1) := by decide +kernel
theorem d_Mod_pack_50 : decode b_Mod_pack 50 = .ok (.ireturn, 1) := by decide +kernel
theorem d_Mod_pack_51 : decode b_Mod_pack 51 = .ok (.iconst 0, 1) := by decide +kernel
theorem d_Mod_pack_52 : decode b_Mod_pack 52 = .ok (.istore_n 1, 1) := by decide +kernel
theorem d_Mod_pack_53 : decode b_Mod_pack 53 = .ok (.iconst 0, 1) := by decide +kernel
theorem d_Mod_pack_54 : decode b_Mod_pack 54 = .ok (.istore_n 2, 1) := by decide +kernel
theorem d_Mod_pack_55 : decode b_Mod_pack 55 = .ok (.iload_n 2, 1) := by decide +kernel
theorem d_Mod_pack_56 : decode b_Mod_pack 56 = .ok (.aload_n 0, 1) := by decide +kernel
theorem d_Mod_pack_57 : decode b_Mod_pack 57 = .ok (.getfield 56, 3) := by decide +kernel
theorem d_Mod_pack_60 : decode b_Mod_pack 60 = .ok (.if_icmp .ge 118, 3) := by decide +kernel
theorem d_Mod_pack_63 : decode b_Mod_pack 63 = .ok (.aload_n 0, 1) := by decide +kernel
theorem d_Mod_pack_64 : decode b_Mod_pack 64 = .ok (.getfield 20, 3) := by decide +kernel
theorem d_Mod_pack_67 : decode b_Mod_pack 67 = .ok (.iload_n 2, 1) := by decide +kernel
theorem d_Mod_pack_68 : decode b_Mod_pack 68 = .ok (.iaload, 1) := by decide +kernel
theorem d_Mod_pack_69 : decode b_Mod_pack 69 = .ok (.istore_n 3, 1) := by decide +kernel
theorem d_Mod_pack_70 : decode b_Mod_pack 70 = .ok (.iload_n 3, 1) := by decide +kernel
theorem d_Mod_pack_71 : decode b_Mod_pack 71 = .ok (.aload_n 0, 1) := by decide +kernel
theorem d_Mod_pack_72 : decode b_Mod_pack 72 = .ok (.invokevirtual 41, 3) := by decide +kernel
theorem d_Mod_pack_75 : decode b_Mod_pack 75 = .ok (.if_icmp .eq 97, 3) := by decide +kernel
theorem d_Mod_pack_78 : decode b_Mod_pack 78 = .ok (.iconst 0, 1) := by decide +kernel
theorem d_Mod_pack_79 : decode b_Mod_pack 79 = .ok (.istore 4, 2) := by decide +kernel
theorem d_Mod_pack_81 : decode b_Mod_pack 81 = .ok (.aload_n 0, 1) := by decide +kernel
theorem d_Mod_pack_82 : decode b_Mod_pack 82 = .ok (.iload_n 3, 1) := by decide +kernel
theorem d_Mod_pack_83 : decode b_Mod_pack 83 = .ok (.iload_n 1, 1) := by decide +kernel
theorem d_Mod_pack_84 : decode b_Mod_pack 84 = .ok (.iload 4, 2) := by decide +kernel
theorem d_Mod_pack_86 : decode b_Mod_pack 86 = .ok (.invokevirtual 91, 3) := by decide +kernel
theorem d_Mod_pack_89 : decode b_Mod_pack 89 = .ok (.ifCond .eq 28, 3) := by decide +kernel
theorem d_Mod_pack_92 : decode b_Mod_pack 92 = .ok (.aload_n 0, 1) := by decide +kernel
theorem d_Mod_pack_93 : decode b_Mod_pack 93 = .ok (.iload_n 2, 1) := by decide +kernel
theorem d_Mod_pack_94 : decode b_Mod_pack 94 = .ok (.iload_n 3, 1) := by decide +kernel
theorem d_Mod_pack_95 : decode b_Mod_pack 95 = .ok (.iconst 1, 1) := by decide +kernel
theorem d_Mod_pack_96 : decode b_Mod_pack 96 = .ok (.aload_n 0, 1) := by decide +kernel
theorem d_Mod_pack_97 : decode b_Mod_pack 97 = .ok (.getfield 17, 3) := by decide +kernel
theorem d_Mod_pack_100 : decode b_Mod_pack 100 = .ok (.iload 4, 2) := by decide +kernel
theorem d_Mod_pack_102 : decode b_Mod_pack 102 = .ok (.iaload, 1) := by decide +kernel
theorem d_Mod_pack_103 : decode b_Mod_pack 103 = .ok (.ishl, 1) := by decide +kernel
theorem d_Mod_pack_104 : decode b_Mod_pack 104 = .ok (.ior, 1) := by decide +kernel
theorem d_Mod_pack_105 : decode b_Mod_pack 105 = .ok (.iload_n 1, 1) := by decide +kernel
theorem d_Mod_pack_106 : decode b_Mod_pack 106 = .ok (.iconst 1, 1) := by decide +kernel
theorem d_Mod_pack_107 : decode b_Mod_pack 107 = .ok (.iload 4, 2) := by decide +kernel
theorem d_Mod_pack_109 : decode b_Mod_pack 109 = .ok (.ishl, 1) := by decide +kernel
theorem d_Mod_pack_110 : decode b_Mod_pack 110 = .ok (.ior, 1) := by decide +kernel
theorem d_Mod_pack_111 : decode b_Mod_pack 111 = .ok (.invokevirtual 94, 3) := by decide +kernel
theorem d_Mod_pack_114 : decode b_Mod_pack 114 = .ok (.ifCond .ne 9, 3) := by decide +kernel
theorem d_Mod_pack_117 : decode b_Mod_pack 117 = .ok (.iinc 4 1, 3) := by decide +kernel
theorem d_Mod_pack_120 : decode b_Mod_pack 120 = .ok (.goto (-39), 3) := by decide +kernel
theorem d_Mod_pack_123 : decode b_Mod_pack 123 = .ok (.aload_n 0, 1) := by decide +kernel
theorem d_Mod_pack_124 : decode b_Mod_pack 124 = .ok (.getfield 23, 3) := by decide +kernel
theorem d_Mod_pack_127 : decode b_Mod_pack 127 = .ok (.iload 4, 2) := by decide +kernel
theorem d_Mod_pack_129 : decode b_Mod_pack 129 = .ok (.iload_n 2, 1) := by decide +kernel
theorem d_Mod_pack_130 : decode b_Mod_pack 130 = .ok (.iastore, 1) := by decide +kernel
theorem d_Mod_pack_131 : decode b_Mod_pack 131 = .ok (.aload_n 0, 1) := by decide +kernel
theorem d_Mod_pack_132 : decode b_Mod_pack 132 = .ok (.getfield 26, 3) := by decide +kernel
theorem d_Mod_pack_135 : decode b_Mod_pack 135 = .ok (.bipush 7, 2) := by decide +kernel
theorem d_Mod_pack_137 : decode b_Mod_pack 137 = .ok (.iload_n 2, 1) := by decide +kernel
theorem d_Mod_pack_138 : decode b_Mod_pack 138 = .ok (.imul, 1) := by decide +kernel
theorem d_Mod_pack_139 : decode b_Mod_pack 139 = .ok (.aload_n 0, 1) := by decide +kernel
theorem d_Mod_pack_140 : decode b_Mod_pack 140 = .ok (.getfield 17, 3) := by decide +kernel
theorem d_Mod_pack_143 : decode b_Mod_pack 143 = .ok (.iload 4, 2) := by decide +kernel
theorem d_Mod_pack_145 : decode b_Mod_pack 145 = .ok (.iaload, 1) := by decide +kernel
theorem d_Mod_pack_146 : decode b_Mod_pack 146 = .ok (.iadd, 1) := by decide +kernel
theorem d_Mod_pack_147 : decode b_Mod_pack 147 = .ok (.iload 4, 2) := by decide +kernel
theorem d_Mod_pack_149 : decode b_Mod_pack 149 = .ok (.iastore, 1) := by decide +kernel
theorem d_Mod_pack_150 : decode b_Mod_pack 150 = .ok (.iload_n 3, 1) := by decide +kernel
theorem d_Mod_pack_151 : decode b_Mod_pack 151 = .ok (.iconst 1, 1) := by decide +kernel
theorem d_Mod_pack_152 : decode b_Mod_pack 152 = .ok (.aload_n 0, 1) := by decide +kernel
theorem d_Mod_pack_153 : decode b_Mod_pack 153 = .ok (.getfield 17, 3) := by decide +kernel
theorem d_Mod_pack_156 : decode b_Mod_pack 156 = .ok (.iload 4, 2) := by decide +kernel
theorem d_Mod_pack_158 : decode b_Mod_pack 158 = .ok (.iaload, 1) := by decide +kernel
theorem d_Mod_pack_159 : decode b_Mod_pack 159 = .ok (.ishl, 1) := by decide +kernel
theorem d_Mod_pack_160 : decode b_Mod_pack 160 = .ok (.ior, 1) := by decide +kernel
theorem d_Mod_pack_161 : decode b_Mod_pack 161 = .ok (.istore_n 3, 1) := by decide +kernel
theorem d_Mod_pack_162 : decode b_Mod_pack 162 = .ok (.iload_n 1, 1) := by decide +kernel
theorem d_Mod_pack_163 : decode b_Mod_pack 163 = .ok (.iconst 1, 1) := by decide +kernel
theorem d_Mod_pack_164 : decode b_Mod_pack 164 = .ok (.iload 4, 2) := by decide +kernel
theorem d_Mod_pack_166 : decode b_Mod_pack 166 = .ok (.ishl, 1) := by decide +kernel
theorem d_Mod_pack_167 : decode b_Mod_pack 167 = .ok (.ior, 1) := by decide +kernel
theorem d_Mod_pack_168 : decode b_Mod_pack 168 = .ok (.istore_n 1, 1) := by decide +kernel
theorem d_Mod_pack_169 : decode b_Mod_pack 169 = .ok (.goto (-99), 3) := by decide +kernel
theorem d_Mod_pack_172 : decode b_Mod_pack 172 = .ok (.iinc 2 1, 3) := by decide +kernel
theorem d_Mod_pack_175 : decode b_Mod_pack 175 = .ok (.goto (-120), 3) := by decide +kernel
theorem d_Mod_pack_178 : decode b_Mod_pack 178 = .ok (.iconst 1, 1) := by decide +kernel
theorem d_Mod_pack_179 : decode b_Mod_pack 179 = .ok (.ireturn, 1) := by decide +kernel
theorem d_Mod_owner_0 : decode b_Mod_owner 0 = .ok (.aload_n 0, 1) := by decide +kernel
theorem d_Mod_owner_1 : decode b_Mod_owner 1 = .ok (.iload_n 1, 1) := by decide +kernel
theorem d_Mod_owner_2 : decode b_Mod_owner 2 = .ok (.invokevirtual 59, 3) := by decide +kernel
theorem d_Mod_owner_5 : decode b_Mod_owner 5 = .ok (.ifCond .eq 19, 3) := by decide +kernel
theorem d_Mod_owner_8 : decode b_Mod_owner 8 = .ok (.aload_n 0, 1) := by decide +kernel
theorem d_Mod_owner_9 : decode b_Mod_owner 9 = .ok (.invokevirtual 101, 3) := by decide +kernel
theorem d_Mod_owner_12 : decode b_Mod_owner 12 = .ok (.ifCond .eq 12, 3) := by decide +kernel
theorem d_Mod_owner_15 : decode b_Mod_owner 15 = .ok (.aload_n 0, 1) := by decide +kernel
theorem d_Mod_owner_16 : decode b_Mod_owner 16 = .ok (.getfield 23, 3) := by decide +kernel
theorem d_Mod_owner_19 : decode b_Mod_owner 19 = .ok (.iload_n 1, 1) := by decide +kernel
theorem d_Mod_owner_20 : decode b_Mod_owner 20 = .ok (.iaload, 1) := by decide +kernel
theorem d_Mod_owner_21 : decode b_Mod_owner 21 = .ok (.goto 4, 3) := by decide +kernel
theorem d_Mod_owner_24 : decode b_Mod_owner 24 = .ok (.iconst (-1), 1) := by decide +kernel
theorem d_Mod_owner_25 : decode b_Mod_owner 25 = .ok (.ireturn, 1) := by decide +kernel
theorem d_Mod_way_0 : decode b_Mod_way 0 = .ok (.iload_n 1, 1) := by decide +kernel
theorem d_Mod_way_1 : decode b_Mod_way 1 = .ok (.ifCond .lt 27, 3) := by decide +kernel
theorem d_Mod_way_4 : decode b_Mod_way 4 = .ok (.iload_n 1, 1) := by decide +kernel
theorem d_Mod_way_5 : decode b_Mod_way 5 = .ok (.aload_n 0, 1) := by decide +kernel
theorem d_Mod_way_6 : decode b_Mod_way 6 = .ok (.getfield 56, 3) := by decide +kernel
theorem d_Mod_way_9 : decode b_Mod_way 9 = .ok (.if_icmp .ge 19, 3) := by decide +kernel
theorem d_Mod_way_12 : decode b_Mod_way 12 = .ok (.iload_n 2, 1) := by decide +kernel
theorem d_Mod_way_13 : decode b_Mod_way 13 = .ok (.ifCond .lt 15, 3) := by decide +kernel
theorem d_Mod_way_16 : decode b_Mod_way 16 = .ok (.iload_n 2, 1) := by decide +kernel
theorem d_Mod_way_17 : decode b_Mod_way 17 = .ok (.aload_n 0, 1) := by decide +kernel
theorem d_Mod_way_18 : decode b_Mod_way 18 = .ok (.getfield 7, 3) := by decide +kernel
theorem d_Mod_way_21 : decode b_Mod_way 21 = .ok (.if_icmp .ge 7, 3) := by decide +kernel
theorem d_Mod_way_24 : decode b_Mod_way 24 = .ok (.iconst 1, 1) := by decide +kernel
theorem d_Mod_way_25 : decode b_Mod_way 25 = .ok (.goto 4, 3) := by decide +kernel
theorem d_Mod_way_28 : decode b_Mod_way 28 = .ok (.iconst 0, 1) := by decide +kernel
theorem d_Mod_way_29 : decode b_Mod_way 29 = .ok (.istore_n 3, 1) := by decide +kernel
theorem d_Mod_way_30 : decode b_Mod_way 30 = .ok (.iload_n 3, 1) := by decide +kernel
theorem d_Mod_way_31 : decode b_Mod_way 31 = .ok (.ifCond .eq 24, 3) := by decide +kernel
theorem d_Mod_way_34 : decode b_Mod_way 34 = .ok (.aload_n 0, 1) := by decide +kernel
theorem d_Mod_way_35 : decode b_Mod_way 35 = .ok (.invokevirtual 101, 3) := by decide +kernel
theorem d_Mod_way_38 : decode b_Mod_way 38 = .ok (.ifCond .eq 17, 3) := by decide +kernel
theorem d_Mod_way_41 : decode b_Mod_way 41 = .ok (.aload_n 0, 1) := by decide +kernel
theorem d_Mod_way_42 : decode b_Mod_way 42 = .ok (.getfield 26, 3) := by decide +kernel
theorem d_Mod_way_45 : decode b_Mod_way 45 = .ok (.bipush 7, 2) := by decide +kernel
theorem d_Mod_way_47 : decode b_Mod_way 47 = .ok (.iload_n 1, 1) := by decide +kernel
theorem d_Mod_way_48 : decode b_Mod_way 48 = .ok (.imul, 1) := by decide +kernel
theorem d_Mod_way_49 : decode b_Mod_way 49 = .ok (.iload_n 2, 1) := by decide +kernel
theorem d_Mod_way_50 : decode b_Mod_way 50 = .ok (.iadd, 1) := by decide +kernel
theorem d_Mod_way_51 : decode b_Mod_way 51 = .ok (.iaload, 1) := by decide +kernel
theorem d_Mod_way_52 : decode b_Mod_way 52 = .ok (.goto 4, 3) := by decide +kernel
theorem d_Mod_way_55 : decode b_Mod_way 55 = .ok (.iconst (-1), 1) := by decide +kernel
theorem d_Mod_way_56 : decode b_Mod_way 56 = .ok (.ireturn, 1) := by decide +kernel
theorem d_Mod_spare_0 : decode b_Mod_spare 0 = .ok (.aload_n 0, 1) := by decide +kernel
theorem d_Mod_spare_1 : decode b_Mod_spare 1 = .ok (.iload_n 1, 1) := by decide +kernel
theorem d_Mod_spare_2 : decode b_Mod_spare 2 = .ok (.invokevirtual 59, 3) := by decide +kernel
theorem d_Mod_spare_5 : decode b_Mod_spare 5 = .ok (.ifCond .ne 5, 3) := by decide +kernel
theorem d_Mod_spare_8 : decode b_Mod_spare 8 = .ok (.iconst 0, 1) := by decide +kernel
theorem d_Mod_spare_9 : decode b_Mod_spare 9 = .ok (.ireturn, 1) := by decide +kernel
theorem d_Mod_spare_10 : decode b_Mod_spare 10 = .ok (.aload_n 0, 1) := by decide +kernel
theorem d_Mod_spare_11 : decode b_Mod_spare 11 = .ok (.getfield 13, 3) := by decide +kernel
theorem d_Mod_spare_14 : decode b_Mod_spare 14 = .ok (.iload_n 1, 1) := by decide +kernel
theorem d_Mod_spare_15 : decode b_Mod_spare 15 = .ok (.iaload, 1) := by decide +kernel
theorem d_Mod_spare_16 : decode b_Mod_spare 16 = .ok (.istore_n 2, 1) := by decide +kernel
theorem d_Mod_spare_17 : decode b_Mod_spare 17 = .ok (.aload_n 0, 1) := by decide +kernel
theorem d_Mod_spare_18 : decode b_Mod_spare 18 = .ok (.getfield 17, 3) := by decide +kernel
theorem d_Mod_spare_21 : decode b_Mod_spare 21 = .ok (.iload_n 1, 1) := by decide +kernel
theorem d_Mod_spare_22 : decode b_Mod_spare 22 = .ok (.iaload, 1) := by decide +kernel
theorem d_Mod_spare_23 : decode b_Mod_spare 23 = .ok (.istore_n 3, 1) := by decide +kernel
theorem d_Mod_spare_24 : decode b_Mod_spare 24 = .ok (.aload_n 0, 1) := by decide +kernel
theorem d_Mod_spare_25 : decode b_Mod_spare 25 = .ok (.iload_n 1, 1) := by decide +kernel
theorem d_Mod_spare_26 : decode b_Mod_spare 26 = .ok (.invokevirtual 63, 3) := by decide +kernel
theorem d_Mod_spare_29 : decode b_Mod_spare 29 = .ok (.aload_n 0, 1) := by decide +kernel
theorem d_Mod_spare_30 : decode b_Mod_spare 30 = .ok (.invokevirtual 97, 3) := by decide +kernel
theorem d_Mod_spare_33 : decode b_Mod_spare 33 = .ok (.istore 4, 2) := by decide +kernel
theorem d_Mod_spare_35 : decode b_Mod_spare 35 = .ok (.aload_n 0, 1) := by decide +kernel
theorem d_Mod_spare_36 : decode b_Mod_spare 36 = .ok (.getfield 45, 3) := by decide +kernel
theorem d_Mod_spare_39 : decode b_Mod_spare 39 = .ok (.istore 5, 2) := by decide +kernel
theorem d_Mod_spare_41 : decode b_Mod_spare 41 = .ok (.iload 5, 2) := by decide +kernel
theorem d_Mod_spare_43 : decode b_Mod_spare 43 = .ok (.iload_n 1, 1) := by decide +kernel
theorem d_Mod_spare_44 : decode b_Mod_spare 44 = .ok (.if_icmp .le 41, 3) := by decide +kernel
theorem d_Mod_spare_47 : decode b_Mod_spare 47 = .ok (.aload_n 0, 1) := by decide +kernel
theorem d_Mod_spare_48 : decode b_Mod_spare 48 = .ok (.getfield 13, 3) := by decide +kernel
theorem d_Mod_spare_51 : decode b_Mod_spare 51 = .ok (.iload 5, 2) := by decide +kernel
theorem d_Mod_spare_53 : decode b_Mod_spare 53 = .ok (.aload_n 0, 1) := by decide +kernel
theorem d_Mod_spare_54 : decode b_Mod_spare 54 = .ok (.getfield 13, 3) := by decide +kernel
theorem d_Mod_spare_57 : decode b_Mod_spare 57 = .ok (.iload 5, 2) := by decide +kernel
theorem d_Mod_spare_59 : decode b_Mod_spare 59 = .ok (.iconst 1, 1) := by decide +kernel
theorem d_Mod_spare_60 : decode b_Mod_spare 60 = .ok (.isub, 1) := by decide +kernel
theorem d_Mod_spare_61 : decode b_Mod_spare 61 = .ok (.iaload, 1) := by decide +kernel
theorem d_Mod_spare_62 : decode b_Mod_spare 62 = .ok (.iastore, 1) := by decide +kernel
theorem d_Mod_spare_63 : decode b_Mod_spare 63 = .ok (.aload_n 0, 1) := by decide +kernel
theorem d_Mod_spare_64 : decode b_Mod_spare 64 = .ok (.getfield 17, 3) := by decide +kernel
theorem d_Mod_spare_67 : decode b_Mod_spare 67 = .ok (.iload 5, 2) := by decide +kernel
theorem d_Mod_spare_69 : decode b_Mod_spare 69 = .ok (.aload_n 0, 1) := by decide +kernel
theorem d_Mod_spare_70 : decode b_Mod_spare 70 = .ok (.getfield 17, 3) := by decide +kernel
theorem d_Mod_spare_73 : decode b_Mod_spare 73 = .ok (.iload 5, 2) := by decide +kernel
theorem d_Mod_spare_75 : decode b_Mod_spare 75 = .ok (.iconst 1, 1) := by decide +kernel
theorem d_Mod_spare_76 : decode b_Mod_spare 76 = .ok (.isub, 1) := by decide +kernel
theorem d_Mod_spare_77 : decode b_Mod_spare 77 = .ok (.iaload, 1) := by decide +kernel
theorem d_Mod_spare_78 : decode b_Mod_spare 78 = .ok (.iastore, 1) := by decide +kernel
theorem d_Mod_spare_79 : decode b_Mod_spare 79 = .ok (.iinc 5 (-1), 3) := by decide +kernel
theorem d_Mod_spare_82 : decode b_Mod_spare 82 = .ok (.goto (-41), 3) := by decide +kernel
theorem d_Mod_spare_85 : decode b_Mod_spare 85 = .ok (.aload_n 0, 1) := by decide +kernel
theorem d_Mod_spare_86 : decode b_Mod_spare 86 = .ok (.getfield 13, 3) := by decide +kernel
theorem d_Mod_spare_89 : decode b_Mod_spare 89 = .ok (.iload_n 1, 1) := by decide +kernel
theorem d_Mod_spare_90 : decode b_Mod_spare 90 = .ok (.iload_n 2, 1) := by decide +kernel
theorem d_Mod_spare_91 : decode b_Mod_spare 91 = .ok (.iastore, 1) := by decide +kernel
theorem d_Mod_spare_92 : decode b_Mod_spare 92 = .ok (.aload_n 0, 1) := by decide +kernel
theorem d_Mod_spare_93 : decode b_Mod_spare 93 = .ok (.getfield 17, 3) := by decide +kernel
theorem d_Mod_spare_96 : decode b_Mod_spare 96 = .ok (.iload_n 1, 1) := by decide +kernel
theorem d_Mod_spare_97 : decode b_Mod_spare 97 = .ok (.iload_n 3, 1) := by decide +kernel
theorem d_Mod_spare_98 : decode b_Mod_spare 98 = .ok (.iastore, 1) := by decide +kernel
theorem d_Mod_spare_99 : decode b_Mod_spare 99 = .ok (.aload_n 0, 1) := by decide +kernel
theorem d_Mod_spare_100 : decode b_Mod_spare 100 = .ok (.dup, 1) := by decide +kernel
theorem d_Mod_spare_101 : decode b_Mod_spare 101 = .ok (.getfield 45, 3) := by decide +kernel
theorem d_Mod_spare_104 : decode b_Mod_spare 104 = .ok (.iconst 1, 1) := by decide +kernel
theorem d_Mod_spare_105 : decode b_Mod_spare 105 = .ok (.iadd, 1) := by decide +kernel
theorem d_Mod_spare_106 : decode b_Mod_spare 106 = .ok (.putfield 45, 3) := by decide +kernel
theorem d_Mod_spare_109 : decode b_Mod_spare 109 = .ok (.iload 4, 2) := by decide +kernel
theorem d_Mod_spare_111 : decode b_Mod_spare 111 = .ok (.ireturn, 1) := by decide +kernel
theorem d_Mod_most_0 : decode b_Mod_most 0 = .ok (.iload_n 1, 1) := by decide +kernel
theorem d_Mod_most_1 : decode b_Mod_most 1 = .ok (.ifCond .eq 11, 3) := by decide +kernel
theorem d_Mod_most_4 : decode b_Mod_most 4 = .ok (.aload_n 0, 1) := by decide +kernel
theorem d_Mod_most_5 : decode b_Mod_most 5 = .ok (.iload_n 1, 1) := by decide +kernel
theorem d_Mod_most_6 : decode b_Mod_most 6 = .ok (.invokevirtual 67, 3) := by decide +kernel
theorem d_Mod_most_9 : decode b_Mod_most 9 = .ok (.ifCond .ne 5, 3) := by decide +kernel
theorem d_Mod_most_12 : decode b_Mod_most 12 = .ok (.iconst (-1), 1) := by decide +kernel
theorem d_Mod_most_13 : decode b_Mod_most 13 = .ok (.ireturn, 1) := by decide +kernel
theorem d_Mod_most_14 : decode b_Mod_most 14 = .ok (.bipush 99, 2) := by decide +kernel
theorem d_Mod_most_16 : decode b_Mod_most 16 = .ok (.istore_n 2, 1) := by decide +kernel
theorem d_Mod_most_17 : decode b_Mod_most 17 = .ok (.iconst 1, 1) := by decide +kernel
theorem d_Mod_most_18 : decode b_Mod_most 18 = .ok (.istore_n 3, 1) := by decide +kernel
theorem d_Mod_most_19 : decode b_Mod_most 19 = .ok (.iload_n 3, 1) := by decide +kernel
theorem d_Mod_most_20 : decode b_Mod_most 20 = .ok (.aload_n 0, 1) := by decide +kernel
theorem d_Mod_most_21 : decode b_Mod_most 21 = .ok (.invokevirtual 41, 3) := by decide +kernel
theorem d_Mod_most_24 : decode b_Mod_most 24 = .ok (.if_icmp .gt 35, 3) := by decide +kernel
theorem d_Mod_most_27 : decode b_Mod_most 27 = .ok (.aload_n 0, 1) := by decide +kernel
theorem d_Mod_most_28 : decode b_Mod_most 28 = .ok (.iload_n 3, 1) := by decide +kernel
theorem d_Mod_most_29 : decode b_Mod_most 29 = .ok (.invokevirtual 74, 3) := by decide +kernel
theorem d_Mod_most_32 : decode b_Mod_most 32 = .ok (.istore 4, 2) := by decide +kernel
theorem d_Mod_most_34 : decode b_Mod_most 34 = .ok (.iload_n 3, 1) := by decide +kernel
theorem d_Mod_most_35 : decode b_Mod_most 35 = .ok (.iload_n 1, 1) := by decide +kernel
theorem d_Mod_most_36 : decode b_Mod_most 36 = .ok (.iand, 1) := by decide +kernel
theorem d_Mod_most_37 : decode b_Mod_most 37 = .ok (.ifCond .ne 14, 3) := by decide +kernel
theorem d_Mod_most_40 : decode b_Mod_most 40 = .ok (.iload 4, 2) := by decide +kernel
theorem d_Mod_most_42 : decode b_Mod_most 42 = .ok (.iload_n 2, 1) := by decide +kernel
theorem d_Mod_most_43 : decode b_Mod_most 43 = .ok (.if_icmp .ge 8, 3) := by decide +kernel
theorem d_Mod_most_46 : decode b_Mod_most 46 = .ok (.iload 4, 2) := by decide +kernel
theorem d_Mod_most_48 : decode b_Mod_most 48 = .ok (.goto 4, 3) := by decide +kernel
theorem d_Mod_most_51 : decode b_Mod_most 51 = .ok (.iload_n 2, 1) := by decide +kernel
theorem d_Mod_most_52 : decode b_Mod_most 52 = .ok (.istore_n 2, 1) := by decide +kernel
theorem d_Mod_most_53 : decode b_Mod_most 53 = .ok (.iinc 3 1, 3) := by decide +kernel
theorem d_Mod_most_56 : decode b_Mod_most 56 = .ok (.goto (-37), 3) := by decide +kernel
theorem d_Mod_most_59 : decode b_Mod_most 59 = .ok (.iload_n 2, 1) := by decide +kernel
theorem d_Mod_most_60 : decode b_Mod_most 60 = .ok (.ireturn, 1) := by decide +kernel
theorem d_law_law_0 : decode code 0 = .ok (.new 7, 3) := by decide +kernel
theorem d_law_law_3 : decode code 3 = .ok (.dup, 1) := by decide +kernel
theorem d_law_law_4 : decode code 4 = .ok (.invokespecial 9, 3) := by decide +kernel
theorem d_law_law_7 : decode code 7 = .ok (.astore_n 1, 1) := by decide +kernel
theorem d_law_law_8 : decode code 8 = .ok (.new 10, 3) := by decide +kernel
theorem d_law_law_11 : decode code 11 = .ok (.dup, 1) := by decide +kernel
theorem d_law_law_12 : decode code 12 = .ok (.invokespecial 12, 3) := by decide +kernel
theorem d_law_law_15 : decode code 15 = .ok (.astore_n 2, 1) := by decide +kernel
theorem d_law_law_16 : decode code 16 = .ok (.iconst 0, 1) := by decide +kernel
theorem d_law_law_17 : decode code 17 = .ok (.istore_n 3, 1) := by decide +kernel
theorem d_law_law_18 : decode code 18 = .ok (.iload_n 3, 1) := by decide +kernel
theorem d_law_law_19 : decode code 19 = .ok (.aload_n 0, 1) := by decide +kernel
theorem d_law_law_20 : decode code 20 = .ok (.arraylength, 1) := by decide +kernel
theorem d_law_law_21 : decode code 21 = .ok (.iconst 3, 1) := by decide +kernel
theorem d_law_law_22 : decode code 22 = .ok (.isub, 1) := by decide +kernel
theorem d_law_law_23 : decode code 23 = .ok (.if_icmp .gt 436, 3) := by decide +kernel
theorem d_law_law_26 : decode code 26 = .ok (.aload_n 0, 1) := by decide +kernel
theorem d_law_law_27 : decode code 27 = .ok (.iload_n 3, 1) := by decide +kernel
theorem d_law_law_28 : decode code 28 = .ok (.iaload, 1) := by decide +kernel
theorem d_law_law_29 : decode code 29 = .ok (.bipush 15, 2) := by decide +kernel
theorem d_law_law_31 : decode code 31 = .ok (.iand, 1) := by decide +kernel
theorem d_law_law_32 : decode code 32 = .ok (.tableswitch 421 0 14 #[76, 99, 132, 155, 178, 191, 214, 247, 270, 293, 306, 319, 342, 375, 398], 76) := by decide +kernel
theorem d_law_law_108 : decode code 108 = .ok (.aload_n 1, 1) := by decide +kernel
theorem d_law_law_109 : decode code 109 = .ok (.aload_n 0, 1) := by decide +kernel
theorem d_law_law_110 : decode code 110 = .ok (.iload_n 3, 1) := by decide +kernel
theorem d_law_law_111 : decode code 111 = .ok (.iconst 1, 1) := by decide +kernel
theorem d_law_law_112 : decode code 112 = .ok (.iadd, 1) := by decide +kernel
theorem d_law_law_113 : decode code 113 = .ok (.iaload, 1) := by decide +kernel
theorem d_law_law_114 : decode code 114 = .ok (.invokevirtual 13, 3) := by decide +kernel
theorem d_law_law_117 : decode code 117 = .ok (.aload_n 2, 1) := by decide +kernel
theorem d_law_law_118 : decode code 118 = .ok (.aload_n 0, 1) := by decide +kernel
theorem d_law_law_119 : decode code 119 = .ok (.iload_n 3, 1) := by decide +kernel
theorem d_law_law_120 : decode code 120 = .ok (.iconst 1, 1) := by decide +kernel
theorem d_law_law_121 : decode code 121 = .ok (.iadd, 1) := by decide +kernel
theorem d_law_law_122 : decode code 122 = .ok (.iaload, 1) := by decide +kernel
theorem d_law_law_123 : decode code 123 = .ok (.invokevirtual 17, 3) := by decide +kernel
theorem d_law_law_126 : decode code 126 = .ok (.if_icmp .eq 327, 3) := by decide +kernel
theorem d_law_law_129 : decode code 129 = .ok (.iconst 0, 1) := by decide +kernel
theorem d_law_law_130 : decode code 130 = .ok (.ireturn, 1) := by decide +kernel
theorem d_law_law_131 : decode code 131 = .ok (.aload_n 1, 1) := by decide +kernel
theorem d_law_law_132 : decode code 132 = .ok (.aload_n 0, 1) := by decide +kernel
theorem d_law_law_133 : decode code 133 = .ok (.iload_n 3, 1) := by decide +kernel
theorem d_law_law_134 : decode code 134 = .ok (.iconst 1, 1) := by decide +kernel
theorem d_law_law_135 : decode code 135 = .ok (.iadd, 1) := by decide +kernel
theorem d_law_law_136 : decode code 136 = .ok (.iaload, 1) := by decide +kernel
theorem d_law_law_137 : decode code 137 = .ok (.aload_n 0, 1) := by decide +kernel
theorem d_law_law_138 : decode code 138 = .ok (.iload_n 3, 1) := by decide +kernel
theorem d_law_law_139 : decode code 139 = .ok (.iconst 2, 1) := by decide +kernel
theorem d_law_law_140 : decode code 140 = .ok (.iadd, 1) := by decide +kernel
theorem d_law_law_141 : decode code 141 = .ok (.iaload, 1) := by decide +kernel
theorem d_law_law_142 : decode code 142 = .ok (.invokevirtual 18, 3) := by decide +kernel
theorem d_law_law_145 : decode code 145 = .ok (.aload_n 2, 1) := by decide +kernel
theorem d_law_law_146 : decode code 146 = .ok (.aload_n 0, 1) := by decide +kernel
theorem d_law_law_147 : decode code 147 = .ok (.iload_n 3, 1) := by decide +kernel
theorem d_law_law_148 : decode code 148 = .ok (.iconst 1, 1) := by decide +kernel
theorem d_law_law_149 : decode code 149 = .ok (.iadd, 1) := by decide +kernel
theorem d_law_law_150 : decode code 150 = .ok (.iaload, 1) := by decide +kernel
theorem d_law_law_151 : decode code 151 = .ok (.aload_n 0, 1) := by decide +kernel
theorem d_law_law_152 : decode code 152 = .ok (.iload_n 3, 1) := by decide +kernel
theorem d_law_law_153 : decode code 153 = .ok (.iconst 2, 1) := by decide +kernel
theorem d_law_law_154 : decode code 154 = .ok (.iadd, 1) := by decide +kernel
theorem d_law_law_155 : decode code 155 = .ok (.iaload, 1) := by decide +kernel
theorem d_law_law_156 : decode code 156 = .ok (.invokevirtual 22, 3) := by decide +kernel
theorem d_law_law_159 : decode code 159 = .ok (.if_icmp .eq 294, 3) := by decide +kernel
theorem d_law_law_162 : decode code 162 = .ok (.iconst 0, 1) := by decide +kernel
theorem d_law_law_163 : decode code 163 = .ok (.ireturn, 1) := by decide +kernel
theorem d_law_law_164 : decode code 164 = .ok (.aload_n 1, 1) := by decide +kernel
theorem d_law_law_165 : decode code 165 = .ok (.aload_n 0, 1) := by decide +kernel
theorem d_law_law_166 : decode code 166 = .ok (.iload_n 3, 1) := by decide +kernel
theorem d_law_law_167 : decode code 167 = .ok (.iconst 1, 1) := by decide +kernel
theorem d_law_law_168 : decode code 168 = .ok (.iadd, 1) := by decide +kernel
theorem d_law_law_169 : decode code 169 = .ok (.iaload, 1) := by decide +kernel
theorem d_law_law_170 : decode code 170 = .ok (.invokevirtual 23, 3) := by decide +kernel
theorem d_law_law_173 : decode code 173 = .ok (.aload_n 2, 1) := by decide +kernel
theorem d_law_law_174 : decode code 174 = .ok (.aload_n 0, 1) := by decide +kernel
theorem d_law_law_175 : decode code 175 = .ok (.iload_n 3, 1) := by decide +kernel
theorem d_law_law_176 : decode code 176 = .ok (.iconst 1, 1) := by decide +kernel
theorem d_law_law_177 : decode code 177 = .ok (.iadd, 1) := by decide +kernel
theorem d_law_law_178 : decode code 178 = .ok (.iaload, 1) := by decide +kernel
theorem d_law_law_179 : decode code 179 = .ok (.invokevirtual 26, 3) := by decide +kernel
theorem d_law_law_182 : decode code 182 = .ok (.if_icmp .eq 271, 3) := by decide +kernel
theorem d_law_law_185 : decode code 185 = .ok (.iconst 0, 1) := by decide +kernel
theorem d_law_law_186 : decode code 186 = .ok (.ireturn, 1) := by decide +kernel
theorem d_law_law_187 : decode code 187 = .ok (.aload_n 1, 1) := by decide +kernel
theorem d_law_law_188 : decode code 188 = .ok (.aload_n 0, 1) := by decide +kernel
theorem d_law_law_189 : decode code 189 = .ok (.iload_n 3, 1) := by decide +kernel
theorem d_law_law_190 : decode code 190 = .ok (.iconst 1, 1) := by decide +kernel
theorem d_law_law_191 : decode code 191 = .ok (.iadd, 1) := by decide +kernel
theorem d_law_law_192 : decode code 192 = .ok (.iaload, 1) := by decide +kernel
theorem d_law_law_193 : decode code 193 = .ok (.invokevirtual 27, 3) := by decide +kernel
theorem d_law_law_196 : decode code 196 = .ok (.aload_n 2, 1) := by decide +kernel
theorem d_law_law_197 : decode code 197 = .ok (.aload_n 0, 1) := by decide +kernel
theorem d_law_law_198 : decode code 198 = .ok (.iload_n 3, 1) := by decide +kernel
theorem d_law_law_199 : decode code 199 = .ok (.iconst 1, 1) := by decide +kernel
theorem d_law_law_200 : decode code 200 = .ok (.iadd, 1) := by decide +kernel
theorem d_law_law_201 : decode code 201 = .ok (.iaload, 1) := by decide +kernel
theorem d_law_law_202 : decode code 202 = .ok (.invokevirtual 31, 3) := by decide +kernel
theorem d_law_law_205 : decode code 205 = .ok (.if_icmp .eq 248, 3) := by decide +kernel
theorem d_law_law_208 : decode code 208 = .ok (.iconst 0, 1) := by decide +kernel
theorem d_law_law_209 : decode code 209 = .ok (.ireturn, 1) := by decide +kernel
theorem d_law_law_210 : decode code 210 = .ok (.aload_n 1, 1) := by decide +kernel
theorem d_law_law_211 : decode code 211 = .ok (.invokevirtual 32, 3) := by decide +kernel
theorem d_law_law_214 : decode code 214 = .ok (.aload_n 2, 1) := by decide +kernel
theorem d_law_law_215 : decode code 215 = .ok (.invokevirtual 36, 3) := by decide +kernel
theorem d_law_law_218 : decode code 218 = .ok (.if_icmp .eq 235, 3) := by decide +kernel
theorem d_law_law_221 : decode code 221 = .ok (.iconst 0, 1) := by decide +kernel
theorem d_law_law_222 : decode code 222 = .ok (.ireturn, 1) := by decide +kernel
theorem d_law_law_223 : decode code 223 = .ok (.aload_n 1, 1) := by decide +kernel
theorem d_law_law_224 : decode code 224 = .ok (.aload_n 0, 1) := by decide +kernel
theorem d_law_law_225 : decode code 225 = .ok (.iload_n 3, 1) := by decide +kernel
theorem d_law_law_226 : decode code 226 = .ok (.iconst 1, 1) := by decide +kernel
theorem d_law_law_227 : decode code 227 = .ok (.iadd, 1) := by decide +kernel
theorem d_law_law_228 : decode code 228 = .ok (.iaload, 1) := by decide +kernel
theorem d_law_law_229 : decode code 229 = .ok (.invokevirtual 37, 3) := by decide +kernel
theorem d_law_law_232 : decode code 232 = .ok (.aload_n 2, 1) := by decide +kernel
theorem d_law_law_233 : decode code 233 = .ok (.aload_n 0, 1) := by decide +kernel
theorem d_law_law_234 : decode code 234 = .ok (.iload_n 3, 1) := by decide +kernel
theorem d_law_law_235 : decode code 235 = .ok (.iconst 1, 1) := by decide +kernel
theorem d_law_law_236 : decode code 236 = .ok (.iadd, 1) := by decide +kernel
theorem d_law_law_237 : decode code 237 = .ok (.iaload, 1) := by decide +kernel
theorem d_law_law_238 : decode code 238 = .ok (.invokevirtual 40, 3) := by decide +kernel
theorem d_law_law_241 : decode code 241 = .ok (.if_icmp .eq 212, 3) := by decide +kernel
theorem d_law_law_244 : decode code 244 = .ok (.iconst 0, 1) := by decide +kernel
theorem d_law_law_245 : decode code 245 = .ok (.ireturn, 1) := by decide +kernel
theorem d_law_law_246 : decode code 246 = .ok (.aload_n 1, 1) := by decide +kernel
theorem d_law_law_247 : decode code 247 = .ok (.aload_n 0, 1) := by decide +kernel
theorem d_law_law_248 : decode code 248 = .ok (.iload_n 3, 1) := by decide +kernel
theorem d_law_law_249 : decode code 249 = .ok (.iconst 1, 1) := by decide +kernel
theorem d_law_law_250 : decode code 250 = .ok (.iadd, 1) := by decide +kernel
theorem d_law_law_251 : decode code 251 = .ok (.iaload, 1) := by decide +kernel
theorem d_law_law_252 : decode code 252 = .ok (.aload_n 0, 1) := by decide +kernel
theorem d_law_law_253 : decode code 253 = .ok (.iload_n 3, 1) := by decide +kernel
theorem d_law_law_254 : decode code 254 = .ok (.iconst 2, 1) := by decide +kernel
theorem d_law_law_255 : decode code 255 = .ok (.iadd, 1) := by decide +kernel
theorem d_law_law_256 : decode code 256 = .ok (.iaload, 1) := by decide +kernel
theorem d_law_law_257 : decode code 257 = .ok (.invokevirtual 41, 3) := by decide +kernel
theorem d_law_law_260 : decode code 260 = .ok (.aload_n 2, 1) := by decide +kernel
theorem d_law_law_261 : decode code 261 = .ok (.aload_n 0, 1) := by decide +kernel
theorem d_law_law_262 : decode code 262 = .ok (.iload_n 3, 1) := by decide +kernel
theorem d_law_law_263 : decode code 263 = .ok (.iconst 1, 1) := by decide +kernel
theorem d_law_law_264 : decode code 264 = .ok (.iadd, 1) := by decide +kernel
theorem d_law_law_265 : decode code 265 = .ok (.iaload, 1) := by decide +kernel
theorem d_law_law_266 : decode code 266 = .ok (.aload_n 0, 1) := by decide +kernel
theorem d_law_law_267 : decode code 267 = .ok (.iload_n 3, 1) := by decide +kernel
theorem d_law_law_268 : decode code 268 = .ok (.iconst 2, 1) := by decide +kernel
theorem d_law_law_269 : decode code 269 = .ok (.iadd, 1) := by decide +kernel
theorem d_law_law_270 : decode code 270 = .ok (.iaload, 1) := by decide +kernel
theorem d_law_law_271 : decode code 271 = .ok (.invokevirtual 44, 3) := by decide +kernel
theorem d_law_law_274 : decode code 274 = .ok (.if_icmp .eq 179, 3) := by decide +kernel
theorem d_law_law_277 : decode code 277 = .ok (.iconst 0, 1) := by decide +kernel
theorem d_law_law_278 : decode code 278 = .ok (.ireturn, 1) := by decide +kernel
theorem d_law_law_279 : decode code 279 = .ok (.aload_n 1, 1) := by decide +kernel
theorem d_law_law_280 : decode code 280 = .ok (.aload_n 0, 1) := by decide +kernel
theorem d_law_law_281 : decode code 281 = .ok (.iload_n 3, 1) := by decide +kernel
theorem d_law_law_282 : decode code 282 = .ok (.iconst 1, 1) := by decide +kernel
theorem d_law_law_283 : decode code 283 = .ok (.iadd, 1) := by decide +kernel
theorem d_law_law_284 : decode code 284 = .ok (.iaload, 1) := by decide +kernel
theorem d_law_law_285 : decode code 285 = .ok (.invokevirtual 45, 3) := by decide +kernel
theorem d_law_law_288 : decode code 288 = .ok (.aload_n 2, 1) := by decide +kernel
theorem d_law_law_289 : decode code 289 = .ok (.aload_n 0, 1) := by decide +kernel
theorem d_law_law_290 : decode code 290 = .ok (.iload_n 3, 1) := by decide +kernel
theorem d_law_law_291 : decode code 291 = .ok (.iconst 1, 1) := by decide +kernel
theorem d_law_law_292 : decode code 292 = .ok (.iadd, 1) := by decide +kernel
theorem d_law_law_293 : decode code 293 = .ok (.iaload, 1) := by decide +kernel
theorem d_law_law_294 : decode code 294 = .ok (.invokevirtual 48, 3) := by decide +kernel
theorem d_law_law_297 : decode code 297 = .ok (.if_icmp .eq 156, 3) := by decide +kernel
theorem d_law_law_300 : decode code 300 = .ok (.iconst 0, 1) := by decide +kernel
theorem d_law_law_301 : decode code 301 = .ok (.ireturn, 1) := by decide +kernel
theorem d_law_law_302 : decode code 302 = .ok (.aload_n 1, 1) := by decide +kernel
theorem d_law_law_303 : decode code 303 = .ok (.aload_n 0, 1) := by decide +kernel
theorem d_law_law_304 : decode code 304 = .ok (.iload_n 3, 1) := by decide +kernel
theorem d_law_law_305 : decode code 305 = .ok (.iconst 1, 1) := by decide +kernel
theorem d_law_law_306 : decode code 306 = .ok (.iadd, 1) := by decide +kernel
theorem d_law_law_307 : decode code 307 = .ok (.iaload, 1) := by decide +kernel
theorem d_law_law_308 : decode code 308 = .ok (.invokevirtual 49, 3) := by decide +kernel
theorem d_law_law_311 : decode code 311 = .ok (.aload_n 2, 1) := by decide +kernel
theorem d_law_law_312 : decode code 312 = .ok (.aload_n 0, 1) := by decide +kernel
theorem d_law_law_313 : decode code 313 = .ok (.iload_n 3, 1) := by decide +kernel
theorem d_law_law_314 : decode code 314 = .ok (.iconst 1, 1) := by decide +kernel
theorem d_law_law_315 : decode code 315 = .ok (.iadd, 1) := by decide +kernel
theorem d_law_law_316 : decode code 316 = .ok (.iaload, 1) := by decide +kernel
theorem d_law_law_317 : decode code 317 = .ok (.invokevirtual 52, 3) := by decide +kernel
theorem d_law_law_320 : decode code 320 = .ok (.if_icmp .eq 133, 3) := by decide +kernel
theorem d_law_law_323 : decode code 323 = .ok (.iconst 0, 1) := by decide +kernel
theorem d_law_law_324 : decode code 324 = .ok (.ireturn, 1) := by decide +kernel
theorem d_law_law_325 : decode code 325 = .ok (.aload_n 1, 1) := by decide +kernel
theorem d_law_law_326 : decode code 326 = .ok (.invokevirtual 53, 3) := by decide +kernel
theorem d_law_law_329 : decode code 329 = .ok (.aload_n 2, 1) := by decide +kernel
theorem d_law_law_330 : decode code 330 = .ok (.invokevirtual 57, 3) := by decide +kernel
theorem d_law_law_333 : decode code 333 = .ok (.if_icmp .eq 120, 3) := by decide +kernel
theorem d_law_law_336 : decode code 336 = .ok (.iconst 0, 1) := by decide +kernel
theorem d_law_law_337 : decode code 337 = .ok (.ireturn, 1) := by decide +kernel
theorem d_law_law_338 : decode code 338 = .ok (.aload_n 1, 1) := by decide +kernel
theorem d_law_law_339 : decode code 339 = .ok (.invokevirtual 58, 3) := by decide +kernel
theorem d_law_law_342 : decode code 342 = .ok (.aload_n 2, 1) := by decide +kernel
theorem d_law_law_343 : decode code 343 = .ok (.invokevirtual 61, 3) := by decide +kernel
theorem d_law_law_346 : decode code 346 = .ok (.if_icmp .eq 107, 3) := by decide +kernel
theorem d_law_law_349 : decode code 349 = .ok (.iconst 0, 1) := by decide +kernel
theorem d_law_law_350 : decode code 350 = .ok (.ireturn, 1) := by decide +kernel
theorem d_law_law_351 : decode code 351 = .ok (.aload_n 1, 1) := by decide +kernel
theorem d_law_law_352 : decode code 352 = .ok (.aload_n 0, 1) := by decide +kernel
theorem d_law_law_353 : decode code 353 = .ok (.iload_n 3, 1) := by decide +kernel
theorem d_law_law_354 : decode code 354 = .ok (.iconst 1, 1) := by decide +kernel
theorem d_law_law_355 : decode code 355 = .ok (.iadd, 1) := by decide +kernel
theorem d_law_law_356 : decode code 356 = .ok (.iaload, 1) := by decide +kernel
theorem d_law_law_357 : decode code 357 = .ok (.invokevirtual 62, 3) := by decide +kernel
theorem d_law_law_360 : decode code 360 = .ok (.aload_n 2, 1) := by decide +kernel
theorem d_law_law_361 : decode code 361 = .ok (.aload_n 0, 1) := by decide +kernel
theorem d_law_law_362 : decode code 362 = .ok (.iload_n 3, 1) := by decide +kernel
theorem d_law_law_363 : decode code 363 = .ok (.iconst 1, 1) := by decide +kernel
theorem d_law_law_364 : decode code 364 = .ok (.iadd, 1) := by decide +kernel
theorem d_law_law_365 : decode code 365 = .ok (.iaload, 1) := by decide +kernel
theorem d_law_law_366 : decode code 366 = .ok (.invokevirtual 65, 3) := by decide +kernel
theorem d_law_law_369 : decode code 369 = .ok (.if_icmp .eq 84, 3) := by decide +kernel
theorem d_law_law_372 : decode code 372 = .ok (.iconst 0, 1) := by decide +kernel
theorem d_law_law_373 : decode code 373 = .ok (.ireturn, 1) := by decide +kernel
theorem d_law_law_374 : decode code 374 = .ok (.aload_n 1, 1) := by decide +kernel
theorem d_law_law_375 : decode code 375 = .ok (.aload_n 0, 1) := by decide +kernel
theorem d_law_law_376 : decode code 376 = .ok (.iload_n 3, 1) := by decide +kernel
theorem d_law_law_377 : decode code 377 = .ok (.iconst 1, 1) := by decide +kernel
theorem d_law_law_378 : decode code 378 = .ok (.iadd, 1) := by decide +kernel
theorem d_law_law_379 : decode code 379 = .ok (.iaload, 1) := by decide +kernel
theorem d_law_law_380 : decode code 380 = .ok (.aload_n 0, 1) := by decide +kernel
theorem d_law_law_381 : decode code 381 = .ok (.iload_n 3, 1) := by decide +kernel
theorem d_law_law_382 : decode code 382 = .ok (.iconst 2, 1) := by decide +kernel
theorem d_law_law_383 : decode code 383 = .ok (.iadd, 1) := by decide +kernel
theorem d_law_law_384 : decode code 384 = .ok (.iaload, 1) := by decide +kernel
theorem d_law_law_385 : decode code 385 = .ok (.invokevirtual 66, 3) := by decide +kernel
theorem d_law_law_388 : decode code 388 = .ok (.aload_n 2, 1) := by decide +kernel
theorem d_law_law_389 : decode code 389 = .ok (.aload_n 0, 1) := by decide +kernel
theorem d_law_law_390 : decode code 390 = .ok (.iload_n 3, 1) := by decide +kernel
theorem d_law_law_391 : decode code 391 = .ok (.iconst 1, 1) := by decide +kernel
theorem d_law_law_392 : decode code 392 = .ok (.iadd, 1) := by decide +kernel
theorem d_law_law_393 : decode code 393 = .ok (.iaload, 1) := by decide +kernel
theorem d_law_law_394 : decode code 394 = .ok (.aload_n 0, 1) := by decide +kernel
theorem d_law_law_395 : decode code 395 = .ok (.iload_n 3, 1) := by decide +kernel
theorem d_law_law_396 : decode code 396 = .ok (.iconst 2, 1) := by decide +kernel
theorem d_law_law_397 : decode code 397 = .ok (.iadd, 1) := by decide +kernel
theorem d_law_law_398 : decode code 398 = .ok (.iaload, 1) := by decide +kernel
theorem d_law_law_399 : decode code 399 = .ok (.invokevirtual 69, 3) := by decide +kernel
theorem d_law_law_402 : decode code 402 = .ok (.if_icmp .eq 51, 3) := by decide +kernel
theorem d_law_law_405 : decode code 405 = .ok (.iconst 0, 1) := by decide +kernel
theorem d_law_law_406 : decode code 406 = .ok (.ireturn, 1) := by decide +kernel
theorem d_law_law_407 : decode code 407 = .ok (.aload_n 1, 1) := by decide +kernel
theorem d_law_law_408 : decode code 408 = .ok (.aload_n 0, 1) := by decide +kernel
theorem d_law_law_409 : decode code 409 = .ok (.iload_n 3, 1) := by decide +kernel
theorem d_law_law_410 : decode code 410 = .ok (.iconst 1, 1) := by decide +kernel
theorem d_law_law_411 : decode code 411 = .ok (.iadd, 1) := by decide +kernel
theorem d_law_law_412 : decode code 412 = .ok (.iaload, 1) := by decide +kernel
theorem d_law_law_413 : decode code 413 = .ok (.invokevirtual 70, 3) := by decide +kernel
theorem d_law_law_416 : decode code 416 = .ok (.aload_n 2, 1) := by decide +kernel
theorem d_law_law_417 : decode code 417 = .ok (.aload_n 0, 1) := by decide +kernel
theorem d_law_law_418 : decode code 418 = .ok (.iload_n 3, 1) := by decide +kernel
theorem d_law_law_419 : decode code 419 = .ok (.iconst 1, 1) := by decide +kernel
theorem d_law_law_420 : decode code 420 = .ok (.iadd, 1) := by decide +kernel
theorem d_law_law_421 : decode code 421 = .ok (.iaload, 1) := by decide +kernel
theorem d_law_law_422 : decode code 422 = .ok (.invokevirtual 73, 3) := by decide +kernel
theorem d_law_law_425 : decode code 425 = .ok (.if_icmp .eq 28, 3) := by decide +kernel
theorem d_law_law_428 : decode code 428 = .ok (.iconst 0, 1) := by decide +kernel
theorem d_law_law_429 : decode code 429 = .ok (.ireturn, 1) := by decide +kernel
theorem d_law_law_430 : decode code 430 = .ok (.aload_n 1, 1) := by decide +kernel
theorem d_law_law_431 : decode code 431 = .ok (.aload_n 0, 1) := by decide +kernel
theorem d_law_law_432 : decode code 432 = .ok (.iload_n 3, 1) := by decide +kernel
theorem d_law_law_433 : decode code 433 = .ok (.iconst 1, 1) := by decide +kernel
theorem d_law_law_434 : decode code 434 = .ok (.iadd, 1) := by decide +kernel
theorem d_law_law_435 : decode code 435 = .ok (.iaload, 1) := by decide +kernel
theorem d_law_law_436 : decode code 436 = .ok (.invokevirtual 74, 3) := by decide +kernel
theorem d_law_law_439 : decode code 439 = .ok (.aload_n 2, 1) := by decide +kernel
theorem d_law_law_440 : decode code 440 = .ok (.aload_n 0, 1) := by decide +kernel
theorem d_law_law_441 : decode code 441 = .ok (.iload_n 3, 1) := by decide +kernel
theorem d_law_law_442 : decode code 442 = .ok (.iconst 1, 1) := by decide +kernel
theorem d_law_law_443 : decode code 443 = .ok (.iadd, 1) := by decide +kernel
theorem d_law_law_444 : decode code 444 = .ok (.iaload, 1) := by decide +kernel
theorem d_law_law_445 : decode code 445 = .ok (.invokevirtual 77, 3) := by decide +kernel
theorem d_law_law_448 : decode code 448 = .ok (.if_icmp .eq 5, 3) := by decide +kernel
theorem d_law_law_451 : decode code 451 = .ok (.iconst 0, 1) := by decide +kernel
theorem d_law_law_452 : decode code 452 = .ok (.ireturn, 1) := by decide +kernel
theorem d_law_law_453 : decode code 453 = .ok (.iinc 3 3, 3) := by decide +kernel
theorem d_law_law_456 : decode code 456 = .ok (.goto (-438), 3) := by decide +kernel
theorem d_law_law_459 : decode code 459 = .ok (.iconst 1, 1) := by decide +kernel
theorem d_law_law_460 : decode code 460 = .ok (.ireturn, 1) := by decide +kernel
end
section
/-! THE ABSTRACT WALK: xW b G k n w pc lv st: at pc with locals lv, stack st and a heap that holds the world w the machine comes to its end.
b: launch, numbers of the kinds of object, the int array's kind and the byte array's; G: what a walk fixes. Printed by gen/frame.py -/
abbrev xB : Type := Launch × va_G × ClassId × ClassId
abbrev xG : Type := Program × Env × Room × State × MethodId × Array Value × List Frame × Method × Code × (Nat → Prop) × (State → Prop) × Nat
def xT (b : xB) : List (ClassId × FieldType) := [(b.2.2.1, .int), (b.2.2.2, .byte)]
def xn1 : Cond := .methodLinkNest "BranchPacker" 9 y_Net_init "BranchPacker"
def xn2 : Cond := .methodLinkNest "BranchPacker$Grove" 11 y_Ways_init "BranchPacker"
def xK (b : xB) (U : State) : Prop := va_K b.2.1 classes (xT b) U ∧ va_Nw xn1 U ∧ va_Nw xn2 U
theorem xK.warm {b : xB} {s U : State} (hW : s.WarmedH U.vm) (h : xK b s) : xK b U := ⟨va_K.moved hW.alike h.1, va_Nw.warmM hW h.2.1, va_Nw.warmM hW h.2.2⟩
def xH (ls : Array Slot) (nL : Nat) (lv : List (Nat × Value)) : Prop := lv_has ls nL lv ∧ ∀ q ∈ lv, q.2.category = 1
def xW (b : xB) (G : xG) (k n : Nat) (w : va_W) (pc : Nat) (lv : List (Nat × Value)) (st : List Value) : Prop := match G with
  | (p, e, R, s, m, args, below, meth, c, A, Q, nL) => ∀ (H : Heap) (locs : List Loc) (ls : Array Slot), va_P b.2.1 classes w H → va_D A w → va_S A s.heap H locs → xH ls nL lv → W p b.1 e R s m args below meth c H locs k n Q (F0 m pc ls st)
def xX (b : xB) (G : xG) (own nm : String) (cc : ByteArray) (L : Nat) (rm : Room) : Prop := match G with
  | (p, e, R, s, m, args, below, meth, c, A, Q, nL) => p.tables.exec = Jvm.exec ∧ c.code = cc ∧ c.maxLocals = L ∧ nL = L ∧ R = rm ∧ s.vm.findClass own = some m.cls ∧ (∀ w ∈ gw, w.before args s = true) ∧ xK b s ∧ meth.name = nm ∧ (∀ q, s.heap.size ≤ q → A q)
def xl : List (Nat × Value) → Nat → Option Value
  | [], _ => none
  | (k, v) :: r, i => cond (Nat.beq k i) (some v) (xl r i)
def xd : List (Nat × Value) → Nat → List (Nat × Value)
  | [], _ => []
  | (k, v) :: r, i => cond (Nat.beq k i) (xd r i) ((k, v) :: xd r i)
def xs : List (Nat × Value) → Nat → Value → List (Nat × Value)
  | [], i, v => [(i, v)]
  | (k, x) :: r, i, v => cond (Nat.beq k i) ((i, v) :: xd r i) ((k, x) :: xs r i v)
theorem xl_mem {lv : List (Nat × Value)} {i : Nat} {v : Value} (h : xl lv i = some v) : (i, v) ∈ lv := by
  induction lv with
  | nil => cases h
  | cons q r ih =>
    obtain ⟨k, x⟩ := q
    cases hk : Nat.beq k i with
    | true =>
      have e : k = i := Nat.eq_of_beq_eq_true hk
      subst e
      simp only [xl, hk, cond_true] at h
      cases h
      exact List.mem_cons_self
    | false =>
      simp only [xl, hk, cond_false] at h
      exact List.mem_cons_of_mem _ (ih h)
theorem xd_mem {lv : List (Nat × Value)} {i : Nat} {q : Nat × Value} (h : q ∈ xd lv i) : q ∈ lv ∧ q.1 ≠ i := by
  induction lv with
  | nil => cases h
  | cons p r ih =>
    obtain ⟨k, x⟩ := p
    cases hk : Nat.beq k i with
    | true =>
      simp only [xd, hk, cond_true] at h
      exact ⟨List.mem_cons_of_mem _ (ih h).1, (ih h).2⟩
    | false =>
      simp only [xd, hk, cond_false] at h
      rcases List.mem_cons.mp h with rfl | h
      · exact ⟨List.mem_cons_self, Nat.ne_of_beq_eq_false hk⟩
      · exact ⟨List.mem_cons_of_mem _ (ih h).1, (ih h).2⟩
theorem xs_mem {lv : List (Nat × Value)} {i : Nat} {v : Value} {q : Nat × Value} (h : q ∈ xs lv i v) : q = (i, v) ∨ (q ∈ lv ∧ q.1 ≠ i) := by
  induction lv with
  | nil => exact Or.inl (List.mem_singleton.mp h)
  | cons p r ih =>
    obtain ⟨k, x⟩ := p
    cases hk : Nat.beq k i with
    | true =>
      simp only [xs, hk, cond_true] at h
      rcases List.mem_cons.mp h with rfl | h
      · exact Or.inl rfl
      · exact Or.inr ⟨List.mem_cons_of_mem _ (xd_mem h).1, (xd_mem h).2⟩
    | false =>
      simp only [xs, hk, cond_false] at h
      rcases List.mem_cons.mp h with rfl | h
      · exact Or.inr ⟨List.mem_cons_self, Nat.ne_of_beq_eq_false hk⟩
      · rcases ih h with h | h
        · exact Or.inl h
        · exact Or.inr ⟨List.mem_cons_of_mem _ h.1, h.2⟩
theorem xH.at {ls : Array Slot} {nL : Nat} {lv : List (Nat × Value)} (h : xH ls nL lv) {i : Nat} {v : Value} (hk : xl lv i = some v) : ls[i]? = some (.val v) := h.1.2.2 _ (xl_mem hk)
theorem xH.st {ls ls' : Array Slot} {nL : Nat} {lv : List (Nat × Value)} (h : xH ls nL lv) {i : Nat} {v : Value} (hl : lv_has ls' nL ((i, v) :: lv.filter (fun q => !(q.1 == i) && !(q.1 + 1 == i && q.2.category == 2)))) (hc : v.category = 1) : xH ls' nL (xs lv i v) := by
  refine ⟨⟨hl.1, hl.2.1, fun q hq => ?_⟩, fun q hq => ?_⟩
  · rcases xs_mem hq with rfl | ⟨h1, h2⟩
    · exact hl.2.2 _ List.mem_cons_self
    · refine hl.2.2 _ (List.mem_cons_of_mem _ (List.mem_filter.mpr ⟨h1, ?_⟩))
      have h3 := h.2 q h1
      simp [h2, h3]
  · rcases xs_mem hq with rfl | ⟨h1, h2⟩
    · exact hc
    · exact h.2 q h1
section XR
variable {b : xB} {G : xG} {own nm : String} {cc : ByteArray} {L : Nat} {rm : Room} {k n pc : Nat} {w : va_W} {lv : List (Nat × Value)} {st : List Value}
theorem x_iconst {z : Int} (X : xX b G own nm cc L rm) (d : decode cc pc = .ok (.iconst z, 1)) {v : Int32} (hv : Int32.ofInt z = v) (kk : xW b G k n w (pc + 1) lv (.int v :: st)) : xW b G k n w pc lv st := by
  obtain ⟨p, e, R, s, m, args, below, meth, c, A, Q, nL⟩ := G
  obtain ⟨hx, hb, hml, rfl, rfl, hown, hts, hK, hnm, hA⟩ := X
  intro H locs ls hP hD hS hl
  exact lv_iconst hx hb d hv (kk H locs ls hP hD hS hl)
theorem x_bipush {z : Int} (X : xX b G own nm cc L rm) (d : decode cc pc = .ok (.bipush z, 2)) {v : Int32} (hv : (Int8.ofInt z).toInt32 = v) (kk : xW b G k n w (pc + 2) lv (.int v :: st)) : xW b G k n w pc lv st := by
  obtain ⟨p, e, R, s, m, args, below, meth, c, A, Q, nL⟩ := G
  obtain ⟨hx, hb, hml, rfl, rfl, hown, hts, hK, hnm, hA⟩ := X
  intro H locs ls hP hD hS hl
  exact lv_bipush hx hb d hv (kk H locs ls hP hD hS hl)
theorem x_ldcw {idx : Nat} (X : xX b G own nm cc L rm) (d : decode cc pc = .ok (.ldc_w idx, 3)) {v : Int32} (hc : Cond.constant own idx v ∈ gw) (kk : xW b G k n w (pc + 3) lv (.int v :: st)) : xW b G k n w pc lv st := by
  obtain ⟨p, e, R, s, m, args, below, meth, c, A, Q, nL⟩ := G
  obtain ⟨hx, hb, hml, rfl, rfl, hown, hts, hK, hnm, hA⟩ := X
  intro H locs ls hP hD hS hl
  exact lv_ldcw hx hb hown (hts _ hc) d (kk H locs ls hP hD hS hl)
theorem x_iload_n {i : Fin 4} (X : xX b G own nm cc L rm) (d : decode cc pc = .ok (.iload_n i, 1)) {x : Int32} (h : xl lv i = some (.int x)) (kk : xW b G k n w (pc + 1) lv (.int x :: st)) : xW b G k n w pc lv st := by
  obtain ⟨p, e, R, s, m, args, below, meth, c, A, Q, nL⟩ := G
  obtain ⟨hx, hb, hml, rfl, rfl, hown, hts, hK, hnm, hA⟩ := X
  intro H locs ls hP hD hS hl
  exact lv_iload_n hx hb d rfl (hl.at h) (kk H locs ls hP hD hS hl)
theorem x_iload {i : Nat} (X : xX b G own nm cc L rm) (d : decode cc pc = .ok (.iload i, 2)) {x : Int32} (h : xl lv i = some (.int x)) (kk : xW b G k n w (pc + 2) lv (.int x :: st)) : xW b G k n w pc lv st := by
  obtain ⟨p, e, R, s, m, args, below, meth, c, A, Q, nL⟩ := G
  obtain ⟨hx, hb, hml, rfl, rfl, hown, hts, hK, hnm, hA⟩ := X
  intro H locs ls hP hD hS hl
  exact lv_iload hx hb d (hl.at h) (kk H locs ls hP hD hS hl)
theorem x_aload_n {i : Fin 4} (X : xX b G own nm cc L rm) (d : decode cc pc = .ok (.aload_n i, 1)) {x : Nat} (h : xl lv i = some (.ref x)) (kk : xW b G k n w (pc + 1) lv (.ref x :: st)) : xW b G k n w pc lv st := by
  obtain ⟨p, e, R, s, m, args, below, meth, c, A, Q, nL⟩ := G
  obtain ⟨hx, hb, hml, rfl, rfl, hown, hts, hK, hnm, hA⟩ := X
  intro H locs ls hP hD hS hl
  exact lv_aload_n hx hb d rfl (hl.at h) (kk H locs ls hP hD hS hl)
theorem x_aload {i : Nat} (X : xX b G own nm cc L rm) (d : decode cc pc = .ok (.aload i, 2)) {x : Nat} (h : xl lv i = some (.ref x)) (kk : xW b G k n w (pc + 2) lv (.ref x :: st)) : xW b G k n w pc lv st := by
  obtain ⟨p, e, R, s, m, args, below, meth, c, A, Q, nL⟩ := G
  obtain ⟨hx, hb, hml, rfl, rfl, hown, hts, hK, hnm, hA⟩ := X
  intro H locs ls hP hD hS hl
  exact lv_aload hx hb d (hl.at h) (kk H locs ls hP hD hS hl)
theorem x_istore_n {i : Fin 4} (X : xX b G own nm cc L rm) (d : decode cc pc = .ok (.istore_n i, 1)) {x : Int32} (hi : (i : Nat) < L) {lv' : List (Nat × Value)} (h : xs lv i (.int x) = lv') (kk : xW b G k n w (pc + 1) lv' (st)) : xW b G k n w pc lv (.int x :: st) := by
  obtain ⟨p, e, R, s, m, args, below, meth, c, A, Q, nL⟩ := G
  obtain ⟨hx, hb, hml, rfl, rfl, hown, hts, hK, hnm, hA⟩ := X
  intro H locs ls hP hD hS hl
  subst h
  exact lv_istore_n hx hb d rfl hl.1 hi rfl (fun ls' hl' => kk H locs ls' hP hD hS (hl.st hl' rfl))
theorem x_istore {i : Nat} (X : xX b G own nm cc L rm) (d : decode cc pc = .ok (.istore i, 2)) {x : Int32} (hi : i < L) {lv' : List (Nat × Value)} (h : xs lv i (.int x) = lv') (kk : xW b G k n w (pc + 2) lv' (st)) : xW b G k n w pc lv (.int x :: st) := by
  obtain ⟨p, e, R, s, m, args, below, meth, c, A, Q, nL⟩ := G
  obtain ⟨hx, hb, hml, rfl, rfl, hown, hts, hK, hnm, hA⟩ := X
  intro H locs ls hP hD hS hl
  subst h
  exact lv_istore hx hb d hl.1 hi rfl (fun ls' hl' => kk H locs ls' hP hD hS (hl.st hl' rfl))
theorem x_astore_n {i : Fin 4} (X : xX b G own nm cc L rm) (d : decode cc pc = .ok (.astore_n i, 1)) {x : Nat} (hi : (i : Nat) < L) {lv' : List (Nat × Value)} (h : xs lv i (.ref x) = lv') (kk : xW b G k n w (pc + 1) lv' (st)) : xW b G k n w pc lv (.ref x :: st) := by
  obtain ⟨p, e, R, s, m, args, below, meth, c, A, Q, nL⟩ := G
  obtain ⟨hx, hb, hml, rfl, rfl, hown, hts, hK, hnm, hA⟩ := X
  intro H locs ls hP hD hS hl
  subst h
  exact lv_astore_n hx hb d rfl hl.1 hi rfl (fun ls' hl' => kk H locs ls' hP hD hS (hl.st hl' rfl))
theorem x_astore {i : Nat} (X : xX b G own nm cc L rm) (d : decode cc pc = .ok (.astore i, 2)) {x : Nat} (hi : i < L) {lv' : List (Nat × Value)} (h : xs lv i (.ref x) = lv') (kk : xW b G k n w (pc + 2) lv' (st)) : xW b G k n w pc lv (.ref x :: st) := by
  obtain ⟨p, e, R, s, m, args, below, meth, c, A, Q, nL⟩ := G
  obtain ⟨hx, hb, hml, rfl, rfl, hown, hts, hK, hnm, hA⟩ := X
  intro H locs ls hP hD hS hl
  subst h
  exact lv_astore hx hb d hl.1 hi rfl (fun ls' hl' => kk H locs ls' hP hD hS (hl.st hl' rfl))
theorem xl_get {lv : List (Nat × Value)} {i : Nat} {v : Value} (h : xl lv i = some v) : ∃ k : Nat, lv[k]? = some (i, v) := List.mem_iff_getElem?.mp (xl_mem h)
theorem x_iinc {i : Nat} {z : Int} (X : xX b G own nm cc L rm) (d : decode cc pc = .ok (.iinc i z, 3)) {x v : Int32} (h0 : xl lv i = some (.int x)) (hv : x + Int32.ofInt z = v) (hi : i < L) {lv' : List (Nat × Value)} (h : xs lv i (.int v) = lv') (kk : xW b G k n w (pc + 3) lv' (st)) : xW b G k n w pc lv st := by
  obtain ⟨p, e, R, s, m, args, below, meth, c, A, Q, nL⟩ := G
  obtain ⟨hx, hb, hml, rfl, rfl, hown, hts, hK, hnm, hA⟩ := X
  intro H locs ls hP hD hS hl
  subst h
  obtain ⟨j, hj⟩ := xl_get h0
  exact lv_iinc hx hb d hl.1 hj hv hi rfl (fun ls' hl' => kk H locs ls' hP hD hS (hl.st hl' rfl))
theorem x_iadd (X : xX b G own nm cc L rm) (d : decode cc pc = .ok (.iadd, 1)) {x y : Int32} (kk : xW b G k n w (pc + 1) lv (.int (x + y) :: st)) : xW b G k n w pc lv (.int y :: .int x :: st) := by
  obtain ⟨p, e, R, s, m, args, below, meth, c, A, Q, nL⟩ := G
  obtain ⟨hx, hb, hml, rfl, rfl, hown, hts, hK, hnm, hA⟩ := X
  intro H locs ls hP hD hS hl
  exact lv_iadd hx hb d (kk H locs ls hP hD hS hl)
theorem x_isub (X : xX b G own nm cc L rm) (d : decode cc pc = .ok (.isub, 1)) {x y : Int32} (kk : xW b G k n w (pc + 1) lv (.int (x - y) :: st)) : xW b G k n w pc lv (.int y :: .int x :: st) := by
  obtain ⟨p, e, R, s, m, args, below, meth, c, A, Q, nL⟩ := G
  obtain ⟨hx, hb, hml, rfl, rfl, hown, hts, hK, hnm, hA⟩ := X
  intro H locs ls hP hD hS hl
  exact lv_isub hx hb d (kk H locs ls hP hD hS hl)
theorem x_imul (X : xX b G own nm cc L rm) (d : decode cc pc = .ok (.imul, 1)) {x y : Int32} (kk : xW b G k n w (pc + 1) lv (.int (x * y) :: st)) : xW b G k n w pc lv (.int y :: .int x :: st) := by
  obtain ⟨p, e, R, s, m, args, below, meth, c, A, Q, nL⟩ := G
  obtain ⟨hx, hb, hml, rfl, rfl, hown, hts, hK, hnm, hA⟩ := X
  intro H locs ls hP hD hS hl
  exact lv_imul hx hb d (kk H locs ls hP hD hS hl)
theorem x_iand (X : xX b G own nm cc L rm) (d : decode cc pc = .ok (.iand, 1)) {x y : Int32} (kk : xW b G k n w (pc + 1) lv (.int (x &&& y) :: st)) : xW b G k n w pc lv (.int y :: .int x :: st) := by
  obtain ⟨p, e, R, s, m, args, below, meth, c, A, Q, nL⟩ := G
  obtain ⟨hx, hb, hml, rfl, rfl, hown, hts, hK, hnm, hA⟩ := X
  intro H locs ls hP hD hS hl
  exact lv_iand hx hb d (kk H locs ls hP hD hS hl)
theorem x_ior (X : xX b G own nm cc L rm) (d : decode cc pc = .ok (.ior, 1)) {x y : Int32} (kk : xW b G k n w (pc + 1) lv (.int (x ||| y) :: st)) : xW b G k n w pc lv (.int y :: .int x :: st) := by
  obtain ⟨p, e, R, s, m, args, below, meth, c, A, Q, nL⟩ := G
  obtain ⟨hx, hb, hml, rfl, rfl, hown, hts, hK, hnm, hA⟩ := X
  intro H locs ls hP hD hS hl
  exact lv_ior hx hb d (kk H locs ls hP hD hS hl)
theorem x_ixor (X : xX b G own nm cc L rm) (d : decode cc pc = .ok (.ixor, 1)) {x y : Int32} (kk : xW b G k n w (pc + 1) lv (.int (x ^^^ y) :: st)) : xW b G k n w pc lv (.int y :: .int x :: st) := by
  obtain ⟨p, e, R, s, m, args, below, meth, c, A, Q, nL⟩ := G
  obtain ⟨hx, hb, hml, rfl, rfl, hown, hts, hK, hnm, hA⟩ := X
  intro H locs ls hP hD hS hl
  exact lv_ixor hx hb d (kk H locs ls hP hD hS hl)
theorem x_ishl (X : xX b G own nm cc L rm) (d : decode cc pc = .ok (.ishl, 1)) {x y : Int32} (kk : xW b G k n w (pc + 1) lv (.int (x <<< (y &&& 31)) :: st)) : xW b G k n w pc lv (.int y :: .int x :: st) := by
  obtain ⟨p, e, R, s, m, args, below, meth, c, A, Q, nL⟩ := G
  obtain ⟨hx, hb, hml, rfl, rfl, hown, hts, hK, hnm, hA⟩ := X
  intro H locs ls hP hD hS hl
  exact lv_ishl hx hb d (kk H locs ls hP hD hS hl)
theorem x_ishr (X : xX b G own nm cc L rm) (d : decode cc pc = .ok (.ishr, 1)) {x y : Int32} (kk : xW b G k n w (pc + 1) lv (.int (x >>> (y &&& 31)) :: st)) : xW b G k n w pc lv (.int y :: .int x :: st) := by
  obtain ⟨p, e, R, s, m, args, below, meth, c, A, Q, nL⟩ := G
  obtain ⟨hx, hb, hml, rfl, rfl, hown, hts, hK, hnm, hA⟩ := X
  intro H locs ls hP hD hS hl
  exact lv_ishr hx hb d (kk H locs ls hP hD hS hl)
theorem x_ineg (X : xX b G own nm cc L rm) (d : decode cc pc = .ok (.ineg, 1)) {x : Int32} (kk : xW b G k n w (pc + 1) lv (.int (-x) :: st)) : xW b G k n w pc lv (.int x :: st) := by
  obtain ⟨p, e, R, s, m, args, below, meth, c, A, Q, nL⟩ := G
  obtain ⟨hx, hb, hml, rfl, rfl, hown, hts, hK, hnm, hA⟩ := X
  intro H locs ls hP hD hS hl
  exact lv_ineg hx hb d (kk H locs ls hP hD hS hl)
theorem x_iushr (X : xX b G own nm cc L rm) (d : decode cc pc = .ok (.iushr, 1)) {x y v : Int32} (hv : (x.toUInt32 >>> (y.toUInt32 &&& Int32.toUInt32 31)).toInt32 = v) (kk : xW b G k n w (pc + 1) lv (.int v :: st)) : xW b G k n w pc lv (.int y :: .int x :: st) := by
  obtain ⟨p, e, R, s, m, args, below, meth, c, A, Q, nL⟩ := G
  obtain ⟨hx, hb, hml, rfl, rfl, hown, hts, hK, hnm, hA⟩ := X
  intro H locs ls hP hD hS hl
  exact lv_iushr hx hb d hv (kk H locs ls hP hD hS hl)
theorem x_i2b (X : xX b G own nm cc L rm) (d : decode cc pc = .ok (.i2b, 1)) {x v : Int32} (hv : x.toInt8.toInt32 = v) (kk : xW b G k n w (pc + 1) lv (.int v :: st)) : xW b G k n w pc lv (.int x :: st) := by
  obtain ⟨p, e, R, s, m, args, below, meth, c, A, Q, nL⟩ := G
  obtain ⟨hx, hb, hml, rfl, rfl, hown, hts, hK, hnm, hA⟩ := X
  intro H locs ls hP hD hS hl
  exact lv_i2b hx hb d hv (kk H locs ls hP hD hS hl)
theorem x_dup (X : xX b G own nm cc L rm) (d : decode cc pc = .ok (.dup, 1)) {v : Value} (hc : v.category = 1) (kk : xW b G k n w (pc + 1) lv (v :: v :: st)) : xW b G k n w pc lv (v :: st) := by
  obtain ⟨p, e, R, s, m, args, below, meth, c, A, Q, nL⟩ := G
  obtain ⟨hx, hb, hml, rfl, rfl, hown, hts, hK, hnm, hA⟩ := X
  intro H locs ls hP hD hS hl
  exact lv_dup hx hb d hc (kk H locs ls hP hD hS hl)
theorem x_dup_x1 (X : xX b G own nm cc L rm) (d : decode cc pc = .ok (.dup_x1, 1)) {v v2 : Value} (hc : v.category = 1) (hc2 : v2.category = 1) (kk : xW b G k n w (pc + 1) lv (v :: v2 :: v :: st)) : xW b G k n w pc lv (v :: v2 :: st) := by
  obtain ⟨p, e, R, s, m, args, below, meth, c, A, Q, nL⟩ := G
  obtain ⟨hx, hb, hml, rfl, rfl, hown, hts, hK, hnm, hA⟩ := X
  intro H locs ls hP hD hS hl
  exact lv_dup_x1 hx hb d hc hc2 (kk H locs ls hP hD hS hl)
theorem x_dup2 (X : xX b G own nm cc L rm) (d : decode cc pc = .ok (.dup2, 1)) {v v2 : Value} (hc : v.category = 1) (hc2 : v2.category = 1) (kk : xW b G k n w (pc + 1) lv (v :: v2 :: v :: v2 :: st)) : xW b G k n w pc lv (v :: v2 :: st) := by
  obtain ⟨p, e, R, s, m, args, below, meth, c, A, Q, nL⟩ := G
  obtain ⟨hx, hb, hml, rfl, rfl, hown, hts, hK, hnm, hA⟩ := X
  intro H locs ls hP hD hS hl
  exact lv_dup2_11 hx hb d hc hc2 (kk H locs ls hP hD hS hl)
theorem x_goto {off : Int} (tgt : Nat) (X : xX b G own nm cc L rm) (d : decode cc pc = .ok (.goto off, 3)) (ht : (pc : Int) + off = (tgt : Int)) (kk : xW b G k n w (tgt) lv (st)) : xW b G k n w pc lv st := by
  obtain ⟨p, e, R, s, m, args, below, meth, c, A, Q, nL⟩ := G
  obtain ⟨hx, hb, hml, rfl, rfl, hown, hts, hK, hnm, hA⟩ := X
  intro H locs ls hP hD hS hl
  exact lv_goto hx hb d ht (kk H locs ls hP hD hS hl)
theorem x_icmp_eq {off : Int} (tgt : Nat) (X : xX b G own nm cc L rm) (d : decode cc pc = .ok (.if_icmp .eq off, 3)) {x y : Int32} (ht : (pc : Int) + off = (tgt : Int)) (kt : x = y → xW b G k n w tgt lv st) (kf : ¬ x = y → xW b G k n w (pc + 3) lv st) : xW b G k n w pc lv (.int y :: .int x :: st) := by
  obtain ⟨p, e, R, s, m, args, below, meth, c, A, Q, nL⟩ := G
  obtain ⟨hx, hb, hml, rfl, rfl, hown, hts, hK, hnm, hA⟩ := X
  intro H locs ls hP hD hS hl
  exact lv_icmp_eq hx hb d ht (fun q => kt q H locs ls hP hD hS hl) (fun q => kf q H locs ls hP hD hS hl)
theorem x_if_eq {off : Int} (tgt : Nat) (X : xX b G own nm cc L rm) (d : decode cc pc = .ok (.ifCond .eq off, 3)) {x : Int32} (ht : (pc : Int) + off = (tgt : Int)) (kt : x = 0 → xW b G k n w tgt lv st) (kf : ¬ x = 0 → xW b G k n w (pc + 3) lv st) : xW b G k n w pc lv (.int x :: st) := by
  obtain ⟨p, e, R, s, m, args, below, meth, c, A, Q, nL⟩ := G
  obtain ⟨hx, hb, hml, rfl, rfl, hown, hts, hK, hnm, hA⟩ := X
  intro H locs ls hP hD hS hl
  exact lv_if_eq hx hb d ht (fun q => kt q H locs ls hP hD hS hl) (fun q => kf q H locs ls hP hD hS hl)
theorem x_icmp_ne {off : Int} (tgt : Nat) (X : xX b G own nm cc L rm) (d : decode cc pc = .ok (.if_icmp .ne off, 3)) {x y : Int32} (ht : (pc : Int) + off = (tgt : Int)) (kt : ¬ x = y → xW b G k n w tgt lv st) (kf : x = y → xW b G k n w (pc + 3) lv st) : xW b G k n w pc lv (.int y :: .int x :: st) := by
  obtain ⟨p, e, R, s, m, args, below, meth, c, A, Q, nL⟩ := G
  obtain ⟨hx, hb, hml, rfl, rfl, hown, hts, hK, hnm, hA⟩ := X
  intro H locs ls hP hD hS hl
  exact lv_icmp_ne hx hb d ht (fun q => kt q H locs ls hP hD hS hl) (fun q => kf q H locs ls hP hD hS hl)
theorem x_if_ne {off : Int} (tgt : Nat) (X : xX b G own nm cc L rm) (d : decode cc pc = .ok (.ifCond .ne off, 3)) {x : Int32} (ht : (pc : Int) + off = (tgt : Int)) (kt : ¬ x = 0 → xW b G k n w tgt lv st) (kf : x = 0 → xW b G k n w (pc + 3) lv st) : xW b G k n w pc lv (.int x :: st) := by
  obtain ⟨p, e, R, s, m, args, below, meth, c, A, Q, nL⟩ := G
  obtain ⟨hx, hb, hml, rfl, rfl, hown, hts, hK, hnm, hA⟩ := X
  intro H locs ls hP hD hS hl
  exact lv_if_ne hx hb d ht (fun q => kt q H locs ls hP hD hS hl) (fun q => kf q H locs ls hP hD hS hl)
theorem x_icmp_lt {off : Int} (tgt : Nat) (X : xX b G own nm cc L rm) (d : decode cc pc = .ok (.if_icmp .lt off, 3)) {x y : Int32} (ht : (pc : Int) + off = (tgt : Int)) (kt : x < y → xW b G k n w tgt lv st) (kf : ¬ x < y → xW b G k n w (pc + 3) lv st) : xW b G k n w pc lv (.int y :: .int x :: st) := by
  obtain ⟨p, e, R, s, m, args, below, meth, c, A, Q, nL⟩ := G
  obtain ⟨hx, hb, hml, rfl, rfl, hown, hts, hK, hnm, hA⟩ := X
  intro H locs ls hP hD hS hl
  exact lv_icmp_lt hx hb d ht (fun q => kt q H locs ls hP hD hS hl) (fun q => kf q H locs ls hP hD hS hl)
theorem x_if_lt {off : Int} (tgt : Nat) (X : xX b G own nm cc L rm) (d : decode cc pc = .ok (.ifCond .lt off, 3)) {x : Int32} (ht : (pc : Int) + off = (tgt : Int)) (kt : x < 0 → xW b G k n w tgt lv st) (kf : ¬ x < 0 → xW b G k n w (pc + 3) lv st) : xW b G k n w pc lv (.int x :: st) := by
  obtain ⟨p, e, R, s, m, args, below, meth, c, A, Q, nL⟩ := G
  obtain ⟨hx, hb, hml, rfl, rfl, hown, hts, hK, hnm, hA⟩ := X
  intro H locs ls hP hD hS hl
  exact lv_if_lt hx hb d ht (fun q => kt q H locs ls hP hD hS hl) (fun q => kf q H locs ls hP hD hS hl)
theorem x_icmp_ge {off : Int} (tgt : Nat) (X : xX b G own nm cc L rm) (d : decode cc pc = .ok (.if_icmp .ge off, 3)) {x y : Int32} (ht : (pc : Int) + off = (tgt : Int)) (kt : y ≤ x → xW b G k n w tgt lv st) (kf : ¬ y ≤ x → xW b G k n w (pc + 3) lv st) : xW b G k n w pc lv (.int y :: .int x :: st) := by
  obtain ⟨p, e, R, s, m, args, below, meth, c, A, Q, nL⟩ := G
  obtain ⟨hx, hb, hml, rfl, rfl, hown, hts, hK, hnm, hA⟩ := X
  intro H locs ls hP hD hS hl
  exact lv_icmp_ge hx hb d ht (fun q => kt q H locs ls hP hD hS hl) (fun q => kf q H locs ls hP hD hS hl)
theorem x_if_ge {off : Int} (tgt : Nat) (X : xX b G own nm cc L rm) (d : decode cc pc = .ok (.ifCond .ge off, 3)) {x : Int32} (ht : (pc : Int) + off = (tgt : Int)) (kt : 0 ≤ x → xW b G k n w tgt lv st) (kf : ¬ 0 ≤ x → xW b G k n w (pc + 3) lv st) : xW b G k n w pc lv (.int x :: st) := by
  obtain ⟨p, e, R, s, m, args, below, meth, c, A, Q, nL⟩ := G
  obtain ⟨hx, hb, hml, rfl, rfl, hown, hts, hK, hnm, hA⟩ := X
  intro H locs ls hP hD hS hl
  exact lv_if_ge hx hb d ht (fun q => kt q H locs ls hP hD hS hl) (fun q => kf q H locs ls hP hD hS hl)
theorem x_icmp_gt {off : Int} (tgt : Nat) (X : xX b G own nm cc L rm) (d : decode cc pc = .ok (.if_icmp .gt off, 3)) {x y : Int32} (ht : (pc : Int) + off = (tgt : Int)) (kt : y < x → xW b G k n w tgt lv st) (kf : ¬ y < x → xW b G k n w (pc + 3) lv st) : xW b G k n w pc lv (.int y :: .int x :: st) := by
  obtain ⟨p, e, R, s, m, args, below, meth, c, A, Q, nL⟩ := G
  obtain ⟨hx, hb, hml, rfl, rfl, hown, hts, hK, hnm, hA⟩ := X
  intro H locs ls hP hD hS hl
  exact lv_icmp_gt hx hb d ht (fun q => kt q H locs ls hP hD hS hl) (fun q => kf q H locs ls hP hD hS hl)
theorem x_if_gt {off : Int} (tgt : Nat) (X : xX b G own nm cc L rm) (d : decode cc pc = .ok (.ifCond .gt off, 3)) {x : Int32} (ht : (pc : Int) + off = (tgt : Int)) (kt : 0 < x → xW b G k n w tgt lv st) (kf : ¬ 0 < x → xW b G k n w (pc + 3) lv st) : xW b G k n w pc lv (.int x :: st) := by
  obtain ⟨p, e, R, s, m, args, below, meth, c, A, Q, nL⟩ := G
  obtain ⟨hx, hb, hml, rfl, rfl, hown, hts, hK, hnm, hA⟩ := X
  intro H locs ls hP hD hS hl
  exact lv_if_gt hx hb d ht (fun q => kt q H locs ls hP hD hS hl) (fun q => kf q H locs ls hP hD hS hl)
theorem x_icmp_le {off : Int} (tgt : Nat) (X : xX b G own nm cc L rm) (d : decode cc pc = .ok (.if_icmp .le off, 3)) {x y : Int32} (ht : (pc : Int) + off = (tgt : Int)) (kt : x ≤ y → xW b G k n w tgt lv st) (kf : ¬ x ≤ y → xW b G k n w (pc + 3) lv st) : xW b G k n w pc lv (.int y :: .int x :: st) := by
  obtain ⟨p, e, R, s, m, args, below, meth, c, A, Q, nL⟩ := G
  obtain ⟨hx, hb, hml, rfl, rfl, hown, hts, hK, hnm, hA⟩ := X
  intro H locs ls hP hD hS hl
  exact lv_icmp_le hx hb d ht (fun q => kt q H locs ls hP hD hS hl) (fun q => kf q H locs ls hP hD hS hl)
theorem x_if_le {off : Int} (tgt : Nat) (X : xX b G own nm cc L rm) (d : decode cc pc = .ok (.ifCond .le off, 3)) {x : Int32} (ht : (pc : Int) + off = (tgt : Int)) (kt : x ≤ 0 → xW b G k n w tgt lv st) (kf : ¬ x ≤ 0 → xW b G k n w (pc + 3) lv st) : xW b G k n w pc lv (.int x :: st) := by
  obtain ⟨p, e, R, s, m, args, below, meth, c, A, Q, nL⟩ := G
  obtain ⟨hx, hb, hml, rfl, rfl, hown, hts, hK, hnm, hA⟩ := X
  intro H locs ls hP hD hS hl
  exact lv_if_le hx hb d ht (fun q => kt q H locs ls hP hD hS hl) (fun q => kf q H locs ls hP hD hS hl)
theorem x_top {x y : Int32} (h : x = y) (kk : xW b G k n w pc lv (.int y :: st)) : xW b G k n w pc lv (.int x :: st) := h ▸ kk
theorem x_st {st' : List Value} (h : st = st') (kk : xW b G k n w pc lv st') : xW b G k n w pc lv st := h ▸ kk
theorem x_wd {w' : va_W} (h : w = w') (kk : xW b G k n w' pc lv st) : xW b G k n w pc lv st := h ▸ kk
theorem x_lv (ks : List Nat) {lv' : List (Nat × Value)} (h : lv_pick lv ks = lv') (kk : xW b G k n w pc lv' st) : xW b G k n w pc lv st := by
  obtain ⟨p, e, R, s, m, args, below, meth, c, A, Q, nL⟩ := G
  intro H locs ls hP hD hS hl
  refine kk H locs ls hP hD hS ⟨lv_sub hl.1 ks h, fun q hq => ?_⟩
  rw [← h] at hq
  obtain ⟨j, -, hj⟩ := List.mem_filterMap.mp hq
  exact hl.2 q (List.mem_of_getElem? hj)
theorem x_le {lv' : List (Nat × Value)} (h : lv = lv') (kk : xW b G k n w pc lv' st) : xW b G k n w pc lv st := h ▸ kk
theorem x_widen {k' n' : Nat} (h1 : k ≤ k') (h2 : n ≤ n') (kk : xW b G k' n' w pc lv st) : xW b G k n w pc lv st := by
  obtain ⟨p, e, R, s, m, args, below, meth, c, A, Q, nL⟩ := G
  intro H locs ls hP hD hS hl
  exact W.widen h1 h2 (kk H locs ls hP hD hS hl)
end XR
end
section
/-! THE ABSTRACT WALK: fields, arrays, contracts, calls -/
theorem xat {w wc : va_W} {isC : List Nat} (hC : isC.map (fun i => w[i]?) = wc.map some) (k : Nat) (q : Nat × va_E) (hq : wc[k]? = some q) : ∃ i, isC[k]? = some i ∧ w[i]? = some q := by
  have h1 : (isC.map (fun i => w[i]?))[k]? = some (some q) := by rw [hC, List.getElem?_map, hq]; rfl
  rw [List.getElem?_map] at h1
  cases hi : isC[k]? with
  | none => rw [hi] at h1; cases h1
  | some i => rw [hi] at h1; exact ⟨i, rfl, Option.some.inj h1⟩
def xput (w : va_W) (is : List Nat) (q : va_W) : va_W := match is with
  | [] => w ++ q
  | i :: is => match q with
    | [] => w
    | q :: qs => xput (w.set i q) is qs
theorem xput_nil (w q : va_W) : xput w [] q = w ++ q := by rw [xput]
theorem xput_cons (w : va_W) (i : Nat) (is : List Nat) (q : Nat × va_E) (qs : va_W) : xput w (i :: is) (q :: qs) = xput (w.set i q) is qs := by rw [xput]
theorem xput_spec : ∀ (is : List Nat) (w q : va_W), va_nd is = true → is.length ≤ q.length → (∀ i ∈ is, i < w.length) →
    (∀ j : Nat, j < w.length → j ∉ is → (xput w is q)[j]? = w[j]?) ∧ (∀ p i : Nat, is[p]? = some i → (xput w is q)[i]? = q[p]?) ∧ (∀ j : Nat, (xput w is q)[w.length + j]? = q[is.length + j]?) := by
  intro is
  induction is with
  | nil =>
    intro w q _ _ _
    refine ⟨fun j hj _ => ?_, fun p i h => by simp at h, fun j => ?_⟩
    · rw [xput_nil]
      exact List.getElem?_append_left hj
    · rw [xput_nil]
      show (w ++ q)[w.length + j]? = q[0 + j]?
      rw [List.getElem?_append_right (Nat.le_add_right _ _), Nat.add_sub_cancel_left, Nat.zero_add]
  | cons i is ih =>
    intro w q hn hlen hb
    cases q with
    | nil => simp at hlen
    | cons q0 qs =>
      simp only [va_nd, Bool.and_eq_true, decide_eq_true_eq] at hn
      have hi : i < w.length := hb i List.mem_cons_self
      obtain ⟨h1, h2, h3⟩ := ih (w.set i q0) qs hn.2 (by simpa using hlen) (fun j hj => by rw [List.length_set]; exact hb j (List.mem_cons_of_mem _ hj))
      rw [List.length_set] at h1 h3
      refine ⟨fun j hj hnj => ?_, fun p j hp => ?_, fun j => ?_⟩
      · show (xput (w.set i q0) is qs)[j]? = _
        rw [h1 j hj (fun h => hnj (List.mem_cons_of_mem _ h)), List.getElem?_set_ne (fun h => hnj (by rw [h]; exact List.mem_cons_self))]
      · show (xput (w.set i q0) is qs)[j]? = _
        cases p with
        | zero =>
          simp at hp
          subst hp
          rw [h1 i hi hn.1, List.getElem?_set_self hi]
          rfl
        | succ p =>
          simp at hp
          rw [h2 p j hp]
          rfl
      · show (xput (w.set i q0) is qs)[w.length + j]? = _
        rw [h3 j]
        show qs[is.length + j]? = (q0 :: qs)[is.length + 1 + j]?
        rw [show is.length + 1 + j = (is.length + j) + 1 by omega]
        rfl
theorem xC_len {w wc : va_W} {isC : List Nat} (hC : isC.map (fun i => w[i]?) = wc.map some) : isC.length = wc.length := by
  have := congrArg List.length hC
  simpa using this
theorem xC_lt {w wc : va_W} {isC : List Nat} (hC : isC.map (fun i => w[i]?) = wc.map some) : ∀ i ∈ isC, i < w.length := by
  intro i hi
  have h : w[i]? ∈ isC.map (fun i => w[i]?) := List.mem_map.mpr ⟨i, hi, rfl⟩
  rw [hC] at h
  obtain ⟨x, -, hx⟩ := List.mem_map.mp h
  exact (List.getElem?_eq_some_iff.mp hx.symm).1
theorem xput_id {w wc : va_W} {isC : List Nat} (hC : isC.map (fun i => w[i]?) = wc.map some) (hnd : va_nd isC = true) : xput w isC wc = w := by
  obtain ⟨h1, h2, h3⟩ := xput_spec isC w wc hnd (Nat.le_of_eq (xC_len hC)) (xC_lt hC)
  apply List.ext_getElem?
  intro j
  by_cases hj : j < w.length
  · by_cases hm : j ∈ isC
    · obtain ⟨p, hp⟩ := List.mem_iff_getElem?.mp hm
      rw [h2 p j hp]
      have h := congrArg (fun l => l[p]?) hC
      simp only [List.getElem?_map, hp, Option.map_some] at h
      cases hw : wc[p]? with
      | none => rw [hw] at h; cases h
      | some q => rw [hw] at h; exact (Option.some.inj h).symm
    · exact h1 j hj hm
  · have e := h3 (j - w.length)
    rw [show w.length + (j - w.length) = j by omega] at e
    rw [e, List.getElem?_eq_none (by rw [xC_len hC]; omega), List.getElem?_eq_none (by omega)]
theorem xput_ok {A : Nat → Prop} {D : va_G} {cl : List vw_C} {w wc w' : va_W} {H H1 : Heap} {isC : List Nat} (hP : va_P D cl w H) (hD : va_D A w) (hC : isC.map (fun i => w[i]?) = wc.map some) (hnd : va_nd isC = true)
    (hk : ∀ q : Nat, q < H.size → ¬ va_A wc H.size q → H1[q]? = H[q]?) (hF : ∀ q, va_A wc H.size q → A q) (hP1 : va_P D cl w' H1) (hD1 : va_D (va_A wc H.size) w') (hlen : wc.length ≤ w'.length) : va_P D cl (xput w isC w') H1 ∧ va_D A (xput w isC w') := by
  obtain ⟨h1, h2, h3⟩ := xput_spec isC w w' hnd (by rw [xC_len hC]; exact hlen) (xC_lt hC)
  have cls : ∀ (j : Nat) (q : Nat × va_E), (xput w isC w')[j]? = some q → (∃ p, w'[p]? = some q ∧ (isC[p]? = some j ∨ (isC.length ≤ p ∧ j = w.length + (p - isC.length)))) ∨ (w[j]? = some q ∧ j ∉ isC) := by
    intro j q hq
    by_cases hj : j < w.length
    · by_cases hm : j ∈ isC
      · obtain ⟨p, hp⟩ := List.mem_iff_getElem?.mp hm
        rw [h2 p j hp] at hq
        exact Or.inl ⟨p, hq, Or.inl hp⟩
      · rw [h1 j hj hm] at hq
        exact Or.inr ⟨hq, hm⟩
    · have e := h3 (j - w.length)
      rw [show w.length + (j - w.length) = j by omega] at e
      rw [e] at hq
      exact Or.inl ⟨_, hq, Or.inr ⟨by omega, by omega⟩⟩
  have apart : ∀ (j : Nat) (q : Nat × va_E), w[j]? = some q → j ∉ isC → q.1 < H.size ∧ ¬ va_A wc H.size q.1 := by
    intro j q hq hj
    have hl := (hP j q hq).lt
    refine ⟨hl, fun h => ?_⟩
    rcases h with ⟨k2, e, h⟩ | h
    · obtain ⟨i, h4, h5⟩ := xat hC k2 (q.1, e) h
      have hij := hD.1 j i q (q.1, e) hq h5 rfl
      subst hij
      exact hj (List.mem_of_getElem? h4)
    · omega
  refine ⟨fun j q hq => ?_, fun i j x y hx hy hxy => ?_, fun j q hq => ?_⟩
  · rcases cls j q hq with ⟨p, hp, -⟩ | ⟨hw, hm⟩
    · exact hP1 p q hp
    · obtain ⟨g1, g2⟩ := apart j q hw hm
      exact (hP j q hw).kept (hk q.1 g1 g2)
  · rcases cls i x hx with ⟨p1, hp1, c1⟩ | ⟨hw1, hm1⟩
    · rcases cls j y hy with ⟨p2, hp2, c2⟩ | ⟨hw2, hm2⟩
      · have e := hD1.1 p1 p2 x y hp1 hp2 hxy
        subst e
        rcases c1 with c1 | c1
        · rcases c2 with c2 | c2
          · exact Option.some.inj (c1.symm.trans c2)
          · have := (List.getElem?_eq_some_iff.mp c1).1
            omega
        · rcases c2 with c2 | c2
          · have := (List.getElem?_eq_some_iff.mp c2).1
            omega
          · omega
      · exact absurd (by rw [← hxy]; exact hD1.2 p1 x hp1) (apart j y hw2 hm2).2
    · rcases cls j y hy with ⟨p2, hp2, c2⟩ | ⟨hw2, hm2⟩
      · exact absurd (by rw [hxy]; exact hD1.2 p2 y hp2) (apart i x hw1 hm1).2
      · exact hD.1 i j x y hw1 hw2 hxy
  · rcases cls j q hq with ⟨p, hp, -⟩ | ⟨hw, hm⟩
    · exact hF _ (hD1.2 p q hp)
    · exact hD.2 j q hw
/-! contracts -/
def xPre (b : xB) (sz : Nat) (w : va_W) : State → Prop := fun U => U.heap.size = sz ∧ va_P b.2.1 classes w U.heap ∧ xK b U ∧ va_D (fun _ => True) w
def xPost (b : xB) (sz : Nat) (w : va_W) (φ : Option Value → va_W → Prop) : Array Value → State → Outcome → State → Prop := fun _ st oc t => ∃ (v : Option Value) (w' : va_W), oc = .returned v ∧ φ v w' ∧ va_P b.2.1 classes w' t.heap ∧ va_D (va_A w sz) w' ∧ w.length ≤ w'.length ∧ va_F (va_A w sz) st t
/-- from any heap that holds w: the method returns v, the heap holds w', φ v w', nothing else changed -/
def xCt (b : xB) (y : MethodName) (bytes : ByteArray) (maxL : Nat) (ret : Option FieldType) (rm : Room) (av : List Value) (w : va_W) (φ : Option Value → va_W → Prop) : Prop :=
  ∀ sz, Met b.1 y (.code y bytes maxL ret :: gw) rm (va_Pc av (xPre b sz w)) (xPost b sz w φ) rm.cells rm.slots (va_A w sz)
def xR (b : xB) (G : xG) (ret : Option FieldType) (w0 : va_W) (φ : Option Value → va_W → Prop) (rm : Room) : Prop := match G with
  | (p, e, R, s, m, args, below, meth, c, A, Q, nL) => meth.sig.returnType = ret ∧ meth.locks = false ∧ A = va_A w0 s.heap.size ∧ Q = MQ below (xPost b s.heap.size w0 φ) args s rm.cells rm.slots (va_A w0 s.heap.size)
theorem xblind {b : xB} {av : List Value} {sz : Nat} {w : va_W} : FrameBlind (va_Pc av (xPre b sz w)) := fun a U g mk q => by
  obtain ⟨q0, q1, qP, ⟨k1, k2, k3⟩, qD⟩ := q
  exact ⟨q0, q1, qP, ⟨va_K.moved (u := U) (U := U.calling g mk a) (Vm.Alike.refl U.vm) k1, va_Nw.same rfl rfl k2, va_Nw.same rfl rfl k3⟩, qD⟩
theorem gw_in {ws : List Cond} (h : ∀ w ∈ ws, w ∈ gw) : GoodIn gw ws := fun w hw => ⟨h w hw, good_of_word (List.mem_filter.mp (h w hw)).2⟩
theorem lv_args_mem {vs : List Value} {i : Nat} {q : Nat × Value} (h : q ∈ lv_args i vs) : q.2 ∈ vs := by
  induction vs generalizing i with
  | nil => cases h
  | cons v vs ih =>
    simp only [lv_args] at h
    rcases List.mem_cons.mp h with rfl | h
    · exact List.mem_cons_self
    · exact List.mem_cons_of_mem _ (ih h)
theorem x_met {b : xB} {y : MethodName} {bytes : ByteArray} {maxL : Nat} {ret : Option FieldType} {rm : Room} {av : List Value} {w : va_W} {φ : Option Value → va_W → Prop} (hy : plainName y.cls = true) (hav : av.all (fun v => v.category == 1) = true) (hlen : (lg_sl av).length ≤ maxL)
    (h : ∀ G, xX b G y.cls y.name bytes maxL rm → xR b G ret w φ rm → xW b G 0 0 w 0 (lv_args 0 av) []) : xCt b y bytes maxL ret rm av w φ := by
  intro sz
  refine Met.ofW (cc := bytes) (maxL := maxL) (ret := ret) hy rfl ?_
  intro p e s m args below meth c s₁ B hml hv
  obtain ⟨rfl, hsz, hP, hK, hD0⟩ := hv
  subst hsz
  have hts := atoms_spec (ws := .code y bytes maxL ret :: gw) B.pre
  have hown : s.vm.findClass y.cls = some m.cls := findClass_of_methodNamed B.named
  have hnm : meth.name = y.name := (name_of_methodNamed B.named B.method).1
  have hl := lv_entry av (n := maxL) hlen
  rw [lg_entry_eq]
  have K := h (p, e, rm, s, m, av.toArray, below, meth, c, va_A w s.heap.size, MQ below (xPost b s.heap.size w φ) av.toArray s rm.cells rm.slots (va_A w s.heap.size), maxL) ⟨B.exec, B.bytes, hml, rfl, rfl, hown, fun w hw => hts w (List.mem_cons_of_mem _ hw), hK, hnm, fun q hq => Or.inr hq⟩ ⟨B.returns, B.notSynchronized, rfl, rfl⟩
  refine K s.heap [] _ hP hD0.self va_S.rf ⟨hl, fun q hq => ?_⟩
  have := List.all_eq_true.mp hav q.2 (lv_args_mem hq)
  simpa using this
section XH
variable {b : xB} {G : xG} {own nm : String} {cc : ByteArray} {L : Nat} {rm : Room} {k n pc : Nat} {w : va_W} {lv : List (Nat × Value)} {st : List Value}
theorem x_ret {v : Int32} {ty : FieldType} {w0 : va_W} {φ : Option Value → va_W → Prop} (X : xX b G own nm cc L rm) (Y : xR b G (some ty) w0 φ rm) (d : decode cc pc = .ok (.ireturn, 1)) (hn : narrow ty (.int v) = .int v) (hlen : w0.length ≤ w.length) (hφ : φ (some (.int v)) w) : xW b G rm.cells rm.slots w pc lv [.int v] := by
  obtain ⟨p, e, R, s, m, args, below, meth, c, A, Q, nL⟩ := G
  obtain ⟨hx, hb, hml, rfl, rfl, hown, hts, hK, hnm, hA⟩ := X
  obtain ⟨hr, hlocks, rfl, rfl⟩ := Y
  intro H locs ls hP hD hS hl
  exact W.zret (hlocks := hlocks) hx hb hr hn (fun t ht hW => ⟨_, w, rfl, hφ, by rw [ht]; exact hP, hD, hlen, hS.F ht⟩) hS.2.2 d
theorem x_vret {w0 : va_W} {φ : Option Value → va_W → Prop} (X : xX b G own nm cc L rm) (Y : xR b G none w0 φ rm) (d : decode cc pc = .ok (.return_, 1)) (hlen : w0.length ≤ w.length) (hφ : φ none w) : xW b G rm.cells rm.slots w pc lv [] := by
  obtain ⟨p, e, R, s, m, args, below, meth, c, A, Q, nL⟩ := G
  obtain ⟨hx, hb, hml, rfl, rfl, hown, hts, hK, hnm, hA⟩ := X
  obtain ⟨hr, hlocks, rfl, rfl⟩ := Y
  intro H locs ls hP hD hS hl
  exact W.vret (hlocks := hlocks) hx hb hr (fun t ht hW => ⟨_, w, rfl, hφ, by rw [ht]; exact hP, hD, hlen, hS.F ht⟩) hS.2.2 d
/-! fields -/
def xFL (own : String) (idx ci f : Nat) (ty : FieldType) (fin : Bool) : Prop := ∃ (C : String) (T : u_T) (N : Nat) (tt : Nat → FieldType), classes[ci]? = some (C, T, N) ∧ f < N ∧ (∀ w ∈ u_ws C T N, w ∈ gw) ∧ (∀ k, k < N → parseFieldDescriptor (T k).2.2.1 = some (tt k)) ∧ (∀ a, a < N → ∀ b, b < N → a ≠ b → (T a).2.1 ≠ (T b).2.1) ∧ Cond.fieldLink own idx C (T f).2.1 (T f).2.2.1 ∈ gw ∧ parseFieldDescriptor (T f).2.2.1 = some ty ∧ (T f).2.2.2 = fin ∧ (T f).1 = C
theorem x_getf {idx ci f a : Nat} {ty : FieldType} {fin : Bool} {fs : List Value} {v : Value} (X : xX b G own nm cc L rm) (d : decode cc pc = .ok (.getfield idx, 3)) (F : xFL own idx ci f ty fin) (q0 : Nat) (he : w[q0]? = some (a, .inr (ci, fs))) (hv : fs[f]? = some v) (kk : xW b G k n w (pc + 3) lv (v :: st)) : xW b G k n w pc lv (.ref a :: st) := by
  obtain ⟨p, e, R, s, m, args, below, meth, c, A, Q, nL⟩ := G
  obtain ⟨hx, hb, hml, rfl, rfl, hown, hts, hK, hnm, hA⟩ := X
  obtain ⟨C, T, N, tt, hc, hf, hin, hty, hnn, hlink, hd, hfin, hC⟩ := F
  intro H locs ls hP hD hS hl
  exact va_get hx hb hts hin hown hK.1 hP q0 he hc f hf (hts _ hlink) (fun x h => by rw [hC] at h; exact h) hv d (kk H locs ls hP hD hS hl)
theorem x_putf {idx ci f a : Nat} {ty : FieldType} {fs : List Value} {v : Value} (X : xX b G own nm cc L rm) (d : decode cc pc = .ok (.putfield idx, 3)) (F : xFL own idx ci f ty false) (q0 : Nat) (he : w[q0]? = some (a, .inr (ci, fs))) (hn : narrow ty v = v) (hfit : fits ty v = true) (hf' : f < fs.length) {w' : va_W} (hw : w.set q0 (a, .inr (ci, fs.set f v)) = w') (kk : xW b G k n w' (pc + 3) lv st) : xW b G k n w pc lv (v :: .ref a :: st) := by
  obtain ⟨p, e, R, s, m, args, below, meth, c, A, Q, nL⟩ := G
  obtain ⟨hx, hb, hml, rfl, rfl, hown, hts, hK, hnm, hA⟩ := X
  obtain ⟨C, T, N, tt, hc, hf, hin, hty, hnn, hlink, hd, hfin, hC⟩ := F
  subst hw
  intro H locs ls hP hD hS hl
  exact va_put hx hb hts hin tt hty hnn hown hK.1 hP hD hS q0 he hc f hf (hts _ hlink) (fun x h => by rw [hC] at h; exact h) hfin hd hn hfit hf' d (fun H1 locs1 hP1 hD1 hS1 => kk H1 locs1 ls hP1 hD1 hS1 hl)
theorem x_putF {idx ci f a : Nat} {ty : FieldType} {fs : List Value} {v : Value} (X : xX b G own "<init>" cc L rm) (d : decode cc pc = .ok (.putfield idx, 3)) (F : xFL own idx ci f ty true) (hco : classes[ci]?.map Prod.fst = some own) (q0 : Nat) (he : w[q0]? = some (a, .inr (ci, fs))) (hn : narrow ty v = v) (hfit : fits ty v = true) (hf' : f < fs.length) {w' : va_W} (hw : w.set q0 (a, .inr (ci, fs.set f v)) = w') (kk : xW b G k n w' (pc + 3) lv st) : xW b G k n w pc lv (v :: .ref a :: st) := by
  obtain ⟨p, e, R, s, m, args, below, meth, c, A, Q, nL⟩ := G
  obtain ⟨hx, hb, hml, rfl, rfl, hown, hts, hK, hnm, hA⟩ := X
  obtain ⟨C, T, N, tt, hc, hf, hin, hty, hnn, hlink, hd, hfin, hC⟩ := F
  subst hw
  have e1 : C = own := by rw [hc] at hco; exact Option.some.inj hco
  intro H locs ls hP hD hS hl
  exact va_putF hx hb hts hin tt hty hnn hown hK.1 hP hD hS q0 he hc f hf (hts _ hlink) (fun x h => by rw [hC] at h; exact h) hfin hnm (hC.trans e1) hd hn hfit hf' d (fun H1 locs1 hP1 hD1 hS1 => kk H1 locs1 ls hP1 hD1 hS1 hl)
/-! arrays -/
theorem x_iald {a N j : Nat} {f : Nat → Int32} {i : Int32} (X : xX b G own nm cc L rm) (d : decode cc pc = .ok (.iaload, 1)) (q0 : Nat) (he : w[q0]? = some (a, .inl (b.2.2.1, N, .inl f))) (hi : i = nI j) (hj : j < N) (hN : N < 2 ^ 31) (kk : xW b G k n w (pc + 1) lv (.int (f j) :: st)) : xW b G k n w pc lv (.int i :: .ref a :: st) := by
  obtain ⟨p, e, R, s, m, args, below, meth, c, A, Q, nL⟩ := G
  obtain ⟨hx, hb, hml, rfl, rfl, hown, hts, hK, hnm, hA⟩ := X
  subst hi
  intro H locs ls hP hD hS hl
  refine va_iald hx hb hK.1 hP q0 0 he rfl (vp_in_nI hj hN) d ?_
  rw [nI_clamp (Nat.lt_trans hj hN)]
  exact kk H locs ls hP hD hS hl
theorem x_bald {a N j : Nat} {f : Nat → Int32} {i : Int32} (X : xX b G own nm cc L rm) (d : decode cc pc = .ok (.baload, 1)) (q0 : Nat) (he : w[q0]? = some (a, .inl (b.2.2.2, N, .inl f))) (hi : i = nI j) (hj : j < N) (hN : N < 2 ^ 31) (kk : xW b G k n w (pc + 1) lv (.int (f j) :: st)) : xW b G k n w pc lv (.int i :: .ref a :: st) := by
  obtain ⟨p, e, R, s, m, args, below, meth, c, A, Q, nL⟩ := G
  obtain ⟨hx, hb, hml, rfl, rfl, hown, hts, hK, hnm, hA⟩ := X
  subst hi
  intro H locs ls hP hD hS hl
  refine va_bald hx hb hK.1 hP q0 1 he rfl (vp_in_nI hj hN) d ?_
  rw [nI_clamp (Nat.lt_trans hj hN)]
  exact kk H locs ls hP hD hS hl
theorem x_iast {a N j : Nat} {f f' : Nat → Int32} {i x : Int32} (X : xX b G own nm cc L rm) (d : decode cc pc = .ok (.iastore, 1)) (q0 : Nat) (he : w[q0]? = some (a, .inl (b.2.2.1, N, .inl f))) (hi : i = nI j) (hj : j < N) (hN : N < 2 ^ 31) (hf : upd f j x = f') {w' : va_W} (hw : w.set q0 (a, .inl (b.2.2.1, N, .inl f')) = w') (kk : xW b G k n w' (pc + 1) lv st) : xW b G k n w pc lv (.int x :: .int i :: .ref a :: st) := by
  obtain ⟨p, e, R, s, m, args, below, meth, c, A, Q, nL⟩ := G
  obtain ⟨hx, hb, hml, rfl, rfl, hown, hts, hK, hnm, hA⟩ := X
  subst hi
  subst hw
  subst hf
  intro H locs ls hP hD hS hl
  refine va_iast hx hb hK.1 hP hD hS q0 0 he rfl (vp_in_nI hj hN) d ?_
  rw [nI_clamp (Nat.lt_trans hj hN)]
  exact fun H1 locs1 hP1 hD1 hS1 => kk H1 locs1 ls hP1 hD1 hS1 hl
theorem x_bast {a N j : Nat} {f f' : Nat → Int32} {i x : Int32} (X : xX b G own nm cc L rm) (d : decode cc pc = .ok (.bastore, 1)) (q0 : Nat) (he : w[q0]? = some (a, .inl (b.2.2.2, N, .inl f))) (hi : i = nI j) (hj : j < N) (hN : N < 2 ^ 31) (hx' : x.toInt8.toInt32 = x) (hf : upd f j x = f') {w' : va_W} (hw : w.set q0 (a, .inl (b.2.2.2, N, .inl f')) = w') (kk : xW b G k n w' (pc + 1) lv st) : xW b G k n w pc lv (.int x :: .int i :: .ref a :: st) := by
  obtain ⟨p, e, R, s, m, args, below, meth, c, A, Q, nL⟩ := G
  obtain ⟨hx, hb, hml, rfl, rfl, hown, hts, hK, hnm, hA⟩ := X
  subst hi
  subst hw
  subst hf
  intro H locs ls hP hD hS hl
  refine va_bast hx hb hK.1 hP hD hS q0 1 he rfl (vp_in_nI hj hN) d ?_
  rw [nI_clamp (Nat.lt_trans hj hN), vp_nar_byte, hx']
  exact fun H1 locs1 hP1 hD1 hS1 => kk H1 locs1 ls hP1 hD1 hS1 hl
theorem x_newi {N : Nat} {i : Int32} (X : xX b G own nm cc L rm) (d : decode cc pc = .ok (.newarray .int, 2)) (hi : i = nI N) (hN : N < 1000) (hk : k + 1 ≤ rm.cells) (hn : n + N ≤ rm.slots) (kk : ∀ q : Nat, xW b G (k + 1) (n + N) (w ++ [(q, .inl (b.2.2.1, N, .inl (fun _ => nI 0)))]) (pc + 2) lv (.ref q :: st)) : xW b G k n w pc lv (.int i :: st) := by
  obtain ⟨p, e, R, s, m, args, below, meth, c, A, Q, nL⟩ := G
  obtain ⟨hx, hb, hml, rfl, rfl, hown, hts, hK, hnm, hA⟩ := X
  subst hi
  intro H locs ls hP hD hS hl
  refine va_newa (atype := .int) (a0 := (N, .inl (fun _ => nI 0))) hx hb (hts _ m_101) rfl hK.1 hP hD hS hA (fun cA => ?_) (nI_pos (by omega)) (nI_clamp (by omega)) (by show N * 4 ≤ _; omega) hk hn d (fun q cA H1 hK1 hP1 hD1 hS1 => ?_)
  · show arrV cA N (fun _ => Value.int (nI 0)) = _
    rw [nI_0]
    rfl
  · have e1 : cA = b.2.2.1 := Option.some.inj (((hK1.2 2 _ rfl).2).symm.trans ((hK.1.2 0 _ rfl).2))
    subst e1
    exact kk q H1 locs ls hP1 hD1 hS1 hl
theorem x_newb {N : Nat} {i : Int32} (X : xX b G own nm cc L rm) (d : decode cc pc = .ok (.newarray .byte, 2)) (hi : i = nI N) (hN : N < 1000) (hk : k + 1 ≤ rm.cells) (hn : n + N ≤ rm.slots) (kk : ∀ q : Nat, xW b G (k + 1) (n + N) (w ++ [(q, .inl (b.2.2.2, N, .inl (fun _ => nI 0)))]) (pc + 2) lv (.ref q :: st)) : xW b G k n w pc lv (.int i :: st) := by
  obtain ⟨p, e, R, s, m, args, below, meth, c, A, Q, nL⟩ := G
  obtain ⟨hx, hb, hml, rfl, rfl, hown, hts, hK, hnm, hA⟩ := X
  subst hi
  intro H locs ls hP hD hS hl
  refine va_newa (atype := .byte) (a0 := (N, .inl (fun _ => nI 0))) hx hb (hts _ m_60) rfl hK.1 hP hD hS hA (fun cA => ?_) (nI_pos (by omega)) (nI_clamp (by omega)) (by show N * 1 ≤ _; omega) hk hn d (fun q cA H1 hK1 hP1 hD1 hS1 => ?_)
  · show arrV cA N (fun _ => Value.int (nI 0)) = _
    rw [nI_0]
    rfl
  · have e1 : cA = b.2.2.2 := Option.some.inj (((hK1.2 2 _ rfl).2).symm.trans ((hK.1.2 1 _ rfl).2))
    subst e1
    exact kk q H1 locs ls hP1 hD1 hS1 hl
def xNL (own : String) (idx ci N : Nat) (fs : List Value) : Prop := ∃ (C : String) (T : u_T) (tt : Nat → FieldType), classes[ci]? = some (C, T, N) ∧ (∀ w ∈ u_ws C T N, w ∈ gw) ∧ (∀ k, k < N → parseFieldDescriptor (T k).2.2.1 = some (tt k)) ∧ Cond.classLink own idx C ∈ gw ∧ Cond.instantiable C N ∈ gw ∧ Cond.initialized C ∈ gw ∧ (∀ j, j < N → defaultValue (tt j) = vp_V fs j)
theorem x_new {idx ci N : Nat} {fs : List Value} (X : xX b G own nm cc L rm) (d : decode cc pc = .ok (.new idx, 3)) (F : xNL own idx ci N fs) (hk : k + 1 ≤ rm.cells) (hn : n + N ≤ rm.slots) (kk : ∀ q : Nat, xW b G (k + 1) (n + N) (w ++ [(q, .inr (ci, fs))]) (pc + 3) lv (.ref q :: st)) : xW b G k n w pc lv st := by
  obtain ⟨p, e, R, s, m, args, below, meth, c, A, Q, nL⟩ := G
  obtain ⟨hx, hb, hml, rfl, rfl, hown, hts, hK, hnm, hA⟩ := X
  obtain ⟨C, T, tt, hc, hin, hty, h1, h2, h3, hfs⟩ := F
  intro H locs ls hP hD hS hl
  exact va_new hx hb hts hin tt hty hown (hts _ h1) (hts _ h2) (hts _ h3) hK.1 hP hD hS hA hc hfs hk hn d (fun q H1 hP1 hD1 hS1 => kk q H1 locs ls hP1 hD1 hS1 hl)
theorem x_objInit {idx a : Nat} (X : xX b G own nm cc L rm) (d : decode cc pc = .ok (.invokespecial idx, 3)) (hlink : Cond.methodLink own idx objectInit ∈ gw) (hf : 1 ≤ rm.frames) (hlo : (st.map fun v => v.category).sum + 12 ≤ rm.locals) (kk : xW b G k n w (pc + 3) lv st) : xW b G k n w pc lv (.ref a :: st) := by
  obtain ⟨p, e, R, s, m, args, below, meth, c, A, Q, nL⟩ := G
  obtain ⟨hx, hb, hml, rfl, rfl, hown, hts, hK, hnm, hA⟩ := X
  intro H locs ls hP hD hS hl
  exact W.objInit hx hb hown (hts _ hlink) (hts _ m_31) (hts _ m_32) rfl (by rw [hml]; exact hl.1.1) rfl d hf (by show 2 * 0 + _ + 12 ≤ _; omega) (kk H locs ls hP hD hS hl)
theorem x_copy {idx a a0 N0 N1 c' : Nat} {f g : Nat → Int32} {z1 z2 : Int32} (X : xX b G own nm cc L rm) (d : decode cc pc = .ok (.invokestatic idx, 3)) (hlink : Cond.methodLink own idx arraycopyName ∈ gw) (q0 q1 : Nat) (he0 : w[q0]? = some (a0, .inl (b.2.2.1, N0, .inl f))) (he1 : w[q1]? = some (a, .inl (b.2.2.1, N1, .inl g))) (hz1 : z1 = nI 0) (hz2 : z2 = nI 0) (h0 : c' ≤ N0) (h1 : c' ≤ N1) (hN : N0 < 2 ^ 31) (hf : 1 ≤ rm.frames) (hlo : (st.map fun v => v.category).sum + (nativeFrameWords "java/lang/System" "arraycopy" 5 + 11) ≤ rm.locals)
    {g' : Nat → Int32} (hg : va_cpy f g 0 0 c' = g') {w' : va_W} (hw : w.set q1 (a, .inl (b.2.2.1, N1, .inl g')) = w') (kk : xW b G k n w' (pc + 3) lv st) : xW b G k n w pc lv (.int (nI c') :: .int z2 :: .ref a :: .int z1 :: .ref a0 :: st) := by
  obtain ⟨p, e, R, s, m, args, below, meth, c, A, Q, nL⟩ := G
  obtain ⟨hx, hb, hml, rfl, rfl, hown, hts, hK, hnm, hA⟩ := X
  subst hg
  subst hw
  subst hz1
  subst hz2
  have e0 : (nI 0).toNatClampNeg = 0 := nI_clamp (by omega)
  have e1 : (nI c').toNatClampNeg = c' := nI_clamp (by omega)
  intro H locs ls hP hD hS hl
  refine va_copyi (ty := .int) hx hb (by rw [hml]; exact hl.1.1.symm) hown (hts _ hlink) (hts _ m_236) (hts _ m_235) (hts _ m_22) hK.1 hP hD hS q0 q1 0 0 he0 he1 rfl rfl rfl (nI_pos (by omega)) (nI_pos (by omega)) (nI_pos (by omega)) (by rw [e0, e1]; omega) (by rw [e0, e1]; omega) (fun _ _ => rfl) hf hlo d ?_
  rw [e0, e1]
  exact fun H1 locs1 hP1 hD1 hS1 => kk H1 locs1 ls hP1 hD1 hS1 hl
theorem x_min {idx : Nat} {x y : Int32} (X : xX b G own nm cc L rm) (d : decode cc pc = .ok (.invokestatic idx, 3)) (hlink : Cond.methodLink own idx Lib.Math.min.name ∈ gw) (hf : 1 ≤ rm.frames) (hlo : (st.map fun v => v.category).sum + 13 ≤ rm.locals) (hk : k ≤ rm.cells) (hn : n ≤ rm.slots) (kk : xW b G k n w (pc + 3) lv (.int (if y < x then y else x) :: st)) : xW b G k n w pc lv (.int y :: .int x :: st) := by
  obtain ⟨p, e, R, s, m, args, below, meth, c, A, Q, nL⟩ := G
  obtain ⟨hx, hb, hml, rfl, rfl, hown, hts, hK, hnm, hA⟩ := X
  intro H locs ls hP hD hS hl
  exact va_mmin hx hb (by rw [hml]; exact hl.1.1.symm) hown (hts _ hlink) (hts _ m_294) (hts _ m_24) (hts _ m_295) hf hlo hk hn d (kk H locs ls hP hD hS hl)
end XH
end
section
/-! THE ABSTRACT WALK: calls -/
section XC
variable {b : xB} {G : xG} {own nm : String} {cc : ByteArray} {L : Nat} {rm : Room} {k n pc : Nat} {w : va_W} {lv : List (Nat × Value)} {st : List Value}
theorem x_go {p : Program} {e : Env} {R : Room} {s : State} {m : MethodId} {args : Array Value} {below : List Frame} {meth : Method} {c : Code} {A : Nat → Prop} {Q : State → Prop} {H : Heap} {locs : List Loc} {ls : Array Slot} {rest : List Value} {isC : List Nat} {wc : va_W} {φ : Option Value → va_W → Prop} {mc ms : Nat} {a0 : Array Value}
    (hP : va_P b.2.1 classes w H) (hD : va_D A w) (hS : va_S A s.heap H locs) (hA : ∀ q, s.heap.size ≤ q → A q) (hC : isC.map (fun i => w[i]?) = wc.map some) (hnd : va_nd isC = true)
    (hr : va_Run p b.1 e R s m args below meth c H locs k n mc ms (F0 m pc ls st) rest (xPost b H.size wc φ a0) (va_A wc H.size))
    (kk : ∀ v w', φ v w' → ∀ H1 locs1, va_P b.2.1 classes (xput w isC w') H1 → va_D A (xput w isC w') → va_S A s.heap H1 locs1 → W p b.1 e R s m args below meth c H1 locs1 (k + mc) (n + ms) Q (F0 m (pc + 3) ls (v.toList ++ rest))) : W p b.1 e R s m args below meth c H locs k n Q (F0 m pc ls st) := by
  have hF := va_free hD hS hA isC hC
  intro T hT X0
  obtain ⟨v, st₀, t, T', L, h0, X', hL, e1, e2, ⟨v', w', hv, hφ, hP1, hD1, hlen, hz, hk⟩, go⟩ := hr T hT X0
  cases hv
  rw [h0] at hz hk
  rw [← e1] at hP1 hz hk
  obtain ⟨q1, q2⟩ := xput_ok hP hD hC hnd hk hF hP1 hD1 hlen
  obtain ⟨t2, a1, b1⟩ := kk v w' hφ T'.heap (locs ++ L) q1 q2 ⟨Nat.le_trans hS.1 hz, fun q h1 h2 => by rw [hk q (Nat.lt_of_lt_of_le h1 hS.1) (fun z => h2 (hF q z))]; exact hS.2.1 q h1 h2, fun q hq => by
      rcases List.mem_append.mp hq with h | h
      · exact hS.2.2 q h
      · exact hF _ (hL q h)⟩ T' rfl X'
  exact ⟨t2, go t2 a1, b1⟩
def xML (y : MethodName) (bytes : ByteArray) (maxL : Nat) (ret : Option FieldType) (na : Nat) : Prop := Cond.initialized y.cls ∈ gw ∧ Cond.code y bytes maxL ret ∈ gw ∧ y.cls ≠ "java/lang/invoke/MethodHandle" ∧ y.cls ≠ "java/lang/invoke/VarHandle" ∧ (parseMethodDescriptor y.desc).map (fun d => d.parameters.length) = some na
def xVL (own : String) (idx ci : Nat) (y : MethodName) (bytes : ByteArray) (maxL : Nat) (ret : Option FieldType) (na : Nat) : Prop := (∃ (T : u_T) (N : Nat), classes[ci]? = some (y.cls, T, N)) ∧ Cond.methodLink own idx y ∈ gw ∧ Cond.instanceMethod y ∈ gw ∧ Cond.selects y.cls y y ∈ gw ∧ xML y bytes maxL ret na
theorem x_callV {idx ci na maxL a : Nat} {y : MethodName} {bytes : ByteArray} {ret : Option FieldType} {rm' : Room} {As rest : List Value} {wc : va_W} {φ : Option Value → va_W → Prop} {fs : List Value} (X : xX b G own nm cc L rm) (d : decode cc pc = .ok (.invokevirtual idx, 3)) (V : xVL own idx ci y bytes maxL ret na) (hM : xCt b y bytes maxL ret rm' (.ref a :: As) wc φ)
    (isC : List Nat) (hC : isC.map (fun i => w[i]?) = wc.map some) (hnd : va_nd isC = true) (h0 : wc[0]? = some (a, .inr (ci, fs))) (hst : st = As.reverse ++ .ref a :: rest) (hna : As.length = na) (hrs : (rest.map fun v => v.category).sum ≤ 8) (hR : rm'.frames + 1 ≤ rm.frames ∧ 8 + (maxL + 11) + rm'.locals ≤ rm.locals) (hkn : k + rm'.cells ≤ rm.cells ∧ n + rm'.slots ≤ rm.slots)
    (kk : ∀ v w', φ v w' → xW b G (k + rm'.cells) (n + rm'.slots) (xput w isC w') (pc + 3) lv (v.toList ++ rest)) : xW b G k n w pc lv st := by
  obtain ⟨p, e, R, s, m, args, below, meth, c, A, Q, nL⟩ := G
  obtain ⟨hx, hb, hml, rfl, rfl, hown, hts, hK, hnm, hA⟩ := X
  obtain ⟨⟨T, N, hc⟩, v1, v2, v3, v4, v5, v6, v7, v8⟩ := V
  subst hst
  intro H locs ls hP hD hS hl
  have hPc : va_P b.2.1 classes wc H := fun j q hq => by
    obtain ⟨i, -, h⟩ := xat hC j q hq
    exact hP i q h
  have hDc := hD.sub isC hnd hC
  have hG : GoodIn gw (wsV own idx y.cls y (Cond.code y bytes maxL ret :: gw)) := gw_in (fun w hw => by
    simp only [wsV, List.mem_append, List.mem_cons, List.not_mem_nil, or_false] at hw
    rcases hw with (rfl | rfl | rfl | rfl) | rfl | hw <;> assumption)
  exact x_go hP hD hS hA hC hnd (va_runV (As := As) (rest := rest) ⟨hx, hb, hml, hown, hts⟩ (hM H.size) (cwV na hts hG rfl rfl rfl ⟨rfl, v6, v7, v8⟩ hR) ⟨xblind, va_recv hK.1 hPc hc h0, fun U hU hW => ⟨rfl, by rw [hU], by rw [hU]; exact hPc, hK.warm hW, hDc.weaken (fun _ _ _ _ => trivial)⟩⟩ rfl hna hl.1.1 rfl (lv_room hrs) d hkn) (fun v w' hφ H1 locs1 h1 h2 h3 => kk v w' hφ H1 locs1 ls h1 h2 h3 hl)
def xSL (own : String) (idx : Nat) (y : MethodName) (bytes : ByteArray) (maxL : Nat) (ret : Option FieldType) (na : Nat) : Prop := Cond.methodLink own idx y ∈ gw ∧ Cond.static y ∈ gw ∧ xML y bytes maxL ret na
theorem x_callS {idx na maxL : Nat} {y : MethodName} {bytes : ByteArray} {ret : Option FieldType} {rm' : Room} {As rest : List Value} {wc : va_W} {φ : Option Value → va_W → Prop} (X : xX b G own nm cc L rm) (d : decode cc pc = .ok (.invokestatic idx, 3)) (V : xSL own idx y bytes maxL ret na) (hM : xCt b y bytes maxL ret rm' As wc φ)
    (isC : List Nat) (hC : isC.map (fun i => w[i]?) = wc.map some) (hnd : va_nd isC = true) (hst : st = As.reverse ++ rest) (hna : As.length = na) (hrs : (rest.map fun v => v.category).sum ≤ 8) (hR : rm'.frames + 1 ≤ rm.frames ∧ 8 + (maxL + 11) + rm'.locals ≤ rm.locals) (hkn : k + rm'.cells ≤ rm.cells ∧ n + rm'.slots ≤ rm.slots)
    (kk : ∀ v w', φ v w' → xW b G (k + rm'.cells) (n + rm'.slots) (xput w isC w') (pc + 3) lv (v.toList ++ rest)) : xW b G k n w pc lv st := by
  obtain ⟨p, e, R, s, m, args, below, meth, c, A, Q, nL⟩ := G
  obtain ⟨hx, hb, hml, rfl, rfl, hown, hts, hK, hnm, hA⟩ := X
  obtain ⟨v1, v2, v4, v5, v6, v7, v8⟩ := V
  subst hst
  intro H locs ls hP hD hS hl
  have hPc : va_P b.2.1 classes wc H := fun j q hq => by
    obtain ⟨i, -, h⟩ := xat hC j q hq
    exact hP i q h
  have hDc := hD.sub isC hnd hC
  have hG : GoodIn gw (va_wsS own idx y (Cond.code y bytes maxL ret :: gw)) := gw_in (fun w hw => by
    simp only [va_wsS, List.mem_append, List.mem_cons, List.not_mem_nil, or_false] at hw
    rcases hw with (rfl | rfl | rfl) | rfl | hw <;> assumption)
  exact x_go hP hD hS hA hC hnd (va_runS (As := As) (rest := rest) ⟨hx, hb, hml, hown, hts⟩ (hM H.size) (va_cwS na hts hG rfl rfl rfl ⟨v6, v7, v8⟩ hR) ⟨xblind, fun U hU hW => ⟨rfl, by rw [hU], by rw [hU]; exact hPc, hK.warm hW, hDc.weaken (fun _ _ _ _ => trivial)⟩⟩ rfl hna hl.1.1 rfl (lv_room hrs) d hkn) (fun v w' hφ H1 locs1 h1 h2 h3 => kk v w' hφ H1 locs1 ls h1 h2 h3 hl)
theorem x_callI {idx na maxL a : Nat} {y : MethodName} {bytes : ByteArray} {rm' : Room} {As rest : List Value} {wc : va_W} {φ : Option Value → va_W → Prop} (X : xX b G own nm cc L rm) (d : decode cc pc = .ok (.invokespecial idx, 3)) (V : Cond.methodLink own idx y ∈ gw ∧ Cond.instanceMethod y ∈ gw ∧ y.name = "<init>" ∧ xML y bytes maxL none na) (hM : xCt b y bytes maxL none rm' (.ref a :: As) wc φ)
    (isC : List Nat) (hC : isC.map (fun i => w[i]?) = wc.map some) (hnd : va_nd isC = true) (hst : st = As.reverse ++ .ref a :: rest) (hna : As.length = na) (hrs : (rest.map fun v => v.category).sum ≤ 8) (hR : rm'.frames + 1 ≤ rm.frames ∧ 8 + (maxL + 11) + rm'.locals ≤ rm.locals) (hkn : k + rm'.cells ≤ rm.cells ∧ n + rm'.slots ≤ rm.slots)
    (kk : ∀ v w', φ v w' → xW b G (k + rm'.cells) (n + rm'.slots) (xput w isC w') (pc + 3) lv (v.toList ++ rest)) : xW b G k n w pc lv st := by
  obtain ⟨p, e, R, s, m, args, below, meth, c, A, Q, nL⟩ := G
  obtain ⟨hx, hb, hml, rfl, rfl, hown, hts, hK, hnm, hA⟩ := X
  obtain ⟨v1, v2, v3, v4, v5, v6, v7, v8⟩ := V
  subst hst
  intro H locs ls hP hD hS hl
  have hPc : va_P b.2.1 classes wc H := fun j q hq => by
    obtain ⟨i, -, h⟩ := xat hC j q hq
    exact hP i q h
  have hDc := hD.sub isC hnd hC
  have hG : GoodIn gw (Cond.code y bytes maxL none :: gw) := gw_in (fun w hw => by
    rcases List.mem_cons.mp hw with rfl | hw <;> assumption)
  exact x_go hP hD hS hA hC hnd (va_runI (As := As) (rest := rest) ⟨hx, hb, hml, hown, hts⟩ (hM H.size) (cwI na hts hG rfl rfl rfl (hts _ v4) (hts _ v1) (hts _ v2) v3 ⟨v6, v7, v8⟩ hR) ⟨xblind, fun U hU hW => ⟨rfl, by rw [hU], by rw [hU]; exact hPc, hK.warm hW, hDc.weaken (fun _ _ _ _ => trivial)⟩⟩ rfl hna hl.1.1 rfl (lv_room hrs) d hkn) (fun v w' hφ H1 locs1 h1 h2 h3 => kk v w' hφ H1 locs1 ls h1 h2 h3 hl)
theorem x_callN {idx na maxL a : Nat} {host : String} {y : MethodName} {bytes : ByteArray} {rm' : Room} {As rest : List Value} {wc : va_W} {φ : Option Value → va_W → Prop} (X : xX b G own nm cc L rm) (d : decode cc pc = .ok (.invokespecial idx, 3)) (V : (Cond.methodLinkNest own idx y host = xn1 ∨ Cond.methodLinkNest own idx y host = xn2) ∧ Cond.instanceMethod y ∈ gw ∧ y.name = "<init>" ∧ xML y bytes maxL none na) (hM : xCt b y bytes maxL none rm' (.ref a :: As) wc φ)
    (isC : List Nat) (hC : isC.map (fun i => w[i]?) = wc.map some) (hnd : va_nd isC = true) (hst : st = As.reverse ++ .ref a :: rest) (hna : As.length = na) (hrs : (rest.map fun v => v.category).sum ≤ 8) (hR : rm'.frames + 1 ≤ rm.frames ∧ 8 + (maxL + 11) + rm'.locals ≤ rm.locals) (hkn : k + rm'.cells ≤ rm.cells ∧ n + rm'.slots ≤ rm.slots)
    (kk : ∀ v w', φ v w' → xW b G (k + rm'.cells) (n + rm'.slots) (xput w isC w') (pc + 3) lv (v.toList ++ rest)) : xW b G k n w pc lv st := by
  obtain ⟨p, e, R, s, m, args, below, meth, c, A, Q, nL⟩ := G
  obtain ⟨hx, hb, hml, rfl, rfl, hown, hts, hK, hnm, hA⟩ := X
  obtain ⟨v1, v2, v3, v4, v5, v6, v7, v8⟩ := V
  subst hst
  intro H locs ls hP hD hS hl
  have hPc : va_P b.2.1 classes wc H := fun j q hq => by
    obtain ⟨i, -, h⟩ := xat hC j q hq
    exact hP i q h
  have hDc := hD.sub isC hnd hC
  have hG : GoodIn gw (Cond.code y bytes maxL none :: gw) := gw_in (fun w hw => by
    rcases List.mem_cons.mp hw with rfl | hw <;> assumption)
  have hl1 : va_Nw (.methodLinkNest own idx y host) s := by
    rcases v1 with h | h
    · rw [h]; exact hK.2.1
    · rw [h]; exact hK.2.2
  exact x_go hP hD hS hA hC hnd (va_runIN (As := As) (rest := rest) ⟨hx, hb, hml, hown, hts⟩ (hM H.size) ⟨va_cnB na hts hG rfl rfl rfl hl1 (hts _ v4) ⟨v6, v7, v8⟩ hR, v3, hts _ v2⟩ ⟨xblind, fun U hU hW => ⟨rfl, by rw [hU], by rw [hU]; exact hPc, hK.warm hW, hDc.weaken (fun _ _ _ _ => trivial)⟩⟩ rfl hna hl.1.1 rfl (lv_room hrs) d hkn) (fun v w' hφ H1 locs1 h1 h2 h3 => kk v w' hφ H1 locs1 ls h1 h2 h3 hl)
/-! an answer, the world as it was; an answer and a new world; no answer and a new world -/
def xRd (w0 : va_W) (ψ : Int32 → Prop) : Option Value → va_W → Prop := fun v w => ∃ r, v = some (.int r) ∧ w = w0 ∧ ψ r
def xIn (ψ : Int32 → va_W → Prop) : Option Value → va_W → Prop := fun v w => ∃ r, v = some (.int r) ∧ ψ r w
def xVd (ψ : va_W → Prop) : Option Value → va_W → Prop := fun v w => v = none ∧ ψ w
theorem x_callVR {idx ci na maxL a : Nat} {y : MethodName} {bytes : ByteArray} {ret : Option FieldType} {rm' : Room} {As rest : List Value} {wc : va_W} {ψ : Int32 → Prop} {fs : List Value} (X : xX b G own nm cc L rm) (d : decode cc pc = .ok (.invokevirtual idx, 3)) (V : xVL own idx ci y bytes maxL ret na) (hM : xCt b y bytes maxL ret rm' (.ref a :: As) wc (xRd wc ψ))
    (isC : List Nat) (hC : isC.map (fun i => w[i]?) = wc.map some) (hnd : va_nd isC = true) (h0 : wc[0]? = some (a, .inr (ci, fs))) (hst : st = As.reverse ++ .ref a :: rest) (hna : As.length = na) (hrs : (rest.map fun v => v.category).sum ≤ 8) (hR : rm'.frames + 1 ≤ rm.frames ∧ 8 + (maxL + 11) + rm'.locals ≤ rm.locals) (hz : rm'.cells = 0 ∧ rm'.slots = 0) (hkn : k ≤ rm.cells ∧ n ≤ rm.slots)
    (kk : ∀ r, ψ r → xW b G k n w (pc + 3) lv (.int r :: rest)) : xW b G k n w pc lv st := by
  refine x_callV X d V hM isC hC hnd h0 hst hna hrs hR (by rw [hz.1, hz.2]; exact hkn) (fun v w' hφ => ?_)
  obtain ⟨r, rfl, rfl, hψ⟩ := hφ
  rw [xput_id hC hnd, hz.1, hz.2]
  exact kk r hψ
theorem x_callSR {idx na maxL : Nat} {y : MethodName} {bytes : ByteArray} {ret : Option FieldType} {rm' : Room} {As rest : List Value} {ψ : Int32 → Prop} (X : xX b G own nm cc L rm) (d : decode cc pc = .ok (.invokestatic idx, 3)) (V : xSL own idx y bytes maxL ret na) (hM : xCt b y bytes maxL ret rm' As [] (xRd [] ψ))
    (hst : st = As.reverse ++ rest) (hna : As.length = na) (hrs : (rest.map fun v => v.category).sum ≤ 8) (hR : rm'.frames + 1 ≤ rm.frames ∧ 8 + (maxL + 11) + rm'.locals ≤ rm.locals) (hz : rm'.cells = 0 ∧ rm'.slots = 0) (hkn : k ≤ rm.cells ∧ n ≤ rm.slots)
    (kk : ∀ r, ψ r → xW b G k n w (pc + 3) lv (.int r :: rest)) : xW b G k n w pc lv st := by
  refine x_callS X d V hM [] rfl rfl hst hna hrs hR (by rw [hz.1, hz.2]; exact hkn) (fun v w' hφ => ?_)
  obtain ⟨r, rfl, rfl, hψ⟩ := hφ
  rw [xput_id rfl rfl, hz.1, hz.2]
  exact kk r hψ
end XC
/-! numbers: nI, one bit, none or a number -/
def bI (c : Bool) : Int32 := nI c.toNat
def oI (o : Option Nat) : Int32 := match o with | none => -1 | some j => nI j
theorem bI_nar (c : Bool) : narrow .boolean (.int (bI c)) = .int (bI c) := by cases c <;> rfl
theorem bI_fit (c : Bool) : fits .boolean (.int (bI c)) = true := by cases c <;> rfl
theorem bI_eq0 (c : Bool) : bI c = 0 ↔ c = false := by cases c <;> decide
theorem nI_byte : ∀ v, v < 128 → (nI v).toInt8.toInt32 = nI v := by decide +kernel
theorem nI_and (a b : Nat) : nI a &&& nI b = nI (a &&& b) := by
  apply Int32.toBitVec_inj.mp
  show BitVec.ofNat 32 a &&& BitVec.ofNat 32 b = BitVec.ofNat 32 (a &&& b)
  rw [BitVec.ofNat_and]
theorem nI_or (a b : Nat) : nI a ||| nI b = nI (a ||| b) := by
  apply Int32.toBitVec_inj.mp
  show BitVec.ofNat 32 a ||| BitVec.ofNat 32 b = BitVec.ofNat 32 (a ||| b)
  rw [BitVec.ofNat_or]
theorem nI_xor (a b : Nat) : nI a ^^^ nI b = nI (a ^^^ b) := by
  apply Int32.toBitVec_inj.mp
  show BitVec.ofNat 32 a ^^^ BitVec.ofNat 32 b = BitVec.ofNat 32 (a ^^^ b)
  rw [BitVec.ofNat_xor]
theorem nI_smod : ∀ v, v < 32 → ((nI v &&& 31).toBitVec.smod 32).toNat = v := by decide +kernel
theorem nI_shl1 {v : Nat} (h : v < 32) : nI 1 <<< (nI v &&& 31) = nI (2 ^ v) := by
  have h2 : 2 ^ v < 2 ^ 32 := Nat.pow_lt_pow_right (by omega) h
  rw [pk_shlN (n := 1) _ v (nI_smod v h) (by omega), Nat.one_mul]
theorem nI_shr {s v : Nat} (hs : s < 2 ^ 31) (h : v < 32) : nI s >>> (nI v &&& 31) = nI (s / 2 ^ v) := pk_shrN hs _ v (nI_smod v h)
theorem nI_bit (s v : Nat) : nI (s / 2 ^ v) &&& nI 1 = nI (s.testBit v).toNat := by
  rw [nI_and, Nat.and_one_is_mod, Nat.testBit_eq_decide_div_mod_eq]
  rcases Nat.mod_two_eq_zero_or_one (s / 2 ^ v) with h | h <;> simp [h]
theorem oI_none {o : Option Nat} (h : ∀ j, o = some j → j < 2 ^ 31) : oI o = -1 ↔ o = none := by
  cases o with
  | none => simp [oI]
  | some j =>
    refine ⟨fun q => ?_, fun q => by cases q⟩
    exfalso
    have q2 : (nI j).toInt = (-1 : Int32).toInt := congrArg Int32.toInt q
    rw [nI_toInt (h j rfl), show (-1 : Int32).toInt = -1 by decide] at q2
    omega
theorem upd_nI (g : Nat → Nat) (j v : Nat) : upd (fun i => nI (g i)) j (nI v) = fun i => nI (va_up g j v i) := by
  funext i
  simp only [upd, va_up]
  split <;> rfl
theorem upd_oI (g : Nat → Option Nat) (j : Nat) (o : Option Nat) : upd (fun i => oI (g i)) j (oI o) = fun i => oI (va_up g j o i) := by
  funext i
  simp only [upd, va_up]
  split <;> rfl
section XN
variable {b : xB} {G : xG} {own nm : String} {cc : ByteArray} {L : Nat} {rm : Room} {k n pc : Nat} {w : va_W} {lv : List (Nat × Value)} {st : List Value} {x y : Nat} {off : Int}
theorem x_iaddN (X : xX b G own nm cc L rm) (d : decode cc pc = .ok (.iadd, 1)) (kk : xW b G k n w (pc + 1) lv (.int (nI (x + y)) :: st)) : xW b G k n w pc lv (.int (nI y) :: .int (nI x) :: st) := x_iadd X d (x_top (nI_add x y) kk)
theorem x_isubN (X : xX b G own nm cc L rm) (d : decode cc pc = .ok (.isub, 1)) (h : y ≤ x) (kk : xW b G k n w (pc + 1) lv (.int (nI (x - y)) :: st)) : xW b G k n w pc lv (.int (nI y) :: .int (nI x) :: st) := x_isub X d (x_top (pk_sub h) kk)
theorem x_imulN (X : xX b G own nm cc L rm) (d : decode cc pc = .ok (.imul, 1)) (kk : xW b G k n w (pc + 1) lv (.int (nI (x * y)) :: st)) : xW b G k n w pc lv (.int (nI y) :: .int (nI x) :: st) := x_imul X d (x_top (pk_mul x y) kk)
theorem x_iandN (X : xX b G own nm cc L rm) (d : decode cc pc = .ok (.iand, 1)) (kk : xW b G k n w (pc + 1) lv (.int (nI (x &&& y)) :: st)) : xW b G k n w pc lv (.int (nI y) :: .int (nI x) :: st) := x_iand X d (x_top (nI_and x y) kk)
theorem x_iorN (X : xX b G own nm cc L rm) (d : decode cc pc = .ok (.ior, 1)) (kk : xW b G k n w (pc + 1) lv (.int (nI (x ||| y)) :: st)) : xW b G k n w pc lv (.int (nI y) :: .int (nI x) :: st) := x_ior X d (x_top (nI_or x y) kk)
theorem x_ixorN (X : xX b G own nm cc L rm) (d : decode cc pc = .ok (.ixor, 1)) (kk : xW b G k n w (pc + 1) lv (.int (nI (x ^^^ y)) :: st)) : xW b G k n w pc lv (.int (nI y) :: .int (nI x) :: st) := x_ixor X d (x_top (nI_xor x y) kk)
theorem x_shl1 (X : xX b G own nm cc L rm) (d : decode cc pc = .ok (.ishl, 1)) (h : y < 32) (kk : xW b G k n w (pc + 1) lv (.int (nI (2 ^ y)) :: st)) : xW b G k n w pc lv (.int (nI y) :: .int (nI 1) :: st) := x_ishl X d (x_top (nI_shl1 h) kk)
theorem x_ishrN (X : xX b G own nm cc L rm) (d : decode cc pc = .ok (.ishr, 1)) (hx : x < 2 ^ 31) (h : y < 32) (kk : xW b G k n w (pc + 1) lv (.int (nI (x / 2 ^ y)) :: st)) : xW b G k n w pc lv (.int (nI y) :: .int (nI x) :: st) := x_ishr X d (x_top (nI_shr hx h) kk)
theorem x_bit (X : xX b G own nm cc L rm) (d : decode cc pc = .ok (.iand, 1)) (kk : xW b G k n w (pc + 1) lv (.int (nI (x.testBit y).toNat) :: st)) : xW b G k n w pc lv (.int (nI 1) :: .int (nI (x / 2 ^ y)) :: st) := x_iand X d (x_top (nI_bit x y) kk)
theorem x_iincN {i : Nat} (X : xX b G own nm cc L rm) (d : decode cc pc = .ok (.iinc i 1, 3)) (h0 : xl lv i = some (.int (nI x))) (hi : i < L) {lv' : List (Nat × Value)} (h : xs lv i (.int (nI (x + 1))) = lv') (kk : xW b G k n w (pc + 3) lv' st) : xW b G k n w pc lv st := x_iinc X d h0 (nI_1 x) hi h kk
theorem x_icmp_eqN (tgt : Nat) (X : xX b G own nm cc L rm) (d : decode cc pc = .ok (.if_icmp .eq off, 3)) (ht : (pc : Int) + off = (tgt : Int)) (hx : x < 2 ^ 31) (hy : y < 2 ^ 31) (kt : x = y → xW b G k n w tgt lv st) (kf : ¬ x = y → xW b G k n w (pc + 3) lv st) : xW b G k n w pc lv (.int (nI y) :: .int (nI x) :: st) := x_icmp_eq tgt X d ht (fun q => kt ((nI_eq hx hy).mp q)) (fun q => kf (fun z => q ((nI_eq hx hy).mpr z)))
theorem x_icmp_neN (tgt : Nat) (X : xX b G own nm cc L rm) (d : decode cc pc = .ok (.if_icmp .ne off, 3)) (ht : (pc : Int) + off = (tgt : Int)) (hx : x < 2 ^ 31) (hy : y < 2 ^ 31) (kt : ¬ x = y → xW b G k n w tgt lv st) (kf : x = y → xW b G k n w (pc + 3) lv st) : xW b G k n w pc lv (.int (nI y) :: .int (nI x) :: st) := x_icmp_ne tgt X d ht (fun q => kt (fun z => q ((nI_eq hx hy).mpr z))) (fun q => kf ((nI_eq hx hy).mp q))
theorem x_icmp_ltN (tgt : Nat) (X : xX b G own nm cc L rm) (d : decode cc pc = .ok (.if_icmp .lt off, 3)) (ht : (pc : Int) + off = (tgt : Int)) (hx : x < 2 ^ 31) (hy : y < 2 ^ 31) (kt : x < y → xW b G k n w tgt lv st) (kf : ¬ x < y → xW b G k n w (pc + 3) lv st) : xW b G k n w pc lv (.int (nI y) :: .int (nI x) :: st) := x_icmp_lt tgt X d ht (fun q => kt ((nI_ltI hx hy).mp q)) (fun q => kf (fun z => q ((nI_ltI hx hy).mpr z)))
theorem x_icmp_geN (tgt : Nat) (X : xX b G own nm cc L rm) (d : decode cc pc = .ok (.if_icmp .ge off, 3)) (ht : (pc : Int) + off = (tgt : Int)) (hx : x < 2 ^ 31) (hy : y < 2 ^ 31) (kt : y ≤ x → xW b G k n w tgt lv st) (kf : x < y → xW b G k n w (pc + 3) lv st) : xW b G k n w pc lv (.int (nI y) :: .int (nI x) :: st) := x_icmp_ge tgt X d ht (fun q => kt ((nI_leI hy hx).mp q)) (fun q => kf (Nat.lt_of_not_le (fun z => q ((nI_leI hy hx).mpr z))))
theorem x_icmp_gtN (tgt : Nat) (X : xX b G own nm cc L rm) (d : decode cc pc = .ok (.if_icmp .gt off, 3)) (ht : (pc : Int) + off = (tgt : Int)) (hx : x < 2 ^ 31) (hy : y < 2 ^ 31) (kt : y < x → xW b G k n w tgt lv st) (kf : x ≤ y → xW b G k n w (pc + 3) lv st) : xW b G k n w pc lv (.int (nI y) :: .int (nI x) :: st) := x_icmp_gt tgt X d ht (fun q => kt ((nI_ltI hy hx).mp q)) (fun q => kf (Nat.le_of_not_lt (fun z => q ((nI_ltI hy hx).mpr z))))
theorem x_icmp_leN (tgt : Nat) (X : xX b G own nm cc L rm) (d : decode cc pc = .ok (.if_icmp .le off, 3)) (ht : (pc : Int) + off = (tgt : Int)) (hx : x < 2 ^ 31) (hy : y < 2 ^ 31) (kt : x ≤ y → xW b G k n w tgt lv st) (kf : y < x → xW b G k n w (pc + 3) lv st) : xW b G k n w pc lv (.int (nI y) :: .int (nI x) :: st) := x_icmp_le tgt X d ht (fun q => kt ((nI_leI hx hy).mp q)) (fun q => kf (Nat.lt_of_not_le (fun z => q ((nI_leI hx hy).mpr z))))
theorem nI_z {x : Nat} (hx : x < 2 ^ 31) : nI x = 0 ↔ x = 0 := by rw [← nI_0]; exact nI_eq hx (by decide)
theorem x_if_eqN (tgt : Nat) (X : xX b G own nm cc L rm) (d : decode cc pc = .ok (.ifCond .eq off, 3)) (ht : (pc : Int) + off = (tgt : Int)) (hx : x < 2 ^ 31) (kt : x = 0 → xW b G k n w tgt lv st) (kf : ¬ x = 0 → xW b G k n w (pc + 3) lv st) : xW b G k n w pc lv (.int (nI x) :: st) := x_if_eq tgt X d ht (fun q => kt ((nI_z hx).mp q)) (fun q => kf (fun z => q ((nI_z hx).mpr z)))
theorem x_if_neN (tgt : Nat) (X : xX b G own nm cc L rm) (d : decode cc pc = .ok (.ifCond .ne off, 3)) (ht : (pc : Int) + off = (tgt : Int)) (hx : x < 2 ^ 31) (kt : ¬ x = 0 → xW b G k n w tgt lv st) (kf : x = 0 → xW b G k n w (pc + 3) lv st) : xW b G k n w pc lv (.int (nI x) :: st) := x_if_ne tgt X d ht (fun q => kt (fun z => q ((nI_z hx).mpr z))) (fun q => kf ((nI_z hx).mp q))
theorem x_if_leN (tgt : Nat) (X : xX b G own nm cc L rm) (d : decode cc pc = .ok (.ifCond .le off, 3)) (ht : (pc : Int) + off = (tgt : Int)) (hx : x < 2 ^ 31) (kt : x = 0 → xW b G k n w tgt lv st) (kf : 0 < x → xW b G k n w (pc + 3) lv st) : xW b G k n w pc lv (.int (nI x) :: st) := x_if_le tgt X d ht (fun q => kt (Nat.le_zero.mp ((nI_leI hx (by decide)).mp (by rw [nI_0]; exact q)))) (fun q => kf (Nat.pos_of_ne_zero (fun z => q (by rw [z, nI_0]; exact Int32.le_refl _))))
theorem x_if_ltN (tgt : Nat) (X : xX b G own nm cc L rm) (d : decode cc pc = .ok (.ifCond .lt off, 3)) (ht : (pc : Int) + off = (tgt : Int)) (hx : x < 2 ^ 31) (kf : xW b G k n w (pc + 3) lv st) : xW b G k n w pc lv (.int (nI x) :: st) := x_if_lt tgt X d ht (fun q => absurd q (nI_pos hx)) (fun _ => kf)
theorem x_if_geN (tgt : Nat) (X : xX b G own nm cc L rm) (d : decode cc pc = .ok (.ifCond .ge off, 3)) (ht : (pc : Int) + off = (tgt : Int)) (hx : x < 2 ^ 31) (kt : xW b G k n w tgt lv st) : xW b G k n w pc lv (.int (nI x) :: st) := x_if_ge tgt X d ht (fun _ => kt) (fun q => absurd (nI_pos' hx) q)
theorem x_if_eqB {c : Bool} (tgt : Nat) (X : xX b G own nm cc L rm) (d : decode cc pc = .ok (.ifCond .eq off, 3)) (ht : (pc : Int) + off = (tgt : Int)) (kt : c = false → xW b G k n w tgt lv st) (kf : c = true → xW b G k n w (pc + 3) lv st) : xW b G k n w pc lv (.int (bI c) :: st) := x_if_eq tgt X d ht (fun q => kt ((bI_eq0 c).mp q)) (fun q => kf (by cases c; exact absurd rfl q; rfl))
theorem x_if_neB {c : Bool} (tgt : Nat) (X : xX b G own nm cc L rm) (d : decode cc pc = .ok (.ifCond .ne off, 3)) (ht : (pc : Int) + off = (tgt : Int)) (kt : c = true → xW b G k n w tgt lv st) (kf : c = false → xW b G k n w (pc + 3) lv st) : xW b G k n w pc lv (.int (bI c) :: st) := x_if_ne tgt X d ht (fun q => kt (by cases c; exact absurd rfl q; rfl)) (fun q => kf ((bI_eq0 c).mp q))
theorem x_icmp_eqM {o : Option Nat} (tgt : Nat) (X : xX b G own nm cc L rm) (d : decode cc pc = .ok (.if_icmp .eq off, 3)) (ht : (pc : Int) + off = (tgt : Int)) (ho : ∀ j, o = some j → j < 2 ^ 31) (kt : o = none → xW b G k n w tgt lv st) (kf : ∀ j, o = some j → xW b G k n w (pc + 3) lv st) : xW b G k n w pc lv (.int (-1) :: .int (oI o) :: st) := x_icmp_eq tgt X d ht (fun q => kt ((oI_none ho).mp q)) (fun q => by
  cases h : o with
  | none => exact absurd ((oI_none ho).mpr h) q
  | some j => exact kf j h)
theorem x_icmp_neM {o : Option Nat} (tgt : Nat) (X : xX b G own nm cc L rm) (d : decode cc pc = .ok (.if_icmp .ne off, 3)) (ht : (pc : Int) + off = (tgt : Int)) (ho : ∀ j, o = some j → j < 2 ^ 31) (kt : ∀ j, o = some j → xW b G k n w tgt lv st) (kf : o = none → xW b G k n w (pc + 3) lv st) : xW b G k n w pc lv (.int (-1) :: .int (oI o) :: st) := x_icmp_ne tgt X d ht (fun q => by
  cases h : o with
  | none => exact absurd ((oI_none ho).mpr h) q
  | some j => exact kt j h) (fun q => kf ((oI_none ho).mp q))
end XN
/-! calls over a part of the world that stands in one piece; calls over the whole world -/
theorem xC_frame (pre wc post : va_W) : (List.range' pre.length wc.length).map (fun i => (pre ++ (wc ++ post))[i]?) = wc.map some := by
  apply List.ext_getElem?
  intro j
  simp only [List.getElem?_map]
  by_cases hj : j < wc.length
  · rw [List.getElem?_range' hj]
    simp only [Option.map_some]
    rw [List.getElem?_append_right (by omega), show pre.length + 1 * j - pre.length = j by omega, List.getElem?_append_left hj]
    rw [List.getElem?_eq_getElem hj]
    rfl
  · rw [List.getElem?_eq_none (by simp; omega), List.getElem?_eq_none (by omega)]
    rfl
theorem xnd_range' : ∀ (n s : Nat), va_nd (List.range' s n) = true
  | 0, _ => rfl
  | n + 1, s => by
    simp only [List.range'_succ, va_nd, Bool.and_eq_true, decide_eq_true_eq]
    refine ⟨fun h => ?_, xnd_range' n (s + 1)⟩
    have := List.mem_range'_1.mp h
    omega
theorem xput_frame {pre wc post w' : va_W} (hl : w'.length = wc.length) : xput (pre ++ (wc ++ post)) (List.range' pre.length wc.length) w' = pre ++ (w' ++ post) := by
  obtain ⟨h1, h2, h3⟩ := xput_spec (List.range' pre.length wc.length) (pre ++ (wc ++ post)) w' (xnd_range' _ _) (by simp [hl]) (fun i hi => by
    have := List.mem_range'_1.mp hi
    simp
    omega)
  apply List.ext_getElem?
  intro j
  by_cases hj : j < (pre ++ (wc ++ post)).length
  · by_cases hm : pre.length ≤ j ∧ j < pre.length + wc.length
    · rw [h2 (j - pre.length) j (by rw [List.getElem?_range' (by omega)]; congr 1; omega)]
      rw [List.getElem?_append_right hm.1, List.getElem?_append_left (by omega)]
    · rw [h1 j hj (fun z => hm (by have := List.mem_range'_1.mp z; omega))]
      by_cases hp : j < pre.length
      · rw [List.getElem?_append_left hp, List.getElem?_append_left hp]
      · rw [List.getElem?_append_right (by omega), List.getElem?_append_right (by omega), List.getElem?_append_right (by omega), List.getElem?_append_right (by omega), hl]
  · have e := h3 (j - (pre ++ (wc ++ post)).length)
    rw [show (pre ++ (wc ++ post)).length + (j - (pre ++ (wc ++ post)).length) = j by omega] at e
    rw [e, List.getElem?_eq_none (by simp [hl]), List.getElem?_eq_none (by simp at hj ⊢; omega)]
section XF
variable {b : xB} {G : xG} {own nm : String} {cc : ByteArray} {L : Nat} {rm : Room} {k n pc : Nat} {w : va_W} {lv : List (Nat × Value)} {st : List Value}
theorem x_callF {idx ci na maxL a : Nat} {y : MethodName} {bytes : ByteArray} {ret : Option FieldType} {rm' : Room} {As rest : List Value} {wc : va_W} {φ : Option Value → va_W → Prop} {fs : List Value} (pre post : va_W) (X : xX b G own nm cc L rm) (d : decode cc pc = .ok (.invokevirtual idx, 3)) (V : xVL own idx ci y bytes maxL ret na) (hM : xCt b y bytes maxL ret rm' (.ref a :: As) wc φ)
    (hw : w = pre ++ (wc ++ post)) (h0 : wc[0]? = some (a, .inr (ci, fs))) (hst : st = As.reverse ++ .ref a :: rest) (hna : As.length = na) (hrs : (rest.map fun v => v.category).sum ≤ 8) (hR : rm'.frames + 1 ≤ rm.frames ∧ 8 + (maxL + 11) + rm'.locals ≤ rm.locals) (hz : rm'.cells = 0 ∧ rm'.slots = 0) (hkn : k ≤ rm.cells ∧ n ≤ rm.slots)
    (kk : ∀ v w', φ v w' → w'.length = wc.length ∧ xW b G k n (pre ++ (w' ++ post)) (pc + 3) lv (v.toList ++ rest)) : xW b G k n w pc lv st := by
  subst hw
  refine x_callV X d V hM _ (xC_frame pre wc post) (xnd_range' _ _) h0 hst hna hrs hR (by rw [hz.1, hz.2]; exact hkn) (fun v w' hφ => ?_)
  obtain ⟨h1, h2⟩ := kk v w' hφ
  rw [xput_frame h1, hz.1, hz.2]
  exact h2
theorem x_callA {idx ci na maxL a : Nat} {y : MethodName} {bytes : ByteArray} {ret : Option FieldType} {rm' : Room} {As rest : List Value} {φ : Option Value → va_W → Prop} {fs : List Value} (X : xX b G own nm cc L rm) (d : decode cc pc = .ok (.invokevirtual idx, 3)) (V : xVL own idx ci y bytes maxL ret na) (hM : xCt b y bytes maxL ret rm' (.ref a :: As) w φ)
    (h0 : w[0]? = some (a, .inr (ci, fs))) (hst : st = As.reverse ++ .ref a :: rest) (hna : As.length = na) (hrs : (rest.map fun v => v.category).sum ≤ 8) (hR : rm'.frames + 1 ≤ rm.frames ∧ 8 + (maxL + 11) + rm'.locals ≤ rm.locals) (hz : rm'.cells = 0 ∧ rm'.slots = 0) (hkn : k ≤ rm.cells ∧ n ≤ rm.slots)
    (kk : ∀ v w', φ v w' → w'.length = w.length ∧ xW b G k n w' (pc + 3) lv (v.toList ++ rest)) : xW b G k n w pc lv st := by
  refine x_callF [] [] X d V hM (by simp) h0 hst hna hrs hR hz hkn (fun v w' hφ => ?_)
  obtain ⟨h1, h2⟩ := kk v w' hφ
  refine ⟨h1, ?_⟩
  rw [List.append_nil, List.nil_append]
  exact h2
end XF
end
section
-- LINKS, printed by gen/links.py
theorem xput_t (a b c : Nat × va_E) : xput [a, c] [0] [b] = [b, c] := rfl
theorem f_Net_9 : xFL "BranchPacker$Net" 9 1 0 (.int) false := ⟨R_Net, F_Net, 4, t_Net, rfl, by decide, i_Net, t_Net_ok, n_Net, m_39, by decide +kernel, rfl, rfl⟩
theorem f_BP_25 : xFL "BranchPacker" 25 1 0 (.int) false := ⟨R_Net, F_Net, 4, t_Net, rfl, by decide, i_Net, t_Net_ok, n_Net, m_40, by decide +kernel, rfl, rfl⟩
theorem f_Grove_42 : xFL "BranchPacker$Grove" 42 1 0 (.int) false := ⟨R_Net, F_Net, 4, t_Net, rfl, by decide, i_Net, t_Net_ok, n_Net, m_41, by decide +kernel, rfl, rfl⟩
theorem f_BP_29 : xFL "BranchPacker" 29 1 1 (.int) false := ⟨R_Net, F_Net, 4, t_Net, rfl, by decide, i_Net, t_Net_ok, n_Net, m_42, by decide +kernel, rfl, rfl⟩
theorem f_Grove_37 : xFL "BranchPacker$Grove" 37 1 1 (.int) false := ⟨R_Net, F_Net, 4, t_Net, rfl, by decide, i_Net, t_Net_ok, n_Net, m_43, by decide +kernel, rfl, rfl⟩
theorem f_Net_22 : xFL "BranchPacker$Net" 22 1 1 (.int) false := ⟨R_Net, F_Net, 4, t_Net, rfl, by decide, i_Net, t_Net_ok, n_Net, m_44, by decide +kernel, rfl, rfl⟩
theorem f_Net_15 : xFL "BranchPacker$Net" 15 1 2 (.array .byte) true := ⟨R_Net, F_Net, 4, t_Net, rfl, by decide, i_Net, t_Net_ok, n_Net, m_45, by decide +kernel, rfl, rfl⟩
theorem f_BP_43 : xFL "BranchPacker" 43 1 2 (.array .byte) true := ⟨R_Net, F_Net, 4, t_Net, rfl, by decide, i_Net, t_Net_ok, n_Net, m_46, by decide +kernel, rfl, rfl⟩
theorem f_Grove_53 : xFL "BranchPacker$Grove" 53 1 2 (.array .byte) true := ⟨R_Net, F_Net, 4, t_Net, rfl, by decide, i_Net, t_Net_ok, n_Net, m_47, by decide +kernel, rfl, rfl⟩
theorem f_Net_19 : xFL "BranchPacker$Net" 19 1 3 (.array .byte) true := ⟨R_Net, F_Net, 4, t_Net, rfl, by decide, i_Net, t_Net_ok, n_Net, m_48, by decide +kernel, rfl, rfl⟩
theorem f_BP_47 : xFL "BranchPacker" 47 1 3 (.array .byte) true := ⟨R_Net, F_Net, 4, t_Net, rfl, by decide, i_Net, t_Net_ok, n_Net, m_49, by decide +kernel, rfl, rfl⟩
theorem f_Grove_56 : xFL "BranchPacker$Grove" 56 1 3 (.array .byte) true := ⟨R_Net, F_Net, 4, t_Net, rfl, by decide, i_Net, t_Net_ok, n_Net, m_50, by decide +kernel, rfl, rfl⟩
theorem f_Ways_11 : xFL "BranchPacker$Ways" 11 2 0 (.array .int) true := ⟨R_Ways, F_Ways, 9, t_Ways, rfl, by decide, i_Ways, t_Ways_ok, n_Ways, m_73, by decide +kernel, rfl, rfl⟩
theorem f_Ways_15 : xFL "BranchPacker$Ways" 15 2 1 (.array .int) true := ⟨R_Ways, F_Ways, 9, t_Ways, rfl, by decide, i_Ways, t_Ways_ok, n_Ways, m_74, by decide +kernel, rfl, rfl⟩
theorem f_Ways_18 : xFL "BranchPacker$Ways" 18 2 2 (.array .int) true := ⟨R_Ways, F_Ways, 9, t_Ways, rfl, by decide, i_Ways, t_Ways_ok, n_Ways, m_75, by decide +kernel, rfl, rfl⟩
theorem f_Ways_21 : xFL "BranchPacker$Ways" 21 2 3 (.array .int) true := ⟨R_Ways, F_Ways, 9, t_Ways, rfl, by decide, i_Ways, t_Ways_ok, n_Ways, m_76, by decide +kernel, rfl, rfl⟩
theorem f_Ways_24 : xFL "BranchPacker$Ways" 24 2 4 (.array .int) true := ⟨R_Ways, F_Ways, 9, t_Ways, rfl, by decide, i_Ways, t_Ways_ok, n_Ways, m_77, by decide +kernel, rfl, rfl⟩
theorem f_Ways_27 : xFL "BranchPacker$Ways" 27 2 5 (.array .int) true := ⟨R_Ways, F_Ways, 9, t_Ways, rfl, by decide, i_Ways, t_Ways_ok, n_Ways, m_78, by decide +kernel, rfl, rfl⟩
theorem f_Ways_30 : xFL "BranchPacker$Ways" 30 2 6 (.array .int) true := ⟨R_Ways, F_Ways, 9, t_Ways, rfl, by decide, i_Ways, t_Ways_ok, n_Ways, m_79, by decide +kernel, rfl, rfl⟩
theorem f_Ways_33 : xFL "BranchPacker$Ways" 33 2 7 (.int) false := ⟨R_Ways, F_Ways, 9, t_Ways, rfl, by decide, i_Ways, t_Ways_ok, n_Ways, m_80, by decide +kernel, rfl, rfl⟩
theorem f_Ways_37 : xFL "BranchPacker$Ways" 37 2 8 (.int) false := ⟨R_Ways, F_Ways, 9, t_Ways, rfl, by decide, i_Ways, t_Ways_ok, n_Ways, m_81, by decide +kernel, rfl, rfl⟩
theorem f_Grove_29 : xFL "BranchPacker$Grove" 29 3 0 (.object "BranchPacker$Net") true := ⟨R_Grove, F_Grove, 7, t_Grove, rfl, by decide, i_Grove, t_Grove_ok, n_Grove, m_102, by decide +kernel, rfl, rfl⟩
theorem f_Grove_12 : xFL "BranchPacker$Grove" 12 3 1 (.object "BranchPacker$Ways") true := ⟨R_Grove, F_Grove, 7, t_Grove, rfl, by decide, i_Grove, t_Grove_ok, n_Grove, m_103, by decide +kernel, rfl, rfl⟩
theorem f_Grove_18 : xFL "BranchPacker$Grove" 18 3 2 (.array .byte) true := ⟨R_Grove, F_Grove, 7, t_Grove, rfl, by decide, i_Grove, t_Grove_ok, n_Grove, m_104, by decide +kernel, rfl, rfl⟩
theorem f_BP_60 : xFL "BranchPacker" 60 3 2 (.array .byte) true := ⟨R_Grove, F_Grove, 7, t_Grove, rfl, by decide, i_Grove, t_Grove_ok, n_Grove, m_105, by decide +kernel, rfl, rfl⟩
theorem f_Grove_33 : xFL "BranchPacker$Grove" 33 3 3 (.int) false := ⟨R_Grove, F_Grove, 7, t_Grove, rfl, by decide, i_Grove, t_Grove_ok, n_Grove, m_106, by decide +kernel, rfl, rfl⟩
theorem f_BP_32 : xFL "BranchPacker" 32 3 3 (.int) false := ⟨R_Grove, F_Grove, 7, t_Grove, rfl, by decide, i_Grove, t_Grove_ok, n_Grove, m_107, by decide +kernel, rfl, rfl⟩
theorem f_Grove_22 : xFL "BranchPacker$Grove" 22 3 4 (.array .int) true := ⟨R_Grove, F_Grove, 7, t_Grove, rfl, by decide, i_Grove, t_Grove_ok, n_Grove, m_108, by decide +kernel, rfl, rfl⟩
theorem f_Grove_26 : xFL "BranchPacker$Grove" 26 3 5 (.array .int) true := ⟨R_Grove, F_Grove, 7, t_Grove, rfl, by decide, i_Grove, t_Grove_ok, n_Grove, m_109, by decide +kernel, rfl, rfl⟩
theorem f_BP_104 : xFL "BranchPacker" 104 3 5 (.array .int) true := ⟨R_Grove, F_Grove, 7, t_Grove, rfl, by decide, i_Grove, t_Grove_ok, n_Grove, m_110, by decide +kernel, rfl, rfl⟩
theorem f_Grove_69 : xFL "BranchPacker$Grove" 69 3 6 (.boolean) false := ⟨R_Grove, F_Grove, 7, t_Grove, rfl, by decide, i_Grove, t_Grove_ok, n_Grove, m_111, by decide +kernel, rfl, rfl⟩
theorem f_BP_98 : xFL "BranchPacker" 98 3 6 (.boolean) false := ⟨R_Grove, F_Grove, 7, t_Grove, rfl, by decide, i_Grove, t_Grove_ok, n_Grove, m_112, by decide +kernel, rfl, rfl⟩
theorem f_BP_10 : xFL "BranchPacker" 10 0 0 (.object "BranchPacker$Net") true := ⟨R_BP, F_BP, 3, t_BP, rfl, by decide, i_BP, t_BP_ok, n_BP, m_128, by decide +kernel, rfl, rfl⟩
theorem f_BP_21 : xFL "BranchPacker" 21 0 1 (.object "BranchPacker$Grove") true := ⟨R_BP, F_BP, 3, t_BP, rfl, by decide, i_BP, t_BP_ok, n_BP, m_129, by decide +kernel, rfl, rfl⟩
theorem f_BP_35 : xFL "BranchPacker" 35 0 2 (.boolean) false := ⟨R_BP, F_BP, 3, t_BP, rfl, by decide, i_BP, t_BP_ok, n_BP, m_130, by decide +kernel, rfl, rfl⟩
theorem f_Mod_7 : xFL "BranchPackerModel" 7 4 0 (.int) false := ⟨R_Mod, F_Mod, 12, t_Mod, rfl, by decide, i_Mod, t_Mod_ok, n_Mod, m_302, by decide +kernel, rfl, rfl⟩
theorem f_Mod_45 : xFL "BranchPackerModel" 45 4 1 (.int) false := ⟨R_Mod, F_Mod, 12, t_Mod, rfl, by decide, i_Mod, t_Mod_ok, n_Mod, m_303, by decide +kernel, rfl, rfl⟩
theorem f_Mod_56 : xFL "BranchPackerModel" 56 4 2 (.int) false := ⟨R_Mod, F_Mod, 12, t_Mod, rfl, by decide, i_Mod, t_Mod_ok, n_Mod, m_304, by decide +kernel, rfl, rfl⟩
theorem f_Mod_13 : xFL "BranchPackerModel" 13 4 3 (.array .int) true := ⟨R_Mod, F_Mod, 12, t_Mod, rfl, by decide, i_Mod, t_Mod_ok, n_Mod, m_305, by decide +kernel, rfl, rfl⟩
theorem f_Mod_17 : xFL "BranchPackerModel" 17 4 4 (.array .int) true := ⟨R_Mod, F_Mod, 12, t_Mod, rfl, by decide, i_Mod, t_Mod_ok, n_Mod, m_306, by decide +kernel, rfl, rfl⟩
theorem f_Mod_20 : xFL "BranchPackerModel" 20 4 5 (.array .int) true := ⟨R_Mod, F_Mod, 12, t_Mod, rfl, by decide, i_Mod, t_Mod_ok, n_Mod, m_307, by decide +kernel, rfl, rfl⟩
theorem f_Mod_23 : xFL "BranchPackerModel" 23 4 6 (.array .int) true := ⟨R_Mod, F_Mod, 12, t_Mod, rfl, by decide, i_Mod, t_Mod_ok, n_Mod, m_308, by decide +kernel, rfl, rfl⟩
theorem f_Mod_26 : xFL "BranchPackerModel" 26 4 7 (.array .int) true := ⟨R_Mod, F_Mod, 12, t_Mod, rfl, by decide, i_Mod, t_Mod_ok, n_Mod, m_309, by decide +kernel, rfl, rfl⟩
theorem f_Mod_29 : xFL "BranchPackerModel" 29 4 8 (.array .int) true := ⟨R_Mod, F_Mod, 12, t_Mod, rfl, by decide, i_Mod, t_Mod_ok, n_Mod, m_310, by decide +kernel, rfl, rfl⟩
theorem f_Mod_32 : xFL "BranchPackerModel" 32 4 9 (.array .int) true := ⟨R_Mod, F_Mod, 12, t_Mod, rfl, by decide, i_Mod, t_Mod_ok, n_Mod, m_311, by decide +kernel, rfl, rfl⟩
theorem f_Mod_35 : xFL "BranchPackerModel" 35 4 10 (.array .int) true := ⟨R_Mod, F_Mod, 12, t_Mod, rfl, by decide, i_Mod, t_Mod_ok, n_Mod, m_312, by decide +kernel, rfl, rfl⟩
theorem f_Mod_38 : xFL "BranchPackerModel" 38 4 11 (.array .int) true := ⟨R_Mod, F_Mod, 12, t_Mod, rfl, by decide, i_Mod, t_Mod_ok, n_Mod, m_313, by decide +kernel, rfl, rfl⟩
theorem xm_BP_init : xML y_BP_init b_BP_init 1 none 0 := ⟨m_17, m_29, by decide +kernel, by decide +kernel, by decide +kernel⟩
theorem xm_BP_begin : xML y_BP_begin b_BP_begin 2 (some .boolean) 1 := ⟨m_17, m_141, by decide +kernel, by decide +kernel, by decide +kernel⟩
theorem xm_BP_arc : xML y_BP_arc b_BP_arc 3 (some .int) 2 := ⟨m_17, m_145, by decide +kernel, by decide +kernel, by decide +kernel⟩
theorem xm_BP_drop : xML y_BP_drop b_BP_drop 2 (some .boolean) 1 := ⟨m_17, m_153, by decide +kernel, by decide +kernel, by decide +kernel⟩
theorem xm_BP_plant : xML y_BP_plant b_BP_plant 2 (some .int) 1 := ⟨m_17, m_165, by decide +kernel, by decide +kernel, by decide +kernel⟩
theorem xm_BP_fell : xML y_BP_fell b_BP_fell 1 (some .int) 0 := ⟨m_17, m_177, by decide +kernel, by decide +kernel, by decide +kernel⟩
theorem xm_BP_count : xML y_BP_count b_BP_count 2 (some .int) 1 := ⟨m_17, m_181, by decide +kernel, by decide +kernel, by decide +kernel⟩
theorem xm_BP_end : xML y_BP_end b_BP_end 3 (some .int) 2 := ⟨m_17, m_185, by decide +kernel, by decide +kernel, by decide +kernel⟩
theorem xm_BP_entry : xML y_BP_entry b_BP_entry 4 (some .int) 1 := ⟨m_17, m_189, by decide +kernel, by decide +kernel, by decide +kernel⟩
theorem xm_BP_missed : xML y_BP_missed b_BP_missed 2 (some .int) 1 := ⟨m_17, m_197, by decide +kernel, by decide +kernel, by decide +kernel⟩
theorem xm_BP_packs : xML y_BP_packs b_BP_packs 1 (some .boolean) 0 := ⟨m_17, m_205, by decide +kernel, by decide +kernel, by decide +kernel⟩
theorem xm_BP_stopper : xML y_BP_stopper b_BP_stopper 3 (some .int) 0 := ⟨m_17, m_244, by decide +kernel, by decide +kernel, by decide +kernel⟩
theorem xm_BP_isBefore : xML y_BP_isBefore b_BP_isBefore 3 (some .boolean) 2 := ⟨m_17, m_250, by decide +kernel, by decide +kernel, by decide +kernel⟩
theorem xm_BP_hasPacking : xML y_BP_hasPacking b_BP_hasPacking 1 (some .boolean) 0 := ⟨m_17, m_267, by decide +kernel, by decide +kernel, by decide +kernel⟩
theorem xm_BP_owner : xML y_BP_owner b_BP_owner 2 (some .int) 1 := ⟨m_17, m_263, by decide +kernel, by decide +kernel, by decide +kernel⟩
theorem xm_BP_way : xML y_BP_way b_BP_way 5 (some .int) 2 := ⟨m_17, m_280, by decide +kernel, by decide +kernel, by decide +kernel⟩
theorem xm_BP_spare : xML y_BP_spare b_BP_spare 2 (some .boolean) 1 := ⟨m_17, m_284, by decide +kernel, by decide +kernel, by decide +kernel⟩
theorem xm_BP_most : xML y_BP_most b_BP_most 2 (some .int) 1 := ⟨m_17, m_288, by decide +kernel, by decide +kernel, by decide +kernel⟩
theorem xm_Mod_init : xML y_Mod_init b_Mod_init 1 none 0 := ⟨m_21, m_300, by decide +kernel, by decide +kernel, by decide +kernel⟩
theorem xm_Mod_has : xML y_Mod_has b_Mod_has 2 (some .boolean) 2 := ⟨m_21, m_393, by decide +kernel, by decide +kernel, by decide +kernel⟩
theorem xm_Mod_all : xML y_Mod_all b_Mod_all 1 (some .int) 0 := ⟨m_21, m_370, by decide +kernel, by decide +kernel, by decide +kernel⟩
theorem xm_Mod_isSet : xML y_Mod_isSet b_Mod_isSet 2 (some .boolean) 1 := ⟨m_21, m_366, by decide +kernel, by decide +kernel, by decide +kernel⟩
theorem xm_Mod_isArc : xML y_Mod_isArc b_Mod_isArc 2 (some .boolean) 1 := ⟨m_21, m_354, by decide +kernel, by decide +kernel, by decide +kernel⟩
theorem xm_Mod_size : xML y_Mod_size b_Mod_size 3 (some .int) 1 := ⟨m_21, m_409, by decide +kernel, by decide +kernel, by decide +kernel⟩
theorem xm_Mod_isBefore : xML y_Mod_isBefore b_Mod_isBefore 3 (some .boolean) 2 := ⟨m_21, m_406, by decide +kernel, by decide +kernel, by decide +kernel⟩
theorem xm_Mod_begin : xML y_Mod_begin b_Mod_begin 2 (some .boolean) 1 := ⟨m_21, m_342, by decide +kernel, by decide +kernel, by decide +kernel⟩
theorem xm_Mod_arc : xML y_Mod_arc b_Mod_arc 3 (some .int) 2 := ⟨m_21, m_346, by decide +kernel, by decide +kernel, by decide +kernel⟩
theorem xm_Mod_drop : xML y_Mod_drop b_Mod_drop 2 (some .boolean) 1 := ⟨m_21, m_350, by decide +kernel, by decide +kernel, by decide +kernel⟩
theorem xm_Mod_remove : xML y_Mod_remove b_Mod_remove 3 none 1 := ⟨m_21, m_358, by decide +kernel, by decide +kernel, by decide +kernel⟩
theorem xm_Mod_plant : xML y_Mod_plant b_Mod_plant 2 (some .int) 1 := ⟨m_21, m_362, by decide +kernel, by decide +kernel, by decide +kernel⟩
theorem xm_Mod_fell : xML y_Mod_fell b_Mod_fell 1 (some .int) 0 := ⟨m_21, m_374, by decide +kernel, by decide +kernel, by decide +kernel⟩
theorem xm_Mod_count : xML y_Mod_count b_Mod_count 2 (some .int) 1 := ⟨m_21, m_378, by decide +kernel, by decide +kernel, by decide +kernel⟩
theorem xm_Mod_end : xML y_Mod_end b_Mod_end 3 (some .int) 2 := ⟨m_21, m_382, by decide +kernel, by decide +kernel, by decide +kernel⟩
theorem xm_Mod_entryOf : xML y_Mod_entryOf b_Mod_entryOf 5 (some .int) 2 := ⟨m_21, m_390, by decide +kernel, by decide +kernel, by decide +kernel⟩
theorem xm_Mod_entry : xML y_Mod_entry b_Mod_entry 2 (some .int) 1 := ⟨m_21, m_386, by decide +kernel, by decide +kernel, by decide +kernel⟩
theorem xm_Mod_missed : xML y_Mod_missed b_Mod_missed 4 (some .int) 1 := ⟨m_21, m_397, by decide +kernel, by decide +kernel, by decide +kernel⟩
theorem xm_Mod_stopper : xML y_Mod_stopper b_Mod_stopper 3 (some .int) 0 := ⟨m_21, m_401, by decide +kernel, by decide +kernel, by decide +kernel⟩
theorem xm_Mod_isStopped : xML y_Mod_isStopped b_Mod_isStopped 7 (some .boolean) 3 := ⟨m_21, m_425, by decide +kernel, by decide +kernel, by decide +kernel⟩
theorem xm_Mod_isDone : xML y_Mod_isDone b_Mod_isDone 7 (some .boolean) 4 := ⟨m_21, m_421, by decide +kernel, by decide +kernel, by decide +kernel⟩
theorem xm_Mod_canGoOn : xML y_Mod_canGoOn b_Mod_canGoOn 7 (some .boolean) 3 := ⟨m_21, m_417, by decide +kernel, by decide +kernel, by decide +kernel⟩
theorem xm_Mod_grows : xML y_Mod_grows b_Mod_grows 4 (some .boolean) 3 := ⟨m_21, m_429, by decide +kernel, by decide +kernel, by decide +kernel⟩
theorem xm_Mod_packs : xML y_Mod_packs b_Mod_packs 1 (some .boolean) 0 := ⟨m_21, m_413, by decide +kernel, by decide +kernel, by decide +kernel⟩
theorem xm_Mod_pack : xML y_Mod_pack b_Mod_pack 5 (some .boolean) 0 := ⟨m_21, m_437, by decide +kernel, by decide +kernel, by decide +kernel⟩
theorem xm_Mod_owner : xML y_Mod_owner b_Mod_owner 2 (some .int) 1 := ⟨m_21, m_433, by decide +kernel, by decide +kernel, by decide +kernel⟩
theorem xm_Mod_way : xML y_Mod_way b_Mod_way 4 (some .int) 2 := ⟨m_21, m_442, by decide +kernel, by decide +kernel, by decide +kernel⟩
theorem xm_Mod_spare : xML y_Mod_spare b_Mod_spare 6 (some .boolean) 1 := ⟨m_21, m_446, by decide +kernel, by decide +kernel, by decide +kernel⟩
theorem xm_Mod_most : xML y_Mod_most b_Mod_most 5 (some .int) 1 := ⟨m_21, m_450, by decide +kernel, by decide +kernel, by decide +kernel⟩
theorem xm_Grove_init : xML y_Grove_init b_Grove_init 2 none 1 := ⟨m_19, m_65, by decide +kernel, by decide +kernel, by decide +kernel⟩
theorem xm_Grove_start : xML y_Grove_start b_Grove_start 2 none 0 := ⟨m_19, m_213, by decide +kernel, by decide +kernel, by decide +kernel⟩
theorem xm_Grove_can : xML y_Grove_can b_Grove_can 5 (some .boolean) 1 := ⟨m_19, m_217, by decide +kernel, by decide +kernel, by decide +kernel⟩
theorem xm_Grove_packs : xML y_Grove_packs b_Grove_packs 2 (some .boolean) 1 := ⟨m_19, m_209, by decide +kernel, by decide +kernel, by decide +kernel⟩
theorem xm_Grove_grow : xML y_Grove_grow b_Grove_grow 2 none 0 := ⟨m_19, m_271, by decide +kernel, by decide +kernel, by decide +kernel⟩
theorem xm_Grove_step : xML y_Grove_step b_Grove_step 5 none 1 := ⟨m_19, m_276, by decide +kernel, by decide +kernel, by decide +kernel⟩
theorem xm_Grove_missed : xML y_Grove_missed b_Grove_missed 4 (some .int) 1 := ⟨m_19, m_201, by decide +kernel, by decide +kernel, by decide +kernel⟩
theorem xm_Grove_most : xML y_Grove_most b_Grove_most 5 (some .int) 1 := ⟨m_19, m_292, by decide +kernel, by decide +kernel, by decide +kernel⟩
theorem xm_Net_init : xML y_Net_init b_Net_init 1 none 0 := ⟨m_18, m_37, by decide +kernel, by decide +kernel, by decide +kernel⟩
theorem xm_Net_all : xML y_Net_all b_Net_all 1 (some .int) 0 := ⟨m_18, m_173, by decide +kernel, by decide +kernel, by decide +kernel⟩
theorem xm_Net_isVertex : xML y_Net_isVertex b_Net_isVertex 2 (some .boolean) 1 := ⟨m_18, m_149, by decide +kernel, by decide +kernel, by decide +kernel⟩
theorem xm_Net_isArc : xML y_Net_isArc b_Net_isArc 2 (some .boolean) 1 := ⟨m_18, m_157, by decide +kernel, by decide +kernel, by decide +kernel⟩
theorem xm_Net_isSet : xML y_Net_isSet b_Net_isSet 2 (some .boolean) 1 := ⟨m_18, m_169, by decide +kernel, by decide +kernel, by decide +kernel⟩
theorem xm_Net_enters : xML y_Net_enters b_Net_enters 3 (some .boolean) 2 := ⟨m_18, m_193, by decide +kernel, by decide +kernel, by decide +kernel⟩
theorem xm_Net_drop : xML y_Net_drop b_Net_drop 3 none 1 := ⟨m_18, m_161, by decide +kernel, by decide +kernel, by decide +kernel⟩
theorem xm_Ways_init : xML y_Ways_init b_Ways_init 1 none 0 := ⟨m_20, m_71, by decide +kernel, by decide +kernel, by decide +kernel⟩
theorem xm_Ways_begin : xML y_Ways_begin b_Ways_begin 3 none 1 := ⟨m_20, m_221, by decide +kernel, by decide +kernel, by decide +kernel⟩
theorem xm_Ways_link : xML y_Ways_link b_Ways_link 4 none 3 := ⟨m_20, m_225, by decide +kernel, by decide +kernel, by decide +kernel⟩
theorem xm_Ways_one : xML y_Ways_one b_Ways_one 4 none 3 := ⟨m_20, m_229, by decide +kernel, by decide +kernel, by decide +kernel⟩
theorem xm_Ways_count : xML y_Ways_count b_Ways_count 7 (some .int) 3 := ⟨m_20, m_233, by decide +kernel, by decide +kernel, by decide +kernel⟩
theorem xm_Ways_find : xML y_Ways_find b_Ways_find 7 (some .boolean) 2 := ⟨m_20, m_240, by decide +kernel, by decide +kernel, by decide +kernel⟩
theorem xm_Int_bitCount : xML y_Int_bitCount b_Int_bitCount 1 (some .int) 1 := ⟨m_23, m_253, by decide +kernel, by decide +kernel, by decide +kernel⟩
theorem xm_Int_lowestOneBit : xML y_Int_lowestOneBit b_Int_lowestOneBit 1 (some .int) 1 := ⟨m_23, m_259, by decide +kernel, by decide +kernel, by decide +kernel⟩
theorem w_law_7 : xNL "BranchPackerLaw" 7 0 3 [.null, .null, .int (nI 0)] := ⟨R_BP, F_BP, t_BP, rfl, i_BP, t_BP_ok, m_25, m_26, m_17, by decide +kernel⟩
theorem c_law_9 : Cond.methodLink "BranchPackerLaw" 9 y_BP_init ∈ gw ∧ Cond.instanceMethod y_BP_init ∈ gw ∧ y_BP_init.name = "<init>" ∧ xML y_BP_init b_BP_init 1 none 0 := ⟨m_27, m_28, rfl, xm_BP_init⟩
theorem w_BP_7 : xNL "BranchPacker" 7 1 4 [.int (nI 0), .int (nI 0), .null, .null] := ⟨R_Net, F_Net, t_Net, rfl, i_Net, t_Net_ok, m_33, m_34, m_18, by decide +kernel⟩
theorem c_BP_9 : (Cond.methodLinkNest "BranchPacker" 9 y_Net_init "BranchPacker" = xn1 ∨ Cond.methodLinkNest "BranchPacker" 9 y_Net_init "BranchPacker" = xn2) ∧ Cond.instanceMethod y_Net_init ∈ gw ∧ y_Net_init.name = "<init>" ∧ xML y_Net_init b_Net_init 1 none 0 := ⟨Or.inl rfl, m_36, rfl, xm_Net_init⟩
theorem w_BP_16 : xNL "BranchPacker" 16 3 7 [.null, .null, .null, .int (nI 0), .null, .null, .int (nI 0)] := ⟨R_Grove, F_Grove, t_Grove, rfl, i_Grove, t_Grove_ok, m_61, m_62, m_19, by decide +kernel⟩
theorem c_BP_18 : Cond.methodLink "BranchPacker" 18 y_Grove_init ∈ gw ∧ Cond.instanceMethod y_Grove_init ∈ gw ∧ y_Grove_init.name = "<init>" ∧ xML y_Grove_init b_Grove_init 2 none 1 := ⟨m_63, m_64, rfl, xm_Grove_init⟩
theorem w_Grove_9 : xNL "BranchPacker$Grove" 9 2 9 [.null, .null, .null, .null, .null, .null, .null, .int (nI 0), .int (nI 0)] := ⟨R_Ways, F_Ways, t_Ways, rfl, i_Ways, t_Ways_ok, m_67, m_68, m_20, by decide +kernel⟩
theorem c_Grove_11 : (Cond.methodLinkNest "BranchPacker$Grove" 11 y_Ways_init "BranchPacker" = xn1 ∨ Cond.methodLinkNest "BranchPacker$Grove" 11 y_Ways_init "BranchPacker" = xn2) ∧ Cond.instanceMethod y_Ways_init ∈ gw ∧ y_Ways_init.name = "<init>" ∧ xML y_Ways_init b_Ways_init 1 none 0 := ⟨Or.inr rfl, m_70, rfl, xm_Ways_init⟩
theorem c_law_13 : xVL "BranchPackerLaw" 13 0 y_BP_begin b_BP_begin 2 (some .boolean) 1 := ⟨⟨_, _, rfl⟩, m_138, m_139, m_140, xm_BP_begin⟩
theorem c_law_18 : xVL "BranchPackerLaw" 18 0 y_BP_arc b_BP_arc 3 (some .int) 2 := ⟨⟨_, _, rfl⟩, m_142, m_143, m_144, xm_BP_arc⟩
theorem c_BP_39 : xVL "BranchPacker" 39 1 y_Net_isVertex b_Net_isVertex 2 (some .boolean) 1 := ⟨⟨_, _, rfl⟩, m_146, m_147, m_148, xm_Net_isVertex⟩
theorem c_law_23 : xVL "BranchPackerLaw" 23 0 y_BP_drop b_BP_drop 2 (some .boolean) 1 := ⟨⟨_, _, rfl⟩, m_150, m_151, m_152, xm_BP_drop⟩
theorem c_BP_50 : xVL "BranchPacker" 50 1 y_Net_isArc b_Net_isArc 2 (some .boolean) 1 := ⟨⟨_, _, rfl⟩, m_154, m_155, m_156, xm_Net_isArc⟩
theorem c_BP_53 : xVL "BranchPacker" 53 1 y_Net_drop b_Net_drop 3 none 1 := ⟨⟨_, _, rfl⟩, m_158, m_159, m_160, xm_Net_drop⟩
theorem c_law_27 : xVL "BranchPackerLaw" 27 0 y_BP_plant b_BP_plant 2 (some .int) 1 := ⟨⟨_, _, rfl⟩, m_162, m_163, m_164, xm_BP_plant⟩
theorem c_BP_57 : xVL "BranchPacker" 57 1 y_Net_isSet b_Net_isSet 2 (some .boolean) 1 := ⟨⟨_, _, rfl⟩, m_166, m_167, m_168, xm_Net_isSet⟩
theorem c_Net_25 : xVL "BranchPacker$Net" 25 1 y_Net_all b_Net_all 1 (some .int) 0 := ⟨⟨_, _, rfl⟩, m_170, m_171, m_172, xm_Net_all⟩
theorem c_law_32 : xVL "BranchPackerLaw" 32 0 y_BP_fell b_BP_fell 1 (some .int) 0 := ⟨⟨_, _, rfl⟩, m_174, m_175, m_176, xm_BP_fell⟩
theorem c_law_37 : xVL "BranchPackerLaw" 37 0 y_BP_count b_BP_count 2 (some .int) 1 := ⟨⟨_, _, rfl⟩, m_178, m_179, m_180, xm_BP_count⟩
theorem c_law_41 : xVL "BranchPackerLaw" 41 0 y_BP_end b_BP_end 3 (some .int) 2 := ⟨⟨_, _, rfl⟩, m_182, m_183, m_184, xm_BP_end⟩
theorem c_law_45 : xVL "BranchPackerLaw" 45 0 y_BP_entry b_BP_entry 4 (some .int) 1 := ⟨⟨_, _, rfl⟩, m_186, m_187, m_188, xm_BP_entry⟩
theorem c_BP_63 : xVL "BranchPacker" 63 1 y_Net_enters b_Net_enters 3 (some .boolean) 2 := ⟨⟨_, _, rfl⟩, m_190, m_191, m_192, xm_Net_enters⟩
theorem c_law_49 : xVL "BranchPackerLaw" 49 0 y_BP_missed b_BP_missed 2 (some .int) 1 := ⟨⟨_, _, rfl⟩, m_194, m_195, m_196, xm_BP_missed⟩
theorem c_BP_67 : xVL "BranchPacker" 67 3 y_Grove_missed b_Grove_missed 4 (some .int) 1 := ⟨⟨_, _, rfl⟩, m_198, m_199, m_200, xm_Grove_missed⟩
theorem c_law_53 : xVL "BranchPackerLaw" 53 0 y_BP_packs b_BP_packs 1 (some .boolean) 0 := ⟨⟨_, _, rfl⟩, m_202, m_203, m_204, xm_BP_packs⟩
theorem c_BP_71 : xVL "BranchPacker" 71 3 y_Grove_packs b_Grove_packs 2 (some .boolean) 1 := ⟨⟨_, _, rfl⟩, m_206, m_207, m_208, xm_Grove_packs⟩
theorem c_Grove_62 : xVL "BranchPacker$Grove" 62 3 y_Grove_start b_Grove_start 2 none 0 := ⟨⟨_, _, rfl⟩, m_210, m_212, m_0, xm_Grove_start⟩
theorem c_Grove_65 : xVL "BranchPacker$Grove" 65 3 y_Grove_can b_Grove_can 5 (some .boolean) 1 := ⟨⟨_, _, rfl⟩, m_214, m_216, m_1, xm_Grove_can⟩
theorem c_Grove_45 : xVL "BranchPacker$Grove" 45 2 y_Ways_begin b_Ways_begin 3 none 1 := ⟨⟨_, _, rfl⟩, m_218, m_219, m_220, xm_Ways_begin⟩
theorem c_Grove_49 : xVL "BranchPacker$Grove" 49 2 y_Ways_link b_Ways_link 4 none 3 := ⟨⟨_, _, rfl⟩, m_222, m_223, m_224, xm_Ways_link⟩
theorem c_Ways_40 : xVL "BranchPacker$Ways" 40 2 y_Ways_one b_Ways_one 4 none 3 := ⟨⟨_, _, rfl⟩, m_226, m_228, m_2, xm_Ways_one⟩
theorem c_Grove_59 : xVL "BranchPacker$Grove" 59 2 y_Ways_count b_Ways_count 7 (some .int) 3 := ⟨⟨_, _, rfl⟩, m_230, m_231, m_232, xm_Ways_count⟩
theorem c_Ways_50 : xVL "BranchPacker$Ways" 50 2 y_Ways_find b_Ways_find 7 (some .boolean) 2 := ⟨⟨_, _, rfl⟩, m_237, m_239, m_3, xm_Ways_find⟩
theorem c_law_58 : xVL "BranchPackerLaw" 58 0 y_BP_stopper b_BP_stopper 3 (some .int) 0 := ⟨⟨_, _, rfl⟩, m_241, m_242, m_243, xm_BP_stopper⟩
theorem c_BP_74 : xVL "BranchPacker" 74 0 y_BP_packs b_BP_packs 1 (some .boolean) 0 := ⟨⟨_, _, rfl⟩, m_245, m_203, m_204, xm_BP_packs⟩
theorem c_BP_77 : xVL "BranchPacker" 77 1 y_Net_all b_Net_all 1 (some .int) 0 := ⟨⟨_, _, rfl⟩, m_246, m_171, m_172, xm_Net_all⟩
theorem c_BP_81 : xVL "BranchPacker" 81 0 y_BP_entry b_BP_entry 4 (some .int) 1 := ⟨⟨_, _, rfl⟩, m_247, m_187, m_188, xm_BP_entry⟩
theorem c_BP_84 : xSL "BranchPacker" 84 y_BP_isBefore b_BP_isBefore 3 (some .boolean) 2 := ⟨m_248, m_249, xm_BP_isBefore⟩
theorem c_BP_87 : xSL "BranchPacker" 87 y_Int_bitCount b_Int_bitCount 1 (some .int) 1 := ⟨m_251, m_252, xm_Int_bitCount⟩
theorem c_BP_92 : xSL "BranchPacker" 92 y_Int_lowestOneBit b_Int_lowestOneBit 1 (some .int) 1 := ⟨m_257, m_258, xm_Int_lowestOneBit⟩
theorem c_law_62 : xVL "BranchPackerLaw" 62 0 y_BP_owner b_BP_owner 2 (some .int) 1 := ⟨⟨_, _, rfl⟩, m_260, m_261, m_262, xm_BP_owner⟩
theorem c_BP_101 : xVL "BranchPacker" 101 0 y_BP_hasPacking b_BP_hasPacking 1 (some .boolean) 0 := ⟨⟨_, _, rfl⟩, m_264, m_266, m_4, xm_BP_hasPacking⟩
theorem c_BP_95 : xVL "BranchPacker" 95 3 y_Grove_grow b_Grove_grow 2 none 0 := ⟨⟨_, _, rfl⟩, m_268, m_269, m_270, xm_Grove_grow⟩
theorem c_Grove_73 : xVL "BranchPacker$Grove" 73 1 y_Net_all b_Net_all 1 (some .int) 0 := ⟨⟨_, _, rfl⟩, m_272, m_171, m_172, xm_Net_all⟩
theorem c_Grove_77 : xVL "BranchPacker$Grove" 77 3 y_Grove_step b_Grove_step 5 none 1 := ⟨⟨_, _, rfl⟩, m_273, m_275, m_5, xm_Grove_step⟩
theorem c_law_66 : xVL "BranchPackerLaw" 66 0 y_BP_way b_BP_way 5 (some .int) 2 := ⟨⟨_, _, rfl⟩, m_277, m_278, m_279, xm_BP_way⟩
theorem c_law_70 : xVL "BranchPackerLaw" 70 0 y_BP_spare b_BP_spare 2 (some .boolean) 1 := ⟨⟨_, _, rfl⟩, m_281, m_282, m_283, xm_BP_spare⟩
theorem c_law_74 : xVL "BranchPackerLaw" 74 0 y_BP_most b_BP_most 2 (some .int) 1 := ⟨⟨_, _, rfl⟩, m_285, m_286, m_287, xm_BP_most⟩
theorem c_BP_108 : xVL "BranchPacker" 108 3 y_Grove_most b_Grove_most 5 (some .int) 1 := ⟨⟨_, _, rfl⟩, m_289, m_290, m_291, xm_Grove_most⟩
theorem w_law_10 : xNL "BranchPackerLaw" 10 4 12 [.int (nI 0), .int (nI 0), .int (nI 0), .null, .null, .null, .null, .null, .null, .null, .null, .null] := ⟨R_Mod, F_Mod, t_Mod, rfl, i_Mod, t_Mod_ok, m_296, m_297, m_21, by decide +kernel⟩
theorem c_law_12 : Cond.methodLink "BranchPackerLaw" 12 y_Mod_init ∈ gw ∧ Cond.instanceMethod y_Mod_init ∈ gw ∧ y_Mod_init.name = "<init>" ∧ xML y_Mod_init b_Mod_init 1 none 0 := ⟨m_298, m_299, rfl, xm_Mod_init⟩
theorem c_law_17 : xVL "BranchPackerLaw" 17 4 y_Mod_begin b_Mod_begin 2 (some .boolean) 1 := ⟨⟨_, _, rfl⟩, m_339, m_340, m_341, xm_Mod_begin⟩
theorem c_law_22 : xVL "BranchPackerLaw" 22 4 y_Mod_arc b_Mod_arc 3 (some .int) 2 := ⟨⟨_, _, rfl⟩, m_343, m_344, m_345, xm_Mod_arc⟩
theorem c_law_26 : xVL "BranchPackerLaw" 26 4 y_Mod_drop b_Mod_drop 2 (some .boolean) 1 := ⟨⟨_, _, rfl⟩, m_347, m_348, m_349, xm_Mod_drop⟩
theorem c_Mod_59 : xVL "BranchPackerModel" 59 4 y_Mod_isArc b_Mod_isArc 2 (some .boolean) 1 := ⟨⟨_, _, rfl⟩, m_351, m_353, m_6, xm_Mod_isArc⟩
theorem c_Mod_63 : xVL "BranchPackerModel" 63 4 y_Mod_remove b_Mod_remove 3 none 1 := ⟨⟨_, _, rfl⟩, m_355, m_357, m_7, xm_Mod_remove⟩
theorem c_law_31 : xVL "BranchPackerLaw" 31 4 y_Mod_plant b_Mod_plant 2 (some .int) 1 := ⟨⟨_, _, rfl⟩, m_359, m_360, m_361, xm_Mod_plant⟩
theorem c_Mod_67 : xVL "BranchPackerModel" 67 4 y_Mod_isSet b_Mod_isSet 2 (some .boolean) 1 := ⟨⟨_, _, rfl⟩, m_363, m_365, m_8, xm_Mod_isSet⟩
theorem c_Mod_41 : xVL "BranchPackerModel" 41 4 y_Mod_all b_Mod_all 1 (some .int) 0 := ⟨⟨_, _, rfl⟩, m_367, m_369, m_9, xm_Mod_all⟩
theorem c_law_36 : xVL "BranchPackerLaw" 36 4 y_Mod_fell b_Mod_fell 1 (some .int) 0 := ⟨⟨_, _, rfl⟩, m_371, m_372, m_373, xm_Mod_fell⟩
theorem c_law_40 : xVL "BranchPackerLaw" 40 4 y_Mod_count b_Mod_count 2 (some .int) 1 := ⟨⟨_, _, rfl⟩, m_375, m_376, m_377, xm_Mod_count⟩
theorem c_law_44 : xVL "BranchPackerLaw" 44 4 y_Mod_end b_Mod_end 3 (some .int) 2 := ⟨⟨_, _, rfl⟩, m_379, m_380, m_381, xm_Mod_end⟩
theorem c_law_48 : xVL "BranchPackerLaw" 48 4 y_Mod_entry b_Mod_entry 2 (some .int) 1 := ⟨⟨_, _, rfl⟩, m_383, m_384, m_385, xm_Mod_entry⟩
theorem c_Mod_70 : xVL "BranchPackerModel" 70 4 y_Mod_entryOf b_Mod_entryOf 5 (some .int) 2 := ⟨⟨_, _, rfl⟩, m_387, m_389, m_10, xm_Mod_entryOf⟩
theorem c_Mod_48 : xSL "BranchPackerModel" 48 y_Mod_has b_Mod_has 2 (some .boolean) 2 := ⟨m_391, m_392, xm_Mod_has⟩
theorem c_law_52 : xVL "BranchPackerLaw" 52 4 y_Mod_missed b_Mod_missed 4 (some .int) 1 := ⟨⟨_, _, rfl⟩, m_394, m_395, m_396, xm_Mod_missed⟩
theorem c_law_61 : xVL "BranchPackerLaw" 61 4 y_Mod_stopper b_Mod_stopper 3 (some .int) 0 := ⟨⟨_, _, rfl⟩, m_398, m_399, m_400, xm_Mod_stopper⟩
theorem c_Mod_74 : xVL "BranchPackerModel" 74 4 y_Mod_entry b_Mod_entry 2 (some .int) 1 := ⟨⟨_, _, rfl⟩, m_402, m_384, m_385, xm_Mod_entry⟩
theorem c_Mod_77 : xVL "BranchPackerModel" 77 4 y_Mod_missed b_Mod_missed 4 (some .int) 1 := ⟨⟨_, _, rfl⟩, m_403, m_395, m_396, xm_Mod_missed⟩
theorem c_Mod_80 : xSL "BranchPackerModel" 80 y_Mod_isBefore b_Mod_isBefore 3 (some .boolean) 2 := ⟨m_404, m_405, xm_Mod_isBefore⟩
theorem c_Mod_52 : xSL "BranchPackerModel" 52 y_Mod_size b_Mod_size 3 (some .int) 1 := ⟨m_407, m_408, xm_Mod_size⟩
theorem c_law_57 : xVL "BranchPackerLaw" 57 4 y_Mod_packs b_Mod_packs 1 (some .boolean) 0 := ⟨⟨_, _, rfl⟩, m_410, m_411, m_412, xm_Mod_packs⟩
theorem c_Mod_94 : xVL "BranchPackerModel" 94 4 y_Mod_canGoOn b_Mod_canGoOn 7 (some .boolean) 3 := ⟨⟨_, _, rfl⟩, m_414, m_416, m_11, xm_Mod_canGoOn⟩
theorem c_Mod_87 : xVL "BranchPackerModel" 87 4 y_Mod_isDone b_Mod_isDone 7 (some .boolean) 4 := ⟨⟨_, _, rfl⟩, m_418, m_420, m_12, xm_Mod_isDone⟩
theorem c_Mod_83 : xVL "BranchPackerModel" 83 4 y_Mod_isStopped b_Mod_isStopped 7 (some .boolean) 3 := ⟨⟨_, _, rfl⟩, m_422, m_424, m_13, xm_Mod_isStopped⟩
theorem c_Mod_91 : xVL "BranchPackerModel" 91 4 y_Mod_grows b_Mod_grows 4 (some .boolean) 3 := ⟨⟨_, _, rfl⟩, m_426, m_428, m_14, xm_Mod_grows⟩
theorem c_law_65 : xVL "BranchPackerLaw" 65 4 y_Mod_owner b_Mod_owner 2 (some .int) 1 := ⟨⟨_, _, rfl⟩, m_430, m_431, m_432, xm_Mod_owner⟩
theorem c_Mod_101 : xVL "BranchPackerModel" 101 4 y_Mod_pack b_Mod_pack 5 (some .boolean) 0 := ⟨⟨_, _, rfl⟩, m_434, m_436, m_15, xm_Mod_pack⟩
theorem c_Mod_97 : xVL "BranchPackerModel" 97 4 y_Mod_packs b_Mod_packs 1 (some .boolean) 0 := ⟨⟨_, _, rfl⟩, m_438, m_411, m_412, xm_Mod_packs⟩
theorem c_law_69 : xVL "BranchPackerLaw" 69 4 y_Mod_way b_Mod_way 4 (some .int) 2 := ⟨⟨_, _, rfl⟩, m_439, m_440, m_441, xm_Mod_way⟩
theorem c_law_73 : xVL "BranchPackerLaw" 73 4 y_Mod_spare b_Mod_spare 6 (some .boolean) 1 := ⟨⟨_, _, rfl⟩, m_443, m_444, m_445, xm_Mod_spare⟩
theorem c_law_77 : xVL "BranchPackerLaw" 77 4 y_Mod_most b_Mod_most 5 (some .int) 1 := ⟨⟨_, _, rfl⟩, m_447, m_448, m_449, xm_Mod_most⟩
theorem k_ic_0 : Int32.ofInt 0 = nI 0 := by decide +kernel
theorem k_ic_1 : Int32.ofInt 1 = nI 1 := by decide +kernel
theorem k_ic_2 : Int32.ofInt 2 = nI 2 := by decide +kernel
theorem k_ic_3 : Int32.ofInt 3 = nI 3 := by decide +kernel
theorem k_ic_4 : Int32.ofInt 4 = nI 4 := by decide +kernel
theorem k_ic_5 : Int32.ofInt 5 = nI 5 := by decide +kernel
theorem k_ic_m1 : Int32.ofInt (-1) = -1 := by decide +kernel
theorem k_bp_7 : (Int8.ofInt 7).toInt32 = nI 7 := by decide +kernel
theorem k_bp_8 : (Int8.ofInt 8).toInt32 = nI 8 := by decide +kernel
theorem k_bp_11 : (Int8.ofInt 11).toInt32 = nI 11 := by decide +kernel
theorem k_bp_14 : (Int8.ofInt 14).toInt32 = nI 14 := by decide +kernel
theorem k_bp_15 : (Int8.ofInt 15).toInt32 = nI 15 := by decide +kernel
theorem k_bp_16 : (Int8.ofInt 16).toInt32 = nI 16 := by decide +kernel
theorem k_bp_21 : (Int8.ofInt 21).toInt32 = nI 21 := by decide +kernel
theorem k_bp_63 : (Int8.ofInt 63).toInt32 = nI 63 := by decide +kernel
theorem k_bp_76 : (Int8.ofInt 76).toInt32 = nI 76 := by decide +kernel
theorem k_bp_99 : (Int8.ofInt 99).toInt32 = nI 99 := by decide +kernel
end
section
/-! THE WORLDS: h gives the cells' places (0 the packer, 1 the grove, 2 roots, 3 have, 4 owners, 5 the net, 6 from, 7 to, 8 the ways, 9 first, 10 next, 11 head, 12 room, 13 full, 14 came, 15 queue; the model's: 0 it, 1 from, 2 to, 3 roots, 4 owners, 5 ways, 6 trees, 7 hads, 8 useds, 9 nexts) -/
abbrev xWs : Type := Nat × Nat × (Nat → Option Nat) × (Nat → Option Nat) × (Nat → Nat) × (Nat → Nat) × (Nat → Nat) × (Nat → Option Nat) × (Nat → Nat)
def wW (b : xB) (h : Nat → Nat) (nd lk : Nat) (fi ne : Nat → Option Nat) (hd ro fu : Nat → Nat) (ca : Nat → Option Nat) (qu : Nat → Nat) : va_W :=
  [(h 8, .inr (2, [.ref (h 9), .ref (h 10), .ref (h 11), .ref (h 12), .ref (h 13), .ref (h 14), .ref (h 15), .int (nI nd), .int (nI lk)])),
   (h 9, .inl (b.2.2.1, 11, .inl (fun j => oI (fi j)))), (h 10, .inl (b.2.2.1, 76, .inl (fun j => oI (ne j)))), (h 11, .inl (b.2.2.1, 76, .inl (fun j => nI (hd j)))), (h 12, .inl (b.2.2.1, 76, .inl (fun j => nI (ro j)))), (h 13, .inl (b.2.2.1, 76, .inl (fun j => nI (fu j)))), (h 14, .inl (b.2.2.1, 11, .inl (fun j => oI (ca j)))), (h 15, .inl (b.2.2.1, 11, .inl (fun j => nI (qu j))))]
def wS (b : xB) (h : Nat → Nat) (u : xWs) : va_W := wW b h u.1 u.2.1 u.2.2.1 u.2.2.2.1 u.2.2.2.2.1 u.2.2.2.2.2.1 u.2.2.2.2.2.2.1 u.2.2.2.2.2.2.2.1 u.2.2.2.2.2.2.2.2
def wN (b : xB) (h : Nat → Nat) (n A : Nat) (fr to : Nat → Nat) : va_W :=
  [(h 5, .inr (1, [.int (nI n), .int (nI A), .ref (h 6), .ref (h 7)])), (h 6, .inl (b.2.2.2, 14, .inl (fun j => nI (fr j)))), (h 7, .inl (b.2.2.2, 14, .inl (fun j => nI (to j))))]
def wV (b : xB) (h : Nat → Nat) (k : Nat) (R hv : Nat → Nat) (ow : Nat → Option Nat) (dn : Bool) : va_W :=
  [(h 1, .inr (3, [.ref (h 5), .ref (h 8), .ref (h 2), .int (nI k), .ref (h 3), .ref (h 4), .int (bI dn)])), (h 2, .inl (b.2.2.2, 3, .inl (fun j => nI (R j)))), (h 3, .inl (b.2.2.1, 3, .inl (fun j => nI (hv j)))), (h 4, .inl (b.2.2.1, 14, .inl (fun j => oI (ow j))))]
def wG (b : xB) (h : Nat → Nat) (n A : Nat) (fr to : Nat → Nat) (k : Nat) (R hv : Nat → Nat) (ow : Nat → Option Nat) (dn : Bool) (u : xWs) : va_W := (wV b h k R hv ow dn ++ wN b h n A fr to) ++ (wS b h u ++ [])
def wB (b : xB) (h : Nat → Nat) (n A : Nat) (fr to : Nat → Nat) (k : Nat) (R hv : Nat → Nat) (ow : Nat → Option Nat) (dn : Bool) (u : xWs) (gr : Bool) : va_W := [(h 0, .inr (0, [.ref (h 5), .ref (h 1), .int (bI gr)]))] ++ (wG b h n A fr to k R hv ow dn u ++ [])
def wM (b : xB) (h : Nat → Nat) (n A : Nat) (fr to : Nat → Nat) (k : Nat) (R : Nat → Nat) (ow wy : Nat → Option Nat) (tr hs us nx : Nat → Nat) : va_W :=
  [(h 0, .inr (4, [.int (nI n), .int (nI A), .int (nI k), .ref (h 1), .ref (h 2), .ref (h 3), .ref (h 4), .ref (h 5), .ref (h 6), .ref (h 7), .ref (h 8), .ref (h 9)])),
   (h 1, .inl (b.2.2.1, 14, .inl (fun j => nI (fr j)))), (h 2, .inl (b.2.2.1, 14, .inl (fun j => nI (to j)))), (h 3, .inl (b.2.2.1, 3, .inl (fun j => nI (R j)))), (h 4, .inl (b.2.2.1, 14, .inl (fun j => oI (ow j)))), (h 5, .inl (b.2.2.1, 21, .inl (fun j => oI (wy j)))), (h 6, .inl (b.2.2.1, 16, .inl (fun j => nI (tr j)))), (h 7, .inl (b.2.2.1, 16, .inl (fun j => nI (hs j)))), (h 8, .inl (b.2.2.1, 16, .inl (fun j => nI (us j)))), (h 9, .inl (b.2.2.1, 16, .inl (fun j => nI (nx j))))]
/-! rooms -/
abbrev q_BP_begin : Room := { frames := 0, cells := 0, slots := 0, locals := 0 }
abbrev q_BP_arc : Room := { frames := 1, cells := 0, slots := 0, locals := 21 }
abbrev q_BP_drop : Room := { frames := 1, cells := 0, slots := 0, locals := 22 }
abbrev q_BP_plant : Room := { frames := 2, cells := 0, slots := 0, locals := 41 }
abbrev q_BP_fell : Room := { frames := 0, cells := 0, slots := 0, locals := 0 }
abbrev q_BP_count : Room := { frames := 0, cells := 0, slots := 0, locals := 0 }
abbrev q_BP_end : Room := { frames := 1, cells := 0, slots := 0, locals := 21 }
abbrev q_BP_entry : Room := { frames := 2, cells := 0, slots := 0, locals := 41 }
abbrev q_BP_missed : Room := { frames := 2, cells := 0, slots := 0, locals := 41 }
abbrev q_BP_packs : Room := { frames := 4, cells := 0, slots := 0, locals := 111 }
abbrev q_BP_stopper : Room := { frames := 5, cells := 0, slots := 0, locals := 131 }
abbrev q_BP_isBefore : Room := { frames := 1, cells := 0, slots := 0, locals := 20 }
abbrev q_BP_hasPacking : Room := { frames := 5, cells := 0, slots := 0, locals := 135 }
abbrev q_BP_owner : Room := { frames := 6, cells := 0, slots := 0, locals := 155 }
abbrev q_BP_way : Room := { frames := 6, cells := 0, slots := 0, locals := 155 }
abbrev q_BP_spare : Room := { frames := 4, cells := 0, slots := 0, locals := 111 }
abbrev q_BP_most : Room := { frames := 3, cells := 0, slots := 0, locals := 90 }
abbrev q_Mod_has : Room := { frames := 0, cells := 0, slots := 0, locals := 0 }
abbrev q_Mod_all : Room := { frames := 0, cells := 0, slots := 0, locals := 0 }
abbrev q_Mod_isSet : Room := { frames := 1, cells := 0, slots := 0, locals := 20 }
abbrev q_Mod_isArc : Room := { frames := 0, cells := 0, slots := 0, locals := 0 }
abbrev q_Mod_size : Room := { frames := 1, cells := 0, slots := 0, locals := 21 }
abbrev q_Mod_isBefore : Room := { frames := 2, cells := 0, slots := 0, locals := 43 }
abbrev q_Mod_begin : Room := { frames := 0, cells := 0, slots := 0, locals := 0 }
abbrev q_Mod_arc : Room := { frames := 0, cells := 0, slots := 0, locals := 0 }
abbrev q_Mod_drop : Room := { frames := 1, cells := 0, slots := 0, locals := 22 }
abbrev q_Mod_remove : Room := { frames := 0, cells := 0, slots := 0, locals := 0 }
abbrev q_Mod_plant : Room := { frames := 2, cells := 0, slots := 0, locals := 41 }
abbrev q_Mod_fell : Room := { frames := 0, cells := 0, slots := 0, locals := 0 }
abbrev q_Mod_count : Room := { frames := 0, cells := 0, slots := 0, locals := 0 }
abbrev q_Mod_end : Room := { frames := 1, cells := 0, slots := 0, locals := 21 }
abbrev q_Mod_entryOf : Room := { frames := 1, cells := 0, slots := 0, locals := 21 }
abbrev q_Mod_entry : Room := { frames := 2, cells := 0, slots := 0, locals := 45 }
abbrev q_Mod_missed : Room := { frames := 2, cells := 0, slots := 0, locals := 41 }
abbrev q_Mod_stopper : Room := { frames := 3, cells := 0, slots := 0, locals := 66 }
abbrev q_Mod_isStopped : Room := { frames := 2, cells := 0, slots := 0, locals := 45 }
abbrev q_Mod_isDone : Room := { frames := 3, cells := 0, slots := 0, locals := 71 }
abbrev q_Mod_canGoOn : Room := { frames := 4, cells := 0, slots := 0, locals := 97 }
abbrev q_Mod_grows : Room := { frames := 1, cells := 0, slots := 0, locals := 21 }
abbrev q_Mod_packs : Room := { frames := 5, cells := 0, slots := 0, locals := 123 }
abbrev q_Mod_pack : Room := { frames := 6, cells := 0, slots := 0, locals := 143 }
abbrev q_Mod_owner : Room := { frames := 7, cells := 0, slots := 0, locals := 167 }
abbrev q_Mod_way : Room := { frames := 7, cells := 0, slots := 0, locals := 167 }
abbrev q_Mod_spare : Room := { frames := 6, cells := 0, slots := 0, locals := 143 }
abbrev q_Mod_most : Room := { frames := 3, cells := 0, slots := 0, locals := 66 }
abbrev q_Grove_start : Room := { frames := 0, cells := 0, slots := 0, locals := 0 }
abbrev q_Grove_can : Room := { frames := 2, cells := 0, slots := 0, locals := 66 }
abbrev q_Grove_packs : Room := { frames := 3, cells := 0, slots := 0, locals := 90 }
abbrev q_Grove_grow : Room := { frames := 4, cells := 0, slots := 0, locals := 114 }
abbrev q_Grove_step : Room := { frames := 3, cells := 0, slots := 0, locals := 90 }
abbrev q_Grove_missed : Room := { frames := 0, cells := 0, slots := 0, locals := 0 }
abbrev q_Grove_most : Room := { frames := 2, cells := 0, slots := 0, locals := 66 }
abbrev q_Net_all : Room := { frames := 0, cells := 0, slots := 0, locals := 0 }
abbrev q_Net_isVertex : Room := { frames := 0, cells := 0, slots := 0, locals := 0 }
abbrev q_Net_isArc : Room := { frames := 0, cells := 0, slots := 0, locals := 0 }
abbrev q_Net_isSet : Room := { frames := 1, cells := 0, slots := 0, locals := 20 }
abbrev q_Net_enters : Room := { frames := 0, cells := 0, slots := 0, locals := 0 }
abbrev q_Net_drop : Room := { frames := 0, cells := 0, slots := 0, locals := 0 }
abbrev q_Ways_begin : Room := { frames := 0, cells := 0, slots := 0, locals := 0 }
abbrev q_Ways_link : Room := { frames := 1, cells := 0, slots := 0, locals := 23 }
abbrev q_Ways_one : Room := { frames := 0, cells := 0, slots := 0, locals := 0 }
abbrev q_Ways_count : Room := { frames := 1, cells := 0, slots := 0, locals := 40 }
abbrev q_Ways_find : Room := { frames := 0, cells := 0, slots := 0, locals := 0 }
abbrev q_Int_bitCount : Room := { frames := 0, cells := 0, slots := 0, locals := 0 }
abbrev q_Int_lowestOneBit : Room := { frames := 0, cells := 0, slots := 0, locals := 0 }
/-! what a script's int is -/
def xBo (P : Prop) (r : Int32) : Prop := ∃ c : Bool, r = bI c ∧ (c = true ↔ P)
theorem xBo_t {P : Prop} (h : P) : xBo P (bI true) := ⟨true, rfl, fun _ => h, fun _ => rfl⟩
theorem xBo_f {P : Prop} (h : ¬ P) : xBo P (bI false) := ⟨false, rfl, (fun q => by cases q), (fun q => absurd q h)⟩
def xLt (n : Nat) (x : Int32) : Prop := ∃ j : Nat, j < n ∧ x = nI j
theorem xLt_t {x : Int32} {n : Nat} (h1 : ¬ x < 0) (h2 : ¬ nI n ≤ x) (hn : n < 2 ^ 31) : xLt n x := by
  rcases pk_ix x hn with h | h | h
  · exact absurd h h1
  · exact absurd h h2
  · exact h
theorem xLt_f1 {x : Int32} {n : Nat} (h : x < 0) (hn : n < 2 ^ 31) : ¬ xLt n x := fun ⟨j, hj, e⟩ => nI_pos (n := j) (by omega) (by rw [← e]; exact h)
theorem xLt_f2 {x : Int32} {n : Nat} (h : nI n ≤ x) (hn : n < 2 ^ 31) : ¬ xLt n x := fun ⟨j, hj, e⟩ => nI_ge hj hn (by rw [← e]; exact h)
theorem xLt_t' {x : Int32} {n : Nat} (h1 : ¬ x < 0) (h2 : ¬ nI (n - 1) < x) (h0 : 0 < n) (hn : n < 2 ^ 31) : xLt n x := by
  refine xLt_t h1 (fun q => h2 ?_) hn
  have e : nI (n - 1) < nI n := nI_lt (by omega) hn
  exact Int32.lt_of_lt_of_le e q
theorem xLt_f2' {x : Int32} {n : Nat} (h : nI (n - 1) < x) (h0 : 0 < n) (hn : n < 2 ^ 31) : ¬ xLt n x := fun ⟨j, hj, e⟩ => by
  rw [e] at h
  have := (nI_ltI (a := n - 1) (b := j) (by omega) (by omega)).mp h
  omega
theorem pow_le {n : Nat} (h : n ≤ 7) : 1 ≤ 2 ^ n ∧ 2 ^ n ≤ 128 := ⟨Nat.one_le_two_pow, by
  have := Nat.pow_le_pow_right (n := 2) (by omega) h
  omega⟩
end
section
/-! NET: contracts -/
def nOK (n A : Nat) (fr to : Nat → Nat) : Prop := 1 ≤ n ∧ n ≤ 7 ∧ A ≤ 14 ∧ (∀ j, fr j < 7 ∧ to j < 7) ∧ ∀ j, j < A → fr j < n ∧ to j < n
section NET
variable {b : xB} {h : Nat → Nat} {n A : Nat} {fr to : Nat → Nat}
set_option maxRecDepth 20000 in
theorem ct_Net_all (hn : n ≤ 7) : xCt b y_Net_all b_Net_all 1 (some .int) q_Net_all [.ref (h 5)] (wN b h n A fr to) (xRd (wN b h n A fr to) (fun r => r = nI (2 ^ n - 1))) := by
  refine x_met (by decide +kernel) rfl (Nat.le_of_ble_eq_true rfl) (fun G X Y => ?_)
  have := pow_le hn
  refine x_iconst X d_Net_all_0 k_ic_1 ?_
  refine x_aload_n X d_Net_all_1 rfl ?_
  refine x_getf X d_Net_all_2 f_Net_9 0 rfl rfl ?_
  refine x_shl1 X d_Net_all_5 (by omega) ?_
  refine x_iconst X d_Net_all_6 k_ic_1 ?_
  refine x_isubN X d_Net_all_7 (by omega) ?_
  exact x_ret X Y d_Net_all_8 rfl (Nat.le_of_ble_eq_true rfl) ⟨_, rfl, rfl, rfl⟩
set_option maxRecDepth 20000 in
theorem ct_Net_isVertex (x : Int32) (hn : n ≤ 7) : xCt b y_Net_isVertex b_Net_isVertex 2 (some .boolean) q_Net_isVertex [.ref (h 5), .int x] (wN b h n A fr to) (xRd (wN b h n A fr to) (xBo (xLt n x))) := by
  refine x_met (by decide +kernel) rfl (Nat.le_of_ble_eq_true rfl) (fun G X Y => ?_)
  refine x_iload_n X d_Net_isVertex_0 rfl ?_
  refine x_if_lt 16 X d_Net_isVertex_1 (by decide) (fun c_1 => ?_) (fun c_1 => ?_)
  · refine x_iconst X d_Net_isVertex_16 k_ic_0 ?_
    refine x_top (show nI 0 = bI false from rfl) ?_
    exact x_ret X Y d_Net_isVertex_17 (bI_nar _) (Nat.le_of_ble_eq_true rfl) ⟨_, rfl, rfl, xBo_f (by first | exact xLt_f1 c_1 (by omega) | exact xLt_f2 c_9 (by omega))⟩
  · refine x_iload_n X d_Net_isVertex_4 rfl ?_
    refine x_aload_n X d_Net_isVertex_5 rfl ?_
    refine x_getf X d_Net_isVertex_6 f_Net_9 0 rfl rfl ?_
    refine x_icmp_ge 16 X d_Net_isVertex_9 (by decide) (fun c_9 => ?_) (fun c_9 => ?_)
    · refine x_iconst X d_Net_isVertex_16 k_ic_0 ?_
      refine x_top (show nI 0 = bI false from rfl) ?_
      exact x_ret X Y d_Net_isVertex_17 (bI_nar _) (Nat.le_of_ble_eq_true rfl) ⟨_, rfl, rfl, xBo_f (by first | exact xLt_f1 c_1 (by omega) | exact xLt_f2 c_9 (by omega))⟩
    · refine x_iconst X d_Net_isVertex_12 k_ic_1 ?_
      refine x_goto 17 X d_Net_isVertex_13 (by decide) ?_
      refine x_top (show nI 1 = bI true from rfl) ?_
      exact x_ret X Y d_Net_isVertex_17 (bI_nar _) (Nat.le_of_ble_eq_true rfl) ⟨_, rfl, rfl, xBo_t (xLt_t c_1 c_9 (by omega))⟩
set_option maxRecDepth 20000 in
theorem ct_Net_isArc (x : Int32) (hA : A ≤ 14) : xCt b y_Net_isArc b_Net_isArc 2 (some .boolean) q_Net_isArc [.ref (h 5), .int x] (wN b h n A fr to) (xRd (wN b h n A fr to) (xBo (xLt A x))) := by
  refine x_met (by decide +kernel) rfl (Nat.le_of_ble_eq_true rfl) (fun G X Y => ?_)
  refine x_iload_n X d_Net_isArc_0 rfl ?_
  refine x_if_lt 16 X d_Net_isArc_1 (by decide) (fun c_1 => ?_) (fun c_1 => ?_)
  · refine x_iconst X d_Net_isArc_16 k_ic_0 ?_
    refine x_top (show nI 0 = bI false from rfl) ?_
    exact x_ret X Y d_Net_isArc_17 (bI_nar _) (Nat.le_of_ble_eq_true rfl) ⟨_, rfl, rfl, xBo_f (by first | exact xLt_f1 c_1 (by omega) | exact xLt_f2 c_9 (by omega))⟩
  · refine x_iload_n X d_Net_isArc_4 rfl ?_
    refine x_aload_n X d_Net_isArc_5 rfl ?_
    refine x_getf X d_Net_isArc_6 f_Net_22 0 rfl rfl ?_
    refine x_icmp_ge 16 X d_Net_isArc_9 (by decide) (fun c_9 => ?_) (fun c_9 => ?_)
    · refine x_iconst X d_Net_isArc_16 k_ic_0 ?_
      refine x_top (show nI 0 = bI false from rfl) ?_
      exact x_ret X Y d_Net_isArc_17 (bI_nar _) (Nat.le_of_ble_eq_true rfl) ⟨_, rfl, rfl, xBo_f (by first | exact xLt_f1 c_1 (by omega) | exact xLt_f2 c_9 (by omega))⟩
    · refine x_iconst X d_Net_isArc_12 k_ic_1 ?_
      refine x_goto 17 X d_Net_isArc_13 (by decide) ?_
      refine x_top (show nI 1 = bI true from rfl) ?_
      exact x_ret X Y d_Net_isArc_17 (bI_nar _) (Nat.le_of_ble_eq_true rfl) ⟨_, rfl, rfl, xBo_t (xLt_t c_1 c_9 (by omega))⟩
set_option maxRecDepth 20000 in
theorem ct_Net_isSet (x : Int32) (hn : n ≤ 7) : xCt b y_Net_isSet b_Net_isSet 2 (some .boolean) q_Net_isSet [.ref (h 5), .int x] (wN b h n A fr to) (xRd (wN b h n A fr to) (xBo (xLt (2 ^ n) x))) := by
  refine x_met (by decide +kernel) rfl (Nat.le_of_ble_eq_true rfl) (fun G X Y => ?_)
  have := pow_le hn
  refine x_iload_n X d_Net_isSet_0 rfl ?_
  refine x_if_lt 16 X d_Net_isSet_1 (by decide) (fun c_1 => ?_) (fun c_1 => ?_)
  · refine x_iconst X d_Net_isSet_16 k_ic_0 ?_
    refine x_top (show nI 0 = bI false from rfl) ?_
    exact x_ret X Y d_Net_isSet_17 (bI_nar _) (Nat.le_of_ble_eq_true rfl) ⟨_, rfl, rfl, xBo_f (by first | exact xLt_f1 c_1 (by omega) | exact xLt_f2' c_9 (by omega) (by omega))⟩
  · refine x_iload_n X d_Net_isSet_4 rfl ?_
    refine x_aload_n X d_Net_isSet_5 rfl ?_
    refine x_callVR X d_Net_isSet_6 c_Net_25 (ct_Net_all (by omega)) [0, 1, 2] rfl rfl rfl rfl rfl (Nat.le_of_ble_eq_true rfl) ⟨Nat.le_of_ble_eq_true rfl, Nat.le_of_ble_eq_true rfl⟩ ⟨rfl, rfl⟩ ⟨Nat.le_of_ble_eq_true rfl, Nat.le_of_ble_eq_true rfl⟩ (fun r_6 h_6 => ?_)
    obtain rfl := h_6
    refine x_icmp_gt 16 X d_Net_isSet_9 (by decide) (fun c_9 => ?_) (fun c_9 => ?_)
    · refine x_iconst X d_Net_isSet_16 k_ic_0 ?_
      refine x_top (show nI 0 = bI false from rfl) ?_
      exact x_ret X Y d_Net_isSet_17 (bI_nar _) (Nat.le_of_ble_eq_true rfl) ⟨_, rfl, rfl, xBo_f (by first | exact xLt_f1 c_1 (by omega) | exact xLt_f2' c_9 (by omega) (by omega))⟩
    · refine x_iconst X d_Net_isSet_12 k_ic_1 ?_
      refine x_goto 17 X d_Net_isSet_13 (by decide) ?_
      refine x_top (show nI 1 = bI true from rfl) ?_
      exact x_ret X Y d_Net_isSet_17 (bI_nar _) (Nat.le_of_ble_eq_true rfl) ⟨_, rfl, rfl, xBo_t (xLt_t' c_1 c_9 (by omega) (by omega))⟩
set_option maxRecDepth 20000 in
theorem ct_Net_enters {e s : Nat} (he : e < 14) (hs : s < 128) (hN : ∀ j, fr j < 7 ∧ to j < 7) : xCt b y_Net_enters b_Net_enters 3 (some .boolean) q_Net_enters [.ref (h 5), .int (nI e), .int (nI s)] (wN b h n A fr to) (xRd (wN b h n A fr to) (fun r => r = bI (s.testBit (to e) && !s.testBit (fr e)))) := by
  refine x_met (by decide +kernel) rfl (Nat.le_of_ble_eq_true rfl) (fun G X Y => ?_)
  have := hN e
  refine x_iload_n X d_Net_enters_0 rfl ?_
  refine x_aload_n X d_Net_enters_1 rfl ?_
  refine x_getf X d_Net_enters_2 f_Net_19 0 rfl rfl ?_
  refine x_iload_n X d_Net_enters_5 rfl ?_
  refine x_bald X d_Net_enters_6 2 rfl rfl (by omega) (by decide) ?_
  refine x_ishrN X d_Net_enters_7 (by omega) (by omega) ?_
  refine x_iconst X d_Net_enters_8 k_ic_1 ?_
  refine x_bit X d_Net_enters_9 ?_
  refine x_iconst X d_Net_enters_10 k_ic_1 ?_
  refine x_icmp_neN 31 X d_Net_enters_11 (by decide) (by have := Bool.toNat_lt (s.testBit (to e)); omega) (by omega) (fun c_11 => ?_) (fun c_11 => ?_)
  · refine x_iconst X d_Net_enters_31 k_ic_0 ?_
    refine x_top (show nI 0 = bI false from rfl) ?_
    exact x_ret X Y d_Net_enters_32 (bI_nar _) (Nat.le_of_ble_eq_true rfl) ⟨_, rfl, rfl, by simp_all⟩
  · refine x_iload_n X d_Net_enters_14 rfl ?_
    refine x_aload_n X d_Net_enters_15 rfl ?_
    refine x_getf X d_Net_enters_16 f_Net_15 0 rfl rfl ?_
    refine x_iload_n X d_Net_enters_19 rfl ?_
    refine x_bald X d_Net_enters_20 1 rfl rfl (by omega) (by decide) ?_
    refine x_ishrN X d_Net_enters_21 (by omega) (by omega) ?_
    refine x_iconst X d_Net_enters_22 k_ic_1 ?_
    refine x_bit X d_Net_enters_23 ?_
    refine x_if_neN 31 X d_Net_enters_24 (by decide) (by have := Bool.toNat_lt (s.testBit (fr e)); omega) (fun c_24 => ?_) (fun c_24 => ?_)
    · refine x_iconst X d_Net_enters_31 k_ic_0 ?_
      refine x_top (show nI 0 = bI false from rfl) ?_
      exact x_ret X Y d_Net_enters_32 (bI_nar _) (Nat.le_of_ble_eq_true rfl) ⟨_, rfl, rfl, by simp_all⟩
    · refine x_iconst X d_Net_enters_27 k_ic_1 ?_
      refine x_goto 32 X d_Net_enters_28 (by decide) ?_
      refine x_top (show nI 1 = bI true from rfl) ?_
      exact x_ret X Y d_Net_enters_32 (bI_nar _) (Nat.le_of_ble_eq_true rfl) ⟨_, rfl, rfl, by simp_all⟩
end NET
end
section
/-! loops that count up; NET: drop -/
theorem loopU {P : Nat → Prop} (N : Nat) (hs : ∀ i, i ≤ N → (i < N → P (i + 1)) → P i) : ∀ i, i ≤ N → P i := by
  intro i hi
  obtain ⟨d, hd⟩ : ∃ d, N = i + d := ⟨N - i, by omega⟩
  induction d generalizing i with
  | zero => exact hs i hi (fun q => by omega)
  | succ d ih => exact hs i hi (fun _ => ih (i + 1) (by omega) (by omega))
def shf (f : Nat → Nat) (e i : Nat) : Nat → Nat := fun j => if e ≤ j ∧ j + 1 < i then f (j + 1) else f j
theorem shf_0 (f : Nat → Nat) (e : Nat) : shf f e (e + 1) = f := by
  funext j
  simp only [shf]
  rw [if_neg (by omega)]
theorem shf_s (f : Nat → Nat) {e i : Nat} (h : e + 1 ≤ i) : va_up (shf f e i) (i - 1) (shf f e i i) = shf f e (i + 1) := by
  funext j
  simp only [va_up, shf]
  by_cases hj : j = i - 1
  · rw [if_pos hj, if_neg (by omega), if_pos (by omega), show j + 1 = i by omega]
  · rw [if_neg hj]
    by_cases h2 : e ≤ j ∧ j + 1 < i
    · rw [if_pos h2, if_pos (by omega)]
    · rw [if_neg h2, if_neg (by omega)]
theorem shf_lt {f : Nat → Nat} {e i m : Nat} (h : ∀ j, f j < m) : ∀ j, shf f e i j < m := by
  intro j
  simp only [shf]
  split
  · exact h _
  · exact h _
section NETD
variable {b : xB} {h : Nat → Nat} {n A : Nat} {fr to : Nat → Nat}
set_option maxRecDepth 20000 in
theorem ct_Net_drop {e : Nat} (he : e < A) (hA : A ≤ 14) (hN : ∀ j, fr j < 7 ∧ to j < 7) : xCt b y_Net_drop b_Net_drop 3 none q_Net_drop [.ref (h 5), .int (nI e)] (wN b h n A fr to) (xVd (fun w => w = wN b h n (A - 1) (shf fr e A) (shf to e A))) := by
  refine x_met (by decide +kernel) rfl (Nat.le_of_ble_eq_true rfl) (fun G X Y => ?_)
  have loop := loopU (P := fun i => e + 1 ≤ i → xW b G 0 0 (wN b h n A (shf fr e i) (shf to e i)) 4 [(0, .ref (h 5)), (1, .int (nI e)), (2, .int (nI i))] []) A (fun i hi ih hei => by
    have f1 : shf fr e i i < 7 := shf_lt (fun j => (hN j).1) i
    have f2 : shf to e i i < 7 := shf_lt (fun j => (hN j).2) i
    refine x_iload_n X d_Net_drop_4 rfl ?_
    refine x_aload_n X d_Net_drop_5 rfl ?_
    refine x_getf X d_Net_drop_6 f_Net_22 0 rfl rfl ?_
    refine x_icmp_geN 46 X d_Net_drop_9 (by decide) (by omega) (by omega) (fun c_9 => ?_) (fun c_9 => ?_)
    · obtain rfl : i = A := by omega
      refine x_aload_n X d_Net_drop_46 rfl ?_
      refine x_dup X d_Net_drop_47 rfl ?_
      refine x_getf X d_Net_drop_48 f_Net_22 0 rfl rfl ?_
      refine x_iconst X d_Net_drop_51 k_ic_1 ?_
      refine x_isubN X d_Net_drop_52 (by omega) ?_
      refine x_putf (w' := wN b h _ _ _ _) X d_Net_drop_53 f_Net_22 0 rfl rfl rfl (Nat.le_of_ble_eq_true rfl) rfl ?_
      exact x_vret X Y d_Net_drop_56 (Nat.le_of_ble_eq_true rfl) ⟨rfl, rfl⟩
    · refine x_aload_n X d_Net_drop_12 rfl ?_
      refine x_getf X d_Net_drop_13 f_Net_15 0 rfl rfl ?_
      refine x_iload_n X d_Net_drop_16 rfl ?_
      refine x_iconst X d_Net_drop_17 k_ic_1 ?_
      refine x_isubN X d_Net_drop_18 (by omega) ?_
      refine x_aload_n X d_Net_drop_19 rfl ?_
      refine x_getf X d_Net_drop_20 f_Net_15 0 rfl rfl ?_
      refine x_iload_n X d_Net_drop_23 rfl ?_
      refine x_bald X d_Net_drop_24 1 rfl rfl (by omega) (by decide) ?_
      refine x_bast (w' := wN b h _ _ _ _) X d_Net_drop_25 1 rfl rfl (by omega) (by decide) (nI_byte _ (by omega)) (upd_nI _ _ _) rfl ?_
      refine x_aload_n X d_Net_drop_26 rfl ?_
      refine x_getf X d_Net_drop_27 f_Net_19 0 rfl rfl ?_
      refine x_iload_n X d_Net_drop_30 rfl ?_
      refine x_iconst X d_Net_drop_31 k_ic_1 ?_
      refine x_isubN X d_Net_drop_32 (by omega) ?_
      refine x_aload_n X d_Net_drop_33 rfl ?_
      refine x_getf X d_Net_drop_34 f_Net_19 0 rfl rfl ?_
      refine x_iload_n X d_Net_drop_37 rfl ?_
      refine x_bald X d_Net_drop_38 2 rfl rfl (by omega) (by decide) ?_
      refine x_bast (w' := wN b h _ _ _ _) X d_Net_drop_39 2 rfl rfl (by omega) (by decide) (nI_byte _ (by omega)) (upd_nI _ _ _) rfl ?_
      refine x_iincN (lv' := [(0, _), (1, _), (2, _)]) X d_Net_drop_40 rfl (by decide) rfl ?_
      refine x_goto 4 X d_Net_drop_43 (by decide) ?_
      have q := ih (by omega) (by omega)
      rw [← shf_s fr hei, ← shf_s to hei] at q
      exact q
  )
  have q := loop (e + 1) he (Nat.le_refl _)
  rw [shf_0, shf_0] at q
  refine x_iload_n X d_Net_drop_0 rfl ?_
  refine x_iconst X d_Net_drop_1 k_ic_1 ?_
  refine x_iaddN X d_Net_drop_2 ?_
  refine x_istore_n (lv' := [(0, _), (1, _), (2, _)]) X d_Net_drop_3 (by decide) rfl ?_
  exact q
end NETD
end
section
/-! PURE: links, chains of links, flow and cut -/
theorem php : ∀ (n m : Nat) (f : Nat → Nat), (∀ i, i < m → f i < n) → (∀ i j, i < m → j < m → f i = f j → i = j) → m ≤ n := by
  intro n
  induction n with
  | zero =>
    intro m f h1 _
    cases m with
    | zero => exact Nat.le_refl 0
    | succ m => exact absurd (h1 0 (by omega)) (by omega)
  | succ n ih =>
    intro m f h1 h2
    cases m with
    | zero => omega
    | succ m =>
      have hm : f m < n + 1 := h1 m (by omega)
      have := ih m (fun i => if f i = n then f m else f i) (fun i hi => by
        have a := h1 i (by omega)
        by_cases e : f i = n
        · simp only [e, if_true]
          have : f m ≠ n := fun q => by
            have := h2 i m (by omega) (by omega) (by omega)
            omega
          omega
        · simp only [e, if_false]
          omega) (fun i j hi hj q => by
        by_cases e : f i = n
        · by_cases e2 : f j = n
          · exact h2 i j (by omega) (by omega) (by omega)
          · simp only [e, e2, if_true, if_false] at q
            have := h2 m j (by omega) (by omega) q
            omega
        · by_cases e2 : f j = n
          · simp only [e, e2, if_true, if_false] at q
            have := h2 i m (by omega) (by omega) q
            omega
          · simp only [e, e2, if_false] at q
            exact h2 i j (by omega) (by omega) q)
      omega
theorem xor1 : ∀ l, l < 76 → l ^^^ 1 = if l % 2 = 0 then l + 1 else l - 1 := by decide +kernel
theorem xor1_lt {l L : Nat} (h : l < 2 * L) (hL : L ≤ 38) : l ^^^ 1 < 2 * L := by
  rw [xor1 l (by omega)]
  split <;> omega
theorem xor1_div {l : Nat} (h : l < 76) : (l ^^^ 1) / 2 = l / 2 := by
  rw [xor1 l h]
  split <;> omega
theorem xor1_mod {l : Nat} (h : l < 76) : (l ^^^ 1) % 2 = 1 - l % 2 := by
  rw [xor1 l h]
  split <;> omega
theorem xor1_ne {l : Nat} (h : l < 76) : l ^^^ 1 ≠ l := by
  rw [xor1 l h]
  split <;> omega
theorem xor1_xor {l : Nat} : (l ^^^ 1) ^^^ 1 = l := by rw [Nat.xor_assoc, Nat.xor_self, Nat.xor_zero]
/-- the greatest l under m with T l = v -/
def lb (T : Nat → Nat) (v : Nat) : Nat → Option Nat
  | 0 => none
  | m + 1 => if T m = v then some m else lb T v m
theorem lb_none {T : Nat → Nat} {v m : Nat} (h : lb T v m = none) : ∀ l, l < m → T l ≠ v := by
  induction m with
  | zero => intro l hl; omega
  | succ m ih =>
    intro l hl
    simp only [lb] at h
    by_cases e : T m = v
    · rw [if_pos e] at h; cases h
    · rw [if_neg e] at h
      by_cases q : l = m
      · rw [q]; exact e
      · exact ih h l (by omega)
theorem lb_some {T : Nat → Nat} {v m l : Nat} (h : lb T v m = some l) : l < m ∧ T l = v ∧ ∀ j, l < j → j < m → T j ≠ v := by
  induction m with
  | zero => cases h
  | succ m ih =>
    simp only [lb] at h
    by_cases e : T m = v
    · rw [if_pos e] at h
      cases h
      exact ⟨by omega, e, fun j h1 h2 => by omega⟩
    · rw [if_neg e] at h
      obtain ⟨h1, h2, h3⟩ := ih h
      refine ⟨by omega, h2, fun j a c => ?_⟩
      by_cases q : j = m
      · rw [q]; exact e
      · exact h3 j a (by omega)
theorem lb_congr {T T' : Nat → Nat} {v m : Nat} (h : ∀ l, l < m → T l = T' l) : lb T v m = lb T' v m := by
  induction m with
  | zero => rfl
  | succ m ih =>
    simp only [lb]
    rw [h m (by omega), ih (fun l hl => h l (by omega))]
abbrev lkL : Type := List (Nat × Nat × Nat)
def lkT (M : lkL) (l : Nat) : Nat := match M[l / 2]? with | none => 0 | some q => if l % 2 = 0 then q.1 else q.2.1
def lkH (M : lkL) (l : Nat) : Nat := match M[l / 2]? with | none => 0 | some q => if l % 2 = 0 then q.2.1 else q.1
def lkC (M : lkL) (l : Nat) : Nat := match M[l / 2]? with | none => 0 | some q => if l % 2 = 0 then q.2.2 else 0
theorem lkT_x (M : lkL) {l : Nat} (h : l < 76) : lkT M (l ^^^ 1) = lkH M l := by
  simp only [lkT, lkH, xor1_div h, xor1_mod h]
  cases M[l / 2]? with
  | none => rfl
  | some q =>
    simp only []
    by_cases e : l % 2 = 0
    · rw [if_neg (by omega), if_pos e]
    · rw [if_pos (by omega), if_neg e]
theorem lkH_x (M : lkL) {l : Nat} (h : l < 76) : lkH M (l ^^^ 1) = lkT M l := by
  simp only [lkT, lkH, xor1_div h, xor1_mod h]
  cases M[l / 2]? with
  | none => rfl
  | some q =>
    simp only []
    by_cases e : l % 2 = 0
    · rw [if_neg (by omega), if_pos e]
    · rw [if_pos (by omega), if_neg e]
theorem lk_app {M : lkL} {q : Nat × Nat × Nat} {l : Nat} (h : l < 2 * M.length) : lkT (M ++ [q]) l = lkT M l ∧ lkH (M ++ [q]) l = lkH M l ∧ lkC (M ++ [q]) l = lkC M l := by
  have e : (M ++ [q])[l / 2]? = M[l / 2]? := List.getElem?_append_left (by omega)
  simp only [lkT, lkH, lkC, e, and_self]
theorem lk_new0 {M : lkL} {q : Nat × Nat × Nat} : lkT (M ++ [q]) (2 * M.length) = q.1 ∧ lkH (M ++ [q]) (2 * M.length) = q.2.1 ∧ lkC (M ++ [q]) (2 * M.length) = q.2.2 := by
  have e : (M ++ [q])[2 * M.length / 2]? = some q := by
    rw [show 2 * M.length / 2 = M.length by omega]
    simp
  have e2 : 2 * M.length % 2 = 0 := by omega
  simp only [lkT, lkH, lkC, e, e2, if_true, and_self]
theorem lk_new1 {M : lkL} {q : Nat × Nat × Nat} : lkT (M ++ [q]) (2 * M.length + 1) = q.2.1 ∧ lkH (M ++ [q]) (2 * M.length + 1) = q.1 ∧ lkC (M ++ [q]) (2 * M.length + 1) = 0 := by
  have e : (M ++ [q])[(2 * M.length + 1) / 2]? = some q := by
    rw [show (2 * M.length + 1) / 2 = M.length by omega]
    simp
  have e2 : ¬ (2 * M.length + 1) % 2 = 0 := by omega
  simp only [lkT, lkH, lkC, e, e2, if_false, and_self]
/-- the Ways hold the links M -/
def wOK (nd : Nat) (M : lkL) (lk : Nat) (fi ne : Nat → Option Nat) (hd fu : Nat → Nat) : Prop :=
  lk = 2 * M.length ∧ M.length ≤ 38 ∧ nd ≤ 11 ∧ (∀ q ∈ M, q.1 < nd ∧ q.2.1 < nd ∧ q.2.2 ≤ 14) ∧ (∀ l, l < lk → hd l = lkH M l ∧ fu l = lkC M l ∧ ne l = lb (lkT M) (lkT M l) l) ∧ ∀ v, v < nd → fi v = lb (lkT M) v lk
theorem wOK_0 {nd : Nat} {fi ne : Nat → Option Nat} {hd fu : Nat → Nat} (hn : nd ≤ 11) (hf : ∀ v, v < nd → fi v = none) : wOK nd [] 0 fi ne hd fu :=
  ⟨rfl, Nat.zero_le _, hn, fun q h => absurd h List.not_mem_nil, fun l h => absurd h (by omega), fun v hv => hf v hv⟩
theorem wOK_s {nd lk : Nat} {M : lkL} {fi ne : Nat → Option Nat} {hd fu : Nat → Nat} {a c w : Nat} (h : wOK nd M lk fi ne hd fu) (hl : M.length < 38) (ha : a < nd) (hc : c < nd) (hw : w ≤ 14) :
    wOK nd (M ++ [(a, c, w)]) (lk + 1 + 1) (va_up (va_up fi a (some lk)) c (some (lk + 1))) (va_up (va_up ne lk (fi a)) (lk + 1) (va_up fi a (some lk) c)) (va_up (va_up hd lk c) (lk + 1) a) (va_up (va_up fu lk w) (lk + 1) 0) := by
  obtain ⟨rfl, h2, h3, h4, h5, h6⟩ := h
  have e0 := lk_new0 (M := M) (q := (a, c, w))
  have e1 := lk_new1 (M := M) (q := (a, c, w))
  have eT : ∀ l, l < 2 * M.length → lkT M l = lkT (M ++ [(a, c, w)]) l := fun l hl => (lk_app hl).1.symm
  have f0 : ∀ v, v < nd → va_up fi a (some (2 * M.length)) v = lb (lkT (M ++ [(a, c, w)])) v (2 * M.length + 1) := by
    intro v hv
    simp only [va_up, lb, e0.1]
    by_cases q : v = a
    · rw [if_pos q, if_pos q.symm]
    · rw [if_neg q, if_neg (fun z => q z.symm), h6 v hv, lb_congr eT]
  refine ⟨by simp; omega, by simp; omega, h3, fun q hq => ?_, fun l hl2 => ?_, fun v hv => ?_⟩
  · rcases List.mem_append.mp hq with hq | hq
    · exact h4 q hq
    · rw [List.mem_singleton.mp hq]
      exact ⟨ha, hc, hw⟩
  · by_cases q1 : l = 2 * M.length + 1
    · subst q1
      simp only [va_up_self, e1]
      refine ⟨trivial, trivial, ?_⟩
      exact f0 c hc
    · rw [va_up_ne _ _ q1, va_up_ne _ _ q1, va_up_ne _ _ q1]
      by_cases q0 : l = 2 * M.length
      · subst q0
        simp only [va_up_self, e0]
        refine ⟨trivial, trivial, ?_⟩
        rw [h6 a ha, lb_congr eT]
      · rw [va_up_ne _ _ q0, va_up_ne _ _ q0, va_up_ne _ _ q0]
        have hl3 : l < 2 * M.length := by omega
        obtain ⟨g1, g2, g3⟩ := h5 l hl3
        obtain ⟨k1, k2, k3⟩ := lk_app (q := (a, c, w)) hl3
        rw [g1, g2, g3, k1, k2, k3]
        exact ⟨rfl, rfl, lb_congr (fun j hj => eT j (by omega))⟩
  · simp only [lb, e1.1]
    by_cases q : v = c
    · subst q
      rw [va_up_self, if_pos rfl]
    · rw [va_up_ne _ _ q, if_neg (fun z => q z.symm)]
      exact f0 v hv
theorem lkT_lt {nd : Nat} {M : lkL} (h : ∀ q ∈ M, q.1 < nd ∧ q.2.1 < nd ∧ q.2.2 ≤ 14) {l : Nat} (hl : l < 2 * M.length) : lkT M l < nd ∧ lkH M l < nd ∧ lkC M l ≤ 14 := by
  have e : M[l / 2]? = some M[l / 2] := List.getElem?_eq_getElem (by omega)
  have g := h _ (List.mem_of_getElem? e)
  simp only [lkT, lkH, lkC, e]
  split
  · exact ⟨g.1, g.2.1, g.2.2⟩
  · exact ⟨g.2.1, g.1, by omega⟩
/-! the search -/
def bI' (s nd lk : Nat) (T hd ro : Nat → Nat) (m : Nat) (ca : Nat → Option Nat) (qu : Nat → Nat) : Prop :=
  1 ≤ m ∧ qu 0 = s ∧ ca s = none ∧ (∀ p, p < m → qu p < nd) ∧ (∀ p, p < m → 0 < p → ∃ l, ca (qu p) = some l ∧ l < lk ∧ hd l = qu p ∧ 0 < ro l ∧ ∃ p', p' < p ∧ qu p' = T l) ∧ (∀ v, v < nd → ca v ≠ none → ∃ p, 0 < p ∧ p < m ∧ qu p = v) ∧ ∀ p p', p < m → p' < m → qu p = qu p' → p = p'
theorem bI'_0 {s nd lk : Nat} {T hd ro : Nat → Nat} {ca : Nat → Option Nat} {qu : Nat → Nat} (hs : s < nd) (hc : ∀ v, v < nd → ca v = none) (hq : qu 0 = s) : bI' s nd lk T hd ro 1 ca qu :=
  ⟨Nat.le_refl _, hq, hc s hs, fun p hp => by rw [show p = 0 by omega, hq]; exact hs, fun p h1 h2 => by omega, fun v hv h => absurd (hc v hv) h, fun p p' h1 h2 _ => by omega⟩
theorem bI'_s {s nd lk : Nat} {T hd ro : Nat → Nat} {m k l w : Nat} {ca : Nat → Option Nat} {qu : Nat → Nat} (h : bI' s nd lk T hd ro m ca qu) (hk : k < m) (hl : l < lk) (hw : hd l = w) (hr : 0 < ro l) (hT : T l = qu k) (hc : ca w = none) (hws : w ≠ s) (hn : w < nd) : bI' s nd lk T hd ro (m + 1) (va_up ca w (some l)) (va_up qu m w) := by
  obtain ⟨h1, h2, h3, h4, h5, h6, h7⟩ := h
  have old : ∀ p, p < m → va_up qu m w p = qu p := fun p hp => va_up_ne _ _ (by omega)
  have nw : ∀ p, p < m → qu p ≠ w := by
    intro p hp e
    by_cases p0 : p = 0
    · rw [p0, h2] at e
      exact hws e.symm
    · obtain ⟨l', c1, -⟩ := h5 p hp (by omega)
      rw [e, hc] at c1
      cases c1
  refine ⟨by omega, by rw [old 0 (by omega)]; exact h2, by rw [va_up_ne _ _ (fun z => hws z.symm)]; exact h3, fun p hp => ?_, fun p hp p0 => ?_, fun v hv hcv => ?_, fun p p' hp hp' e => ?_⟩
  · by_cases q : p = m
    · rw [q, va_up_self]; exact hn
    · rw [old p (by omega)]; exact h4 p (by omega)
  · by_cases q : p = m
    · subst q
      rw [va_up_self, va_up_self]
      exact ⟨l, rfl, hl, hw, hr, k, hk, by rw [old k hk]; exact hT.symm⟩
    · rw [old p (by omega), va_up_ne _ _ (nw p (by omega))]
      obtain ⟨l', c1, c2, c3, c4, p', c5, c6⟩ := h5 p (by omega) p0
      exact ⟨l', c1, c2, c3, c4, p', c5, by rw [old p' (by omega)]; exact c6⟩
  · by_cases q : v = w
    · exact ⟨m, by omega, by omega, by rw [va_up_self]; exact q.symm⟩
    · rw [va_up_ne _ _ q] at hcv
      obtain ⟨p, c1, c2, c3⟩ := h6 v hv hcv
      exact ⟨p, c1, by omega, by rw [old p c2]; exact c3⟩
  · by_cases q : p = m
    · by_cases q' : p' = m
      · omega
      · subst q
        rw [va_up_self, old p' (by omega)] at e
        exact absurd e.symm (nw p' (by omega))
    · by_cases q' : p' = m
      · subst q'
        rw [va_up_self, old p (by omega)] at e
        exact absurd e (nw p (by omega))
      · rw [old p (by omega), old p' (by omega)] at e
        exact h7 p p' (by omega) (by omega) e
theorem bI'_le {s nd lk : Nat} {T hd ro : Nat → Nat} {m : Nat} {ca : Nat → Option Nat} {qu : Nat → Nat} (h : bI' s nd lk T hd ro m ca qu) : m ≤ nd := php nd m qu h.2.2.2.1 (fun i j hi hj e => h.2.2.2.2.2.2 i j hi hj e)
/-- what the search found: a way, or a set of nodes that no link with room leaves -/
def fT (s t nd lk : Nat) (T hd ro : Nat → Nat) (ca : Nat → Option Nat) (qu : Nat → Nat) : Prop := ∃ m p, bI' s nd lk T hd ro m ca qu ∧ 0 < p ∧ p < m ∧ qu p = t
def fF (s t lk : Nat) (T hd ro : Nat → Nat) : Prop := ∃ X : Nat → Bool, X t = true ∧ X s = false ∧ ∀ l, l < lk → X (T l) = false → X (hd l) = true → ro l = 0
def done_ (s lk : Nat) (T hd ro : Nat → Nat) (ca : Nat → Option Nat) (v x : Nat) : Prop := ∀ l, x ≤ l → l < lk → T l = v → 0 < ro l → hd l = s ∨ ca (hd l) ≠ none
theorem done_up {s lk : Nat} {T hd ro : Nat → Nat} {ca : Nat → Option Nat} {v x w l : Nat} (h : done_ s lk T hd ro ca v x) : done_ s lk T hd ro (va_up ca w (some l)) v x := by
  intro j h1 h2 h3 h4
  rcases h j h1 h2 h3 h4 with e | e
  · exact Or.inl e
  · refine Or.inr ?_
    by_cases q : hd j = w
    · rw [q, va_up_self]; exact fun z => by cases z
    · rw [va_up_ne _ _ q]; exact e
theorem fF_of {s t nd lk : Nat} {T hd ro : Nat → Nat} {m : Nat} {ca : Nat → Option Nat} {qu : Nat → Nat} (h : bI' s nd lk T hd ro m ca qu) (hT : ∀ l, l < lk → T l < nd ∧ hd l < nd) (hd_ : ∀ p, p < m → done_ s lk T hd ro ca (qu p) 0) (hc : ca t = none) (hts : t ≠ s) : fF s t lk T hd ro := by
  obtain ⟨h1, h2, h3, h4, h5, h6, h7⟩ := h
  refine ⟨fun v => decide (ca v = none) && decide (v ≠ s), by simp [hc, hts], by simp, fun l hl hX hY => ?_⟩
  obtain ⟨a1, a2⟩ := hT l hl
  have hv : ∃ p, p < m ∧ qu p = T l := by
    by_cases q : T l = s
    · exact ⟨0, by omega, by rw [h2, q]⟩
    · have q2 : ca (T l) ≠ none := fun z => by simp [z, q] at hX
      obtain ⟨p, -, c2, c3⟩ := h6 _ a1 q2
      exact ⟨p, c2, c3⟩
  obtain ⟨p, hp, e⟩ := hv
  rcases Nat.eq_zero_or_pos (ro l) with z | z
  · exact z
  · rcases hd_ p hp l (Nat.zero_le _) hl e.symm z with q | q
    · simp [q] at hY
    · simp [q] at hY
end
section
/-! WAYS: begin, one, link, find -/
def clr (f : Nat → Option Nat) (i : Nat) : Nat → Option Nat := fun j => if j < i then none else f j
theorem clr_0 (f : Nat → Option Nat) : clr f 0 = f := by
  funext j
  simp [clr]
theorem clr_s (f : Nat → Option Nat) (i : Nat) : va_up (clr f i) i none = clr f (i + 1) := by
  funext j
  simp only [va_up, clr]
  by_cases h : j = i
  · rw [if_pos h, if_pos (by omega)]
  · rw [if_neg h]
    by_cases h2 : j < i
    · rw [if_pos h2, if_pos (by omega)]
    · rw [if_neg h2, if_neg (by omega)]
theorem clr_lt {f : Nat → Option Nat} {i j : Nat} (h : j < i) : clr f i j = none := by simp [clr, h]
theorem done_dn {s lk : Nat} {T hd ro : Nat → Nat} {ca : Nat → Option Nat} {v x l : Nat} (h : done_ s lk T hd ro ca v x) (own : 0 < ro l → hd l = s ∨ ca (hd l) ≠ none) (hm : ∀ j, l < j → j < x → T j ≠ v) : done_ s lk T hd ro ca v l := by
  intro j h1 h2 h3 h4
  by_cases q : j = l
  · subst q; exact own h4
  · by_cases q2 : j < x
    · exact absurd h3 (hm j (by omega) q2)
    · exact h j (by omega) h2 h3 h4
theorem bI'_ca {s nd lk : Nat} {T hd ro : Nat → Nat} {m : Nat} {ca : Nat → Option Nat} {qu : Nat → Nat} (h : bI' s nd lk T hd ro m ca qu) {v l : Nat} (hv : v < nd) (hc : ca v = some l) : l < lk := by
  obtain ⟨h1, h2, h3, h4, h5, h6, h7⟩ := h
  obtain ⟨p, p0, p1, e⟩ := h6 v hv (by rw [hc]; exact fun z => by cases z)
  obtain ⟨l', c1, c2, -⟩ := h5 p p1 p0
  rw [e, hc] at c1
  cases c1
  exact c2
section WAYS
variable {b : xB} {h : Nat → Nat} {nd lk : Nat} {fi ne : Nat → Option Nat} {hd ro fu : Nat → Nat} {ca : Nat → Option Nat} {qu : Nat → Nat}
set_option maxRecDepth 20000 in
theorem ct_Ways_begin {m : Nat} (hm : m ≤ 11) : xCt b y_Ways_begin b_Ways_begin 3 none q_Ways_begin [.ref (h 8), .int (nI m)] (wW b h nd lk fi ne hd ro fu ca qu) (xVd (fun w => w = wW b h m 0 (clr fi m) ne hd ro fu ca qu)) := by
  refine x_met (by decide +kernel) rfl (Nat.le_of_ble_eq_true rfl) (fun G X Y => ?_)
  have loop := loopU (P := fun i => xW b G 0 0 (wW b h m 0 (clr fi i) ne hd ro fu ca qu) 12 [(0, .ref (h 8)), (1, .int (nI m)), (2, .int (nI i))] []) m (fun i hi ih => by
    refine x_iload_n X d_Ways_begin_12 rfl ?_
    refine x_iload_n X d_Ways_begin_13 rfl ?_
    refine x_icmp_geN 30 X d_Ways_begin_14 (by decide) (by omega) (by omega) (fun c_14 => ?_) (fun c_14 => ?_)
    · obtain rfl : i = m := by omega
      exact x_vret X Y d_Ways_begin_30 (Nat.le_of_ble_eq_true rfl) ⟨rfl, rfl⟩
    · refine x_aload_n X d_Ways_begin_17 rfl ?_
      refine x_getf X d_Ways_begin_18 f_Ways_11 0 rfl rfl ?_
      refine x_iload_n X d_Ways_begin_21 rfl ?_
      refine x_iconst X d_Ways_begin_22 k_ic_m1 ?_
      refine x_iast (w' := wW b h _ _ _ _ _ _ _ _ _) X d_Ways_begin_23 1 rfl rfl (by omega) (by decide) (upd_oI _ _ none) rfl ?_
      refine x_iincN (lv' := [(0, _), (1, _), (2, _)]) X d_Ways_begin_24 rfl (by decide) rfl ?_
      refine x_goto 12 X d_Ways_begin_27 (by decide) ?_
      have q := ih (by omega)
      rw [← clr_s] at q
      exact q
  )
  have q := loop 0 (Nat.zero_le _)
  rw [clr_0] at q
  refine x_aload_n X d_Ways_begin_0 rfl ?_
  refine x_iload_n X d_Ways_begin_1 rfl ?_
  refine x_putf (w' := wW b h _ _ _ _ _ _ _ _ _) X d_Ways_begin_2 f_Ways_33 0 rfl rfl rfl (Nat.le_of_ble_eq_true rfl) rfl ?_
  refine x_aload_n X d_Ways_begin_5 rfl ?_
  refine x_iconst X d_Ways_begin_6 k_ic_0 ?_
  refine x_putf (w' := wW b h _ _ _ _ _ _ _ _ _) X d_Ways_begin_7 f_Ways_37 0 rfl rfl rfl (Nat.le_of_ble_eq_true rfl) rfl ?_
  refine x_iconst X d_Ways_begin_10 k_ic_0 ?_
  refine x_istore_n (lv' := [(0, _), (1, _), (2, _)]) X d_Ways_begin_11 (by decide) rfl ?_
  exact q
set_option maxRecDepth 20000 in
theorem ct_Ways_one {a c w : Nat} (ha : a < 11) (hl : lk < 76) : xCt b y_Ways_one b_Ways_one 4 none q_Ways_one [.ref (h 8), .int (nI a), .int (nI c), .int (nI w)] (wW b h nd lk fi ne hd ro fu ca qu) (xVd (fun w' => w' = wW b h nd (lk + 1) (va_up fi a (some lk)) (va_up ne lk (fi a)) (va_up hd lk c) ro (va_up fu lk w) ca qu)) := by
  refine x_met (by decide +kernel) rfl (Nat.le_of_ble_eq_true rfl) (fun G X Y => ?_)
  refine x_aload_n X d_Ways_one_0 rfl ?_
  refine x_getf X d_Ways_one_1 f_Ways_18 0 rfl rfl ?_
  refine x_aload_n X d_Ways_one_4 rfl ?_
  refine x_getf X d_Ways_one_5 f_Ways_37 0 rfl rfl ?_
  refine x_iload_n X d_Ways_one_8 rfl ?_
  refine x_iast (w' := wW b h _ _ _ _ _ _ _ _ _) X d_Ways_one_9 3 rfl rfl (by omega) (by decide) (upd_nI _ _ _) rfl ?_
  refine x_aload_n X d_Ways_one_10 rfl ?_
  refine x_getf X d_Ways_one_11 f_Ways_24 0 rfl rfl ?_
  refine x_aload_n X d_Ways_one_14 rfl ?_
  refine x_getf X d_Ways_one_15 f_Ways_37 0 rfl rfl ?_
  refine x_iload_n X d_Ways_one_18 rfl ?_
  refine x_iast (w' := wW b h _ _ _ _ _ _ _ _ _) X d_Ways_one_19 5 rfl rfl (by omega) (by decide) (upd_nI _ _ _) rfl ?_
  refine x_aload_n X d_Ways_one_20 rfl ?_
  refine x_getf X d_Ways_one_21 f_Ways_15 0 rfl rfl ?_
  refine x_aload_n X d_Ways_one_24 rfl ?_
  refine x_getf X d_Ways_one_25 f_Ways_37 0 rfl rfl ?_
  refine x_aload_n X d_Ways_one_28 rfl ?_
  refine x_getf X d_Ways_one_29 f_Ways_11 0 rfl rfl ?_
  refine x_iload_n X d_Ways_one_32 rfl ?_
  refine x_iald X d_Ways_one_33 1 rfl rfl (by omega) (by decide) ?_
  refine x_iast (w' := wW b h _ _ _ _ _ _ _ _ _) X d_Ways_one_34 2 rfl rfl (by omega) (by decide) (upd_oI _ _ _) rfl ?_
  refine x_aload_n X d_Ways_one_35 rfl ?_
  refine x_getf X d_Ways_one_36 f_Ways_11 0 rfl rfl ?_
  refine x_iload_n X d_Ways_one_39 rfl ?_
  refine x_aload_n X d_Ways_one_40 rfl ?_
  refine x_dup X d_Ways_one_41 rfl ?_
  refine x_getf X d_Ways_one_42 f_Ways_37 0 rfl rfl ?_
  refine x_dup_x1 X d_Ways_one_45 rfl rfl ?_
  refine x_iconst X d_Ways_one_46 k_ic_1 ?_
  refine x_iaddN X d_Ways_one_47 ?_
  refine x_putf (w' := wW b h _ _ _ _ _ _ _ _ _) X d_Ways_one_48 f_Ways_37 0 rfl rfl rfl (Nat.le_of_ble_eq_true rfl) rfl ?_
  refine x_iast (w' := wW b h _ _ _ _ _ _ _ _ _) X d_Ways_one_51 1 rfl rfl (by omega) (by decide) (upd_oI _ _ (some _)) rfl ?_
  exact x_vret X Y d_Ways_one_52 (Nat.le_of_ble_eq_true rfl) ⟨rfl, rfl⟩
set_option maxRecDepth 20000 in
theorem ct_Ways_link {a c w : Nat} (ha : a < 11) (hc : c < 11) (hl : lk + 1 < 76) : xCt b y_Ways_link b_Ways_link 4 none q_Ways_link [.ref (h 8), .int (nI a), .int (nI c), .int (nI w)] (wW b h nd lk fi ne hd ro fu ca qu) (xVd (fun w' => w' = wW b h nd (lk + 1 + 1) (va_up (va_up fi a (some lk)) c (some (lk + 1))) (va_up (va_up ne lk (fi a)) (lk + 1) (va_up fi a (some lk) c)) (va_up (va_up hd lk c) (lk + 1) a) ro (va_up (va_up fu lk w) (lk + 1) 0) ca qu)) := by
  refine x_met (by decide +kernel) rfl (Nat.le_of_ble_eq_true rfl) (fun G X Y => ?_)
  refine x_aload_n X d_Ways_link_0 rfl ?_
  refine x_iload_n X d_Ways_link_1 rfl ?_
  refine x_iload_n X d_Ways_link_2 rfl ?_
  refine x_iload_n X d_Ways_link_3 rfl ?_
  refine x_callA X d_Ways_link_4 c_Ways_40 (ct_Ways_one (by omega) (by omega)) rfl rfl rfl (Nat.le_of_ble_eq_true rfl) ⟨Nat.le_of_ble_eq_true rfl, Nat.le_of_ble_eq_true rfl⟩ ⟨rfl, rfl⟩ ⟨Nat.le_of_ble_eq_true rfl, Nat.le_of_ble_eq_true rfl⟩ (fun v_4 w_4 h_4 => ?_)
  obtain ⟨rfl, rfl⟩ := h_4
  refine ⟨rfl, ?_⟩
  refine x_st (st' := []) rfl ?_
  refine x_aload_n X d_Ways_link_7 rfl ?_
  refine x_iload_n X d_Ways_link_8 rfl ?_
  refine x_iload_n X d_Ways_link_9 rfl ?_
  refine x_iconst X d_Ways_link_10 k_ic_0 ?_
  refine x_callA X d_Ways_link_11 c_Ways_40 (ct_Ways_one (by omega) (by omega)) rfl rfl rfl (Nat.le_of_ble_eq_true rfl) ⟨Nat.le_of_ble_eq_true rfl, Nat.le_of_ble_eq_true rfl⟩ ⟨rfl, rfl⟩ ⟨Nat.le_of_ble_eq_true rfl, Nat.le_of_ble_eq_true rfl⟩ (fun v_11 w_11 h_11 => ?_)
  obtain ⟨rfl, rfl⟩ := h_11
  refine ⟨rfl, ?_⟩
  refine x_st (st' := []) rfl ?_
  exact x_vret X Y d_Ways_link_14 (Nat.le_of_ble_eq_true rfl) ⟨rfl, rfl⟩
set_option maxRecDepth 20000 in
set_option maxHeartbeats 1000000 in
theorem ct_Ways_find {M : lkL} {s t : Nat} (hW : wOK nd M lk fi ne hd fu) (hs : s < nd) (ht : t < nd) (hst : t ≠ s) (hro : ∀ l, l < lk → ro l < 100) : xCt b y_Ways_find b_Ways_find 7 (some .boolean) q_Ways_find [.ref (h 8), .int (nI s), .int (nI t)] (wW b h nd lk fi ne hd ro fu ca qu)
    (xIn (fun r w' => ∃ c ca' qu', r = bI c ∧ w' = wW b h nd lk fi ne hd ro fu ca' qu' ∧ (c = true → fT s t nd lk (lkT M) hd ro ca' qu') ∧ (c = false → fF s t lk (lkT M) hd ro))) := by
  refine x_met (by decide +kernel) rfl (Nat.le_of_ble_eq_true rfl) (fun G X Y => ?_)
  obtain ⟨w1, w2, w3, w4, w5, w6⟩ := id hW
  have hTH : ∀ l, l < lk → lkT M l < nd ∧ hd l < nd := fun l hl => by
    have := lkT_lt w4 (l := l) (by omega)
    rw [(w5 l hl).1]
    exact ⟨this.1, this.2.1⟩
  -- the search itself
  have outer : ∀ (d k m : Nat) (ca : Nat → Option Nat) (qu : Nat → Nat), k + d = nd → bI' s nd lk (lkT M) hd ro m ca qu → k ≤ m → (∀ p, p < k → done_ s lk (lkT M) hd ro ca (qu p) 0) → xW b G 0 0 (wW b h nd lk fi ne hd ro fu ca qu) 38 [(0, .ref (h 8)), (1, .int (nI s)), (2, .int (nI t)), (3, .int (nI m)), (4, .int (nI k))] [] := by
    intro d
    induction d with
    | zero =>
      intro k m ca qu hkd hB hkm hO
      have hmn := bI'_le hB
      refine x_iload X d_Ways_find_38 rfl ?_
      refine x_iload_n X d_Ways_find_40 rfl ?_
      refine x_icmp_geN 148 X d_Ways_find_41 (by decide) (by omega) (by omega) (fun c_41 => ?_) (fun c_41 => ?_)
      · refine x_aload_n X d_Ways_find_148 rfl ?_
        refine x_getf X d_Ways_find_149 f_Ways_27 0 rfl rfl ?_
        refine x_iload_n X d_Ways_find_152 rfl ?_
        refine x_iald X d_Ways_find_153 6 rfl rfl (by omega) (by decide) ?_
        refine x_iconst X d_Ways_find_154 k_ic_m1 ?_
        refine x_icmp_eqM 162 X d_Ways_find_155 (by decide) (fun j e => by have := bI'_ca hB ht e; omega) (fun c_155 => ?_) (fun j_155 c_155 => ?_)
        · refine x_iconst X d_Ways_find_162 k_ic_0 ?_
          refine x_top (show nI 0 = bI false from rfl) ?_
          exact x_ret X Y d_Ways_find_163 (bI_nar _) (Nat.le_of_ble_eq_true rfl) ⟨_, rfl, false, _, _, rfl, rfl, (fun z => by cases z), fun _ => fF_of hB hTH (fun p hp => hO p (by omega)) c_155 hst⟩
        · refine x_iconst X d_Ways_find_158 k_ic_1 ?_
          refine x_goto 163 X d_Ways_find_159 (by decide) ?_
          refine x_top (show nI 1 = bI true from rfl) ?_
          exact x_ret X Y d_Ways_find_163 (bI_nar _) (Nat.le_of_ble_eq_true rfl) ⟨_, rfl, true, _, _, rfl, rfl, (fun _ => by obtain ⟨p, p0, p1, e⟩ := hB.2.2.2.2.2.1 t ht (by rw [c_155]; exact fun z => by cases z); exact ⟨m, p, hB, p0, p1, e⟩), (fun z => by cases z)⟩
      · omega
    | succ d ihd =>
      intro k m ca qu hkd hB hkm hO
      have hmn := bI'_le hB
      have inner : ∀ (x m : Nat) (ca : Nat → Option Nat) (qu : Nat → Nat) (o : Option Nat), x ≤ lk → o = lb (lkT M) (qu k) x → bI' s nd lk (lkT M) hd ro m ca qu → k < m → (∀ p, p < k → done_ s lk (lkT M) hd ro ca (qu p) 0) → done_ s lk (lkT M) hd ro ca (qu k) x → xW b G 0 0 (wW b h nd lk fi ne hd ro fu ca qu) 68 [(0, .ref (h 8)), (1, .int (nI s)), (2, .int (nI t)), (3, .int (nI m)), (4, .int (nI k)), (5, .int (oI o))] [] := by
        intro x
        induction x using Nat.strongRecOn with
        | ind x ihx =>
          intro m ca qu o hx ho hB hkm hO hdn
          have hmn := bI'_le hB
          refine x_iload X d_Ways_find_68 rfl ?_
          refine x_iconst X d_Ways_find_70 k_ic_m1 ?_
          refine x_icmp_eqM 142 X d_Ways_find_71 (by decide) (fun j e => by rw [ho] at e; have := lb_some e; omega) (fun c_71 => ?_) (fun j_71 c_71 => ?_)
          · refine x_iincN (lv' := [(0, _), (1, _), (2, _), (3, _), (4, _), (5, _)]) X d_Ways_find_142 rfl (by decide) rfl ?_
            refine x_goto 38 X d_Ways_find_145 (by decide) ?_
            refine x_lv [0, 1, 2, 3, 4] rfl ?_
            refine ihd (k + 1) m ca qu (by omega) hB (by omega) (fun p hp => ?_)
            by_cases q : p = k
            · subst q
              rw [c_71] at ho
              exact fun l _ h2 h3 h4 => if hlx : l < x then absurd h3 (lb_none ho.symm l hlx) else hdn l (by omega) h2 h3 h4
            · exact hO p (by omega)
          · subst c_71
            obtain ⟨l1, l2, l3⟩ := lb_some ho.symm
            obtain ⟨a1, a2⟩ := hTH j_71 (by omega)
            have hr1 := hro j_71 (by omega)
            have hne : ne j_71 = lb (lkT M) (qu k) j_71 := by rw [(w5 j_71 (by omega)).2.2, l2]
            refine x_aload_n X d_Ways_find_74 rfl ?_
            refine x_getf X d_Ways_find_75 f_Ways_18 0 rfl rfl ?_
            refine x_iload X d_Ways_find_78 rfl ?_
            refine x_iald X d_Ways_find_80 3 rfl rfl (by omega) (by decide) ?_
            refine x_istore (lv' := [(0, _), (1, _), (2, _), (3, _), (4, _), (5, _), (6, _)]) X d_Ways_find_81 (by decide) rfl ?_
            refine x_aload_n X d_Ways_find_83 rfl ?_
            refine x_getf X d_Ways_find_84 f_Ways_21 0 rfl rfl ?_
            refine x_iload X d_Ways_find_87 rfl ?_
            refine x_iald X d_Ways_find_89 4 rfl rfl (by omega) (by decide) ?_
            refine x_if_leN 130 X d_Ways_find_90 (by decide) (by omega) (fun c_90 => ?_) (fun c_90 => ?_)
            · have hB2 := hB
              have hk2 := hkm
              have hO2 := hO
              have ho2 := hne
              have hd2 := done_dn hdn (l := j_71) (fun z => by omega) l3
              refine x_aload_n X d_Ways_find_130 rfl ?_
              refine x_getf X d_Ways_find_131 f_Ways_15 0 rfl rfl ?_
              refine x_iload X d_Ways_find_134 rfl ?_
              refine x_iald X d_Ways_find_136 2 rfl rfl (by omega) (by decide) ?_
              refine x_istore (lv' := [(0, _), (1, _), (2, _), (3, _), (4, _), (5, _), (6, _)]) X d_Ways_find_137 (by decide) rfl ?_
              refine x_goto 68 X d_Ways_find_139 (by decide) ?_
              refine x_lv [0, 1, 2, 3, 4, 5] rfl ?_
              exact ihx j_71 l1 _ _ _ _ (by omega) ho2 hB2 hk2 hO2 hd2
            · refine x_aload_n X d_Ways_find_93 rfl ?_
              refine x_getf X d_Ways_find_94 f_Ways_27 0 rfl rfl ?_
              refine x_iload X d_Ways_find_97 rfl ?_
              refine x_iald X d_Ways_find_99 6 rfl rfl (by omega) (by decide) ?_
              refine x_iconst X d_Ways_find_100 k_ic_m1 ?_
              refine x_icmp_neM 130 X d_Ways_find_101 (by decide) (fun j e => by have := bI'_ca hB a2 e; omega) (fun j_101 c_101 => ?_) (fun c_101 => ?_)
              · have hB2 := hB
                have hk2 := hkm
                have hO2 := hO
                have ho2 := hne
                have hd2 := done_dn hdn (l := j_71) (fun z => Or.inr (by rw [c_101]; exact fun z => by cases z)) l3
                refine x_aload_n X d_Ways_find_130 rfl ?_
                refine x_getf X d_Ways_find_131 f_Ways_15 0 rfl rfl ?_
                refine x_iload X d_Ways_find_134 rfl ?_
                refine x_iald X d_Ways_find_136 2 rfl rfl (by omega) (by decide) ?_
                refine x_istore (lv' := [(0, _), (1, _), (2, _), (3, _), (4, _), (5, _), (6, _)]) X d_Ways_find_137 (by decide) rfl ?_
                refine x_goto 68 X d_Ways_find_139 (by decide) ?_
                refine x_lv [0, 1, 2, 3, 4, 5] rfl ?_
                exact ihx j_71 l1 _ _ _ _ (by omega) ho2 hB2 hk2 hO2 hd2
              · refine x_iload X d_Ways_find_104 rfl ?_
                refine x_iload_n X d_Ways_find_106 rfl ?_
                refine x_icmp_eqN 130 X d_Ways_find_107 (by decide) (by omega) (by omega) (fun c_107 => ?_) (fun c_107 => ?_)
                · have hB2 := hB
                  have hk2 := hkm
                  have hO2 := hO
                  have ho2 := hne
                  have hd2 := done_dn hdn (l := j_71) (fun z => Or.inl c_107) l3
                  refine x_aload_n X d_Ways_find_130 rfl ?_
                  refine x_getf X d_Ways_find_131 f_Ways_15 0 rfl rfl ?_
                  refine x_iload X d_Ways_find_134 rfl ?_
                  refine x_iald X d_Ways_find_136 2 rfl rfl (by omega) (by decide) ?_
                  refine x_istore (lv' := [(0, _), (1, _), (2, _), (3, _), (4, _), (5, _), (6, _)]) X d_Ways_find_137 (by decide) rfl ?_
                  refine x_goto 68 X d_Ways_find_139 (by decide) ?_
                  refine x_lv [0, 1, 2, 3, 4, 5] rfl ?_
                  exact ihx j_71 l1 _ _ _ _ (by omega) ho2 hB2 hk2 hO2 hd2
                · have hB2 := bI'_s hB hkm (l := j_71) (by omega) rfl c_90 l2 c_101 c_107 a2
                  have hk2 : k < m + 1 := by omega
                  have hm1 := bI'_le hB2
                  have hO2 : ∀ p, p < k → done_ s lk (lkT M) hd ro (va_up ca (hd j_71) (some j_71)) (va_up qu m (hd j_71) p) 0 := fun p hp => by
                    rw [va_up_ne _ _ (by omega)]
                    exact done_up (hO p hp)
                  have ho2 : ne j_71 = lb (lkT M) (va_up qu m (hd j_71) k) j_71 := by rw [va_up_ne _ _ (by omega)]; exact hne
                  have hd2 : done_ s lk (lkT M) hd ro (va_up ca (hd j_71) (some j_71)) (va_up qu m (hd j_71) k) j_71 := by
                    rw [va_up_ne _ _ (by omega)]
                    exact done_dn (done_up hdn) (fun z => Or.inr (by rw [va_up_self]; exact fun z => by cases z)) l3
                  refine x_aload_n X d_Ways_find_110 rfl ?_
                  refine x_getf X d_Ways_find_111 f_Ways_27 0 rfl rfl ?_
                  refine x_iload X d_Ways_find_114 rfl ?_
                  refine x_iload X d_Ways_find_116 rfl ?_
                  refine x_iast (w' := wW b h _ _ _ _ _ _ _ _ _) X d_Ways_find_118 6 rfl rfl (by omega) (by decide) (upd_oI _ _ _) rfl ?_
                  refine x_aload_n X d_Ways_find_119 rfl ?_
                  refine x_getf X d_Ways_find_120 f_Ways_30 0 rfl rfl ?_
                  refine x_iload_n X d_Ways_find_123 rfl ?_
                  refine x_iincN (lv' := [(0, _), (1, _), (2, _), (3, _), (4, _), (5, _), (6, _)]) X d_Ways_find_124 rfl (by decide) rfl ?_
                  refine x_iload X d_Ways_find_127 rfl ?_
                  refine x_iast (w' := wW b h _ _ _ _ _ _ _ _ _) X d_Ways_find_129 7 rfl rfl (by omega) (by decide) (upd_nI _ _ _) rfl ?_
                  refine x_aload_n X d_Ways_find_130 rfl ?_
                  refine x_getf X d_Ways_find_131 f_Ways_15 0 rfl rfl ?_
                  refine x_iload X d_Ways_find_134 rfl ?_
                  refine x_iald X d_Ways_find_136 2 rfl rfl (by omega) (by decide) ?_
                  refine x_istore (lv' := [(0, _), (1, _), (2, _), (3, _), (4, _), (5, _), (6, _)]) X d_Ways_find_137 (by decide) rfl ?_
                  refine x_goto 68 X d_Ways_find_139 (by decide) ?_
                  refine x_lv [0, 1, 2, 3, 4, 5] rfl ?_
                  exact ihx j_71 l1 _ _ _ _ (by omega) ho2 hB2 hk2 hO2 hd2
      refine x_iload X d_Ways_find_38 rfl ?_
      refine x_iload_n X d_Ways_find_40 rfl ?_
      refine x_icmp_geN 148 X d_Ways_find_41 (by decide) (by omega) (by omega) (fun c_41 => ?_) (fun c_41 => ?_)
      · refine x_aload_n X d_Ways_find_148 rfl ?_
        refine x_getf X d_Ways_find_149 f_Ways_27 0 rfl rfl ?_
        refine x_iload_n X d_Ways_find_152 rfl ?_
        refine x_iald X d_Ways_find_153 6 rfl rfl (by omega) (by decide) ?_
        refine x_iconst X d_Ways_find_154 k_ic_m1 ?_
        refine x_icmp_eqM 162 X d_Ways_find_155 (by decide) (fun j e => by have := bI'_ca hB ht e; omega) (fun c_155 => ?_) (fun j_155 c_155 => ?_)
        · refine x_iconst X d_Ways_find_162 k_ic_0 ?_
          refine x_top (show nI 0 = bI false from rfl) ?_
          exact x_ret X Y d_Ways_find_163 (bI_nar _) (Nat.le_of_ble_eq_true rfl) ⟨_, rfl, false, _, _, rfl, rfl, (fun z => by cases z), fun _ => by first | (rw [c_51] at c_155; cases c_155; done) | exact fF_of hB hTH (fun p hp => hO p (by omega)) c_155 hst⟩
        · refine x_iconst X d_Ways_find_158 k_ic_1 ?_
          refine x_goto 163 X d_Ways_find_159 (by decide) ?_
          refine x_top (show nI 1 = bI true from rfl) ?_
          exact x_ret X Y d_Ways_find_163 (bI_nar _) (Nat.le_of_ble_eq_true rfl) ⟨_, rfl, true, _, _, rfl, rfl, (fun _ => by obtain ⟨p, p0, p1, e⟩ := hB.2.2.2.2.2.1 t ht (by rw [c_155]; exact fun z => by cases z); exact ⟨m, p, hB, p0, p1, e⟩), (fun z => by cases z)⟩
      · refine x_aload_n X d_Ways_find_44 rfl ?_
        refine x_getf X d_Ways_find_45 f_Ways_27 0 rfl rfl ?_
        refine x_iload_n X d_Ways_find_48 rfl ?_
        refine x_iald X d_Ways_find_49 6 rfl rfl (by omega) (by decide) ?_
        refine x_iconst X d_Ways_find_50 k_ic_m1 ?_
        refine x_icmp_neM 148 X d_Ways_find_51 (by decide) (fun j e => by have := bI'_ca hB ht e; omega) (fun j_51 c_51 => ?_) (fun c_51 => ?_)
        · refine x_aload_n X d_Ways_find_148 rfl ?_
          refine x_getf X d_Ways_find_149 f_Ways_27 0 rfl rfl ?_
          refine x_iload_n X d_Ways_find_152 rfl ?_
          refine x_iald X d_Ways_find_153 6 rfl rfl (by omega) (by decide) ?_
          refine x_iconst X d_Ways_find_154 k_ic_m1 ?_
          refine x_icmp_eqM 162 X d_Ways_find_155 (by decide) (fun j e => by have := bI'_ca hB ht e; omega) (fun c_155 => ?_) (fun j_155 c_155 => ?_)
          · refine x_iconst X d_Ways_find_162 k_ic_0 ?_
            refine x_top (show nI 0 = bI false from rfl) ?_
            exact x_ret X Y d_Ways_find_163 (bI_nar _) (Nat.le_of_ble_eq_true rfl) ⟨_, rfl, false, _, _, rfl, rfl, (fun z => by cases z), fun _ => by first | (rw [c_51] at c_155; cases c_155; done) | exact fF_of hB hTH (fun p hp => hO p (by omega)) c_155 hst⟩
          · refine x_iconst X d_Ways_find_158 k_ic_1 ?_
            refine x_goto 163 X d_Ways_find_159 (by decide) ?_
            refine x_top (show nI 1 = bI true from rfl) ?_
            exact x_ret X Y d_Ways_find_163 (bI_nar _) (Nat.le_of_ble_eq_true rfl) ⟨_, rfl, true, _, _, rfl, rfl, (fun _ => by obtain ⟨p, p0, p1, e⟩ := hB.2.2.2.2.2.1 t ht (by rw [c_155]; exact fun z => by cases z); exact ⟨m, p, hB, p0, p1, e⟩), (fun z => by cases z)⟩
        · refine x_aload_n X d_Ways_find_54 rfl ?_
          refine x_getf X d_Ways_find_55 f_Ways_11 0 rfl rfl ?_
          refine x_aload_n X d_Ways_find_58 rfl ?_
          refine x_getf X d_Ways_find_59 f_Ways_30 0 rfl rfl ?_
          refine x_iload X d_Ways_find_62 rfl ?_
          refine x_iald X d_Ways_find_64 7 rfl rfl (by omega) (by decide) ?_
          refine x_iald X d_Ways_find_65 1 rfl rfl (by have := hB.2.2.2.1 k (by omega); omega) (by decide) ?_
          refine x_istore (lv' := [(0, _), (1, _), (2, _), (3, _), (4, _), (5, _)]) X d_Ways_find_66 (by decide) rfl ?_
          exact inner lk m ca qu _ (Nat.le_refl _) (w6 _ (hB.2.2.2.1 k (by omega))) hB (by omega) hO (fun l h1 h2 => by omega)
  have loop := loopU (P := fun i => xW b G 0 0 (wW b h nd lk fi ne hd ro fu (clr ca i) qu) 2 [(0, .ref (h 8)), (1, .int (nI s)), (2, .int (nI t)), (3, .int (nI i))] []) nd (fun i hi ih => by
    refine x_iload_n X d_Ways_find_2 rfl ?_
    refine x_aload_n X d_Ways_find_3 rfl ?_
    refine x_getf X d_Ways_find_4 f_Ways_33 0 rfl rfl ?_
    refine x_icmp_geN 23 X d_Ways_find_7 (by decide) (by omega) (by omega) (fun c_7 => ?_) (fun c_7 => ?_)
    · obtain rfl : i = nd := by omega
      refine x_iconst X d_Ways_find_23 k_ic_0 ?_
      refine x_istore_n (lv' := [(0, _), (1, _), (2, _), (3, _)]) X d_Ways_find_24 (by decide) rfl ?_
      refine x_aload_n X d_Ways_find_25 rfl ?_
      refine x_getf X d_Ways_find_26 f_Ways_30 0 rfl rfl ?_
      refine x_iload_n X d_Ways_find_29 rfl ?_
      refine x_iincN (lv' := [(0, _), (1, _), (2, _), (3, _)]) X d_Ways_find_30 rfl (by decide) rfl ?_
      refine x_iload_n X d_Ways_find_33 rfl ?_
      refine x_iast (w' := wW b h _ _ _ _ _ _ _ _ _) X d_Ways_find_34 7 rfl rfl (by omega) (by decide) (upd_nI _ _ _) rfl ?_
      refine x_iconst X d_Ways_find_35 k_ic_0 ?_
      refine x_istore (lv' := [(0, _), (1, _), (2, _), (3, _), (4, _)]) X d_Ways_find_36 (by decide) rfl ?_
      exact outer i 0 1 _ _ (by omega) (bI'_0 hs (fun v hv => clr_lt hv) (va_up_self _ _ _)) (by omega) (fun p hp => by omega)
    · refine x_aload_n X d_Ways_find_10 rfl ?_
      refine x_getf X d_Ways_find_11 f_Ways_27 0 rfl rfl ?_
      refine x_iload_n X d_Ways_find_14 rfl ?_
      refine x_iconst X d_Ways_find_15 k_ic_m1 ?_
      refine x_iast (w' := wW b h _ _ _ _ _ _ _ _ _) X d_Ways_find_16 6 rfl rfl (by omega) (by decide) (upd_oI _ _ none) rfl ?_
      refine x_iincN (lv' := [(0, _), (1, _), (2, _), (3, _)]) X d_Ways_find_17 rfl (by decide) rfl ?_
      refine x_goto 2 X d_Ways_find_20 (by decide) ?_
      have q := ih (by omega)
      rw [← clr_s] at q
      exact q
  )
  have q := loop 0 (Nat.zero_le _)
  rw [clr_0] at q
  refine x_iconst X d_Ways_find_0 k_ic_0 ?_
  refine x_istore_n (lv' := [(0, _), (1, _), (2, _), (3, _)]) X d_Ways_find_1 (by decide) rfl ?_
  exact q
end WAYS
end
section
/-! PURE: sums, what crosses a cut -/
def isum (f : Nat → Int) : Nat → Int
  | 0 => 0
  | n + 1 => isum f n + f n
theorem isum_congr {f g : Nat → Int} {n : Nat} (h : ∀ j, j < n → f j = g j) : isum f n = isum g n := by
  induction n with
  | zero => rfl
  | succ n ih => simp only [isum]; rw [ih (fun j hj => h j (by omega)), h n (by omega)]
theorem isum_le {f g : Nat → Int} {n : Nat} (h : ∀ j, j < n → f j ≤ g j) : isum f n ≤ isum g n := by
  induction n with
  | zero => exact Int.le_refl _
  | succ n ih =>
    simp only [isum]
    have := ih (fun j hj => h j (by omega))
    have := h n (by omega)
    omega
theorem isum_one {f g : Nat → Int} {n l : Nat} (hl : l < n) (h : ∀ j, j < n → j ≠ l → f j = g j) : isum f n = isum g n + (f l - g l) := by
  induction n with
  | zero => omega
  | succ n ih =>
    simp only [isum]
    by_cases q : l = n
    · subst q
      rw [isum_congr (fun j hj => h j (by omega) (by omega))]
      omega
    · rw [ih (by omega) (fun j hj hn => h j (by omega) hn), h n (by omega) (by omega)]
      omega
theorem isum_zero {f : Nat → Int} {n : Nat} (h : ∀ j, j < n → f j = 0) : isum f n = 0 := by
  induction n with
  | zero => rfl
  | succ n ih => simp only [isum]; rw [ih (fun j hj => h j (by omega)), h n (by omega)]; rfl
theorem isum_2 (f : Nat → Int) (n : Nat) : isum f (n + 2) = f 0 + f 1 + isum (fun l => f (l + 2)) n := by
  induction n with
  | zero => simp [isum]
  | succ n ih =>
    show isum f (n + 2) + f (n + 2) = _
    rw [ih]
    simp only [isum]
    omega
def crs (X : Nat → Bool) (u v : Nat) : Bool := !X u && X v
def cap (M : lkL) (X : Nat → Bool) : Nat := (M.map (fun q => if crs X q.1 q.2.1 then q.2.2 else 0)).sum
theorem cap_app (M N : lkL) (X : Nat → Bool) : cap (M ++ N) X = cap M X + cap N X := by simp [cap]
theorem cap_isum (M : lkL) (X : Nat → Bool) : isum (fun l => if crs X (lkT M l) (lkH M l) then (lkC M l : Int) else 0) (2 * M.length) = (cap M X : Int) := by
  induction M with
  | nil => rfl
  | cons q M ih =>
    rw [show 2 * (q :: M).length = 2 * M.length + 2 by simp; omega, isum_2]
    have e : ∀ l, lkT (q :: M) (l + 2) = lkT M l ∧ lkH (q :: M) (l + 2) = lkH M l ∧ lkC (q :: M) (l + 2) = lkC M l := by
      intro l
      have e1 : (l + 2) / 2 = l / 2 + 1 := by omega
      have e2 : (l + 2) % 2 = l % 2 := by omega
      simp only [lkT, lkH, lkC, e1, e2, List.getElem?_cons_succ, and_self]
    rw [isum_congr (g := fun l => if crs X (lkT M l) (lkH M l) then (lkC M l : Int) else 0) (fun l _ => by rw [(e l).1, (e l).2.1, (e l).2.2]), ih]
    have a0 : lkT (q :: M) 0 = q.1 ∧ lkH (q :: M) 0 = q.2.1 ∧ lkC (q :: M) 0 = q.2.2 ∧ lkC (q :: M) 1 = 0 := ⟨rfl, rfl, rfl, rfl⟩
    have hc : cap (q :: M) X = (if crs X q.1 q.2.1 then q.2.2 else 0) + cap M X := by simp [cap]
    rw [a0.1, a0.2.1, a0.2.2.1, a0.2.2.2, hc]
    by_cases z : crs X q.1 q.2.1 = true
    · rw [if_pos z, if_pos z]
      by_cases z2 : crs X (lkT (q :: M) 1) (lkH (q :: M) 1) = true
      · rw [if_pos z2]; omega
      · rw [if_neg z2]; omega
    · rw [if_neg z, if_neg z]
      by_cases z2 : crs X (lkT (q :: M) 1) (lkH (q :: M) 1) = true
      · rw [if_pos z2]; omega
      · rw [if_neg z2]; omega
/-- what flows into X -/
def flo (M : lkL) (X : Nat → Bool) (ro : Nat → Nat) : Int := isum (fun l => if crs X (lkT M l) (lkH M l) then (lkC M l : Int) - (ro l : Int) else 0) (2 * M.length)
def rOK (M : lkL) (ro : Nat → Nat) : Prop := ∀ l, l < 2 * M.length → ro l + ro (l ^^^ 1) = lkC M l + lkC M (l ^^^ 1)
def bz (c : Bool) : Int := if c then 1 else 0
theorem flo_0 {M : lkL} {X : Nat → Bool} {ro : Nat → Nat} (h : ∀ l, l < 2 * M.length → ro l = lkC M l) : flo M X ro = 0 := by
  refine isum_zero (fun l hl => ?_)
  rw [h l hl]
  split <;> omega
theorem flo_le {M : lkL} {X : Nat → Bool} {ro : Nat → Nat} : flo M X ro ≤ (cap M X : Int) := by
  rw [← cap_isum]
  refine isum_le (fun l _ => ?_)
  split <;> omega
theorem flo_eq {M : lkL} {X : Nat → Bool} {ro : Nat → Nat} (h : ∀ l, l < 2 * M.length → X (lkT M l) = false → X (lkH M l) = true → ro l = 0) : flo M X ro = (cap M X : Int) := by
  rw [← cap_isum]
  refine isum_congr (fun l hl => ?_)
  by_cases z : crs X (lkT M l) (lkH M l) = true
  · rw [if_pos z, if_pos z]
    simp only [crs, Bool.and_eq_true, Bool.not_eq_true'] at z
    rw [h l hl z.1 z.2]
    omega
  · rw [if_neg z, if_neg z]
theorem rOK_s {M : lkL} {ro : Nat → Nat} {l : Nat} (h : rOK M ro) (hl : l < 2 * M.length) (hM : M.length ≤ 38) (hp : 0 < ro l) : rOK M (va_up (va_up ro l (ro l - 1)) (l ^^^ 1) (va_up ro l (ro l - 1) (l ^^^ 1) + 1)) := by
  have n1 := xor1_ne (l := l) (by omega)
  intro j hj
  have hlx := xor1_lt hl hM
  have h0 := h l hl
  rw [va_up_ne _ _ n1]
  by_cases q : j = l
  · subst q
    rw [va_up_self, va_up_ne _ _ (fun z => n1 z.symm), va_up_self]
    omega
  · by_cases q2 : j = l ^^^ 1
    · subst q2
      rw [va_up_self, xor1_xor, va_up_ne _ _ (fun z => n1 z.symm), va_up_self, Nat.add_comm (lkC M (l ^^^ 1))]
      omega
    · have q3 : j ^^^ 1 ≠ l := fun z => q2 (by rw [← z, xor1_xor])
      have q4 : j ^^^ 1 ≠ l ^^^ 1 := fun z => q (by have := congrArg (· ^^^ 1) z; simpa [xor1_xor] using this)
      rw [va_up_ne _ _ q2, va_up_ne _ _ q, va_up_ne _ _ q4, va_up_ne _ _ q3]
      exact h j hj
theorem flo_s {M : lkL} {X : Nat → Bool} {ro : Nat → Nat} {l : Nat} (hl : l < 2 * M.length) (hM : M.length ≤ 38) (hp : 0 < ro l) : flo M X (va_up (va_up ro l (ro l - 1)) (l ^^^ 1) (va_up ro l (ro l - 1) (l ^^^ 1) + 1)) = flo M X ro + bz (X (lkH M l)) - bz (X (lkT M l)) := by
  have n1 := xor1_ne (l := l) (by omega)
  have hlx := xor1_lt hl hM
  have e1 : flo M X (va_up (va_up ro l (ro l - 1)) (l ^^^ 1) (va_up ro l (ro l - 1) (l ^^^ 1) + 1)) = flo M X (va_up ro l (ro l - 1)) + (if crs X (lkH M l) (lkT M l) then -1 else 0) := by
    simp only [flo]
    rw [isum_one hlx (g := fun j => if crs X (lkT M j) (lkH M j) then (lkC M j : Int) - ((va_up ro l (ro l - 1) j : Nat) : Int) else 0) (fun j _ hj => by rw [va_up_ne _ _ hj])]
    rw [va_up_self, lkT_x M (by omega), lkH_x M (by omega)]
    by_cases z : crs X (lkH M l) (lkT M l) = true
    · rw [if_pos z, if_pos z, if_pos z]; omega
    · rw [if_neg z, if_neg z, if_neg z]; omega
  have e2 : flo M X (va_up ro l (ro l - 1)) = flo M X ro + (if crs X (lkT M l) (lkH M l) then 1 else 0) := by
    simp only [flo]
    rw [isum_one hl (g := fun j => if crs X (lkT M j) (lkH M j) then (lkC M j : Int) - (ro j : Int) else 0) (fun j _ hj => by rw [va_up_ne _ _ hj])]
    rw [va_up_self]
    by_cases z : crs X (lkT M l) (lkH M l) = true
    · rw [if_pos z, if_pos z, if_pos z]; omega
    · rw [if_neg z, if_neg z, if_neg z]; omega
  rw [e1, e2]
  cases hu : X (lkT M l) <;> cases hv : X (lkH M l) <;> simp [crs, bz, hu, hv] <;> omega
/-- what count answers: the least of k and what crosses the narrowest cut -/
def mcut (M : lkL) (s t k r : Nat) : Prop := r ≤ k ∧ (∀ X : Nat → Bool, X s = false → X t = true → r ≤ cap M X) ∧ (r < k → ∃ X : Nat → Bool, X s = false ∧ X t = true ∧ cap M X ≤ r)
theorem cpy_nI (f g : Nat → Nat) (c : Nat) : va_cpy (fun j => nI (f j)) (fun j => nI (g j)) 0 0 c = fun j => nI (va_cpy f g 0 0 c j) := by
  funext j
  simp only [va_cpy]
  split <;> rfl
theorem cpy_lt {f g : Nat → Nat} {c j : Nat} (h : j < c) : va_cpy f g 0 0 c j = f j := by
  rw [pk_cpy_in (by omega) (by omega)]
  congr 1
  omega
theorem rOK_lt {nd : Nat} {M : lkL} {ro : Nat → Nat} (h : rOK M ro) (hM : M.length ≤ 38) (hq : ∀ q ∈ M, q.1 < nd ∧ q.2.1 < nd ∧ q.2.2 ≤ 14) {l : Nat} (hl : l < 2 * M.length) : ro l < 100 := by
  have a := h l hl
  have b := lkT_lt hq hl
  have c := lkT_lt hq (xor1_lt hl hM)
  omega
end
section
/-! WAYS: count -/
section WAYC
variable {b : xB} {h : Nat → Nat} {nd lk : Nat} {fi ne : Nat → Option Nat} {hd ro fu : Nat → Nat} {ca : Nat → Option Nat} {qu : Nat → Nat}
set_option maxRecDepth 20000 in
set_option maxHeartbeats 1000000 in
theorem ct_Ways_count {M : lkL} {s t k : Nat} (hW : wOK nd M lk fi ne hd fu) (hs : s < nd) (ht : t < nd) (hst : t ≠ s) (hk : k ≤ 14) : xCt b y_Ways_count b_Ways_count 7 (some .int) q_Ways_count [.ref (h 8), .int (nI s), .int (nI t), .int (nI k)] (wW b h nd lk fi ne hd ro fu ca qu)
    (xIn (fun r w' => ∃ x ro' ca' qu', r = nI x ∧ w' = wW b h nd lk fi ne hd ro' fu ca' qu' ∧ mcut M s t k x)) := by
  refine x_met (by decide +kernel) rfl (Nat.le_of_ble_eq_true rfl) (fun G X Y => ?_)
  obtain ⟨w1, w2, w3, w4, w5, w6⟩ := id hW
  have hH : ∀ l, l < lk → hd l = lkH M l := fun l hl => (w5 l hl).1
  have outer := loopU (P := fun n => ∀ (ro : Nat → Nat) (ca : Nat → Option Nat) (qu : Nat → Nat), rOK M ro → (∀ X : Nat → Bool, X s = false → flo M X ro = if X t then (n : Int) else 0) → xW b G 0 0 (wW b h nd lk fi ne hd ro fu ca qu) 20 [(0, .ref (h 8)), (1, .int (nI s)), (2, .int (nI t)), (3, .int (nI k)), (4, .int (nI n))] []) k (fun n hn ih ro ca qu hr hfl => by
    have low : ∀ X : Nat → Bool, X s = false → X t = true → n ≤ cap M X := fun X h1 h2 => by
      have a := hfl X h1
      rw [if_pos h2] at a
      have c := flo_le (M := M) (X := X) (ro := ro)
      omega
    refine x_iload X d_Ways_count_20 rfl ?_
    refine x_iload_n X d_Ways_count_22 rfl ?_
    refine x_icmp_geN 97 X d_Ways_count_23 (by decide) (by omega) (by omega) (fun c_23 => ?_) (fun c_23 => ?_)
    · have fin : mcut M s t k n := ⟨hn, low, fun z => by omega⟩
      refine x_iload X d_Ways_count_97 rfl ?_
      exact x_ret X Y d_Ways_count_99 rfl (Nat.le_of_ble_eq_true rfl) ⟨_, rfl, _, _, _, _, rfl, rfl, fin⟩
    · refine x_aload_n X d_Ways_count_26 rfl ?_
      refine x_iload_n X d_Ways_count_27 rfl ?_
      refine x_iload_n X d_Ways_count_28 rfl ?_
      refine x_callA X d_Ways_count_29 c_Ways_50 (ct_Ways_find hW hs ht hst (fun l hl => rOK_lt hr w2 w4 (by omega))) rfl rfl rfl (Nat.le_of_ble_eq_true rfl) ⟨Nat.le_of_ble_eq_true rfl, Nat.le_of_ble_eq_true rfl⟩ ⟨rfl, rfl⟩ ⟨Nat.le_of_ble_eq_true rfl, Nat.le_of_ble_eq_true rfl⟩ (fun v_29 w_29 h_29 => ?_)
      obtain ⟨r_29, rfl, cf, ca', qu', rfl, rfl, hfT, hfF⟩ := h_29
      refine ⟨rfl, ?_⟩
      refine x_st (st' := [_]) rfl ?_
      refine x_if_eqB 97 X d_Ways_count_32 (by decide) (fun c_32 => ?_) (fun c_32 => ?_)
      · have fin : mcut M s t k n := ⟨hn, low, fun _ => by
          obtain ⟨Z, z1, z2, z3⟩ := hfF c_32
          refine ⟨Z, z2, z1, ?_⟩
          have a := hfl Z z2
          rw [if_pos z1, flo_eq (fun l hl q1 q2 => z3 l (by omega) q1 (by rw [hH l (by omega)]; exact q2))] at a
          omega⟩
        refine x_iload X d_Ways_count_97 rfl ?_
        exact x_ret X Y d_Ways_count_99 rfl (Nat.le_of_ble_eq_true rfl) ⟨_, rfl, _, _, _, _, rfl, rfl, fin⟩
      · obtain ⟨m, p0, hB, p1, p2, ept⟩ := hfT c_32
        obtain ⟨b1, b2, b3, b4, b5, b6, b7⟩ := id hB
        refine x_iload_n X d_Ways_count_35 rfl ?_
        refine x_istore (lv' := [(0, _), (1, _), (2, _), (3, _), (4, _), (5, _)]) X d_Ways_count_36 (by decide) rfl ?_
        have path : ∀ (p : Nat) (ro' : Nat → Nat) (v : Nat), v = qu' p → p < m → (∀ p', 0 < p' → p' ≤ p → ∀ l, ca' (qu' p') = some l → 0 < ro' l) → rOK M ro' → (∀ X : Nat → Bool, X s = false → flo M X ro' = (if X t then ((n + 1 : Nat) : Int) else 0) - bz (X (qu' p))) → xW b G 0 0 (wW b h nd lk fi ne hd ro' fu ca' qu') 38 [(0, .ref (h 8)), (1, .int (nI s)), (2, .int (nI t)), (3, .int (nI k)), (4, .int (nI n)), (5, .int (nI v))] [] := by
          intro p
          induction p using Nat.strongRecOn with
          | ind p ihp =>
            intro ro' v hv hpm hpos hr' hfl'
            have hvn := b4 p hpm
            refine x_iload X d_Ways_count_38 rfl ?_
            refine x_iload_n X d_Ways_count_40 rfl ?_
            refine x_icmp_eqN 91 X d_Ways_count_41 (by decide) (by omega) (by omega) (fun c_41 => ?_) (fun c_41 => ?_)
            · refine x_iincN (lv' := [(0, _), (1, _), (2, _), (3, _), (4, _), (5, _)]) X d_Ways_count_91 rfl (by decide) rfl ?_
              refine x_goto 20 X d_Ways_count_94 (by decide) ?_
              refine x_lv [0, 1, 2, 3, 4] rfl ?_
              refine ih (by omega) ro' ca' qu' hr' (fun Z hZ => ?_)
              rw [hfl' Z hZ, ← hv, c_41, hZ]
              simp [bz]
            · have hp0 : 0 < p := Nat.pos_of_ne_zero (fun z => c_41 (by rw [hv, z, b2]))
              obtain ⟨l, c1, c2, c3, c4, p', c5, c6⟩ := b5 p hpm hp0
              have hl1 := hpos p hp0 (Nat.le_refl _) l c1
              have hx1 := xor1_lt (l := l) (L := M.length) (by omega) w2
              have hx2 := xor1_ne (l := l) (by omega)
              refine x_aload_n X d_Ways_count_44 rfl ?_
              refine x_getf X d_Ways_count_45 f_Ways_27 0 rfl rfl ?_
              refine x_iload X d_Ways_count_48 rfl ?_
              refine x_iald X d_Ways_count_50 6 rfl rfl (by omega) (by decide) ?_
              refine x_top (show oI (ca' v) = nI l by rw [hv, c1]; rfl) ?_
              refine x_istore (lv' := [(0, _), (1, _), (2, _), (3, _), (4, _), (5, _), (6, _)]) X d_Ways_count_51 (by decide) rfl ?_
              refine x_aload_n X d_Ways_count_53 rfl ?_
              refine x_getf X d_Ways_count_54 f_Ways_21 0 rfl rfl ?_
              refine x_iload X d_Ways_count_57 rfl ?_
              refine x_dup2 X d_Ways_count_59 rfl rfl ?_
              refine x_iald X d_Ways_count_60 4 rfl rfl (by omega) (by decide) ?_
              refine x_iconst X d_Ways_count_61 k_ic_1 ?_
              refine x_isubN X d_Ways_count_62 (by omega) ?_
              refine x_iast (w' := wW b h _ _ _ _ _ _ _ _ _) X d_Ways_count_63 4 rfl rfl (by omega) (by decide) (upd_nI _ _ _) rfl ?_
              refine x_aload_n X d_Ways_count_64 rfl ?_
              refine x_getf X d_Ways_count_65 f_Ways_21 0 rfl rfl ?_
              refine x_iload X d_Ways_count_68 rfl ?_
              refine x_iconst X d_Ways_count_70 k_ic_1 ?_
              refine x_ixorN X d_Ways_count_71 ?_
              refine x_dup2 X d_Ways_count_72 rfl rfl ?_
              refine x_iald X d_Ways_count_73 4 rfl rfl (by omega) (by decide) ?_
              refine x_iconst X d_Ways_count_74 k_ic_1 ?_
              refine x_iaddN X d_Ways_count_75 ?_
              refine x_iast (w' := wW b h _ _ _ _ _ _ _ _ _) X d_Ways_count_76 4 rfl rfl (by omega) (by decide) (upd_nI _ _ _) rfl ?_
              refine x_aload_n X d_Ways_count_77 rfl ?_
              refine x_getf X d_Ways_count_78 f_Ways_18 0 rfl rfl ?_
              refine x_iload X d_Ways_count_81 rfl ?_
              refine x_iconst X d_Ways_count_83 k_ic_1 ?_
              refine x_ixorN X d_Ways_count_84 ?_
              refine x_iald X d_Ways_count_85 3 rfl rfl (by omega) (by decide) ?_
              refine x_istore (lv' := [(0, _), (1, _), (2, _), (3, _), (4, _), (5, _), (6, _)]) X d_Ways_count_86 (by decide) rfl ?_
              refine x_goto 38 X d_Ways_count_88 (by decide) ?_
              refine x_lv [0, 1, 2, 3, 4, 5] rfl ?_
              refine ihp p' c5 _ _ (by rw [hH _ (by omega), lkH_x M (by omega)]; exact c6.symm) (by omega) (fun p2 g1 g2 l2 g3 => ?_) (rOK_s hr' (by omega) w2 hl1) (fun Z hZ => ?_)
              · have hne2 : l2 ≠ l := fun z => by
                  obtain ⟨l3, d1, d2, d3, -⟩ := b5 p2 (by omega) g1
                  rw [g3] at d1
                  cases d1
                  rw [z, c3] at d3
                  have := b7 p p2 hpm (by omega) d3
                  omega
                have g4 := hpos p2 g1 (by omega) l2 g3
                by_cases q : l2 = l ^^^ 1
                · rw [q, va_up_self]; omega
                · rw [va_up_ne _ _ q, va_up_ne _ _ hne2]; exact g4
              · rw [flo_s (by omega) w2 hl1, hfl' Z hZ, ← hH l c2, c3, c6]
                omega
        exact path p0 ro t ept.symm p2 (fun p' h1 h2 l hl => by
          obtain ⟨l', c1, -, -, c4, -⟩ := b5 p' (by omega) h1
          rw [hl] at c1
          cases c1
          exact c4) hr (fun X hX => by
          rw [hfl X hX, ept]
          cases X t <;> simp [bz])
  )
  have q := outer 0 (Nat.zero_le _) (va_cpy fu ro 0 0 lk) ca qu (fun l hl => by
    rw [cpy_lt (by omega), cpy_lt (by rw [w1]; exact xor1_lt hl w2), (w5 l (by omega)).2.1, (w5 _ (by rw [w1]; exact xor1_lt hl w2)).2.1]) (fun X hX => by
    rw [flo_0 (fun l hl => by rw [cpy_lt (by omega)]; exact (w5 l (by omega)).2.1)]
    split <;> rfl)
  refine x_aload_n X d_Ways_count_0 rfl ?_
  refine x_getf X d_Ways_count_1 f_Ways_24 0 rfl rfl ?_
  refine x_iconst X d_Ways_count_4 k_ic_0 ?_
  refine x_aload_n X d_Ways_count_5 rfl ?_
  refine x_getf X d_Ways_count_6 f_Ways_21 0 rfl rfl ?_
  refine x_iconst X d_Ways_count_9 k_ic_0 ?_
  refine x_aload_n X d_Ways_count_10 rfl ?_
  refine x_getf X d_Ways_count_11 f_Ways_37 0 rfl rfl ?_
  refine x_copy (w' := wW b h _ _ _ _ _ _ _ _ _) X d_Ways_count_14 m_234 5 4 rfl rfl rfl rfl (by omega) (by omega) (by decide) (Nat.le_of_ble_eq_true rfl) (Nat.le_of_ble_eq_true rfl) (cpy_nI _ _ _) rfl ?_
  refine x_iconst X d_Ways_count_17 k_ic_0 ?_
  refine x_istore (lv' := [(0, _), (1, _), (2, _), (3, _), (4, _)]) X d_Ways_count_18 (by decide) rfl ?_
  exact q
end WAYC
end
section
/-! WAYS: the contracts over the links that they hold -/
theorem xCt_mono {b : xB} {y : MethodName} {bytes : ByteArray} {maxL : Nat} {ret : Option FieldType} {rm : Room} {av : List Value} {w : va_W} {φ φ' : Option Value → va_W → Prop} (h : ∀ v w', φ v w' → φ' v w') (c : xCt b y bytes maxL ret rm av w φ) : xCt b y bytes maxL ret rm av w φ' := by
  intro sz p e ha hc hk s m args below hf happ hP ht
  obtain ⟨k, o, h1, h2, h3, ⟨v, w', q1, q2, q3⟩, L, hL⟩ := c sz p e ha hc hk s m args below hf happ hP ht
  exact ⟨k, o, h1, h2, h3, ⟨v, w', q1, h v w' q2, q3⟩, L, hL⟩
def uOK (u : xWs) (nd : Nat) (M : lkL) : Prop := u.1 = nd ∧ wOK nd M u.2.1 u.2.2.1 u.2.2.2.1 u.2.2.2.2.1 u.2.2.2.2.2.2.1
section WU
variable {b : xB} {h : Nat → Nat} {u : xWs}
theorem cu_Ways_begin {m : Nat} (hm : m ≤ 11) : xCt b y_Ways_begin b_Ways_begin 3 none q_Ways_begin [.ref (h 8), .int (nI m)] (wS b h u) (xVd (fun w => ∃ u', w = wS b h u' ∧ uOK u' m [])) := by
  refine xCt_mono (fun v w' hφ => ?_) (ct_Ways_begin hm)
  obtain ⟨rfl, rfl⟩ := hφ
  exact ⟨rfl, (m, 0, clr u.2.2.1 m, u.2.2.2), rfl, rfl, wOK_0 hm (fun v hv => clr_lt hv)⟩
theorem cu_Ways_link {nd : Nat} {M : lkL} {a c w : Nat} (hu : uOK u nd M) (hM : M.length < 38) (ha : a < nd) (hc : c < nd) (hw : w ≤ 14) : xCt b y_Ways_link b_Ways_link 4 none q_Ways_link [.ref (h 8), .int (nI a), .int (nI c), .int (nI w)] (wS b h u) (xVd (fun w' => ∃ u', w' = wS b h u' ∧ uOK u' nd (M ++ [(a, c, w)]))) := by
  obtain ⟨nd', lk, fi, ne, hd, ro, fu, ca, qu⟩ := u
  obtain ⟨h1, h2⟩ := hu
  have h2 : wOK nd M lk fi ne hd fu := h2
  have h3 : lk = 2 * M.length := h2.1
  have h4 : nd ≤ 11 := h2.2.2.1
  have e : xCt b y_Ways_link b_Ways_link 4 none q_Ways_link [.ref (h 8), .int (nI a), .int (nI c), .int (nI w)] (wW b h nd' lk fi ne hd ro fu ca qu) _ := ct_Ways_link (a := a) (c := c) (w := w) (by omega) (by omega) (by omega)
  refine xCt_mono (fun v w' hφ => ?_) e
  obtain ⟨rfl, rfl⟩ := hφ
  exact ⟨rfl, (nd', lk + 1 + 1, va_up (va_up fi a (some lk)) c (some (lk + 1)), va_up (va_up ne lk (fi a)) (lk + 1) (va_up fi a (some lk) c), va_up (va_up hd lk c) (lk + 1) a, ro, va_up (va_up fu lk w) (lk + 1) 0, ca, qu), rfl, h1, wOK_s h2 hM ha hc hw⟩
theorem cu_Ways_count {nd : Nat} {M : lkL} {s t k : Nat} (hu : uOK u nd M) (hs : s < nd) (ht : t < nd) (hst : t ≠ s) (hk : k ≤ 14) : xCt b y_Ways_count b_Ways_count 7 (some .int) q_Ways_count [.ref (h 8), .int (nI s), .int (nI t), .int (nI k)] (wS b h u) (xIn (fun r w' => ∃ x u', r = nI x ∧ w' = wS b h u' ∧ uOK u' nd M ∧ mcut M s t k x)) := by
  obtain ⟨nd', lk, fi, ne, hd, ro, fu, ca, qu⟩ := u
  obtain ⟨h1, h2⟩ := hu
  have h1 : nd' = nd := h1
  subst h1
  refine xCt_mono (fun v w' hφ => ?_) (ct_Ways_count h2 hs ht hst hk)
  obtain ⟨r, rfl, x, ro', ca', qu', rfl, rfl, hm⟩ := hφ
  exact ⟨_, rfl, x, (nd', lk, fi, ne, hd, ro', fu, ca', qu'), rfl, rfl, ⟨rfl, h2⟩, hm⟩
end WU
/-! PURE: the nets of links that can and most lay -/
def gV (H c : Nat) : Nat → lkL
  | 0 => []
  | v + 1 => gV H c v ++ (if H.testBit v then [(c, v, 1)] else [])
def gI (hv : Nat → Nat) (n : Nat) : Nat → lkL
  | 0 => []
  | i + 1 => gI hv n i ++ ([(n, n + 1 + i, 1)] ++ gV (hv i) (n + 1 + i) n)
def gE (fr to : Nat → Nat) (P : Nat → Bool) : Nat → lkL
  | 0 => []
  | e + 1 => gE fr to P e ++ (if P e then [(fr e, to e, 1)] else [])
theorem gV_len (H c : Nat) : ∀ v, (gV H c v).length ≤ v
  | 0 => Nat.le_refl _
  | v + 1 => by
    have := gV_len H c v
    simp only [gV, List.length_append]
    split <;> simp <;> omega
theorem gI_len (hv : Nat → Nat) (n : Nat) : ∀ i, (gI hv n i).length ≤ i * (n + 1)
  | 0 => by simp [gI]
  | i + 1 => by
    have := gI_len hv n i
    have := gV_len (hv i) (n + 1 + i) n
    simp only [gI, List.length_append, List.length_cons, List.length_nil, Nat.add_mul]
    omega
theorem gE_len (fr to : Nat → Nat) (P : Nat → Bool) : ∀ e, (gE fr to P e).length ≤ e
  | 0 => Nat.le_refl _
  | e + 1 => by
    have := gE_len fr to P e
    simp only [gE, List.length_append]
    split <;> simp <;> omega
/-- how many i under m have P -/
def cnt (P : Nat → Bool) : Nat → Nat
  | 0 => 0
  | m + 1 => cnt P m + (P m).toNat
theorem cnt_congr {P Q : Nat → Bool} {m : Nat} (h : ∀ i, i < m → P i = Q i) : cnt P m = cnt Q m := by
  induction m with
  | zero => rfl
  | succ m ih => simp only [cnt]; rw [ih (fun i hi => h i (by omega)), h m (by omega)]
theorem cnt_pos {P : Nat → Bool} {m i : Nat} (hi : i < m) (h : P i = true) : 1 ≤ cnt P m := by
  induction m with
  | zero => omega
  | succ m ih =>
    simp only [cnt]
    by_cases q : i = m
    · subst q; rw [h]; simp
    · have := ih (by omega); omega
theorem cnt_zero {P : Nat → Bool} {m : Nat} (h : ∀ i, i < m → P i = false) : cnt P m = 0 := by
  induction m with
  | zero => rfl
  | succ m ih => simp only [cnt]; rw [ih (fun i hi => h i (by omega)), h m (by omega)]; rfl
theorem cnt_ex {P : Nat → Bool} {m : Nat} (h : 0 < cnt P m) : ∃ i, i < m ∧ P i = true := by
  induction m with
  | zero => simp [cnt] at h
  | succ m ih =>
    cases q : P m with
    | true => exact ⟨m, by omega, q⟩
    | false =>
      simp only [cnt, q] at h
      obtain ⟨i, hi, hp⟩ := ih (by simpa using h)
      exact ⟨i, by omega, hp⟩
theorem cnt_le {P : Nat → Bool} : ∀ m, cnt P m ≤ m
  | 0 => Nat.le_refl _
  | m + 1 => by
    have := cnt_le (P := P) m
    have := Bool.toNat_le (P m)
    simp only [cnt]
    omega
theorem cap_gV (X : Nat → Bool) (H c : Nat) : ∀ v, cap (gV H c v) X = cnt (fun v => H.testBit v && crs X c v) v
  | 0 => rfl
  | v + 1 => by
    simp only [gV, cap_app, cnt, cap_gV X H c v]
    cases hH : H.testBit v <;> cases hc : crs X c v <;> simp [cap, hc]
theorem cap_gE (X : Nat → Bool) (fr to : Nat → Nat) (P : Nat → Bool) : ∀ e, cap (gE fr to P e) X = cnt (fun e => P e && crs X (fr e) (to e)) e
  | 0 => rfl
  | e + 1 => by
    simp only [gE, cap_app, cnt, cap_gE X fr to P e]
    cases hP : P e <;> cases hc : crs X (fr e) (to e) <;> simp [cap, hc]
/-- whether a set (of those under n) is missed -/
def mis (n H : Nat) (X : Nat → Bool) : Bool := decide (cnt (fun v => H.testBit v && X v) n = 0)
def mss (n : Nat) (hv : Nat → Nat) (k : Nat) (X : Nat → Bool) : Nat := cnt (fun i => mis n (hv i) X) k
def ent (fr to : Nat → Nat) (P : Nat → Bool) (A : Nat) (X : Nat → Bool) : Nat := cnt (fun e => P e && crs X (fr e) (to e)) A
/-- each set has as many arcs as branchings that miss it -/
def cOK (n A : Nat) (fr to : Nat → Nat) (k : Nat) (hv : Nat → Nat) (P : Nat → Bool) : Prop := ∀ X : Nat → Bool, (∃ v, v < n ∧ X v = true) → mss n hv k X ≤ ent fr to P A X
theorem cap_gI_ge (X : Nat → Bool) (hv : Nat → Nat) (n : Nat) (h0 : X n = false) : ∀ i, i ≤ cap (gI hv n i) X + mss n hv i X
  | 0 => Nat.zero_le _
  | i + 1 => by
    have ih := cap_gI_ge X hv n h0 i
    simp only [gI, cap_app, cap_gV, mss, cnt]
    simp only [mss] at ih
    have e : 1 ≤ cap [(n, n + 1 + i, 1)] X + cnt (fun v => (hv i).testBit v && crs X (n + 1 + i) v) n + (mis n (hv i) X).toNat := by
      cases hX : X (n + 1 + i) with
      | true => simp [cap, crs, h0, hX]; omega
      | false =>
        rw [cnt_congr (Q := fun v => (hv i).testBit v && X v) (fun v _ => by simp [crs, hX])]
        by_cases z : cnt (fun v => (hv i).testBit v && X v) n = 0
        · simp [mis, z]
        · omega
    omega
theorem cap_gI_eq (X : Nat → Bool) (hv : Nat → Nat) (n : Nat) (h0 : X n = false) : ∀ i, (∀ j, j < i → X (n + 1 + j) = !mis n (hv j) X) → cap (gI hv n i) X + mss n hv i X = i
  | 0, _ => rfl
  | i + 1, hX => by
    have ih := cap_gI_eq X hv n h0 i (fun j hj => hX j (by omega))
    simp only [gI, cap_app, cap_gV, mss, cnt]
    simp only [mss] at ih
    have e : cap [(n, n + 1 + i, 1)] X + cnt (fun v => (hv i).testBit v && crs X (n + 1 + i) v) n + (mis n (hv i) X).toNat = 1 := by
      have hi := hX i (by omega)
      cases hm : mis n (hv i) X with
      | true =>
        rw [hm] at hi
        rw [cnt_congr (Q := fun v => (hv i).testBit v && X v) (fun v _ => by simp [crs, hi])]
        simp only [mis, decide_eq_true_eq] at hm
        rw [hm]
        simp [cap, crs, hi]
      | false =>
        rw [hm] at hi
        rw [cnt_zero (fun v _ => by simp [crs, hi])]
        simp [cap, crs, hi, h0]
    omega
theorem can_iff {n A k : Nat} {fr to hv : Nat → Nat} {P : Nat → Bool} (hA : ∀ e, e < A → fr e < n ∧ to e < n) : (∀ v, v < n → ∀ X : Nat → Bool, X n = false → X v = true → k ≤ cap (gI hv n k ++ gE fr to P A) X) ↔ cOK n A fr to k hv P := by
  constructor
  · intro h Y ⟨v, hv1, hv2⟩
    have key : ∀ Z : Nat → Bool, (∀ u, u < n → Z u = Y u) → (∀ H, mis n H Z = mis n H Y) := fun Z hZ H => by
      simp only [mis]
      rw [cnt_congr (fun u hu => by rw [hZ u hu])]
    have hZ : ∀ u, u < n → (fun u => if u < n then Y u else if u = n then false else !mis n (hv (u - n - 1)) Y) u = Y u := fun u hu => by simp [hu]
    have a := h v hv1 (fun u => if u < n then Y u else if u = n then false else !mis n (hv (u - n - 1)) Y) (by simp) (by simp [hv1, hv2])
    rw [cap_app, cap_gE] at a
    have e := cap_gI_eq (fun u => if u < n then Y u else if u = n then false else !mis n (hv (u - n - 1)) Y) hv n (by simp) k (fun j _ => by
      rw [key _ hZ]
      rw [if_neg (by omega), if_neg (by omega), show n + 1 + j - n - 1 = j by omega])
    have e2 : mss n hv k (fun u => if u < n then Y u else if u = n then false else !mis n (hv (u - n - 1)) Y) = mss n hv k Y := cnt_congr (fun j _ => key _ hZ _)
    have e3 : cnt (fun e => P e && crs (fun u => if u < n then Y u else if u = n then false else !mis n (hv (u - n - 1)) Y) (fr e) (to e)) A = ent fr to P A Y := cnt_congr (fun e he => by
      simp only [crs]
      rw [if_pos (hA e he).1, if_pos (hA e he).2])
    omega
  · intro h v hv1 X h0 hX
    have a := h X ⟨v, hv1, hX⟩
    have c := cap_gI_ge X hv n h0 k
    rw [cap_app, cap_gE]
    simp only [ent] at a
    omega
end
section
/-! GROVE: start, can, packs -/
def cp (f g : Nat → Nat) (i : Nat) : Nat → Nat := fun j => if j < i then f j else g j
theorem cp_0 (f g : Nat → Nat) : cp f g 0 = g := by
  funext j
  simp [cp]
theorem cp_s (f g : Nat → Nat) (i : Nat) : va_up (cp f g i) i (f i) = cp f g (i + 1) := by
  funext j
  simp only [va_up, cp]
  by_cases h : j = i
  · rw [if_pos h, if_pos (by omega), h]
  · rw [if_neg h]
    by_cases h2 : j < i
    · rw [if_pos h2, if_pos (by omega)]
    · rw [if_neg h2, if_neg (by omega)]
theorem cp_lt {f g : Nat → Nat} {i j : Nat} (h : j < i) : cp f g i j = f j := by simp [cp, h]
theorem oI_is {e : Nat} {wo : Option Nat} (he : e < 2 ^ 31) (hw : ∀ j, wo = some j → j < 2 ^ 31) : nI e = oI wo ↔ wo = some e := by
  cases wo with
  | none =>
    refine ⟨fun q => ?_, fun q => by cases q⟩
    have := (oI_none (o := some e) (fun j h => by cases h; exact he)).mp q
    cases this
  | some j =>
    refine ⟨fun q => ?_, fun q => by cases q; rfl⟩
    have := (nI_eq he (hw j rfl)).mp q
    rw [this]
theorem bIs (x : Bool) : x.toNat < 2 := Bool.toNat_lt x
section GROVE
variable {b : xB} {h : Nat → Nat} {n A : Nat} {fr to : Nat → Nat} {k : Nat} {R hv : Nat → Nat} {ow : Nat → Option Nat} {dn : Bool} {u : xWs}
set_option maxRecDepth 20000 in
theorem ct_Grove_start (hA : A ≤ 14) (hk : k ≤ 3) : xCt b y_Grove_start b_Grove_start 2 none q_Grove_start [.ref (h 1)] (wG b h n A fr to k R hv ow dn u) (xVd (fun w => w = wG b h n A fr to k R (cp R hv k) (clr ow A) dn u)) := by
  refine x_met (by decide +kernel) rfl (Nat.le_of_ble_eq_true rfl) (fun G X Y => ?_)
  have l2 := loopU (P := fun i => xW b G 0 0 (wG b h n A fr to k R (cp R hv k) (clr ow i) dn u) 30 [(0, .ref (h 1)), (1, .int (nI i))] []) A (fun i hi ih => by
    refine x_iload_n X d_Grove_start_30 rfl ?_
    refine x_aload_n X d_Grove_start_31 rfl ?_
    refine x_getf X d_Grove_start_32 f_Grove_29 0 rfl rfl ?_
    refine x_getf X d_Grove_start_35 f_Grove_37 4 rfl rfl ?_
    refine x_icmp_geN 54 X d_Grove_start_38 (by decide) (by omega) (by omega) (fun c_38 => ?_) (fun c_38 => ?_)
    · obtain rfl : i = A := by omega
      exact x_vret X Y d_Grove_start_54 (Nat.le_of_ble_eq_true rfl) ⟨rfl, rfl⟩
    · refine x_aload_n X d_Grove_start_41 rfl ?_
      refine x_getf X d_Grove_start_42 f_Grove_26 0 rfl rfl ?_
      refine x_iload_n X d_Grove_start_45 rfl ?_
      refine x_iconst X d_Grove_start_46 k_ic_m1 ?_
      refine x_iast (w' := wG b h _ _ _ _ _ _ _ _ _ _) X d_Grove_start_47 3 rfl rfl (by omega) (by decide) (upd_oI _ _ none) rfl ?_
      refine x_iincN (lv' := [(0, _), (1, _)]) X d_Grove_start_48 rfl (by decide) rfl ?_
      refine x_goto 30 X d_Grove_start_51 (by decide) ?_
      have q := ih (by omega)
      rw [← clr_s] at q
      exact q
  )
  have l1 := loopU (P := fun i => xW b G 0 0 (wG b h n A fr to k R (cp R hv i) ow dn u) 2 [(0, .ref (h 1)), (1, .int (nI i))] []) k (fun i hi ih => by
    refine x_iload_n X d_Grove_start_2 rfl ?_
    refine x_aload_n X d_Grove_start_3 rfl ?_
    refine x_getf X d_Grove_start_4 f_Grove_33 0 rfl rfl ?_
    refine x_icmp_geN 28 X d_Grove_start_7 (by decide) (by omega) (by omega) (fun c_7 => ?_) (fun c_7 => ?_)
    · obtain rfl : i = k := by omega
      refine x_iconst X d_Grove_start_28 k_ic_0 ?_
      refine x_istore_n (lv' := [(0, _), (1, _)]) X d_Grove_start_29 (by decide) rfl ?_
      have q := l2 0 (Nat.zero_le _)
      rw [clr_0] at q
      exact q
    · refine x_aload_n X d_Grove_start_10 rfl ?_
      refine x_getf X d_Grove_start_11 f_Grove_22 0 rfl rfl ?_
      refine x_iload_n X d_Grove_start_14 rfl ?_
      refine x_aload_n X d_Grove_start_15 rfl ?_
      refine x_getf X d_Grove_start_16 f_Grove_18 0 rfl rfl ?_
      refine x_iload_n X d_Grove_start_19 rfl ?_
      refine x_bald X d_Grove_start_20 1 rfl rfl (by omega) (by decide) ?_
      refine x_iast (w' := wG b h _ _ _ _ _ _ _ _ _ _) X d_Grove_start_21 2 rfl rfl (by omega) (by decide) (upd_nI _ _ _) rfl ?_
      refine x_iincN (lv' := [(0, _), (1, _)]) X d_Grove_start_22 rfl (by decide) rfl ?_
      refine x_goto 2 X d_Grove_start_25 (by decide) ?_
      have q := ih (by omega)
      rw [← cp_s] at q
      exact q
  )
  have q := l1 0 (Nat.zero_le _)
  rw [cp_0] at q
  refine x_iconst X d_Grove_start_0 k_ic_0 ?_
  refine x_istore_n (lv' := [(0, _), (1, _)]) X d_Grove_start_1 (by decide) rfl ?_
  exact q
/-- the arcs that nobody used, one of them left out -/
def fre (ow : Nat → Option Nat) (wo : Option Nat) (e : Nat) : Bool := decide (ow e = none) && decide (wo ≠ some e)
set_option maxRecDepth 20000 in
set_option maxHeartbeats 1000000 in
theorem ct_Grove_can {wo : Option Nat} (hN : nOK n A fr to) (hk : k ≤ 3) (hhv : ∀ i, i < k → hv i < 128) (how : ∀ e, e < A → ∀ j, ow e = some j → j < 100) (hwo : ∀ j, wo = some j → j < 100) : xCt b y_Grove_can b_Grove_can 5 (some .boolean) q_Grove_can [.ref (h 1), .int (oI wo)] (wG b h n A fr to k R hv ow dn u) (xIn (fun r w => ∃ c u', r = bI c ∧ w = wG b h n A fr to k R hv ow dn u' ∧ (c = true ↔ cOK n A fr to k hv (fre ow wo)))) := by
  refine x_met (by decide +kernel) rfl (Nat.le_of_ble_eq_true rfl) (fun G X Y => ?_)
  obtain ⟨n1, n2, n3, n4, n5⟩ := id hN
  -- the last loop
  have l3 := loopU (P := fun v => ∀ (c : Bool) (u : xWs), uOK u (n + 1 + k) (gI hv n k ++ gE fr to (fre ow wo) A) → (c = true ↔ ∀ v', v' < v → ∀ X : Nat → Bool, X n = false → X v' = true → k ≤ cap (gI hv n k ++ gE fr to (fre ow wo) A) X) → xW b G 0 0 (wG b h n A fr to k R hv ow dn u) 169 [(0, .ref (h 1)), (1, .int (oI wo)), (2, .int (nI n)), (3, .int (bI c)), (4, .int (nI v))] []) n (fun v hv1 ih c u hu hc => by
    refine x_iload X d_Grove_can_169 rfl ?_
    refine x_aload_n X d_Grove_can_171 rfl ?_
    refine x_getf X d_Grove_can_172 f_Grove_29 0 rfl rfl ?_
    refine x_getf X d_Grove_can_175 f_Grove_42 4 rfl rfl ?_
    refine x_icmp_geN 218 X d_Grove_can_178 (by decide) (by omega) (by omega) (fun c_178 => ?_) (fun c_178 => ?_)
    · obtain rfl : v = n := by omega
      have fin : c = true ↔ cOK v A fr to k hv (fre ow wo) := hc.trans (can_iff n5)
      refine x_iload_n X d_Grove_can_218 rfl ?_
      exact x_ret X Y d_Grove_can_219 (bI_nar _) (Nat.le_of_ble_eq_true rfl) ⟨_, rfl, _, _, rfl, rfl, fin⟩
    · refine x_iload_n X d_Grove_can_181 rfl ?_
      refine x_if_eqB 218 X d_Grove_can_182 (by decide) (fun c_182 => ?_) (fun c_182 => ?_)
      · have fin : c = true ↔ cOK n A fr to k hv (fre ow wo) := ⟨fun z => (by rw [c_182] at z; cases z), fun z => hc.mpr (fun v' h1 => (can_iff n5).mpr z v' (by omega))⟩
        refine x_iload_n X d_Grove_can_218 rfl ?_
        exact x_ret X Y d_Grove_can_219 (bI_nar _) (Nat.le_of_ble_eq_true rfl) ⟨_, rfl, _, _, rfl, rfl, fin⟩
      · refine x_aload_n X d_Grove_can_185 rfl ?_
        refine x_getf X d_Grove_can_186 f_Grove_12 0 rfl rfl ?_
        refine x_iload_n X d_Grove_can_189 rfl ?_
        refine x_iload X d_Grove_can_190 rfl ?_
        refine x_aload_n X d_Grove_can_192 rfl ?_
        refine x_getf X d_Grove_can_193 f_Grove_33 0 rfl rfl ?_
        refine x_callF (wV b h _ _ _ _ _ ++ wN b h _ _ _ _) ([]) X d_Grove_can_196 c_Grove_59 (cu_Ways_count hu (by omega) (by omega) (by omega) (by omega)) rfl rfl rfl rfl (Nat.le_of_ble_eq_true rfl) ⟨Nat.le_of_ble_eq_true rfl, Nat.le_of_ble_eq_true rfl⟩ ⟨rfl, rfl⟩ ⟨Nat.le_of_ble_eq_true rfl, Nat.le_of_ble_eq_true rfl⟩ (fun v_196 w_196 h_196 => ?_)
        obtain ⟨r_196, rfl, x_196, u_196, rfl, rfl, hu_196, hm_196⟩ := h_196
        refine ⟨rfl, ?_⟩
        refine x_wd (w' := wG b h _ _ _ _ _ _ _ _ _ _) rfl ?_
        refine x_st (st' := [_]) rfl ?_
        refine x_aload_n X d_Grove_can_199 rfl ?_
        refine x_getf X d_Grove_can_200 f_Grove_33 0 rfl rfl ?_
        refine x_icmp_neN 210 X d_Grove_can_203 (by decide) (by have := hm_196.1; omega) (by omega) (fun c_203 => ?_) (fun c_203 => ?_)
        · have hc2 : false = true ↔ ∀ v', v' < v + 1 → ∀ X : Nat → Bool, X n = false → X v' = true → k ≤ cap (gI hv n k ++ gE fr to (fre ow wo) A) X := ⟨fun z => (by cases z), fun z => by
            obtain ⟨q1, q2, q3⟩ := hm_196
            obtain ⟨Z, z1, z2, z3⟩ := q3 (by omega)
            have := z v (by omega) Z z1 z2
            omega⟩
          refine x_iconst X d_Grove_can_210 k_ic_0 ?_
          refine x_istore_n (lv' := [(0, _), (1, _), (2, _), (3, _), (4, _)]) X d_Grove_can_211 (by decide) rfl ?_
          refine x_iincN (lv' := [(0, _), (1, _), (2, _), (3, _), (4, _)]) X d_Grove_can_212 rfl (by decide) rfl ?_
          refine x_goto 169 X d_Grove_can_215 (by decide) ?_
          exact ih (by omega) _ u_196 hu_196 hc2
        · have hc2 : true = true ↔ ∀ v', v' < v + 1 → ∀ X : Nat → Bool, X n = false → X v' = true → k ≤ cap (gI hv n k ++ gE fr to (fre ow wo) A) X := ⟨fun _ v' h1 Z z1 z2 => by
            by_cases q : v' = v
            · subst q
              have := hm_196.2.1 Z z1 z2
              omega
            · exact hc.mp c_182 v' (by omega) Z z1 z2, fun _ => rfl⟩
          refine x_iconst X d_Grove_can_206 k_ic_1 ?_
          refine x_goto 211 X d_Grove_can_207 (by decide) ?_
          refine x_istore_n (lv' := [(0, _), (1, _), (2, _), (3, _), (4, _)]) X d_Grove_can_211 (by decide) rfl ?_
          refine x_iincN (lv' := [(0, _), (1, _), (2, _), (3, _), (4, _)]) X d_Grove_can_212 rfl (by decide) rfl ?_
          refine x_goto 169 X d_Grove_can_215 (by decide) ?_
          exact ih (by omega) _ u_196 hu_196 hc2
  )
  have l2 := loopU (P := fun e => ∀ (u : xWs), uOK u (n + 1 + k) (gI hv n k ++ gE fr to (fre ow wo) e) → xW b G 0 0 (wG b h n A fr to k R hv ow dn u) 106 [(0, .ref (h 1)), (1, .int (oI wo)), (2, .int (nI n)), (3, .int (nI e))] []) A (fun e he ih u hu => by
    have hlen : (gI hv n k ++ gE fr to (fre ow wo) e).length ≤ 24 + e := by
      have a1 := gI_len hv n k
      have a2 := gE_len fr to (fre ow wo) e
      have a3 : k * (n + 1) ≤ 3 * 8 := Nat.mul_le_mul hk (by omega)
      simp only [List.length_append]
      omega
    refine x_iload_n X d_Grove_can_106 rfl ?_
    refine x_aload_n X d_Grove_can_107 rfl ?_
    refine x_getf X d_Grove_can_108 f_Grove_29 0 rfl rfl ?_
    refine x_getf X d_Grove_can_111 f_Grove_37 4 rfl rfl ?_
    refine x_icmp_geN 164 X d_Grove_can_114 (by decide) (by omega) (by omega) (fun c_114 => ?_) (fun c_114 => ?_)
    · obtain rfl : e = A := by omega
      refine x_iconst X d_Grove_can_164 k_ic_1 ?_
      refine x_istore_n (lv' := [(0, _), (1, _), (2, _), (3, _)]) X d_Grove_can_165 (by decide) rfl ?_
      refine x_iconst X d_Grove_can_166 k_ic_0 ?_
      refine x_istore (lv' := [(0, _), (1, _), (2, _), (3, _), (4, _)]) X d_Grove_can_167 (by decide) rfl ?_
      exact l3 0 (Nat.zero_le _) true u hu ⟨fun _ v' h1 => by omega, fun _ => rfl⟩
    · refine x_aload_n X d_Grove_can_117 rfl ?_
      refine x_getf X d_Grove_can_118 f_Grove_26 0 rfl rfl ?_
      refine x_iload_n X d_Grove_can_121 rfl ?_
      refine x_iald X d_Grove_can_122 3 rfl rfl (by omega) (by decide) ?_
      refine x_iconst X d_Grove_can_123 k_ic_m1 ?_
      refine x_icmp_neM 158 X d_Grove_can_124 (by decide) (fun j q => by have := how e (by omega) j q; omega) (fun j_124 c_124 => ?_) (fun c_124 => ?_)
      · have hM : gE fr to (fre ow wo) (e + 1) = gE fr to (fre ow wo) e := by simp [gE, fre, c_124]
        have hu2 := hu
        rw [← hM] at hu2
        refine x_iincN (lv' := [(0, _), (1, _), (2, _), (3, _)]) X d_Grove_can_158 rfl (by decide) rfl ?_
        refine x_goto 106 X d_Grove_can_161 (by decide) ?_
        exact ih (by omega) _ hu2
      · refine x_iload_n X d_Grove_can_127 rfl ?_
        refine x_iload_n X d_Grove_can_128 rfl ?_
        refine x_icmp_eq 158 X d_Grove_can_129 (by decide) (fun c_129 => ?_) (fun c_129 => ?_)
        · have hM : gE fr to (fre ow wo) (e + 1) = gE fr to (fre ow wo) e := by simp [gE, fre, (oI_is (by omega) (fun j q => by have := hwo j q; omega)).mp c_129]
          have hu2 := hu
          rw [← hM] at hu2
          refine x_iincN (lv' := [(0, _), (1, _), (2, _), (3, _)]) X d_Grove_can_158 rfl (by decide) rfl ?_
          refine x_goto 106 X d_Grove_can_161 (by decide) ?_
          exact ih (by omega) _ hu2
        · have hM : gE fr to (fre ow wo) (e + 1) = gE fr to (fre ow wo) e ++ [(fr e, to e, 1)] := by
            have z : wo ≠ some e := fun q => c_129 ((oI_is (by omega) (fun j q => by have := hwo j q; omega)).mpr q)
            simp [gE, fre, c_124, z]
          have b1 := n5 e (by omega)
          refine x_aload_n X d_Grove_can_132 rfl ?_
          refine x_getf X d_Grove_can_133 f_Grove_12 0 rfl rfl ?_
          refine x_aload_n X d_Grove_can_136 rfl ?_
          refine x_getf X d_Grove_can_137 f_Grove_29 0 rfl rfl ?_
          refine x_getf X d_Grove_can_140 f_Grove_53 4 rfl rfl ?_
          refine x_iload_n X d_Grove_can_143 rfl ?_
          refine x_bald X d_Grove_can_144 5 rfl rfl (by omega) (by decide) ?_
          refine x_aload_n X d_Grove_can_145 rfl ?_
          refine x_getf X d_Grove_can_146 f_Grove_29 0 rfl rfl ?_
          refine x_getf X d_Grove_can_149 f_Grove_56 4 rfl rfl ?_
          refine x_iload_n X d_Grove_can_152 rfl ?_
          refine x_bald X d_Grove_can_153 6 rfl rfl (by omega) (by decide) ?_
          refine x_iconst X d_Grove_can_154 k_ic_1 ?_
          refine x_callF (wV b h _ _ _ _ _ ++ wN b h _ _ _ _) ([]) X d_Grove_can_155 c_Grove_49 (cu_Ways_link hu (by omega) (by omega) (by omega) (by omega)) rfl rfl rfl rfl (Nat.le_of_ble_eq_true rfl) ⟨Nat.le_of_ble_eq_true rfl, Nat.le_of_ble_eq_true rfl⟩ ⟨rfl, rfl⟩ ⟨Nat.le_of_ble_eq_true rfl, Nat.le_of_ble_eq_true rfl⟩ (fun v_155 w_155 h_155 => ?_)
          obtain ⟨rfl, u_155, rfl, hu_155⟩ := h_155
          refine ⟨rfl, ?_⟩
          refine x_wd (w' := wG b h _ _ _ _ _ _ _ _ _ _) rfl ?_
          refine x_st (st' := []) rfl ?_
          have hu2 : uOK u_155 (n + 1 + k) (gI hv n k ++ gE fr to (fre ow wo) (e + 1)) := by
            rw [hM, ← List.append_assoc]
            exact hu_155
          refine x_iincN (lv' := [(0, _), (1, _), (2, _), (3, _)]) X d_Grove_can_158 rfl (by decide) rfl ?_
          refine x_goto 106 X d_Grove_can_161 (by decide) ?_
          exact ih (by omega) _ hu2
  )
  have l1 := loopU (P := fun i => ∀ (u : xWs), uOK u (n + 1 + k) (gI hv n i) → xW b G 0 0 (wG b h n A fr to k R hv ow dn u) 25 [(0, .ref (h 1)), (1, .int (oI wo)), (2, .int (nI n)), (3, .int (nI i))] []) k (fun i hi ih u hu => by
    have hlen := gI_len hv n i
    have a3 : i < k → i * (n + 1) ≤ 2 * 8 := fun _ => Nat.mul_le_mul (by omega) (by omega)
    have inner : i < k → ∀ v, v ≤ n → ∀ (u : xWs), uOK u (n + 1 + k) (gI hv n i ++ ([(n, n + 1 + i, 1)] ++ gV (hv i) (n + 1 + i) v)) → xW b G 0 0 (wG b h n A fr to k R hv ow dn u) 50 [(0, .ref (h 1)), (1, .int (oI wo)), (2, .int (nI n)), (3, .int (nI i)), (4, .int (nI v))] [] := fun hik => loopU n (fun v hv1 ihv u hu => by
      have hl2 := gV_len (hv i) (n + 1 + i) v
      have hlen2 : (gI hv n i ++ ([(n, n + 1 + i, 1)] ++ gV (hv i) (n + 1 + i) v)).length ≤ 17 + v := by
        have := a3 hik
        simp only [List.length_append, List.length_cons, List.length_nil]
        omega
      have hb1 := hhv i hik
      have hb2 := bIs ((hv i).testBit v)
      refine x_iload X d_Grove_can_50 rfl ?_
      refine x_aload_n X d_Grove_can_52 rfl ?_
      refine x_getf X d_Grove_can_53 f_Grove_29 0 rfl rfl ?_
      refine x_getf X d_Grove_can_56 f_Grove_42 4 rfl rfl ?_
      refine x_icmp_geN 98 X d_Grove_can_59 (by decide) (by omega) (by omega) (fun c_59 => ?_) (fun c_59 => ?_)
      · obtain rfl : v = n := by omega
        refine x_iincN (lv' := [(0, _), (1, _), (2, _), (3, _), (4, _)]) X d_Grove_can_98 rfl (by decide) rfl ?_
        refine x_goto 25 X d_Grove_can_101 (by decide) ?_
        refine x_lv [0, 1, 2, 3] rfl ?_
        exact ih hik u hu
      · refine x_aload_n X d_Grove_can_62 rfl ?_
        refine x_getf X d_Grove_can_63 f_Grove_22 0 rfl rfl ?_
        refine x_iload_n X d_Grove_can_66 rfl ?_
        refine x_iald X d_Grove_can_67 2 rfl rfl (by omega) (by decide) ?_
        refine x_iload X d_Grove_can_68 rfl ?_
        refine x_ishrN X d_Grove_can_70 (by omega) (by omega) ?_
        refine x_iconst X d_Grove_can_71 k_ic_1 ?_
        refine x_bit X d_Grove_can_72 ?_
        refine x_iconst X d_Grove_can_73 k_ic_1 ?_
        refine x_icmp_neN 92 X d_Grove_can_74 (by decide) (by omega) (by omega) (fun c_74 => ?_) (fun c_74 => ?_)
        · have hM : gV (hv i) (n + 1 + i) (v + 1) = gV (hv i) (n + 1 + i) v := by
            have : (hv i).testBit v = false := by simpa using c_74
            simp [gV, this]
          have hu2 := hu
          rw [← hM] at hu2
          refine x_iincN (lv' := [(0, _), (1, _), (2, _), (3, _), (4, _)]) X d_Grove_can_92 rfl (by decide) rfl ?_
          refine x_goto 50 X d_Grove_can_95 (by decide) ?_
          exact ihv (by omega) _ hu2
        · have hM : gV (hv i) (n + 1 + i) (v + 1) = gV (hv i) (n + 1 + i) v ++ [(n + 1 + i, v, 1)] := by
            have : (hv i).testBit v = true := by simpa using c_74
            simp [gV, this]
          refine x_aload_n X d_Grove_can_77 rfl ?_
          refine x_getf X d_Grove_can_78 f_Grove_12 0 rfl rfl ?_
          refine x_iload_n X d_Grove_can_81 rfl ?_
          refine x_iconst X d_Grove_can_82 k_ic_1 ?_
          refine x_iaddN X d_Grove_can_83 ?_
          refine x_iload_n X d_Grove_can_84 rfl ?_
          refine x_iaddN X d_Grove_can_85 ?_
          refine x_iload X d_Grove_can_86 rfl ?_
          refine x_iconst X d_Grove_can_88 k_ic_1 ?_
          refine x_callF (wV b h _ _ _ _ _ ++ wN b h _ _ _ _) ([]) X d_Grove_can_89 c_Grove_49 (cu_Ways_link hu (by omega) (by omega) (by omega) (by omega)) rfl rfl rfl rfl (Nat.le_of_ble_eq_true rfl) ⟨Nat.le_of_ble_eq_true rfl, Nat.le_of_ble_eq_true rfl⟩ ⟨rfl, rfl⟩ ⟨Nat.le_of_ble_eq_true rfl, Nat.le_of_ble_eq_true rfl⟩ (fun v_89 w_89 h_89 => ?_)
          obtain ⟨rfl, u_89, rfl, hu_89⟩ := h_89
          refine ⟨rfl, ?_⟩
          refine x_wd (w' := wG b h _ _ _ _ _ _ _ _ _ _) rfl ?_
          refine x_st (st' := []) rfl ?_
          have hu2 : uOK u_89 (n + 1 + k) (gI hv n i ++ ([(n, n + 1 + i, 1)] ++ gV (hv i) (n + 1 + i) (v + 1))) := by
            rw [hM, ← List.append_assoc [(n, n + 1 + i, 1)], ← List.append_assoc]
            exact hu_89
          refine x_iincN (lv' := [(0, _), (1, _), (2, _), (3, _), (4, _)]) X d_Grove_can_92 rfl (by decide) rfl ?_
          refine x_goto 50 X d_Grove_can_95 (by decide) ?_
          exact ihv (by omega) _ hu2
    )
    refine x_iload_n X d_Grove_can_25 rfl ?_
    refine x_aload_n X d_Grove_can_26 rfl ?_
    refine x_getf X d_Grove_can_27 f_Grove_33 0 rfl rfl ?_
    refine x_icmp_geN 104 X d_Grove_can_30 (by decide) (by omega) (by omega) (fun c_30 => ?_) (fun c_30 => ?_)
    · obtain rfl : i = k := by omega
      refine x_iconst X d_Grove_can_104 k_ic_0 ?_
      refine x_istore_n (lv' := [(0, _), (1, _), (2, _), (3, _)]) X d_Grove_can_105 (by decide) rfl ?_
      exact l2 0 (Nat.zero_le _) u (by simpa [gE] using hu)
    · refine x_aload_n X d_Grove_can_33 rfl ?_
      refine x_getf X d_Grove_can_34 f_Grove_12 0 rfl rfl ?_
      refine x_iload_n X d_Grove_can_37 rfl ?_
      refine x_iload_n X d_Grove_can_38 rfl ?_
      refine x_iconst X d_Grove_can_39 k_ic_1 ?_
      refine x_iaddN X d_Grove_can_40 ?_
      refine x_iload_n X d_Grove_can_41 rfl ?_
      refine x_iaddN X d_Grove_can_42 ?_
      refine x_iconst X d_Grove_can_43 k_ic_1 ?_
      refine x_callF (wV b h _ _ _ _ _ ++ wN b h _ _ _ _) ([]) X d_Grove_can_44 c_Grove_49 (cu_Ways_link hu (by have := a3 c_30; omega) (by omega) (by omega) (by omega)) rfl rfl rfl rfl (Nat.le_of_ble_eq_true rfl) ⟨Nat.le_of_ble_eq_true rfl, Nat.le_of_ble_eq_true rfl⟩ ⟨rfl, rfl⟩ ⟨Nat.le_of_ble_eq_true rfl, Nat.le_of_ble_eq_true rfl⟩ (fun v_44 w_44 h_44 => ?_)
      obtain ⟨rfl, u_44, rfl, hu_44⟩ := h_44
      refine ⟨rfl, ?_⟩
      refine x_wd (w' := wG b h _ _ _ _ _ _ _ _ _ _) rfl ?_
      refine x_st (st' := []) rfl ?_
      refine x_iconst X d_Grove_can_47 k_ic_0 ?_
      refine x_istore (lv' := [(0, _), (1, _), (2, _), (3, _), (4, _)]) X d_Grove_can_48 (by decide) rfl ?_
      exact inner c_30 0 (Nat.zero_le _) u_44 (by simpa [gV] using hu_44)
  )
  refine x_aload_n X d_Grove_can_0 rfl ?_
  refine x_getf X d_Grove_can_1 f_Grove_29 0 rfl rfl ?_
  refine x_getf X d_Grove_can_4 f_Grove_42 4 rfl rfl ?_
  refine x_istore_n (lv' := [(0, _), (1, _), (2, _)]) X d_Grove_can_7 (by decide) rfl ?_
  refine x_aload_n X d_Grove_can_8 rfl ?_
  refine x_getf X d_Grove_can_9 f_Grove_12 0 rfl rfl ?_
  refine x_iload_n X d_Grove_can_12 rfl ?_
  refine x_iconst X d_Grove_can_13 k_ic_1 ?_
  refine x_iaddN X d_Grove_can_14 ?_
  refine x_aload_n X d_Grove_can_15 rfl ?_
  refine x_getf X d_Grove_can_16 f_Grove_33 0 rfl rfl ?_
  refine x_iaddN X d_Grove_can_19 ?_
  refine x_callF (wV b h _ _ _ _ _ ++ wN b h _ _ _ _) ([]) X d_Grove_can_20 c_Grove_45 (cu_Ways_begin (by omega)) rfl rfl rfl rfl (Nat.le_of_ble_eq_true rfl) ⟨Nat.le_of_ble_eq_true rfl, Nat.le_of_ble_eq_true rfl⟩ ⟨rfl, rfl⟩ ⟨Nat.le_of_ble_eq_true rfl, Nat.le_of_ble_eq_true rfl⟩ (fun v_20 w_20 h_20 => ?_)
  obtain ⟨rfl, u_20, rfl, hu_20⟩ := h_20
  refine ⟨rfl, ?_⟩
  refine x_wd (w' := wG b h _ _ _ _ _ _ _ _ _ _) rfl ?_
  refine x_st (st' := []) rfl ?_
  refine x_iconst X d_Grove_can_23 k_ic_0 ?_
  refine x_istore_n (lv' := [(0, _), (1, _), (2, _), (3, _)]) X d_Grove_can_24 (by decide) rfl ?_
  exact l1 0 (Nat.zero_le _) _ hu_20
set_option maxRecDepth 20000 in
theorem ct_Grove_packs {wo : Option Nat} (hN : nOK n A fr to) (hk : k ≤ 3) (hR : ∀ i, i < k → R i < 128) (hwo : ∀ j, wo = some j → j < 100) : xCt b y_Grove_packs b_Grove_packs 2 (some .boolean) q_Grove_packs [.ref (h 1), .int (oI wo)] (wG b h n A fr to k R hv ow dn u) (xIn (fun r w => ∃ c hv' ow' u', r = bI c ∧ w = wG b h n A fr to k R hv' ow' dn u' ∧ (c = true ↔ cOK n A fr to k R (fun e => decide (wo ≠ some e))))) := by
  refine x_met (by decide +kernel) rfl (Nat.le_of_ble_eq_true rfl) (fun G X Y => ?_)
  obtain ⟨n1, n2, n3, n4, n5⟩ := id hN
  have e1 : cOK n A fr to k (cp R hv k) (fre (clr ow A) wo) ↔ cOK n A fr to k R (fun e => decide (wo ≠ some e)) := by
    have z1 : ∀ X, mss n (cp R hv k) k X = mss n R k X := fun X => cnt_congr (fun i hi => by rw [cp_lt hi])
    have z2 : ∀ X, ent fr to (fre (clr ow A) wo) A X = ent fr to (fun e => decide (wo ≠ some e)) A X := fun X => cnt_congr (fun e he => by simp [fre, clr_lt he])
    simp only [cOK, z1, z2]
  refine x_aload_n X d_Grove_packs_0 rfl ?_
  refine x_callA X d_Grove_packs_1 c_Grove_62 (ct_Grove_start (by omega) (by omega)) rfl rfl rfl (Nat.le_of_ble_eq_true rfl) ⟨Nat.le_of_ble_eq_true rfl, Nat.le_of_ble_eq_true rfl⟩ ⟨rfl, rfl⟩ ⟨Nat.le_of_ble_eq_true rfl, Nat.le_of_ble_eq_true rfl⟩ (fun v_1 w_1 h_1 => ?_)
  obtain ⟨rfl, rfl⟩ := h_1
  refine ⟨rfl, ?_⟩
  refine x_st (st' := []) rfl ?_
  refine x_aload_n X d_Grove_packs_4 rfl ?_
  refine x_iload_n X d_Grove_packs_5 rfl ?_
  refine x_callA X d_Grove_packs_6 c_Grove_65 (ct_Grove_can hN hk (fun i hi => by rw [cp_lt hi]; exact hR i hi) (fun e he j q => by rw [clr_lt he] at q; cases q) hwo) rfl rfl rfl (Nat.le_of_ble_eq_true rfl) ⟨Nat.le_of_ble_eq_true rfl, Nat.le_of_ble_eq_true rfl⟩ ⟨rfl, rfl⟩ ⟨Nat.le_of_ble_eq_true rfl, Nat.le_of_ble_eq_true rfl⟩ (fun v_6 w_6 h_6 => ?_)
  obtain ⟨r_6, rfl, c_6, u_6, rfl, rfl, hc_6⟩ := h_6
  refine ⟨rfl, ?_⟩
  refine x_st (st' := [_]) rfl ?_
  exact x_ret X Y d_Grove_packs_9 (bI_nar _) (Nat.le_of_ble_eq_true rfl) ⟨_, rfl, _, _, _, _, rfl, rfl, hc_6.trans e1⟩
end GROVE
end
section
/-! PURE: the step of Edmonds' theorem (after Lovasz) -/
theorem cnt_add4 {p q r s : Nat → Bool} {m : Nat} (h : ∀ i, i < m → (p i).toNat + (q i).toNat ≤ (r i).toNat + (s i).toNat) : cnt p m + cnt q m ≤ cnt r m + cnt s m := by
  induction m with
  | zero => exact Nat.le_refl _
  | succ m ih =>
    simp only [cnt]
    have := ih (fun i hi => h i (by omega))
    have := h m (by omega)
    omega
theorem cnt_add4s {p q r s : Nat → Bool} {m j : Nat} (hj : j < m) (h : ∀ i, i < m → (p i).toNat + (q i).toNat ≤ (r i).toNat + (s i).toNat) (hs : (p j).toNat + (q j).toNat < (r j).toNat + (s j).toNat) : cnt p m + cnt q m < cnt r m + cnt s m := by
  induction m with
  | zero => omega
  | succ m ih =>
    simp only [cnt]
    by_cases e : j = m
    · subst e
      have := cnt_add4 (fun i hi => h i (by omega)) (m := j)
      omega
    · have := ih (by omega) (fun i hi => h i (by omega))
      have := h m (by omega)
      omega
theorem cnt_mono {p q : Nat → Bool} {m : Nat} (h : ∀ i, i < m → p i = true → q i = true) : cnt p m ≤ cnt q m := by
  induction m with
  | zero => exact Nat.le_refl _
  | succ m ih =>
    simp only [cnt]
    have := ih (fun i hi => h i (by omega))
    have h1 := h m (by omega)
    cases hp : p m with
    | false => simp; omega
    | true => rw [h1 hp]; omega
theorem cnt_lts {p q : Nat → Bool} {m j : Nat} (hj : j < m) (h : ∀ i, i < m → p i = true → q i = true) (h1 : p j = false) (h2 : q j = true) : cnt p m < cnt q m := by
  induction m with
  | zero => omega
  | succ m ih =>
    simp only [cnt]
    by_cases e : j = m
    · subst e
      have := cnt_mono (fun i hi => h i (by omega)) (m := j)
      rw [h1, h2]
      simp
      omega
    · have := ih (by omega) (fun i hi => h i (by omega))
      have hm := h m (by omega)
      cases hp : p m with
      | false => simp; omega
      | true => rw [hm hp]; omega
theorem cnt_lt_ex {p q : Nat → Bool} {m : Nat} (h : cnt q m < cnt p m) : ∃ i, i < m ∧ p i = true ∧ q i = false := by
  induction m with
  | zero => simp [cnt] at h
  | succ m ih =>
    cases hp : p m with
    | false =>
      simp only [cnt, hp] at h
      obtain ⟨i, h1, h2⟩ := ih (by simp at h; omega)
      exact ⟨i, by omega, h2⟩
    | true =>
      cases hq : q m with
      | false => exact ⟨m, by omega, hp, hq⟩
      | true =>
        simp only [cnt, hp, hq] at h
        obtain ⟨i, h1, h2⟩ := ih (by omega)
        exact ⟨i, by omega, h2⟩
theorem mis_iff {n H : Nat} {X : Nat → Bool} : mis n H X = true ↔ ∀ v, v < n → H.testBit v = true → X v = false := by
  simp only [mis, decide_eq_true_eq]
  constructor
  · intro h v hv hH
    cases hX : X v with
    | false => rfl
    | true =>
      have := cnt_pos (P := fun v => H.testBit v && X v) hv (by simp [hH, hX])
      omega
  · intro h
    refine cnt_zero (fun v hv => ?_)
    cases hH : H.testBit v with
    | false => rfl
    | true => simp [h v hv hH]
theorem mis_f {n H : Nat} {X : Nat → Bool} : mis n H X = false ↔ ∃ v, v < n ∧ H.testBit v = true ∧ X v = true := by
  constructor
  · intro h
    have : 0 < cnt (fun v => H.testBit v && X v) n := by
      simp only [mis, decide_eq_false_iff_not] at h
      omega
    obtain ⟨v, h1, h2⟩ := cnt_ex this
    simp only [Bool.and_eq_true] at h2
    exact ⟨v, h1, h2⟩
  · intro ⟨v, h1, h2, h3⟩
    cases hm : mis n H X with
    | false => rfl
    | true => rw [mis_iff.mp hm v h1 h2] at h3; cases h3
theorem or_bit (H t v : Nat) : (H ||| 2 ^ t).testBit v = (H.testBit v || decide (t = v)) := by
  rw [Nat.testBit_or, Nat.testBit_two_pow]
theorem mis_new {n H t : Nat} {X : Nat → Bool} (ht : t < n) : mis n (H ||| 2 ^ t) X = (mis n H X && !X t) := by
  cases h : mis n H X && !X t with
  | true =>
    simp only [Bool.and_eq_true, Bool.not_eq_true'] at h
    refine mis_iff.mpr (fun v hv hb => ?_)
    rw [or_bit] at hb
    simp only [Bool.or_eq_true, decide_eq_true_eq] at hb
    rcases hb with hb | hb
    · exact mis_iff.mp h.1 v hv hb
    · rw [← hb]; exact h.2
  | false =>
    simp only [Bool.and_eq_false_iff, Bool.not_eq_false'] at h
    refine mis_f.mpr ?_
    rcases h with h | h
    · obtain ⟨v, h1, h2, h3⟩ := mis_f.mp h
      exact ⟨v, h1, by rw [or_bit, h2]; rfl, h3⟩
    · exact ⟨t, ht, by rw [or_bit]; simp, h⟩
section EDM
variable {n A k : Nat} {fr to hv : Nat → Nat} {P : Nat → Bool}
theorem ent_sub (X Y : Nat → Bool) : ent fr to P A (fun v => X v && Y v) + ent fr to P A (fun v => X v || Y v) ≤ ent fr to P A X + ent fr to P A Y := by
  refine cnt_add4 (fun e _ => ?_)
  simp only [crs]
  cases P e <;> cases X (fr e) <;> cases X (to e) <;> cases Y (fr e) <;> cases Y (to e) <;> decide
theorem mis_sup (H : Nat) (X Y : Nat → Bool) : (mis n H X).toNat + (mis n H Y).toNat ≤ (mis n H (fun v => X v && Y v)).toNat + (mis n H (fun v => X v || Y v)).toNat := by
  cases hX : mis n H X with
  | false =>
    cases hY : mis n H Y with
    | false => simp
    | true =>
      have : mis n H (fun v => X v && Y v) = true := mis_iff.mpr (fun v h1 h2 => by simp [mis_iff.mp hY v h1 h2])
      rw [this]
      simp
  | true =>
    have a : mis n H (fun v => X v && Y v) = true := mis_iff.mpr (fun v h1 h2 => by simp [mis_iff.mp hX v h1 h2])
    rw [a]
    cases hY : mis n H Y with
    | false => simp
    | true =>
      have : mis n H (fun v => X v || Y v) = true := mis_iff.mpr (fun v h1 h2 => by simp [mis_iff.mp hY v h1 h2, mis_iff.mp hX v h1 h2])
      rw [this]
      simp
/-- if no tight set that the branching has something of is entered, the arc may be taken -/
theorem step_ok {i e : Nat} (hc : cOK n A fr to k hv P) (hi : i < k) (he : e < A) (hP : P e = true) (ht : to e < n) (hno : ∀ Z : Nat → Bool, Z (to e) = true → Z (fr e) = false → mis n (hv i) Z = false → mss n hv k Z ≠ ent fr to P A Z) :
    cOK n A fr to k (va_up hv i (hv i ||| 2 ^ to e)) (fun j => P j && decide (j ≠ e)) := by
  intro Z hZ
  have h0 := hc Z hZ
  -- how the counts change
  have m1 : ∀ j, j < k → mis n (va_up hv i (hv i ||| 2 ^ to e) j) Z = (mis n (hv j) Z && !(decide (j = i) && Z (to e))) := by
    intro j _
    by_cases q : j = i
    · subst q
      rw [va_up_self, mis_new ht]
      simp
    · rw [va_up_ne _ _ q]
      simp [q]
  have m2 : mss n (va_up hv i (hv i ||| 2 ^ to e)) k Z ≤ mss n hv k Z := cnt_mono (fun j hj h => by
    rw [m1 j hj] at h
    simp only [Bool.and_eq_true] at h
    exact h.1)
  have e1 : ∀ j, (P j && decide (j ≠ e) && crs Z (fr j) (to j)) = (P j && crs Z (fr j) (to j) && decide (j ≠ e)) := fun j => by
    cases P j <;> cases crs Z (fr j) (to j) <;> simp
  by_cases hcr : crs Z (fr e) (to e) = true
  · simp only [crs, Bool.and_eq_true, Bool.not_eq_true'] at hcr
    have e2 : ent fr to P A Z ≤ ent fr to (fun j => P j && decide (j ≠ e)) A Z + 1 := by
      have := cnt_add4 (m := A) (p := fun j => P j && crs Z (fr j) (to j)) (q := fun _ => false) (r := fun j => P j && decide (j ≠ e) && crs Z (fr j) (to j)) (s := fun j => decide (j = e)) (fun j _ => by
        by_cases q : j = e
        · subst q
          simp
          exact Nat.le_trans (Bool.toNat_le _) (by simp)
        · simp [q])
      have z1 : cnt (fun _ => false) A = 0 := cnt_zero (fun _ _ => rfl)
      have z2 : ∀ m, cnt (fun j => decide (j = e)) m ≤ 1 := fun m => by
        induction m with
        | zero => simp [cnt]
        | succ m ih =>
          simp only [cnt]
          by_cases q : m = e
          · rw [cnt_zero (fun j hj => by simp; omega)]
            simp [q]
          · simp [q]; exact ih
      have := z2 A
      simp only [ent]
      omega
    cases hm : mis n (hv i) Z with
    | true =>
      have m3 : mss n (va_up hv i (hv i ||| 2 ^ to e)) k Z < mss n hv k Z := cnt_lts hi (fun j hj h => by
        rw [m1 j hj] at h
        simp only [Bool.and_eq_true] at h
        exact h.1) (by rw [m1 i hi]; simp [hcr.2]) hm
      omega
    | false =>
      have := hno Z hcr.2 hcr.1 hm
      omega
  · have e2 : ent fr to (fun j => P j && decide (j ≠ e)) A Z = ent fr to P A Z := cnt_congr (fun j _ => by
      by_cases q : j = e
      · subst q
        simp at hcr
        simp [hcr]
      · simp [q])
    omega
theorem lovasz (hc : cOK n A fr to k hv P) (hA : ∀ e, e < A → fr e < n ∧ to e < n) {i : Nat} (hi : i < k) (hall : ∃ v, v < n ∧ (hv i).testBit v = false) :
    ∃ e, e < A ∧ P e = true ∧ (hv i).testBit (fr e) = true ∧ (hv i).testBit (to e) = false ∧ cOK n A fr to k (va_up hv i (hv i ||| 2 ^ to e)) (fun j => P j && decide (j ≠ e)) := by
  by_cases hF : ∃ m, ∃ X : Nat → Bool, cnt X n = m ∧ mss n hv k X = ent fr to P A X ∧ mis n (hv i) X = false ∧ ∃ v, v < n ∧ X v = true ∧ (hv i).testBit v = false
  · obtain ⟨m, ⟨X, hXm, hXt, hXi, v0, v1, v2, v3⟩, hmin⟩ := pk_least _ hF
    -- the part of X that the branching has not
    have y1 : ∃ v, v < n ∧ (fun v => X v && !(hv i).testBit v) v = true := ⟨v0, v1, by simp [v2, v3]⟩
    have y2 := hc _ y1
    have y3 : mss n hv k X < mss n hv k (fun v => X v && !(hv i).testBit v) := cnt_lts hi (fun j _ h => mis_iff.mpr (fun v h1 h2 => by simp [mis_iff.mp h v h1 h2])) hXi (mis_iff.mpr (fun v h1 h2 => by simp [h2]))
    obtain ⟨e, he, p1, p2⟩ := cnt_lt_ex (show cnt (fun e => P e && crs X (fr e) (to e)) A < cnt (fun e => P e && crs (fun v => X v && !(hv i).testBit v) (fr e) (to e)) A by simp only [ent] at y2 hXt; omega)
    obtain ⟨a1, a2⟩ := hA e he
    simp only [crs, Bool.and_eq_true, Bool.not_eq_true', Bool.and_eq_false_iff, Bool.not_eq_false'] at p1 p2
    obtain ⟨pe, pf, px, pt⟩ := p1
    have hfX : X (fr e) = true := by
      rcases p2 with z | z | z
      · rw [pe] at z; cases z
      · exact z
      · rw [px] at z; cases z
    have hfi : (hv i).testBit (fr e) = true := by
      rcases pf with z | z
      · rw [hfX] at z; cases z
      · exact z
    refine ⟨e, he, pe, hfi, pt, step_ok hc hi he pe a2 (fun Z z1 z2 z3 z4 => ?_)⟩
    have s1 := ent_sub (fr := fr) (to := to) (P := P) (A := A) X Z
    have n1 : ∃ v, v < n ∧ (fun v => X v && Z v) v = true := ⟨to e, a2, by simp [px, z1]⟩
    have n2 : ∃ v, v < n ∧ (fun v => X v || Z v) v = true := ⟨to e, a2, by simp [px]⟩
    have c1 := hc _ n1
    have c2 := hc _ n2
    cases hm : mis n (hv i) (fun v => X v && Z v) with
    | true =>
      have s2 : mss n hv k X + mss n hv k Z < mss n hv k (fun v => X v && Z v) + mss n hv k (fun v => X v || Z v) := cnt_add4s hi (fun j _ => mis_sup (hv j) X Z) (by rw [hXi, z3, hm]; simp; omega)
      omega
    | false =>
      have s2 : mss n hv k X + mss n hv k Z ≤ mss n hv k (fun v => X v && Z v) + mss n hv k (fun v => X v || Z v) := cnt_add4 (fun j _ => mis_sup (hv j) X Z)
      have tight : mss n hv k (fun v => X v && Z v) = ent fr to P A (fun v => X v && Z v) := by omega
      have small : cnt (fun v => X v && Z v) n < cnt X n := cnt_lts a1 (fun v _ h => by simp only [Bool.and_eq_true] at h; exact h.1) (by simp [z2]) hfX
      exact hmin _ (by rw [← hXm]; exact small) ⟨_, rfl, tight, hm, to e, a2, by simp [px, z1], pt⟩
  · obtain ⟨v0, v1, v2⟩ := hall
    have y1 : ∃ v, v < n ∧ (fun v => !(hv i).testBit v) v = true := ⟨v0, v1, by simp [v2]⟩
    have y2 := hc _ y1
    have y3 : 1 ≤ mss n hv k (fun v => !(hv i).testBit v) := cnt_pos hi (mis_iff.mpr (fun v _ h => by simp [h]))
    obtain ⟨e, he, p1⟩ := cnt_ex (show 0 < cnt (fun e => P e && crs (fun v => !(hv i).testBit v) (fr e) (to e)) A by simp only [ent] at y2; omega)
    obtain ⟨a1, a2⟩ := hA e he
    simp only [crs, Bool.and_eq_true, Bool.not_eq_true', Bool.not_eq_false'] at p1
    obtain ⟨pe, pf, pt⟩ := p1
    exact ⟨e, he, pe, pf, pt, step_ok hc hi he pe a2 (fun Z z1 z2 z3 z4 => hF ⟨_, Z, rfl, z4, z3, to e, a2, z1, pt⟩)⟩
end EDM
end
section
/-! PURE: the packing, grown arc by arc -/
theorem up_id {α : Type} {f : Nat → α} {k : Nat} {v : α} (h : f k = v) : va_up f k v = f := by
  funext j
  simp only [va_up]
  split
  · rename_i q; rw [q, h]
  · rfl
theorem cOK_congr {n A k : Nat} {fr to hv hv' : Nat → Nat} {P P' : Nat → Bool} (h1 : ∀ i, i < k → hv i = hv' i) (h2 : ∀ e, e < A → P e = P' e) : cOK n A fr to k hv P ↔ cOK n A fr to k hv' P' := by
  have a : ∀ X, mss n hv k X = mss n hv' k X := fun X => cnt_congr (fun i hi => by rw [h1 i hi])
  have c : ∀ X, ent fr to P A X = ent fr to P' A X := fun X => cnt_congr (fun e he => by rw [h2 e he])
  simp only [cOK, a, c]
theorem not_all {n H : Nat} (h : H < 2 ^ n) (hne : H ≠ 2 ^ n - 1) : ∃ v, v < n ∧ H.testBit v = false := by
  refine Classical.byContradiction (fun hno => hne ?_)
  apply Nat.eq_of_testBit_eq
  intro v
  rw [Nat.testBit_two_pow_sub_one]
  by_cases q : v < n
  · cases hv : H.testBit v with
    | true => simp [q]
    | false => exact absurd ⟨v, q, hv⟩ hno
  · rw [Nat.testBit_lt_two_pow (Nat.lt_of_lt_of_le h (Nat.pow_le_pow_right (by omega) (by omega)))]
    simp [q]
theorem all_bit {n v : Nat} (h : v < n) : (2 ^ n - 1).testBit v = true := by
  rw [Nat.testBit_two_pow_sub_one]
  simp [h]
def nhv (to hv : Nat → Nat) (i e : Nat) : Nat → Nat := va_up hv i (hv i ||| 2 ^ to e)
def gro (fr to hv : Nat → Nat) (ow : Nat → Option Nat) (i e : Nat) : Bool := decide (ow e = none) && ((hv i).testBit (fr e) && !(hv i).testBit (to e))
def good (n A : Nat) (fr to : Nat → Nat) (k : Nat) (hv : Nat → Nat) (ow : Nat → Option Nat) (i e : Nat) : Prop := e < A ∧ gro fr to hv ow i e = true ∧ cOK n A fr to k (nhv to hv i e) (fre (va_up ow e (some i)) none)
def goodF (n A : Nat) (fr to : Nat → Nat) (k : Nat) (hv : Nat → Nat) (ow : Nat → Option Nat) (i e : Nat) : Prop := good n A fr to k hv ow i e ∧ ∀ e', e' < e → ¬ good n A fr to k hv ow i e'
theorem good_ex {n A : Nat} {fr to : Nat → Nat} {k : Nat} {hv : Nat → Nat} {ow : Nat → Option Nat} {i : Nat} (hc : cOK n A fr to k hv (fre ow none)) (hA : ∀ e, e < A → fr e < n ∧ to e < n) (hi : i < k) (hl : hv i < 2 ^ n) (hne : hv i ≠ 2 ^ n - 1) : ∃ e, good n A fr to k hv ow i e := by
  obtain ⟨e, h1, h2, h3, h4, h5⟩ := lovasz hc hA hi (not_all hl hne)
  refine ⟨e, h1, ?_, ?_⟩
  · simp only [fre, Bool.and_eq_true] at h2
    simp [gro, h2.1, h3, h4]
  · refine (cOK_congr (fun _ _ => rfl) (fun j _ => ?_)).mp h5
    simp only [fre, va_up]
    by_cases q : j = e
    · simp [q]
    · simp [q]
noncomputable def nx (n A : Nat) (fr to : Nat → Nat) (k : Nat) (hv : Nat → Nat) (ow : Nat → Option Nat) (i : Nat) : Nat := Classical.epsilon (goodF n A fr to k hv ow i)
theorem nx_eq {n A : Nat} {fr to : Nat → Nat} {k : Nat} {hv : Nat → Nat} {ow : Nat → Option Nat} {i e : Nat} (h : goodF n A fr to k hv ow i e) : nx n A fr to k hv ow i = e := by
  have q : goodF n A fr to k hv ow i (nx n A fr to k hv ow i) := Classical.epsilon_spec ⟨e, h⟩
  rcases Nat.lt_trichotomy (nx n A fr to k hv ow i) e with z | z | z
  · exact absurd q.1 (h.2 _ z)
  · exact z
  · exact absurd h.1 (q.2 _ z)
abbrev pSt : Type := (Nat → Nat) × (Nat → Option Nat)
noncomputable def gst (n A : Nat) (fr to : Nat → Nat) (k i : Nat) (s : pSt) : pSt := if s.1 i = 2 ^ n - 1 then s else (nhv to s.1 i (nx n A fr to k s.1 s.2 i), va_up s.2 (nx n A fr to k s.1 s.2 i) (some i))
def itr {α : Type} (f : α → α) : Nat → α → α
  | 0, s => s
  | m + 1, s => itr f m (f s)
theorem itr_s {α : Type} (f : α → α) : ∀ (m : Nat) (s : α), itr f (m + 1) s = f (itr f m s)
  | 0, _ => rfl
  | m + 1, s => itr_s f m (f s)
theorem itr_add {α : Type} (f : α → α) : ∀ (m j : Nat) (s : α), itr f (m + j) s = itr f m (itr f j s)
  | 0, j, s => by rw [Nat.zero_add]; rfl
  | m + 1, j, s => by rw [show m + 1 + j = (m + j) + 1 by omega, itr_s, itr_s, itr_add f m j s]
theorem itr_fix {α : Type} {f : α → α} {s : α} (h : f s = s) : ∀ m, itr f m s = s
  | 0 => rfl
  | m + 1 => by show itr f m (f s) = s; rw [h]; exact itr_fix h m
/-- the packing's have and owners when i branchings are grown -/
noncomputable def pks (n A : Nat) (fr to : Nat → Nat) (k : Nat) (R : Nat → Nat) : Nat → pSt
  | 0 => (R, fun _ => none)
  | i + 1 => itr (gst n A fr to k i) 7 (pks n A fr to k R i)
def ag (k A : Nat) (s : pSt) (hv : Nat → Nat) (ow : Nat → Option Nat) : Prop := (∀ i, i < k → s.1 i = hv i) ∧ ∀ e, e < A → s.2 e = ow e
theorem ag_good {n A : Nat} {fr to : Nat → Nat} {k : Nat} {hv : Nat → Nat} {ow : Nat → Option Nat} {s : pSt} {i : Nat} (h : ag k A s hv ow) (hi : i < k) (e : Nat) : good n A fr to k s.1 s.2 i e ↔ good n A fr to k hv ow i e := by
  simp only [good]
  by_cases he : e < A
  · have c : cOK n A fr to k (nhv to s.1 i e) (fre (va_up s.2 e (some i)) none) ↔ cOK n A fr to k (nhv to hv i e) (fre (va_up ow e (some i)) none) := cOK_congr (fun j hj => by
      simp only [nhv, va_up, h.1 i hi, h.1 j hj]) (fun j hj => by
      have z : va_up s.2 e (some i) j = va_up ow e (some i) j := by simp only [va_up, h.2 j hj]
      unfold fre
      rw [z])
    simp only [gro, h.1 i hi, h.2 e he, c]
  · simp [he]
theorem ag_step {n A : Nat} {fr to : Nat → Nat} {k : Nat} {hv : Nat → Nat} {ow : Nat → Option Nat} {s : pSt} {i e : Nat} (h : ag k A s hv ow) (hi : i < k) (hne : hv i ≠ 2 ^ n - 1) (hg : goodF n A fr to k hv ow i e) : ag k A (gst n A fr to k i s) (nhv to hv i e) (va_up ow e (some i)) := by
  have g2 : goodF n A fr to k s.1 s.2 i e := ⟨(ag_good h hi e).mpr hg.1, fun e' he' q => hg.2 e' he' ((ag_good h hi e').mp q)⟩
  simp only [gst]
  rw [if_neg (by rw [h.1 i hi]; exact hne), nx_eq g2]
  refine ⟨fun j hj => ?_, fun j hj => ?_⟩
  · simp only [nhv, va_up, h.1 i hi, h.1 j hj]
  · simp only [va_up, h.2 j hj]
theorem ag_fix {n A : Nat} {fr to : Nat → Nat} {k : Nat} {hv : Nat → Nat} {ow : Nat → Option Nat} {s : pSt} {i : Nat} (h : ag k A s hv ow) (hi : i < k) (he : hv i = 2 ^ n - 1) : gst n A fr to k i s = s := by
  simp only [gst]
  rw [if_pos (by rw [h.1 i hi]; exact he)]
/-- how many the branching has not -/
def lft (n H : Nat) : Nat := cnt (fun v => !H.testBit v) n
theorem lft_s {n H t : Nat} (ht : t < n) (hb : H.testBit t = false) : lft n (H ||| 2 ^ t) < lft n H := by
  refine cnt_lts ht (fun v _ q => ?_) ?_ (by simp [hb])
  · rw [or_bit] at q
    simp only [Bool.not_eq_true', Bool.or_eq_false_iff] at q
    simp [q.1]
  · rw [or_bit]
    simp
theorem lft_0 {n H : Nat} (hl : H < 2 ^ n) (h : lft n H = 0) : H = 2 ^ n - 1 := by
  refine Classical.byContradiction (fun q => ?_)
  obtain ⟨v, h1, h2⟩ := not_all hl q
  have := cnt_pos (P := fun v => !H.testBit v) h1 (by simp [h2])
  simp only [lft] at h
  omega
theorem or_lt {n H t : Nat} (hH : H < 2 ^ n) (ht : t < n) : H ||| 2 ^ t < 2 ^ n := Nat.or_lt_two_pow hH (Nat.pow_lt_pow_right (by omega) ht)
theorem unset_ : ∀ H, H < 128 → ∀ t, t < 7 → H.testBit t = false → nI (H ||| 2 ^ t) &&& (nI (2 ^ t) ^^^ (-1)) = nI H := by decide +kernel
end
section
/-! GROVE: step, grow, missed -/
section GROW
variable {b : xB} {h : Nat → Nat} {n A : Nat} {fr to : Nat → Nat} {k : Nat} {R hv : Nat → Nat} {ow : Nat → Option Nat} {dn : Bool} {u : xWs}
set_option maxRecDepth 20000 in
set_option maxHeartbeats 1000000 in
theorem ct_Grove_step {i : Nat} (hN : nOK n A fr to) (hk : k ≤ 3) (hhv : ∀ i, i < k → hv i < 2 ^ n) (how : ∀ e, e < A → ∀ j, ow e = some j → j < 100) (hi : i < k) (hc : cOK n A fr to k hv (fre ow none)) (hne : hv i ≠ 2 ^ n - 1) : xCt b y_Grove_step b_Grove_step 5 none q_Grove_step [.ref (h 1), .int (nI i)] (wG b h n A fr to k R hv ow dn u) (xVd (fun w => ∃ e u', w = wG b h n A fr to k R (nhv to hv i e) (va_up ow e (some i)) dn u' ∧ goodF n A fr to k hv ow i e)) := by
  refine x_met (by decide +kernel) rfl (Nat.le_of_ble_eq_true rfl) (fun G X Y => ?_)
  obtain ⟨n1, n2, n3, n4, n5⟩ := id hN
  have hp := pow_le n2
  have hvi := hhv i hi
  have ex := good_ex hc n5 hi hvi hne
  have loop := loopU (P := fun e => (∀ e', e' < e → ¬ good n A fr to k hv ow i e') → ∀ u : xWs, xW b G 0 0 (wG b h n A fr to k R hv ow dn u) 2 [(0, .ref (h 1)), (1, .int (nI i)), (2, .int (nI e))] []) A (fun e he ih hno u => by
    have a1 := n4 e
    have b1 := bIs ((hv i).testBit (fr e))
    have b2 := bIs ((hv i).testBit (to e))
    refine x_iload_n X d_Grove_step_2 rfl ?_
    refine x_aload_n X d_Grove_step_3 rfl ?_
    refine x_getf X d_Grove_step_4 f_Grove_29 0 rfl rfl ?_
    refine x_getf X d_Grove_step_7 f_Grove_37 4 rfl rfl ?_
    refine x_icmp_geN 132 X d_Grove_step_10 (by decide) (by omega) (by omega) (fun c_10 => ?_) (fun c_10 => ?_)
    · obtain ⟨e2, h2⟩ := ex
      exact absurd h2 (hno e2 (by have := h2.1; omega))
    · refine x_aload_n X d_Grove_step_13 rfl ?_
      refine x_getf X d_Grove_step_14 f_Grove_29 0 rfl rfl ?_
      refine x_getf X d_Grove_step_17 f_Grove_53 4 rfl rfl ?_
      refine x_iload_n X d_Grove_step_20 rfl ?_
      refine x_bald X d_Grove_step_21 5 rfl rfl (by omega) (by decide) ?_
      refine x_istore_n (lv' := [(0, _), (1, _), (2, _), (3, _)]) X d_Grove_step_22 (by decide) rfl ?_
      refine x_aload_n X d_Grove_step_23 rfl ?_
      refine x_getf X d_Grove_step_24 f_Grove_29 0 rfl rfl ?_
      refine x_getf X d_Grove_step_27 f_Grove_56 4 rfl rfl ?_
      refine x_iload_n X d_Grove_step_30 rfl ?_
      refine x_bald X d_Grove_step_31 6 rfl rfl (by omega) (by decide) ?_
      refine x_istore (lv' := [(0, _), (1, _), (2, _), (3, _), (4, _)]) X d_Grove_step_32 (by decide) rfl ?_
      refine x_aload_n X d_Grove_step_34 rfl ?_
      refine x_getf X d_Grove_step_35 f_Grove_26 0 rfl rfl ?_
      refine x_iload_n X d_Grove_step_38 rfl ?_
      refine x_iald X d_Grove_step_39 3 rfl rfl (by omega) (by decide) ?_
      refine x_iconst X d_Grove_step_40 k_ic_m1 ?_
      refine x_icmp_neM 126 X d_Grove_step_41 (by decide) (fun j q => by have := how e (by omega) j q; omega) (fun j_41 c_41 => ?_) (fun c_41 => ?_)
      · have hn2 : ¬ good n A fr to k hv ow i e := fun q => by simp [good, gro, c_41] at q
        try refine x_wd (w' := wG b h n A fr to k R hv ow dn _) (show wG b h n A fr to k R (va_up (va_up hv i (hv i ||| 2 ^ to e)) i (hv i)) (va_up (va_up ow e (some i)) e none) dn u_97 = wG b h n A fr to k R hv ow dn u_97 by rw [bx_uu, bx_uu, up_id rfl, up_id c_41]) ?_
        refine x_iincN (lv' := [(0, _), (1, _), (2, _), (3, _), (4, _)]) X d_Grove_step_126 rfl (by decide) rfl ?_
        refine x_goto 2 X d_Grove_step_129 (by decide) ?_
        refine x_lv [0, 1, 2] rfl ?_
        exact ih (by omega) (fun e' he' => by
          by_cases q : e' = e
          · rw [q]; exact hn2
          · exact hno e' (by omega)) _
      · refine x_aload_n X d_Grove_step_44 rfl ?_
        refine x_getf X d_Grove_step_45 f_Grove_22 0 rfl rfl ?_
        refine x_iload_n X d_Grove_step_48 rfl ?_
        refine x_iald X d_Grove_step_49 2 rfl rfl (by omega) (by decide) ?_
        refine x_iload_n X d_Grove_step_50 rfl ?_
        refine x_ishrN X d_Grove_step_51 (by omega) (by omega) ?_
        refine x_iconst X d_Grove_step_52 k_ic_1 ?_
        refine x_bit X d_Grove_step_53 ?_
        refine x_if_eqN 126 X d_Grove_step_54 (by decide) (by omega) (fun c_54 => ?_) (fun c_54 => ?_)
        · have hn2 : ¬ good n A fr to k hv ow i e := fun q => by
            have z : (hv i).testBit (fr e) = false := by simpa using c_54
            simp [good, gro, z] at q
          try refine x_wd (w' := wG b h n A fr to k R hv ow dn _) (show wG b h n A fr to k R (va_up (va_up hv i (hv i ||| 2 ^ to e)) i (hv i)) (va_up (va_up ow e (some i)) e none) dn u_97 = wG b h n A fr to k R hv ow dn u_97 by rw [bx_uu, bx_uu, up_id rfl, up_id c_41]) ?_
          refine x_iincN (lv' := [(0, _), (1, _), (2, _), (3, _), (4, _)]) X d_Grove_step_126 rfl (by decide) rfl ?_
          refine x_goto 2 X d_Grove_step_129 (by decide) ?_
          refine x_lv [0, 1, 2] rfl ?_
          exact ih (by omega) (fun e' he' => by
            by_cases q : e' = e
            · rw [q]; exact hn2
            · exact hno e' (by omega)) _
        · refine x_aload_n X d_Grove_step_57 rfl ?_
          refine x_getf X d_Grove_step_58 f_Grove_22 0 rfl rfl ?_
          refine x_iload_n X d_Grove_step_61 rfl ?_
          refine x_iald X d_Grove_step_62 2 rfl rfl (by omega) (by decide) ?_
          refine x_iload X d_Grove_step_63 rfl ?_
          refine x_ishrN X d_Grove_step_65 (by omega) (by omega) ?_
          refine x_iconst X d_Grove_step_66 k_ic_1 ?_
          refine x_bit X d_Grove_step_67 ?_
          refine x_iconst X d_Grove_step_68 k_ic_1 ?_
          refine x_icmp_neN 75 X d_Grove_step_69 (by decide) (by omega) (by omega) (fun c_69 => ?_) (fun c_69 => ?_)
          · have z1 : (hv i).testBit (fr e) = true := by simpa using c_54
            have z2 : (hv i).testBit (to e) = false := by simpa using c_69
            have hgr : gro fr to hv ow i e = true := by simp [gro, c_41, z1, z2]
            have hor := or_lt hvi (n5 e (by omega)).2
            refine x_aload_n X d_Grove_step_75 rfl ?_
            refine x_getf X d_Grove_step_76 f_Grove_26 0 rfl rfl ?_
            refine x_iload_n X d_Grove_step_79 rfl ?_
            refine x_iload_n X d_Grove_step_80 rfl ?_
            refine x_iast (w' := wG b h _ _ _ _ _ _ _ _ _ _) X d_Grove_step_81 3 rfl rfl (by omega) (by decide) (upd_oI _ _ (some _)) rfl ?_
            refine x_aload_n X d_Grove_step_82 rfl ?_
            refine x_getf X d_Grove_step_83 f_Grove_22 0 rfl rfl ?_
            refine x_iload_n X d_Grove_step_86 rfl ?_
            refine x_dup2 X d_Grove_step_87 rfl rfl ?_
            refine x_iald X d_Grove_step_88 2 rfl rfl (by omega) (by decide) ?_
            refine x_iconst X d_Grove_step_89 k_ic_1 ?_
            refine x_iload X d_Grove_step_90 rfl ?_
            refine x_shl1 X d_Grove_step_92 (by omega) ?_
            refine x_iorN X d_Grove_step_93 ?_
            refine x_iast (w' := wG b h _ _ _ _ _ _ _ _ _ _) X d_Grove_step_94 2 rfl rfl (by omega) (by decide) (upd_nI _ _ _) rfl ?_
            refine x_aload_n X d_Grove_step_95 rfl ?_
            refine x_iconst X d_Grove_step_96 k_ic_m1 ?_
            refine x_callA X d_Grove_step_97 c_Grove_65 (ct_Grove_can (wo := none) hN hk (fun j hj => by
  simp only [va_up]
  split
  · omega
  · have := hhv j hj; omega) (fun e2 he2 j q => by
  simp only [va_up] at q
  split at q
  · cases q; omega
  · exact how e2 he2 j q) (fun j q => by cases q)) rfl rfl rfl (Nat.le_of_ble_eq_true rfl) ⟨Nat.le_of_ble_eq_true rfl, Nat.le_of_ble_eq_true rfl⟩ ⟨rfl, rfl⟩ ⟨Nat.le_of_ble_eq_true rfl, Nat.le_of_ble_eq_true rfl⟩ (fun v_97 w_97 h_97 => ?_)
            obtain ⟨r_97, rfl, c_97, u_97, rfl, rfl, hc_97⟩ := h_97
            refine ⟨rfl, ?_⟩
            refine x_st (st' := [_]) rfl ?_
            refine x_if_eqB 104 X d_Grove_step_100 (by decide) (fun c_100 => ?_) (fun c_100 => ?_)
            · have hn2 : ¬ good n A fr to k hv ow i e := fun q => by rw [hc_97.mpr q.2.2] at c_100; cases c_100
              refine x_aload_n X d_Grove_step_104 rfl ?_
              refine x_getf X d_Grove_step_105 f_Grove_26 0 rfl rfl ?_
              refine x_iload_n X d_Grove_step_108 rfl ?_
              refine x_iconst X d_Grove_step_109 k_ic_m1 ?_
              refine x_iast (w' := wG b h _ _ _ _ _ _ _ _ _ _) X d_Grove_step_110 3 rfl rfl (by omega) (by decide) (upd_oI _ _ none) rfl ?_
              refine x_aload_n X d_Grove_step_111 rfl ?_
              refine x_getf X d_Grove_step_112 f_Grove_22 0 rfl rfl ?_
              refine x_iload_n X d_Grove_step_115 rfl ?_
              refine x_dup2 X d_Grove_step_116 rfl rfl ?_
              refine x_iald X d_Grove_step_117 2 rfl rfl (by omega) (by decide) ?_
              refine x_top (show nI (va_up hv i (hv i ||| 2 ^ to e) i) = nI (hv i ||| 2 ^ to e) by rw [va_up_self]) ?_
              refine x_iconst X d_Grove_step_118 k_ic_1 ?_
              refine x_iload X d_Grove_step_119 rfl ?_
              refine x_shl1 X d_Grove_step_121 (by omega) ?_
              refine x_iconst X d_Grove_step_122 k_ic_m1 ?_
              refine x_ixor X d_Grove_step_123 ?_
              refine x_iand X d_Grove_step_124 ?_
              refine x_top (unset_ (hv i) (by omega) (to e) (by omega) z2) ?_
              refine x_iast (w' := wG b h _ _ _ _ _ _ _ _ _ _) X d_Grove_step_125 2 rfl rfl (by omega) (by decide) (upd_nI _ _ _) rfl ?_
              try refine x_wd (w' := wG b h n A fr to k R hv ow dn _) (show wG b h n A fr to k R (va_up (va_up hv i (hv i ||| 2 ^ to e)) i (hv i)) (va_up (va_up ow e (some i)) e none) dn u_97 = wG b h n A fr to k R hv ow dn u_97 by rw [bx_uu, bx_uu, up_id rfl, up_id c_41]) ?_
              refine x_iincN (lv' := [(0, _), (1, _), (2, _), (3, _), (4, _)]) X d_Grove_step_126 rfl (by decide) rfl ?_
              refine x_goto 2 X d_Grove_step_129 (by decide) ?_
              refine x_lv [0, 1, 2] rfl ?_
              exact ih (by omega) (fun e' he' => by
                by_cases q : e' = e
                · rw [q]; exact hn2
                · exact hno e' (by omega)) _
            · exact x_vret X Y d_Grove_step_103 (Nat.le_of_ble_eq_true rfl) ⟨rfl, e, _, rfl, ⟨⟨by omega, hgr, hc_97.mp c_100⟩, hno⟩⟩
          · have hn2 : ¬ good n A fr to k hv ow i e := fun q => by
              have z : (hv i).testBit (to e) = true := by simpa using c_69
              simp [good, gro, z] at q
            refine x_goto 126 X d_Grove_step_72 (by decide) ?_
            try refine x_wd (w' := wG b h n A fr to k R hv ow dn _) (show wG b h n A fr to k R (va_up (va_up hv i (hv i ||| 2 ^ to e)) i (hv i)) (va_up (va_up ow e (some i)) e none) dn u_97 = wG b h n A fr to k R hv ow dn u_97 by rw [bx_uu, bx_uu, up_id rfl, up_id c_41]) ?_
            refine x_iincN (lv' := [(0, _), (1, _), (2, _), (3, _), (4, _)]) X d_Grove_step_126 rfl (by decide) rfl ?_
            refine x_goto 2 X d_Grove_step_129 (by decide) ?_
            refine x_lv [0, 1, 2] rfl ?_
            exact ih (by omega) (fun e' he' => by
              by_cases q : e' = e
              · rw [q]; exact hn2
              · exact hno e' (by omega)) _
  )
  refine x_iconst X d_Grove_step_0 k_ic_0 ?_
  refine x_istore_n (lv' := [(0, _), (1, _), (2, _)]) X d_Grove_step_1 (by decide) rfl ?_
  exact loop 0 (Nat.zero_le _) (fun e' he' => by omega) u
set_option maxRecDepth 20000 in
set_option maxHeartbeats 1000000 in
theorem ct_Grove_grow (hN : nOK n A fr to) (hk : k ≤ 3) (hR : ∀ i, i < k → R i < 2 ^ n) : xCt b y_Grove_grow b_Grove_grow 2 none q_Grove_grow [.ref (h 1)] (wG b h n A fr to k R hv ow dn u) (xVd (fun w => ∃ c hv' ow' u', w = wG b h n A fr to k R hv' ow' c u' ∧ (c = true ↔ cOK n A fr to k R (fun _ => true)) ∧ (c = true → (∀ e, e < A → ow' e = (pks n A fr to k R k).2 e) ∧ ∀ e, e < A → ∀ j, ow' e = some j → j < k))) := by
  refine x_met (by decide +kernel) rfl (Nat.le_of_ble_eq_true rfl) (fun G X Y => ?_)
  obtain ⟨n1, n2, n3, n4, n5⟩ := id hN
  have hp := pow_le n2
  have e1 : cOK n A fr to k (cp R hv k) (fre (clr ow A) none) ↔ cOK n A fr to k R (fun _ => true) := cOK_congr (fun i hi => cp_lt hi) (fun e he => by simp [fre, clr_lt he])
  have outer : cOK n A fr to k R (fun _ => true) → ∀ i, i ≤ k → ∀ (hv : Nat → Nat) (ow : Nat → Option Nat) (u : xWs), ag k A (pks n A fr to k R i) hv ow → cOK n A fr to k hv (fre ow none) → (∀ i, i < k → hv i < 2 ^ n) → (∀ e, e < A → ∀ j, ow e = some j → j < k) → xW b G 0 0 (wG b h n A fr to k R hv ow true u) 15 [(0, .ref (h 1)), (1, .int (nI i))] [] := fun hcR => loopU k (fun i hi ih hv ow u hag hc hhv how => by
    have inner : i < k → ∀ (c j : Nat) (hv : Nat → Nat) (ow : Nat → Option Nat) (u : xWs), lft n (hv i) = c → j + c ≤ 7 → ag k A (itr (gst n A fr to k i) j (pks n A fr to k R i)) hv ow → cOK n A fr to k hv (fre ow none) → (∀ i, i < k → hv i < 2 ^ n) → (∀ e, e < A → ∀ j, ow e = some j → j < k) → xW b G 0 0 (wG b h n A fr to k R hv ow true u) 30 [(0, .ref (h 1)), (1, .int (nI i))] [] := by
      intro hik c
      induction c using Nat.strongRecOn with
      | ind c ihc =>
        intro j hv ow u hlf hj hag hc hhv how
        have hvi := hhv i hik
        refine x_aload_n X d_Grove_grow_30 rfl ?_
        refine x_getf X d_Grove_grow_31 f_Grove_22 0 rfl rfl ?_
        refine x_iload_n X d_Grove_grow_34 rfl ?_
        refine x_iald X d_Grove_grow_35 2 rfl rfl (by omega) (by decide) ?_
        refine x_aload_n X d_Grove_grow_36 rfl ?_
        refine x_getf X d_Grove_grow_37 f_Grove_29 0 rfl rfl ?_
        refine x_callVR X d_Grove_grow_40 c_Grove_73 (ct_Net_all (by omega)) [4, 5, 6] rfl rfl rfl rfl rfl (Nat.le_of_ble_eq_true rfl) ⟨Nat.le_of_ble_eq_true rfl, Nat.le_of_ble_eq_true rfl⟩ ⟨rfl, rfl⟩ ⟨Nat.le_of_ble_eq_true rfl, Nat.le_of_ble_eq_true rfl⟩ (fun r_40 h_40 => ?_)
        obtain rfl := h_40
        refine x_icmp_eqN 54 X d_Grove_grow_43 (by decide) (by omega) (by omega) (fun c_43 => ?_) (fun c_43 => ?_)
        · refine x_iincN (lv' := [(0, _), (1, _)]) X d_Grove_grow_54 rfl (by decide) rfl ?_
          refine x_goto 15 X d_Grove_grow_57 (by decide) ?_
          refine ih hik hv ow u ?_ hc hhv how
          have f := ag_fix (fr := fr) (to := to) hag hik c_43
          show ag k A (itr (gst n A fr to k i) 7 (pks n A fr to k R i)) hv ow
          rw [show 7 = (7 - j) + j by omega, itr_add, itr_fix f]
          exact hag
        · refine x_aload_n X d_Grove_grow_46 rfl ?_
          refine x_iload_n X d_Grove_grow_47 rfl ?_
          refine x_callA X d_Grove_grow_48 c_Grove_77 (ct_Grove_step hN hk hhv (fun e he j q => by have := how e he j q; omega) hik hc c_43) rfl rfl rfl (Nat.le_of_ble_eq_true rfl) ⟨Nat.le_of_ble_eq_true rfl, Nat.le_of_ble_eq_true rfl⟩ ⟨rfl, rfl⟩ ⟨Nat.le_of_ble_eq_true rfl, Nat.le_of_ble_eq_true rfl⟩ (fun v_48 w_48 h_48 => ?_)
          obtain ⟨rfl, e_48, u_48, rfl, hg_48⟩ := h_48
          refine ⟨rfl, ?_⟩
          refine x_st (st' := []) rfl ?_
          refine x_goto 30 X d_Grove_grow_51 (by decide) ?_
          obtain ⟨⟨g1, g2, g3⟩, g4⟩ := id hg_48
          simp only [gro, Bool.and_eq_true, Bool.not_eq_true', decide_eq_true_eq] at g2
          have g5 := lft_s (H := hv i) (n5 e_48 g1).2 g2.2.2
          have g6 : nhv to hv i e_48 i = hv i ||| 2 ^ to e_48 := va_up_self _ _ _
          refine ihc (lft n (hv i ||| 2 ^ to e_48)) (by omega) (j + 1) _ _ _ (by rw [g6]) (by omega) ?_ g3 (fun i2 hi2 => ?_) (fun e2 he2 j2 q => ?_)
          · rw [itr_s]
            exact ag_step hag hik c_43 hg_48
          · simp only [nhv, va_up]
            split
            · exact or_lt hvi (n5 e_48 g1).2
            · exact hhv i2 hi2
          · simp only [va_up] at q
            split at q
            · cases q; exact hik
            · exact how e2 he2 j2 q
    refine x_iload_n X d_Grove_grow_15 rfl ?_
    refine x_aload_n X d_Grove_grow_16 rfl ?_
    refine x_getf X d_Grove_grow_17 f_Grove_33 0 rfl rfl ?_
    refine x_icmp_geN 60 X d_Grove_grow_20 (by decide) (by omega) (by omega) (fun c_20 => ?_) (fun c_20 => ?_)
    · obtain rfl : i = k := by omega
      exact x_vret X Y d_Grove_grow_60 (Nat.le_of_ble_eq_true rfl) ⟨rfl, true, _, _, _, rfl, ⟨fun _ => hcR, fun _ => rfl⟩, fun _ => ⟨fun e he => (hag.2 e he).symm, how⟩⟩
    · refine x_aload_n X d_Grove_grow_23 rfl ?_
      refine x_getf X d_Grove_grow_24 f_Grove_69 0 rfl rfl ?_
      refine x_if_eqB 60 X d_Grove_grow_27 (by decide) (fun c_27 => ?_) (fun c_27 => ?_)
      · cases c_27
      · exact inner c_20 _ 0 hv ow u rfl (by have := cnt_le (P := fun v => !(hv i).testBit v) n; simp only [lft]; omega) hag hc hhv how
  )
  refine x_aload_n X d_Grove_grow_0 rfl ?_
  refine x_callA X d_Grove_grow_1 c_Grove_62 (ct_Grove_start (by omega) (by omega)) rfl rfl rfl (Nat.le_of_ble_eq_true rfl) ⟨Nat.le_of_ble_eq_true rfl, Nat.le_of_ble_eq_true rfl⟩ ⟨rfl, rfl⟩ ⟨Nat.le_of_ble_eq_true rfl, Nat.le_of_ble_eq_true rfl⟩ (fun v_1 w_1 h_1 => ?_)
  obtain ⟨rfl, rfl⟩ := h_1
  refine ⟨rfl, ?_⟩
  refine x_st (st' := []) rfl ?_
  refine x_aload_n X d_Grove_grow_4 rfl ?_
  refine x_aload_n X d_Grove_grow_5 rfl ?_
  refine x_iconst X d_Grove_grow_6 k_ic_m1 ?_
  refine x_callA X d_Grove_grow_7 c_Grove_65 (ct_Grove_can (wo := none) hN hk (fun j hj => by rw [cp_lt hj]; have := hR j hj; omega) (fun e he j q => by rw [clr_lt he] at q; cases q) (fun j q => by cases q)) rfl rfl rfl (Nat.le_of_ble_eq_true rfl) ⟨Nat.le_of_ble_eq_true rfl, Nat.le_of_ble_eq_true rfl⟩ ⟨rfl, rfl⟩ ⟨Nat.le_of_ble_eq_true rfl, Nat.le_of_ble_eq_true rfl⟩ (fun v_7 w_7 h_7 => ?_)
  obtain ⟨r_7, rfl, c_7, u_7, rfl, rfl, hc_7⟩ := h_7
  refine ⟨rfl, ?_⟩
  refine x_st (st' := [_, _]) rfl ?_
  refine x_putf (w' := wG b h _ _ _ _ _ _ _ _ _ _) X d_Grove_grow_10 f_Grove_69 0 rfl (bI_nar _) (bI_fit _) (Nat.le_of_ble_eq_true rfl) rfl ?_
  refine x_iconst X d_Grove_grow_13 k_ic_0 ?_
  refine x_istore_n (lv' := [(0, _), (1, _)]) X d_Grove_grow_14 (by decide) rfl ?_
  cases c_7 with
  | true =>
    exact outer (e1.mp (hc_7.mp rfl)) 0 (Nat.zero_le _) _ _ _ ⟨fun i hi => (cp_lt hi).symm, fun e he => (clr_lt he).symm⟩ (hc_7.mp rfl) (fun i hi => by rw [cp_lt hi]; exact hR i hi) (fun e he j q => by rw [clr_lt he] at q; cases q)
  | false =>
    have hno : ¬ cOK n A fr to k R (fun _ => true) := fun z => by have := hc_7.mpr (e1.mpr z); cases this
    refine x_iload_n X d_Grove_grow_15 rfl ?_
    refine x_aload_n X d_Grove_grow_16 rfl ?_
    refine x_getf X d_Grove_grow_17 f_Grove_33 0 rfl rfl ?_
    refine x_icmp_geN 60 X d_Grove_grow_20 (by decide) (by omega) (by omega) (fun c_20 => ?_) (fun c_20 => ?_)
    · exact x_vret X Y d_Grove_grow_60 (Nat.le_of_ble_eq_true rfl) ⟨rfl, false, _, _, _, rfl, ⟨fun z => (by cases z), fun z => absurd z hno⟩, fun z => (by cases z)⟩
    · refine x_aload_n X d_Grove_grow_23 rfl ?_
      refine x_getf X d_Grove_grow_24 f_Grove_69 0 rfl rfl ?_
      refine x_if_eqB 60 X d_Grove_grow_27 (by decide) (fun c_27 => ?_) (fun c_27 => ?_)
      · exact x_vret X Y d_Grove_grow_60 (Nat.le_of_ble_eq_true rfl) ⟨rfl, false, _, _, _, rfl, ⟨fun z => (by cases z), fun z => absurd z hno⟩, fun z => (by cases z)⟩
      · cases c_27
set_option maxRecDepth 20000 in
theorem ct_Grove_missed {s : Nat} (hk : k ≤ 3) (hs : s < 128) : xCt b y_Grove_missed b_Grove_missed 4 (some .int) q_Grove_missed [.ref (h 1), .int (nI s)] (wG b h n A fr to k R hv ow dn u) (xRd (wG b h n A fr to k R hv ow dn u) (fun r => r = nI (cnt (fun i => decide (R i &&& s = 0)) k))) := by
  refine x_met (by decide +kernel) rfl (Nat.le_of_ble_eq_true rfl) (fun G X Y => ?_)
  have loop := loopU (P := fun i => xW b G 0 0 (wG b h n A fr to k R hv ow dn u) 4 [(0, .ref (h 1)), (1, .int (nI s)), (2, .int (nI (cnt (fun i => decide (R i &&& s = 0)) i))), (3, .int (nI i))] []) k (fun i hi ih => by
    have hb := Nat.and_le_right (n := R i) (m := s)
    refine x_iload_n X d_Grove_missed_4 rfl ?_
    refine x_aload_n X d_Grove_missed_5 rfl ?_
    refine x_getf X d_Grove_missed_6 f_Grove_33 0 rfl rfl ?_
    refine x_icmp_geN 37 X d_Grove_missed_9 (by decide) (by omega) (by omega) (fun c_9 => ?_) (fun c_9 => ?_)
    · obtain rfl : i = k := by omega
      refine x_iload_n X d_Grove_missed_37 rfl ?_
      exact x_ret X Y d_Grove_missed_38 rfl (Nat.le_of_ble_eq_true rfl) ⟨_, rfl, rfl, rfl⟩
    · refine x_iload_n X d_Grove_missed_12 rfl ?_
      refine x_aload_n X d_Grove_missed_13 rfl ?_
      refine x_getf X d_Grove_missed_14 f_Grove_18 0 rfl rfl ?_
      refine x_iload_n X d_Grove_missed_17 rfl ?_
      refine x_bald X d_Grove_missed_18 1 rfl rfl (by omega) (by decide) ?_
      refine x_iload_n X d_Grove_missed_19 rfl ?_
      refine x_iandN X d_Grove_missed_20 ?_
      refine x_if_neN 28 X d_Grove_missed_21 (by decide) (by omega) (fun c_21 => ?_) (fun c_21 => ?_)
      · have e : cnt (fun i => decide (R i &&& s = 0)) (i + 1) = cnt (fun i => decide (R i &&& s = 0)) i + 0 := by simp [cnt, c_21]
        refine x_iconst X d_Grove_missed_28 k_ic_0 ?_
        refine x_iaddN X d_Grove_missed_29 ?_
        refine x_istore_n (lv' := [(0, _), (1, _), (2, _), (3, _)]) X d_Grove_missed_30 (by decide) rfl ?_
        refine x_iincN (lv' := [(0, _), (1, _), (2, _), (3, _)]) X d_Grove_missed_31 rfl (by decide) rfl ?_
        refine x_goto 4 X d_Grove_missed_34 (by decide) ?_
        have q := ih (by omega)
        rw [e] at q
        exact q
      · have e : cnt (fun i => decide (R i &&& s = 0)) (i + 1) = cnt (fun i => decide (R i &&& s = 0)) i + 1 := by simp [cnt, c_21]
        refine x_iconst X d_Grove_missed_24 k_ic_1 ?_
        refine x_goto 29 X d_Grove_missed_25 (by decide) ?_
        refine x_iaddN X d_Grove_missed_29 ?_
        refine x_istore_n (lv' := [(0, _), (1, _), (2, _), (3, _)]) X d_Grove_missed_30 (by decide) rfl ?_
        refine x_iincN (lv' := [(0, _), (1, _), (2, _), (3, _)]) X d_Grove_missed_31 rfl (by decide) rfl ?_
        refine x_goto 4 X d_Grove_missed_34 (by decide) ?_
        have q := ih (by omega)
        rw [e] at q
        exact q
  )
  refine x_iconst X d_Grove_missed_0 k_ic_0 ?_
  refine x_istore_n (lv' := [(0, _), (1, _), (2, _)]) X d_Grove_missed_1 (by decide) rfl ?_
  refine x_iconst X d_Grove_missed_2 k_ic_0 ?_
  refine x_istore_n (lv' := [(0, _), (1, _), (2, _), (3, _)]) X d_Grove_missed_3 (by decide) rfl ?_
  exact loop 0 (Nat.zero_le _)
end GROW
end
section
/-! GROVE: most -/
def gW (H c : Nat) : Nat → lkL
  | 0 => []
  | v + 1 => gW H c v ++ (if H.testBit v then [(c, v, 14)] else [])
theorem gW_len (H c : Nat) : ∀ v, (gW H c v).length ≤ v
  | 0 => Nat.le_refl _
  | v + 1 => by
    have := gW_len H c v
    simp only [gW, List.length_append]
    split <;> simp <;> omega
theorem gW_0 {H c : Nat} {X : Nat → Bool} : ∀ v, (∀ u, u < v → H.testBit u = true → X u = false) → cap (gW H c v) X = 0
  | 0, _ => rfl
  | v + 1, hX => by
    simp only [gW, cap_app, gW_0 v (fun u hu => hX u (by omega))]
    cases hH : H.testBit v with
    | false => simp [cap]
    | true => simp [cap, crs, hX v (by omega) hH]
theorem gW_14 {H c : Nat} {X : Nat → Bool} (h0 : X c = false) : ∀ v, (∃ u, u < v ∧ H.testBit u = true ∧ X u = true) → 14 ≤ cap (gW H c v) X
  | 0, ⟨u, hu, _⟩ => by omega
  | v + 1, ⟨u, hu, h1, h2⟩ => by
    simp only [gW, cap_app]
    by_cases q : u = v
    · subst q
      simp [h1, cap, crs, h0, h2]
    · have := gW_14 h0 v ⟨u, by omega, h1, h2⟩
      omega
/-- what most answers: the fewest arcs that enter a set that has nothing of s, 99 if there is none -/
def dis (n s : Nat) (X : Nat → Bool) : Prop := ∀ v, v < n → s.testBit v = true → X v = false
def mo (n A : Nat) (fr to : Nat → Nat) (s m r : Nat) : Prop := r ≤ 99 ∧ (∀ X : Nat → Bool, dis n s X → (∃ v, v < m ∧ X v = true) → r ≤ ent fr to (fun _ => true) A X) ∧ (r < 99 → ∃ X : Nat → Bool, dis n s X ∧ (∃ v, v < n ∧ X v = true) ∧ ent fr to (fun _ => true) A X ≤ r)
theorem mo_u {n A : Nat} {fr to : Nat → Nat} {s r r' : Nat} (h : mo n A fr to s n r) (h' : mo n A fr to s n r') : r = r' := by
  obtain ⟨a1, a2, a3⟩ := h
  obtain ⟨b1, b2, b3⟩ := h'
  rcases Nat.lt_trichotomy r r' with z | z | z
  · obtain ⟨X, x1, x2, x3⟩ := a3 (by omega)
    have := b2 X x1 x2
    omega
  · exact z
  · obtain ⟨X, x1, x2, x3⟩ := b3 (by omega)
    have := a2 X x1 x2
    omega
theorem mo_cut {n A : Nat} {fr to : Nat → Nat} {s v x : Nat} (hA : A ≤ 14) (hN : ∀ e, e < A → fr e < n ∧ to e < n) (hv : v < n) (hs : s.testBit v = false) (h : mcut (gW s n n ++ gE fr to (fun _ => true) A) n v 14 x) : (∀ X : Nat → Bool, dis n s X → X v = true → x ≤ ent fr to (fun _ => true) A X) ∧ ∃ X : Nat → Bool, dis n s X ∧ (∃ v, v < n ∧ X v = true) ∧ ent fr to (fun _ => true) A X ≤ x := by
  obtain ⟨h1, h2, h3⟩ := h
  constructor
  · intro X hX hXv
    have hZ : ∀ u, u < n → (fun u => decide (u < n) && X u) u = X u := fun u hu => by simp [hu]
    have a := h2 (fun u => decide (u < n) && X u) (by simp) (by simp [hv, hXv])
    rw [cap_app, cap_gE, gW_0 n (fun u hu q => by simp [hX u hu q])] at a
    rw [cnt_congr (Q := fun e => true && crs X (fr e) (to e)) (fun e he => by simp [crs, (hN e he).1, (hN e he).2])] at a
    simp only [ent]
    omega
  · by_cases q : x < 14
    · obtain ⟨X, x1, x2, x3⟩ := h3 q
      rw [cap_app, cap_gE] at x3
      refine ⟨X, fun u hu hb => ?_, ⟨v, hv, x2⟩, by simp only [ent]; omega⟩
      cases hXu : X u with
      | false => rfl
      | true =>
        have := gW_14 (H := s) x1 n ⟨u, hu, hb, hXu⟩
        omega
    · refine ⟨fun u => decide (u = v), fun u hu hb => ?_, ⟨v, hv, by simp⟩, ?_⟩
      · simp only [decide_eq_false_iff_not]
        exact fun z => by rw [z, hs] at hb; cases hb
      · have := cnt_le (P := fun e => true && crs (fun u => decide (u = v)) (fr e) (to e)) A
        simp only [ent]
        omega
theorem nI_min {x y : Nat} (hx : x < 2 ^ 31) (hy : y < 2 ^ 31) : (if nI y < nI x then nI y else nI x) = nI (min x y) := by
  by_cases h : y < x
  · rw [if_pos ((nI_ltI hy hx).mpr h), Nat.min_eq_right (by omega)]
  · rw [if_neg (fun z => h ((nI_ltI hy hx).mp z)), Nat.min_eq_left (by omega)]
section MOST
variable {b : xB} {h : Nat → Nat} {n A : Nat} {fr to : Nat → Nat} {k : Nat} {R hv : Nat → Nat} {ow : Nat → Option Nat} {dn : Bool} {u : xWs}
set_option maxRecDepth 20000 in
set_option maxHeartbeats 1000000 in
theorem ct_Grove_most {s : Nat} (hN : nOK n A fr to) (hs : s < 128) : xCt b y_Grove_most b_Grove_most 5 (some .int) q_Grove_most [.ref (h 1), .int (nI s)] (wG b h n A fr to k R hv ow dn u) (xIn (fun r w => ∃ x u', r = nI x ∧ w = wG b h n A fr to k R hv ow dn u' ∧ mo n A fr to s n x)) := by
  refine x_met (by decide +kernel) rfl (Nat.le_of_ble_eq_true rfl) (fun G X Y => ?_)
  obtain ⟨n1, n2, n3, n4, n5⟩ := id hN
  have l3 := loopU (P := fun v => ∀ (x : Nat) (u : xWs), uOK u (n + 1) (gW s n n ++ gE fr to (fun _ => true) A) → mo n A fr to s v x → xW b G 0 0 (wG b h n A fr to k R hv ow dn u) 108 [(0, .ref (h 1)), (1, .int (nI s)), (2, .int (nI n)), (3, .int (nI x)), (4, .int (nI v))] []) n (fun v hv1 ih x u hu hm => by
    obtain ⟨m1, m2, m3⟩ := id hm
    have b1 := bIs (s.testBit v)
    refine x_iload X d_Grove_most_108 rfl ?_
    refine x_aload_n X d_Grove_most_110 rfl ?_
    refine x_getf X d_Grove_most_111 f_Grove_29 0 rfl rfl ?_
    refine x_getf X d_Grove_most_114 f_Grove_42 4 rfl rfl ?_
    refine x_icmp_geN 152 X d_Grove_most_117 (by decide) (by omega) (by omega) (fun c_117 => ?_) (fun c_117 => ?_)
    · obtain rfl : v = n := by omega
      refine x_iload_n X d_Grove_most_152 rfl ?_
      exact x_ret X Y d_Grove_most_153 rfl (Nat.le_of_ble_eq_true rfl) ⟨_, rfl, _, _, rfl, rfl, hm⟩
    · refine x_iload_n X d_Grove_most_120 rfl ?_
      refine x_iload X d_Grove_most_121 rfl ?_
      refine x_ishrN X d_Grove_most_123 (by omega) (by omega) ?_
      refine x_iconst X d_Grove_most_124 k_ic_1 ?_
      refine x_bit X d_Grove_most_125 ?_
      refine x_if_neN 146 X d_Grove_most_126 (by decide) (by omega) (fun c_126 => ?_) (fun c_126 => ?_)
      · have hs1 : s.testBit v = true := by simpa using c_126
        have hm2 : mo n A fr to s (v + 1) x := ⟨m1, fun Z z1 ⟨v2, z2, z3⟩ => m2 Z z1 ⟨v2, by
          have : v2 ≠ v := fun q => by rw [q, z1 v (by omega) hs1] at z3; cases z3
          omega, z3⟩, m3⟩
        have hu2 := hu
        refine x_iincN (lv' := [(0, _), (1, _), (2, _), (3, _), (4, _)]) X d_Grove_most_146 rfl (by decide) rfl ?_
        refine x_goto 108 X d_Grove_most_149 (by decide) ?_
        exact ih (by omega) _ _ hu2 hm2
      · have hs1 : s.testBit v = false := by simpa using c_126
        refine x_iload_n X d_Grove_most_129 rfl ?_
        refine x_aload_n X d_Grove_most_130 rfl ?_
        refine x_getf X d_Grove_most_131 f_Grove_12 0 rfl rfl ?_
        refine x_iload_n X d_Grove_most_134 rfl ?_
        refine x_iload X d_Grove_most_135 rfl ?_
        refine x_bipush X d_Grove_most_137 k_bp_14 ?_
        refine x_callF (wV b h _ _ _ _ _ ++ wN b h _ _ _ _) ([]) X d_Grove_most_139 c_Grove_59 (cu_Ways_count hu (by omega) (by omega) (by omega) (by omega)) rfl rfl rfl rfl (Nat.le_of_ble_eq_true rfl) ⟨Nat.le_of_ble_eq_true rfl, Nat.le_of_ble_eq_true rfl⟩ ⟨rfl, rfl⟩ ⟨Nat.le_of_ble_eq_true rfl, Nat.le_of_ble_eq_true rfl⟩ (fun v_139 w_139 h_139 => ?_)
        obtain ⟨r_139, rfl, x_139, u_139, rfl, rfl, hu_139, hm_139⟩ := h_139
        refine ⟨rfl, ?_⟩
        refine x_wd (w' := wG b h _ _ _ _ _ _ _ _ _ _) rfl ?_
        refine x_st (st' := [_, _]) rfl ?_
        have hx14 := hm_139.1
        obtain ⟨k1, k2⟩ := mo_cut n3 n5 (by omega) hs1 hm_139
        have hu2 := hu_139
        have hm2 : mo n A fr to s (v + 1) (min x x_139) := ⟨by omega, fun Z z1 ⟨v2, z2, z3⟩ => by
          by_cases q : v2 = v
          · have := k1 Z z1 (by rw [← q]; exact z3)
            omega
          · have := m2 Z z1 ⟨v2, by omega, z3⟩
            omega, fun _ => by
          by_cases q : x ≤ x_139
          · obtain ⟨Z, z1, z2, z3⟩ := m3 (by omega)
            exact ⟨Z, z1, z2, by omega⟩
          · obtain ⟨Z, z1, z2, z3⟩ := k2
            exact ⟨Z, z1, z2, by omega⟩⟩
        refine x_min X d_Grove_most_142 m_293 (Nat.le_of_ble_eq_true rfl) (Nat.le_of_ble_eq_true rfl) (Nat.zero_le _) (Nat.zero_le _) ?_
        refine x_top (nI_min (by omega) (by omega)) ?_
        refine x_istore_n (lv' := [(0, _), (1, _), (2, _), (3, _), (4, _)]) X d_Grove_most_145 (by decide) rfl ?_
        refine x_iincN (lv' := [(0, _), (1, _), (2, _), (3, _), (4, _)]) X d_Grove_most_146 rfl (by decide) rfl ?_
        refine x_goto 108 X d_Grove_most_149 (by decide) ?_
        exact ih (by omega) _ _ hu2 hm2
  )
  have l2 := loopU (P := fun e => ∀ (u : xWs), uOK u (n + 1) (gW s n n ++ gE fr to (fun _ => true) e) → xW b G 0 0 (wG b h n A fr to k R hv ow dn u) 59 [(0, .ref (h 1)), (1, .int (nI s)), (2, .int (nI n)), (3, .int (nI e))] []) A (fun e he ih u hu => by
    have hlen : (gW s n n ++ gE fr to (fun _ => true) e).length ≤ 7 + e := by
      have a1 := gW_len s n n
      have a2 := gE_len fr to (fun _ => true) e
      simp only [List.length_append]
      omega
    refine x_iload_n X d_Grove_most_59 rfl ?_
    refine x_aload_n X d_Grove_most_60 rfl ?_
    refine x_getf X d_Grove_most_61 f_Grove_29 0 rfl rfl ?_
    refine x_getf X d_Grove_most_64 f_Grove_37 4 rfl rfl ?_
    refine x_icmp_geN 102 X d_Grove_most_67 (by decide) (by omega) (by omega) (fun c_67 => ?_) (fun c_67 => ?_)
    · obtain rfl : e = A := by omega
      refine x_bipush X d_Grove_most_102 k_bp_99 ?_
      refine x_istore_n (lv' := [(0, _), (1, _), (2, _), (3, _)]) X d_Grove_most_104 (by decide) rfl ?_
      refine x_iconst X d_Grove_most_105 k_ic_0 ?_
      refine x_istore (lv' := [(0, _), (1, _), (2, _), (3, _), (4, _)]) X d_Grove_most_106 (by decide) rfl ?_
      exact l3 0 (Nat.zero_le _) 99 u hu ⟨by omega, fun Z _ ⟨v2, z2, _⟩ => by omega, fun z => by omega⟩
    · have b1 := n5 e (by omega)
      refine x_aload_n X d_Grove_most_70 rfl ?_
      refine x_getf X d_Grove_most_71 f_Grove_12 0 rfl rfl ?_
      refine x_aload_n X d_Grove_most_74 rfl ?_
      refine x_getf X d_Grove_most_75 f_Grove_29 0 rfl rfl ?_
      refine x_getf X d_Grove_most_78 f_Grove_53 4 rfl rfl ?_
      refine x_iload_n X d_Grove_most_81 rfl ?_
      refine x_bald X d_Grove_most_82 5 rfl rfl (by omega) (by decide) ?_
      refine x_aload_n X d_Grove_most_83 rfl ?_
      refine x_getf X d_Grove_most_84 f_Grove_29 0 rfl rfl ?_
      refine x_getf X d_Grove_most_87 f_Grove_56 4 rfl rfl ?_
      refine x_iload_n X d_Grove_most_90 rfl ?_
      refine x_bald X d_Grove_most_91 6 rfl rfl (by omega) (by decide) ?_
      refine x_iconst X d_Grove_most_92 k_ic_1 ?_
      refine x_callF (wV b h _ _ _ _ _ ++ wN b h _ _ _ _) ([]) X d_Grove_most_93 c_Grove_49 (cu_Ways_link hu (by omega) (by omega) (by omega) (by omega)) rfl rfl rfl rfl (Nat.le_of_ble_eq_true rfl) ⟨Nat.le_of_ble_eq_true rfl, Nat.le_of_ble_eq_true rfl⟩ ⟨rfl, rfl⟩ ⟨Nat.le_of_ble_eq_true rfl, Nat.le_of_ble_eq_true rfl⟩ (fun v_93 w_93 h_93 => ?_)
      obtain ⟨rfl, u_93, rfl, hu_93⟩ := h_93
      refine ⟨rfl, ?_⟩
      refine x_wd (w' := wG b h _ _ _ _ _ _ _ _ _ _) rfl ?_
      refine x_st (st' := []) rfl ?_
      refine x_iincN (lv' := [(0, _), (1, _), (2, _), (3, _)]) X d_Grove_most_96 rfl (by decide) rfl ?_
      refine x_goto 59 X d_Grove_most_99 (by decide) ?_
      exact ih (by omega) _ (by simp only [gE, if_true]; rw [← List.append_assoc]; exact hu_93)
  )
  have l1 := loopU (P := fun v => ∀ (u : xWs), uOK u (n + 1) (gW s n v) → xW b G 0 0 (wG b h n A fr to k R hv ow dn u) 20 [(0, .ref (h 1)), (1, .int (nI s)), (2, .int (nI n)), (3, .int (nI v))] []) n (fun v hv1 ih u hu => by
    have a1 := gW_len s n v
    have b1 := bIs (s.testBit v)
    refine x_iload_n X d_Grove_most_20 rfl ?_
    refine x_aload_n X d_Grove_most_21 rfl ?_
    refine x_getf X d_Grove_most_22 f_Grove_29 0 rfl rfl ?_
    refine x_getf X d_Grove_most_25 f_Grove_42 4 rfl rfl ?_
    refine x_icmp_geN 57 X d_Grove_most_28 (by decide) (by omega) (by omega) (fun c_28 => ?_) (fun c_28 => ?_)
    · obtain rfl : v = n := by omega
      refine x_iconst X d_Grove_most_57 k_ic_0 ?_
      refine x_istore_n (lv' := [(0, _), (1, _), (2, _), (3, _)]) X d_Grove_most_58 (by decide) rfl ?_
      exact l2 0 (Nat.zero_le _) u (by simpa [gE] using hu)
    · refine x_iload_n X d_Grove_most_31 rfl ?_
      refine x_iload_n X d_Grove_most_32 rfl ?_
      refine x_ishrN X d_Grove_most_33 (by omega) (by omega) ?_
      refine x_iconst X d_Grove_most_34 k_ic_1 ?_
      refine x_bit X d_Grove_most_35 ?_
      refine x_iconst X d_Grove_most_36 k_ic_1 ?_
      refine x_icmp_neN 51 X d_Grove_most_37 (by decide) (by omega) (by omega) (fun c_37 => ?_) (fun c_37 => ?_)
      · have hs1 : s.testBit v = false := by simpa using c_37
        have hu2 : uOK u (n + 1) (gW s n (v + 1)) := by simpa [gW, hs1] using hu
        refine x_iincN (lv' := [(0, _), (1, _), (2, _), (3, _)]) X d_Grove_most_51 rfl (by decide) rfl ?_
        refine x_goto 20 X d_Grove_most_54 (by decide) ?_
        exact ih (by omega) _ hu2
      · have hs1 : s.testBit v = true := by simpa using c_37
        refine x_aload_n X d_Grove_most_40 rfl ?_
        refine x_getf X d_Grove_most_41 f_Grove_12 0 rfl rfl ?_
        refine x_iload_n X d_Grove_most_44 rfl ?_
        refine x_iload_n X d_Grove_most_45 rfl ?_
        refine x_bipush X d_Grove_most_46 k_bp_14 ?_
        refine x_callF (wV b h _ _ _ _ _ ++ wN b h _ _ _ _) ([]) X d_Grove_most_48 c_Grove_49 (cu_Ways_link hu (by omega) (by omega) (by omega) (by omega)) rfl rfl rfl rfl (Nat.le_of_ble_eq_true rfl) ⟨Nat.le_of_ble_eq_true rfl, Nat.le_of_ble_eq_true rfl⟩ ⟨rfl, rfl⟩ ⟨Nat.le_of_ble_eq_true rfl, Nat.le_of_ble_eq_true rfl⟩ (fun v_48 w_48 h_48 => ?_)
        obtain ⟨rfl, u_48, rfl, hu_48⟩ := h_48
        refine ⟨rfl, ?_⟩
        refine x_wd (w' := wG b h _ _ _ _ _ _ _ _ _ _) rfl ?_
        refine x_st (st' := []) rfl ?_
        have hu2 : uOK u_48 (n + 1) (gW s n (v + 1)) := by simpa [gW, hs1] using hu_48
        refine x_iincN (lv' := [(0, _), (1, _), (2, _), (3, _)]) X d_Grove_most_51 rfl (by decide) rfl ?_
        refine x_goto 20 X d_Grove_most_54 (by decide) ?_
        exact ih (by omega) _ hu2
  )
  refine x_aload_n X d_Grove_most_0 rfl ?_
  refine x_getf X d_Grove_most_1 f_Grove_29 0 rfl rfl ?_
  refine x_getf X d_Grove_most_4 f_Grove_42 4 rfl rfl ?_
  refine x_istore_n (lv' := [(0, _), (1, _), (2, _)]) X d_Grove_most_7 (by decide) rfl ?_
  refine x_aload_n X d_Grove_most_8 rfl ?_
  refine x_getf X d_Grove_most_9 f_Grove_12 0 rfl rfl ?_
  refine x_iload_n X d_Grove_most_12 rfl ?_
  refine x_iconst X d_Grove_most_13 k_ic_1 ?_
  refine x_iaddN X d_Grove_most_14 ?_
  refine x_callF (wV b h _ _ _ _ _ ++ wN b h _ _ _ _) ([]) X d_Grove_most_15 c_Grove_45 (cu_Ways_begin (by omega)) rfl rfl rfl rfl (Nat.le_of_ble_eq_true rfl) ⟨Nat.le_of_ble_eq_true rfl, Nat.le_of_ble_eq_true rfl⟩ ⟨rfl, rfl⟩ ⟨Nat.le_of_ble_eq_true rfl, Nat.le_of_ble_eq_true rfl⟩ (fun v_15 w_15 h_15 => ?_)
  obtain ⟨rfl, u_15, rfl, hu_15⟩ := h_15
  refine ⟨rfl, ?_⟩
  refine x_wd (w' := wG b h _ _ _ _ _ _ _ _ _ _) rfl ?_
  refine x_st (st' := []) rfl ?_
  refine x_iconst X d_Grove_most_18 k_ic_0 ?_
  refine x_istore_n (lv' := [(0, _), (1, _), (2, _), (3, _)]) X d_Grove_most_19 (by decide) rfl ?_
  exact l1 0 (Nat.zero_le _) _ hu_15
end MOST
end
section
/-! PURE: what both sides answer -/
def sOK (n A : Nat) (fr to : Nat → Nat) (k : Nat) (R : Nat → Nat) : Prop := nOK n A fr to ∧ k ≤ 3 ∧ (∀ i, R i < 128) ∧ ∀ i, i < k → R i < 2 ^ n
noncomputable def cB (P : Prop) : Bool := @decide P (Classical.propDecidable P)
theorem cB_iff {P : Prop} : cB P = true ↔ P := by
  unfold cB
  exact @decide_eq_true_iff P (Classical.propDecidable P)
theorem cB_eq {P : Prop} {c : Bool} (h : c = true ↔ P) : c = cB P := by
  cases c with
  | true => exact (cB_iff.mpr (h.mp rfl)).symm
  | false =>
    cases q : cB P with
    | false => rfl
    | true => exact h.mpr (cB_iff.mp q)
def opt (N : Nat) (x : Int32) (f : Nat → Int32) (d r : Int32) : Prop := (∃ j, j < N ∧ x = nI j ∧ r = f j) ∨ (¬ xLt N x ∧ r = d)
theorem opt_u {N : Nat} {x d r r' : Int32} {f : Nat → Int32} (hN : N < 2 ^ 31) (h : opt N x f d r) (h' : opt N x f d r') : r = r' := by
  rcases h with ⟨j, h1, h2, h3⟩ | ⟨h1, h2⟩
  · rcases h' with ⟨j', k1, k2, k3⟩ | ⟨k1, k2⟩
    · have : j = j' := (nI_eq (by omega) (by omega)).mp (h2.symm.trans k2)
      rw [h3, k3, this]
    · exact absurd ⟨j, h1, h2⟩ k1
  · rcases h' with ⟨j', k1, k2, k3⟩ | ⟨k1, k2⟩
    · exact absurd ⟨j', k1, k2⟩ h1
    · rw [h2, k2]
theorem opt_t {N j : Nat} {d r : Int32} {f : Nat → Int32} (hj : j < N) (hr : r = f j) : opt N (nI j) f d r := Or.inl ⟨j, hj, rfl, hr⟩
/-! sets as numbers -/
def mkS (X : Nat → Bool) : Nat → Nat
  | 0 => 0
  | v + 1 => mkS X v ||| (if X v then 2 ^ v else 0)
theorem mkS_bit (X : Nat → Bool) (v : Nat) : ∀ m, (mkS X m).testBit v = (decide (v < m) && X v)
  | 0 => by simp [mkS]
  | m + 1 => by
    simp only [mkS, Nat.testBit_or, mkS_bit X v m]
    by_cases q : v = m
    · subst q
      cases X v <;> simp
    · by_cases q2 : v < m
      · cases hX : X m <;> simp [q2, show v < m + 1 by omega, Nat.testBit_two_pow, show m ≠ v by omega]
      · cases hX : X m <;> simp [q2, show ¬ v < m + 1 by omega, Nat.testBit_two_pow, show m ≠ v by omega]
theorem mkS_lt (X : Nat → Bool) : ∀ m, mkS X m < 2 ^ m
  | 0 => by simp [mkS]
  | m + 1 => by
    have := mkS_lt X m
    simp only [mkS]
    refine Nat.or_lt_two_pow (by rw [Nat.pow_succ]; omega) ?_
    split
    · rw [Nat.pow_succ]; have := Nat.one_le_two_pow (n := m); omega
    · exact Nat.pow_pos (by omega)
theorem pos_bit {s n : Nat} (h : 0 < s) (hs : s < 2 ^ n) : ∃ v, v < n ∧ s.testBit v = true := by
  refine Classical.byContradiction (fun q => ?_)
  have : s = 0 := by
    apply Nat.eq_of_testBit_eq
    intro v
    rw [Nat.zero_testBit]
    cases hv : s.testBit v with
    | false => rfl
    | true =>
      by_cases hvn : v < n
      · exact absurd ⟨v, hvn, hv⟩ q
      · rw [Nat.testBit_lt_two_pow (Nat.lt_of_lt_of_le hs (Nat.pow_le_pow_right (by omega) (by omega)))] at hv
        cases hv
  omega
theorem and_z {n H s : Nat} (hs : s < 2 ^ n) : decide (H &&& s = 0) = mis n H (fun v => s.testBit v) := by
  cases hm : mis n H (fun v => s.testBit v) with
  | true =>
    simp only [decide_eq_true_eq]
    apply Nat.eq_of_testBit_eq
    intro v
    rw [Nat.testBit_and, Nat.zero_testBit]
    by_cases hv : v < n
    · cases hH : H.testBit v with
      | false => rfl
      | true => rw [mis_iff.mp hm v hv hH]; rfl
    · rw [Nat.testBit_lt_two_pow (Nat.lt_of_lt_of_le hs (Nat.pow_le_pow_right (by omega) (by omega)))]
      simp
  | false =>
    obtain ⟨v, h1, h2, h3⟩ := mis_f.mp hm
    simp only [decide_eq_false_iff_not]
    intro q
    have := congrArg (fun x => x.testBit v) q
    simp [h2] at this
    simp [this] at h3
def mB (H : Nat → Nat) (k s : Nat) : Nat := cnt (fun i => decide (H i &&& s = 0)) k
def eB (fr to : Nat → Nat) (P : Nat → Bool) (A s : Nat) : Nat := cnt (fun e => P e && crs (fun v => s.testBit v) (fr e) (to e)) A
theorem mB_mss {n k s : Nat} {H : Nat → Nat} (hs : s < 2 ^ n) : mB H k s = mss n H k (fun v => s.testBit v) := cnt_congr (fun _ _ => and_z hs)
theorem cOK_mask {n A k : Nat} {fr to hv : Nat → Nat} {P : Nat → Bool} (hA : ∀ e, e < A → fr e < n ∧ to e < n) : cOK n A fr to k hv P ↔ ∀ s, 0 < s → s < 2 ^ n → mB hv k s ≤ eB fr to P A s := by
  constructor
  · intro h s h0 hs
    rw [mB_mss hs]
    exact h _ (pos_bit h0 hs)
  · intro h X ⟨v, hv1, hv2⟩
    have h0 : 0 < mkS X n := Nat.pos_of_ne_zero (fun q => by
      have := mkS_bit X v n
      rw [q, Nat.zero_testBit] at this
      simp [hv1, hv2] at this)
    have a := h (mkS X n) h0 (mkS_lt X n)
    rw [mB_mss (mkS_lt X n)] at a
    have e1 : mss n hv k (fun v => (mkS X n).testBit v) = mss n hv k X := cnt_congr (fun i _ => by
      simp only [mis]
      rw [cnt_congr (Q := fun u => (hv i).testBit u && X u) (fun u hu => by rw [mkS_bit]; simp [hu])])
    have e2 : eB fr to P A (mkS X n) = ent fr to P A X := cnt_congr (fun e he => by
      simp only [crs, mkS_bit, (hA e he).1, (hA e he).2, decide_true, Bool.true_and])
    rw [e1, e2] at a
    exact a
/-! which set comes before another one -/
def pcn (s : Nat) : Nat := cnt (fun v => s.testBit v) 7
def fdf (a c : Nat) : Bool := (List.range 7).any (fun v => a.testBit v && !c.testBit v && (List.range v).all (fun u => a.testBit u == c.testBit u))
def bfr (a c : Nat) : Bool := if pcn a = pcn c then fdf a c else decide (pcn a < pcn c)
/-- the first set, in that order, that has too few arcs; 0 if there is none -/
def stF (bad : Nat → Bool) : Nat → Nat
  | 0 => 0
  | j + 1 => if bad (j + 1) && (decide (stF bad j = 0) || bfr (j + 1) (stF bad j)) then j + 1 else stF bad j
theorem stF_le (bad : Nat → Bool) : ∀ j, stF bad j ≤ j
  | 0 => Nat.le_refl _
  | j + 1 => by
    have := stF_le bad j
    simp only [stF]
    split <;> omega
theorem stF_0 {bad : Nat → Bool} : ∀ j, (∀ s, 0 < s → s ≤ j → bad s = false) → stF bad j = 0
  | 0, _ => rfl
  | j + 1, h => by
    simp only [stF, h (j + 1) (by omega) (by omega), Bool.false_and]
    exact stF_0 j (fun s h1 h2 => h s h1 (by omega))
def bads (n A : Nat) (fr to : Nat → Nat) (k : Nat) (R : Nat → Nat) (s : Nat) : Bool := decide (eB fr to (fun _ => true) A s < mB R k s)
def sto (n A : Nat) (fr to : Nat → Nat) (k : Nat) (R : Nat → Nat) : Nat := stF (bads n A fr to k R) (2 ^ n - 1)
theorem sto_0 {n A k : Nat} {fr to R : Nat → Nat} (hA : ∀ e, e < A → fr e < n ∧ to e < n) (h : cOK n A fr to k R (fun _ => true)) : sto n A fr to k R = 0 := stF_0 _ (fun s h1 h2 => by
  have hp := Nat.one_le_two_pow (n := n)
  have := (cOK_mask hA).mp h s h1 (by omega)
  simp only [bads, decide_eq_false_iff_not]
  omega)
def q_count (n A k : Nat) (x : Int32) : Int32 := if x = 0 then nI n else if x = nI 1 then nI A else if x = nI 2 then nI k else -1
def q_end (fr to : Nat → Nat) (y : Int32) (e : Nat) : Int32 := if y = 0 then nI (fr e) else if y = nI 1 then nI (to e) else -1
/-- the owner of an arc, if there is a packing -/
noncomputable def q_own (n A : Nat) (fr to : Nat → Nat) (k : Nat) (R : Nat → Nat) (e : Nat) : Int32 := if cB (cOK n A fr to k R (fun _ => true)) then oI ((pks n A fr to k R k).2 e) else -1
/-- the last arc under m by which branching i came to v -/
def lst (to : Nat → Nat) (ow : Nat → Option Nat) (i v : Nat) : Nat → Option Nat
  | 0 => none
  | e + 1 => if ow e = some i ∧ to e = v then some e else lst to ow i v e
noncomputable def q_way (n A : Nat) (fr to : Nat → Nat) (k : Nat) (R : Nat → Nat) (i v : Nat) : Int32 := if cB (cOK n A fr to k R (fun _ => true)) then oI (lst to (pks n A fr to k R k).2 i v A) else -1
def w2 (k n : Nat) (x y : Int32) (f : Nat → Nat → Int32) (r : Int32) : Prop := (∃ i v, i < k ∧ v < n ∧ x = nI i ∧ y = nI v ∧ r = f i v) ∨ (¬ (xLt k x ∧ xLt n y) ∧ r = -1)
theorem w2_u {k n : Nat} {x y r r' : Int32} {f : Nat → Nat → Int32} (hk : k < 2 ^ 31) (hn : n < 2 ^ 31) (h : w2 k n x y f r) (h' : w2 k n x y f r') : r = r' := by
  rcases h with ⟨i, v, h1, h2, h3, h4, h5⟩ | ⟨h1, h2⟩
  · rcases h' with ⟨i', v', k1, k2, k3, k4, k5⟩ | ⟨k1, k2⟩
    · have e1 : i = i' := (nI_eq (by omega) (by omega)).mp (h3.symm.trans k3)
      have e2 : v = v' := (nI_eq (by omega) (by omega)).mp (h4.symm.trans k4)
      rw [h5, k5, e1, e2]
    · exact absurd ⟨⟨i, h1, h3⟩, ⟨v, h2, h4⟩⟩ k1
  · rcases h' with ⟨i', v', k1, k2, k3, k4, k5⟩ | ⟨k1, k2⟩
    · exact absurd ⟨⟨i', k1, k3⟩, ⟨v', k2, k4⟩⟩ h1
    · rw [h2, k2]
def q_most (n A : Nat) (fr to : Nat → Nat) (x r : Int32) : Prop := (∃ s m, 0 < s ∧ s < 2 ^ n ∧ x = nI s ∧ mo n A fr to s n m ∧ r = nI m) ∨ (¬ (xLt (2 ^ n) x ∧ x ≠ 0) ∧ r = -1)
theorem q_most_u {n A : Nat} {fr to : Nat → Nat} {x r r' : Int32} (hn : 2 ^ n < 2 ^ 31) (h : q_most n A fr to x r) (h' : q_most n A fr to x r') : r = r' := by
  have key : ∀ s, 0 < s → s < 2 ^ n → x = nI s → xLt (2 ^ n) x ∧ x ≠ 0 := fun s h0 hs e => ⟨⟨s, hs, e⟩, fun q => by
    rw [q] at e
    have := (nI_z (x := s) (by omega)).mp e.symm
    omega⟩
  rcases h with ⟨s, m, h1, h2, h3, h4, h5⟩ | ⟨h1, h2⟩
  · rcases h' with ⟨s', m', k1, k2, k3, k4, k5⟩ | ⟨k1, k2⟩
    · have e1 : s = s' := (nI_eq (by omega) (by omega)).mp (h3.symm.trans k3)
      subst e1
      rw [h5, k5, mo_u h4 k4]
    · exact absurd (key s h1 h2 h3) k1
  · rcases h' with ⟨s', m', k1, k2, k3, k4, k5⟩ | ⟨k1, k2⟩
    · exact absurd (key s' k1 k2 k3) h1
    · rw [h2, k2]
end
section
/-! Integer.bitCount, lowestOneBit; BranchPacker.isBefore -/
def ush (x : Int32) (k : Nat) : Int32 := (x.toUInt32 >>> ((nI k).toUInt32 &&& Int32.toUInt32 31)).toInt32
def bc1 (x : Int32) : Int32 := x - (ush x 1 &&& 1431655765)
def bc2 (x : Int32) : Int32 := (x &&& 858993459) + (ush x 2 &&& 858993459)
def bc3 (x : Int32) : Int32 := (x + ush x 4) &&& 252645135
def bc4 (x : Int32) : Int32 := x + ush x 8
def bc5 (x : Int32) : Int32 := x + ush x 16
theorem bitc : ∀ s, s < 128 → bc5 (bc4 (bc3 (bc2 (bc1 (nI s))))) &&& nI 63 = nI (pcn s) := by decide +kernel
theorem lob_t : ∀ d, d < 128 → 0 < d → (List.range 7).any (fun v => decide (nI d &&& -nI d = nI (2 ^ v)) && d.testBit v && (List.range v).all (fun u => !d.testBit u)) = true := by decide +kernel
theorem and_bit : ∀ a, a < 128 → ∀ v, v < 7 → (nI a &&& nI (2 ^ v) = 0 ↔ a.testBit v = false) := by decide +kernel
theorem sub_cmp : ∀ x, x < 8 → ∀ y, y < 8 → (nI x - nI y = 0 ↔ x = y) ∧ (0 ≤ nI x - nI y ↔ y ≤ x) := by decide +kernel
theorem pcn_lt (s : Nat) : pcn s < 8 := by
  have := cnt_le (P := fun v => s.testBit v) 7
  simp only [pcn]
  omega
theorem fdf_iff {a c : Nat} : fdf a c = true ↔ ∃ v, v < 7 ∧ a.testBit v = true ∧ c.testBit v = false ∧ ∀ u, u < v → a.testBit u = c.testBit u := by
  simp only [fdf, List.any_eq_true, List.mem_range, Bool.and_eq_true, Bool.not_eq_true', List.all_eq_true, beq_iff_eq]
  exact ⟨fun ⟨v, h1, ⟨h2, h3⟩, h4⟩ => ⟨v, h1, h2, h3, h4⟩, fun ⟨v, h1, h2, h3, h4⟩ => ⟨v, h1, ⟨h2, h3⟩, h4⟩⟩
theorem lobf {a c : Nat} (ha : a < 128) (hc : c < 128) : nI a &&& (nI (a ^^^ c) &&& -nI (a ^^^ c)) = 0 ↔ fdf a c = false := by
  have hd : a ^^^ c < 128 := Nat.xor_lt_two_pow (n := 7) ha hc
  by_cases z : a ^^^ c = 0
  · have e : a = c := by
      apply Nat.eq_of_testBit_eq
      intro v
      have := congrArg (fun x => x.testBit v) z
      simp at this
      exact this
    rw [z]
    constructor
    · intro _
      cases hf : fdf a c with
      | false => rfl
      | true =>
        obtain ⟨v, -, h2, h3, -⟩ := fdf_iff.mp hf
        rw [e, h3] at h2
        cases h2
    · intro _
      have e0 : nI 0 &&& -nI 0 = nI 0 := by decide
      rw [e0, nI_and, Nat.and_zero]
      exact nI_0
  · have h := lob_t _ hd (by omega)
    simp only [List.any_eq_true, List.mem_range, Bool.and_eq_true, Bool.not_eq_true', List.all_eq_true, decide_eq_true_eq] at h
    obtain ⟨v, hv, ⟨h1, h2⟩, h3⟩ := h
    rw [h1, and_bit a ha v hv]
    rw [Nat.testBit_xor] at h2
    have h3' : ∀ u, u < v → a.testBit u = c.testBit u := fun u hu => by
      have := h3 u hu
      rw [Nat.testBit_xor] at this
      simpa using this
    cases hav : a.testBit v with
    | false =>
      have hcv : c.testBit v = true := by simpa [hav] using h2
      constructor
      · intro _
        cases hf : fdf a c with
        | false => rfl
        | true =>
          obtain ⟨v', g1, g2, g3, g4⟩ := fdf_iff.mp hf
          rcases Nat.lt_trichotomy v v' with q | q | q
          · have := g4 v q
            rw [hav, hcv] at this
            cases this
          · rw [← q, hav] at g2; cases g2
          · have := h3' v' q
            rw [g2, g3] at this
            cases this
      · intro _; rfl
    | true =>
      have hcv : c.testBit v = false := by simpa [hav] using h2
      constructor
      · intro q; cases q
      · intro q
        rw [fdf_iff.mpr ⟨v, hv, hav, hcv, h3'⟩] at q
        cases q
section BEF
variable {b : xB}
set_option maxRecDepth 20000 in
theorem ct_Int_bitCount {s : Nat} (hs : s < 128) : xCt b y_Int_bitCount b_Int_bitCount 1 (some .int) q_Int_bitCount [.int (nI s)] [] (xRd [] (fun r => r = nI (pcn s))) := by
  refine x_met (by decide +kernel) rfl (Nat.le_of_ble_eq_true rfl) (fun G X Y => ?_)
  refine x_iload_n X d_Int_bitCount_0 rfl ?_
  refine x_iload_n X d_Int_bitCount_1 rfl ?_
  refine x_iconst X d_Int_bitCount_2 k_ic_1 ?_
  refine x_iushr X d_Int_bitCount_3 rfl ?_
  refine x_ldcw X d_Int_bitCount_4 m_254 ?_
  refine x_iand X d_Int_bitCount_7 ?_
  refine x_isub X d_Int_bitCount_8 ?_
  refine x_istore_n (lv' := [(0, _)]) X d_Int_bitCount_9 (by decide) rfl ?_
  refine x_iload_n X d_Int_bitCount_10 rfl ?_
  refine x_ldcw X d_Int_bitCount_11 m_255 ?_
  refine x_iand X d_Int_bitCount_14 ?_
  refine x_iload_n X d_Int_bitCount_15 rfl ?_
  refine x_iconst X d_Int_bitCount_16 k_ic_2 ?_
  refine x_iushr X d_Int_bitCount_17 rfl ?_
  refine x_ldcw X d_Int_bitCount_18 m_255 ?_
  refine x_iand X d_Int_bitCount_21 ?_
  refine x_iadd X d_Int_bitCount_22 ?_
  refine x_istore_n (lv' := [(0, _)]) X d_Int_bitCount_23 (by decide) rfl ?_
  refine x_iload_n X d_Int_bitCount_24 rfl ?_
  refine x_iload_n X d_Int_bitCount_25 rfl ?_
  refine x_iconst X d_Int_bitCount_26 k_ic_4 ?_
  refine x_iushr X d_Int_bitCount_27 rfl ?_
  refine x_iadd X d_Int_bitCount_28 ?_
  refine x_ldcw X d_Int_bitCount_29 m_256 ?_
  refine x_iand X d_Int_bitCount_32 ?_
  refine x_istore_n (lv' := [(0, _)]) X d_Int_bitCount_33 (by decide) rfl ?_
  refine x_iload_n X d_Int_bitCount_34 rfl ?_
  refine x_iload_n X d_Int_bitCount_35 rfl ?_
  refine x_bipush X d_Int_bitCount_36 k_bp_8 ?_
  refine x_iushr X d_Int_bitCount_38 rfl ?_
  refine x_iadd X d_Int_bitCount_39 ?_
  refine x_istore_n (lv' := [(0, _)]) X d_Int_bitCount_40 (by decide) rfl ?_
  refine x_iload_n X d_Int_bitCount_41 rfl ?_
  refine x_iload_n X d_Int_bitCount_42 rfl ?_
  refine x_bipush X d_Int_bitCount_43 k_bp_16 ?_
  refine x_iushr X d_Int_bitCount_45 rfl ?_
  refine x_iadd X d_Int_bitCount_46 ?_
  refine x_istore_n (lv' := [(0, _)]) X d_Int_bitCount_47 (by decide) rfl ?_
  refine x_iload_n X d_Int_bitCount_48 rfl ?_
  refine x_bipush X d_Int_bitCount_49 k_bp_63 ?_
  refine x_iand X d_Int_bitCount_51 ?_
  exact x_ret X Y d_Int_bitCount_52 rfl (Nat.le_of_ble_eq_true rfl) ⟨_, rfl, rfl, bitc s hs⟩
set_option maxRecDepth 20000 in
theorem ct_Int_lowestOneBit {x : Int32} : xCt b y_Int_lowestOneBit b_Int_lowestOneBit 1 (some .int) q_Int_lowestOneBit [.int x] [] (xRd [] (fun r => r = x &&& -x)) := by
  refine x_met (by decide +kernel) rfl (Nat.le_of_ble_eq_true rfl) (fun G X Y => ?_)
  refine x_iload_n X d_Int_lowestOneBit_0 rfl ?_
  refine x_iload_n X d_Int_lowestOneBit_1 rfl ?_
  refine x_ineg X d_Int_lowestOneBit_2 ?_
  refine x_iand X d_Int_lowestOneBit_3 ?_
  exact x_ret X Y d_Int_lowestOneBit_4 rfl (Nat.le_of_ble_eq_true rfl) ⟨_, rfl, rfl, rfl⟩
set_option maxRecDepth 20000 in
theorem ct_BP_isBefore {a c : Nat} (ha : a < 128) (hc : c < 128) : xCt b y_BP_isBefore b_BP_isBefore 3 (some .boolean) q_BP_isBefore [.int (nI a), .int (nI c)] [] (xRd [] (fun r => r = bI (bfr a c))) := by
  refine x_met (by decide +kernel) rfl (Nat.le_of_ble_eq_true rfl) (fun G X Y => ?_)
  have hq := sub_cmp (pcn a) (pcn_lt a) (pcn c) (pcn_lt c)
  refine x_iload_n X d_BP_isBefore_0 rfl ?_
  refine x_callSR X d_BP_isBefore_1 c_BP_87 (ct_Int_bitCount (by omega)) rfl rfl (Nat.le_of_ble_eq_true rfl) ⟨Nat.le_of_ble_eq_true rfl, Nat.le_of_ble_eq_true rfl⟩ ⟨rfl, rfl⟩ ⟨Nat.le_of_ble_eq_true rfl, Nat.le_of_ble_eq_true rfl⟩ (fun r_1 h_1 => ?_)
  obtain rfl := h_1
  refine x_iload_n X d_BP_isBefore_4 rfl ?_
  refine x_callSR X d_BP_isBefore_5 c_BP_87 (ct_Int_bitCount (by omega)) rfl rfl (Nat.le_of_ble_eq_true rfl) ⟨Nat.le_of_ble_eq_true rfl, Nat.le_of_ble_eq_true rfl⟩ ⟨rfl, rfl⟩ ⟨Nat.le_of_ble_eq_true rfl, Nat.le_of_ble_eq_true rfl⟩ (fun r_5 h_5 => ?_)
  obtain rfl := h_5
  refine x_isub X d_BP_isBefore_8 ?_
  refine x_istore_n (lv' := [(0, _), (1, _), (2, _)]) X d_BP_isBefore_9 (by decide) rfl ?_
  refine x_iload_n X d_BP_isBefore_10 rfl ?_
  refine x_if_eq 26 X d_BP_isBefore_11 (by decide) (fun c_11 => ?_) (fun c_11 => ?_)
  · refine x_iload_n X d_BP_isBefore_26 rfl ?_
    refine x_iload_n X d_BP_isBefore_27 rfl ?_
    refine x_iload_n X d_BP_isBefore_28 rfl ?_
    refine x_ixorN X d_BP_isBefore_29 ?_
    refine x_callSR X d_BP_isBefore_30 c_BP_92 ct_Int_lowestOneBit rfl rfl (Nat.le_of_ble_eq_true rfl) ⟨Nat.le_of_ble_eq_true rfl, Nat.le_of_ble_eq_true rfl⟩ ⟨rfl, rfl⟩ ⟨Nat.le_of_ble_eq_true rfl, Nat.le_of_ble_eq_true rfl⟩ (fun r_30 h_30 => ?_)
    obtain rfl := h_30
    refine x_iand X d_BP_isBefore_33 ?_
    refine x_if_eq 41 X d_BP_isBefore_34 (by decide) (fun c_34 => ?_) (fun c_34 => ?_)
    · have e : bI false = bI (bfr a c) := by
        simp only [bfr, if_pos (hq.1.mp c_11)]
        rw [(lobf ha hc).mp c_34]
      refine x_iconst X d_BP_isBefore_41 k_ic_0 ?_
      refine x_top (show nI 0 = bI false from rfl) ?_
      exact x_ret X Y d_BP_isBefore_42 (bI_nar _) (Nat.le_of_ble_eq_true rfl) ⟨_, rfl, rfl, e⟩
    · have e : bI true = bI (bfr a c) := by
        simp only [bfr, if_pos (hq.1.mp c_11)]
        cases hf : fdf a c with
        | true => rfl
        | false => exact absurd ((lobf ha hc).mpr hf) c_34
      refine x_iconst X d_BP_isBefore_37 k_ic_1 ?_
      refine x_goto 42 X d_BP_isBefore_38 (by decide) ?_
      refine x_top (show nI 1 = bI true from rfl) ?_
      exact x_ret X Y d_BP_isBefore_42 (bI_nar _) (Nat.le_of_ble_eq_true rfl) ⟨_, rfl, rfl, e⟩
  · have hne : pcn a ≠ pcn c := fun z => c_11 (hq.1.mpr z)
    refine x_iload_n X d_BP_isBefore_14 rfl ?_
    refine x_if_ge 22 X d_BP_isBefore_15 (by decide) (fun c_15 => ?_) (fun c_15 => ?_)
    · have e : bI false = bI (bfr a c) := by
        have := hq.2.mp c_15
        simp only [bfr, if_neg hne]
        rw [decide_eq_false (by omega)]
      refine x_iconst X d_BP_isBefore_22 k_ic_0 ?_
      refine x_goto 42 X d_BP_isBefore_23 (by decide) ?_
      refine x_top (show nI 0 = bI false from rfl) ?_
      exact x_ret X Y d_BP_isBefore_42 (bI_nar _) (Nat.le_of_ble_eq_true rfl) ⟨_, rfl, rfl, e⟩
    · have e : bI true = bI (bfr a c) := by
        have : ¬ pcn c ≤ pcn a := fun z => c_15 (hq.2.mpr z)
        simp only [bfr, if_neg hne]
        rw [decide_eq_true (by omega)]
      refine x_iconst X d_BP_isBefore_18 k_ic_1 ?_
      refine x_goto 42 X d_BP_isBefore_19 (by decide) ?_
      refine x_top (show nI 1 = bI true from rfl) ?_
      exact x_ret X Y d_BP_isBefore_42 (bI_nar _) (Nat.le_of_ble_eq_true rfl) ⟨_, rfl, rfl, e⟩
end BEF
end
section
/-! THE PACKER: its calls, but hasPacking, owner, way -/
theorem rng7 {x : Int32} (h1 : ¬ x < nI 1) (h2 : x ≤ nI 7) : ∃ m, 1 ≤ m ∧ m ≤ 7 ∧ x = nI m := by
  have h0 : ¬ x < 0 := fun q => h1 (Int32.lt_trans q (by decide))
  obtain ⟨j, hj, rfl⟩ := nI_of2 (M := nI 7) (n := 7) (by decide) h0 h2
  refine ⟨j, ?_, hj, rfl⟩
  have : ¬ j < 1 := fun z => h1 ((nI_ltI (by omega) (by omega)).mpr z)
  omega
theorem neg01 {y : Int32} (h : y < 0) : y ≠ 0 ∧ y ≠ nI 1 := ⟨fun q => by rw [q] at h; exact absurd h (by decide), fun q => by rw [q] at h; exact absurd h (by decide)⟩
theorem big01 {y : Int32} (h : ¬ y ≤ nI 1) : y ≠ 0 ∧ y ≠ nI 1 := ⟨fun q => h (by rw [q]; decide), fun q => h (by rw [q]; exact Int32.le_refl _)⟩
theorem is01 {y : Int32} (h1 : ¬ y < 0) (h2 : y ≤ nI 1) (h3 : ¬ y = 0) : y = nI 1 := by
  obtain ⟨j, hj, rfl⟩ := nI_of2 (M := nI 1) (n := 1) (by decide) h1 h2
  have : j ≠ 0 := fun q => h3 (by rw [q]; exact nI_0)
  rw [show j = 1 by omega]
theorem bno {c : Bool} {P : Prop} (h : c = true ↔ P) (hc : c = false) : ¬ P := fun q => by rw [h.mpr q] at hc; cases hc
section BP
variable {b : xB} {h : Nat → Nat} {n A : Nat} {fr to : Nat → Nat} {k : Nat} {R hv : Nat → Nat} {ow : Nat → Option Nat} {dn : Bool} {u : xWs} {gr : Bool}
set_option maxRecDepth 20000 in
theorem ct_BP_begin {x : Int32} : xCt b y_BP_begin b_BP_begin 2 (some .boolean) q_BP_begin [.ref (h 0), .int x] (wB b h n A fr to k R hv ow dn u gr) (xIn (fun r w => (∃ m, 1 ≤ m ∧ m ≤ 7 ∧ x = nI m ∧ r = bI true ∧ w = wB b h m 0 fr to 0 R hv ow dn u false) ∨ ((¬ ∃ m, 1 ≤ m ∧ m ≤ 7 ∧ x = nI m) ∧ r = bI false ∧ w = wB b h n A fr to k R hv ow dn u gr))) := by
  refine x_met (by decide +kernel) rfl (Nat.le_of_ble_eq_true rfl) (fun G X Y => ?_)
  refine x_iload_n X d_BP_begin_0 rfl ?_
  refine x_iconst X d_BP_begin_1 k_ic_1 ?_
  refine x_icmp_lt 11 X d_BP_begin_2 (by decide) (fun c_2 => ?_) (fun c_2 => ?_)
  · refine x_iconst X d_BP_begin_11 k_ic_0 ?_
    refine x_top (show nI 0 = bI false from rfl) ?_
    exact x_ret X Y d_BP_begin_12 (bI_nar _) (Nat.le_of_ble_eq_true rfl) ⟨_, rfl, Or.inr ⟨fun ⟨m, m1, m2, e⟩ => by first | exact nI_ge (a := 0) (b := m) (by omega) (by omega) (by rw [e] at c_2; have := (nI_ltI (a := m) (b := 1) (by omega) (by omega)).mp c_2; omega) | exact c_8 (by rw [e]; exact nI_le m2 (by omega)), rfl, rfl⟩⟩
  · refine x_iload_n X d_BP_begin_5 rfl ?_
    refine x_bipush X d_BP_begin_6 k_bp_7 ?_
    refine x_icmp_le 13 X d_BP_begin_8 (by decide) (fun c_8 => ?_) (fun c_8 => ?_)
    · obtain ⟨m, m1, m2, rfl⟩ := rng7 c_2 c_8
      refine x_aload_n X d_BP_begin_13 rfl ?_
      refine x_getf X d_BP_begin_14 f_BP_10 0 rfl rfl ?_
      refine x_iload_n X d_BP_begin_17 rfl ?_
      refine x_putf (w' := wB b h _ _ _ _ _ _ _ _ _ _ _) X d_BP_begin_18 f_BP_25 5 rfl rfl rfl (Nat.le_of_ble_eq_true rfl) rfl ?_
      refine x_aload_n X d_BP_begin_21 rfl ?_
      refine x_getf X d_BP_begin_22 f_BP_10 0 rfl rfl ?_
      refine x_iconst X d_BP_begin_25 k_ic_0 ?_
      refine x_putf (w' := wB b h _ _ _ _ _ _ _ _ _ _ _) X d_BP_begin_26 f_BP_29 5 rfl rfl rfl (Nat.le_of_ble_eq_true rfl) rfl ?_
      refine x_aload_n X d_BP_begin_29 rfl ?_
      refine x_getf X d_BP_begin_30 f_BP_21 0 rfl rfl ?_
      refine x_iconst X d_BP_begin_33 k_ic_0 ?_
      refine x_putf (w' := wB b h _ _ _ _ _ _ _ _ _ _ _) X d_BP_begin_34 f_BP_32 1 rfl rfl rfl (Nat.le_of_ble_eq_true rfl) rfl ?_
      refine x_aload_n X d_BP_begin_37 rfl ?_
      refine x_iconst X d_BP_begin_38 k_ic_0 ?_
      refine x_top (show nI 0 = bI false from rfl) ?_
      refine x_putf (w' := wB b h _ _ _ _ _ _ _ _ _ _ _) X d_BP_begin_39 f_BP_35 0 rfl (bI_nar _) (bI_fit _) (Nat.le_of_ble_eq_true rfl) rfl ?_
      refine x_iconst X d_BP_begin_42 k_ic_1 ?_
      refine x_top (show nI 1 = bI true from rfl) ?_
      exact x_ret X Y d_BP_begin_43 (bI_nar _) (Nat.le_of_ble_eq_true rfl) ⟨_, rfl, Or.inl ⟨m, m1, m2, rfl, rfl, rfl⟩⟩
    · refine x_iconst X d_BP_begin_11 k_ic_0 ?_
      refine x_top (show nI 0 = bI false from rfl) ?_
      exact x_ret X Y d_BP_begin_12 (bI_nar _) (Nat.le_of_ble_eq_true rfl) ⟨_, rfl, Or.inr ⟨fun ⟨m, m1, m2, e⟩ => by first | exact nI_ge (a := 0) (b := m) (by omega) (by omega) (by rw [e] at c_2; have := (nI_ltI (a := m) (b := 1) (by omega) (by omega)).mp c_2; omega) | exact c_8 (by rw [e]; exact nI_le m2 (by omega)), rfl, rfl⟩⟩
set_option maxRecDepth 20000 in
theorem ct_BP_arc {x y : Int32} (hN : nOK n A fr to) : xCt b y_BP_arc b_BP_arc 3 (some .int) q_BP_arc [.ref (h 0), .int x, .int y] (wB b h n A fr to k R hv ow dn u gr) (xIn (fun r w => (∃ p q, A < 14 ∧ p < n ∧ q < n ∧ p ≠ q ∧ x = nI p ∧ y = nI q ∧ r = nI A ∧ w = wB b h n (A + 1) (va_up fr A p) (va_up to A q) k R hv ow dn u false) ∨ (¬ (A < 14 ∧ xLt n x ∧ xLt n y ∧ x ≠ y) ∧ r = -1 ∧ w = wB b h n A fr to k R hv ow dn u gr))) := by
  refine x_met (by decide +kernel) rfl (Nat.le_of_ble_eq_true rfl) (fun G X Y => ?_)
  obtain ⟨n1, n2, n3, n4, n5⟩ := id hN
  refine x_aload_n X d_BP_arc_0 rfl ?_
  refine x_getf X d_BP_arc_1 f_BP_10 0 rfl rfl ?_
  refine x_getf X d_BP_arc_4 f_BP_29 5 rfl rfl ?_
  refine x_bipush X d_BP_arc_7 k_bp_14 ?_
  refine x_icmp_eqN 39 X d_BP_arc_9 (by decide) (by omega) (by omega) (fun c_9 => ?_) (fun c_9 => ?_)
  · refine x_iconst X d_BP_arc_39 k_ic_m1 ?_
    exact x_ret X Y d_BP_arc_40 rfl (Nat.le_of_ble_eq_true rfl) ⟨_, rfl, Or.inr ⟨fun ⟨q1, q2, q3, q4⟩ => by first | omega | (rw [hc_17.mpr q2] at c_20; cases c_20; done) | (rw [hc_28.mpr q3] at c_31; cases c_31; done) | exact q4 c_36, rfl, rfl⟩⟩
  · refine x_aload_n X d_BP_arc_12 rfl ?_
    refine x_getf X d_BP_arc_13 f_BP_10 0 rfl rfl ?_
    refine x_iload_n X d_BP_arc_16 rfl ?_
    refine x_callVR X d_BP_arc_17 c_BP_39 (ct_Net_isVertex _ (by omega)) [5, 6, 7] rfl rfl rfl rfl rfl (Nat.le_of_ble_eq_true rfl) ⟨Nat.le_of_ble_eq_true rfl, Nat.le_of_ble_eq_true rfl⟩ ⟨rfl, rfl⟩ ⟨Nat.le_of_ble_eq_true rfl, Nat.le_of_ble_eq_true rfl⟩ (fun r_17 h_17 => ?_)
    obtain ⟨c_17, rfl, hc_17⟩ := h_17
    refine x_if_eqB 39 X d_BP_arc_20 (by decide) (fun c_20 => ?_) (fun c_20 => ?_)
    · refine x_iconst X d_BP_arc_39 k_ic_m1 ?_
      exact x_ret X Y d_BP_arc_40 rfl (Nat.le_of_ble_eq_true rfl) ⟨_, rfl, Or.inr ⟨fun ⟨q1, q2, q3, q4⟩ => by first | omega | (rw [hc_17.mpr q2] at c_20; cases c_20; done) | (rw [hc_28.mpr q3] at c_31; cases c_31; done) | exact q4 c_36, rfl, rfl⟩⟩
    · refine x_aload_n X d_BP_arc_23 rfl ?_
      refine x_getf X d_BP_arc_24 f_BP_10 0 rfl rfl ?_
      refine x_iload_n X d_BP_arc_27 rfl ?_
      refine x_callVR X d_BP_arc_28 c_BP_39 (ct_Net_isVertex _ (by omega)) [5, 6, 7] rfl rfl rfl rfl rfl (Nat.le_of_ble_eq_true rfl) ⟨Nat.le_of_ble_eq_true rfl, Nat.le_of_ble_eq_true rfl⟩ ⟨rfl, rfl⟩ ⟨Nat.le_of_ble_eq_true rfl, Nat.le_of_ble_eq_true rfl⟩ (fun r_28 h_28 => ?_)
      obtain ⟨c_28, rfl, hc_28⟩ := h_28
      refine x_if_eqB 39 X d_BP_arc_31 (by decide) (fun c_31 => ?_) (fun c_31 => ?_)
      · refine x_iconst X d_BP_arc_39 k_ic_m1 ?_
        exact x_ret X Y d_BP_arc_40 rfl (Nat.le_of_ble_eq_true rfl) ⟨_, rfl, Or.inr ⟨fun ⟨q1, q2, q3, q4⟩ => by first | omega | (rw [hc_17.mpr q2] at c_20; cases c_20; done) | (rw [hc_28.mpr q3] at c_31; cases c_31; done) | exact q4 c_36, rfl, rfl⟩⟩
      · refine x_iload_n X d_BP_arc_34 rfl ?_
        refine x_iload_n X d_BP_arc_35 rfl ?_
        refine x_icmp_ne 41 X d_BP_arc_36 (by decide) (fun c_36 => ?_) (fun c_36 => ?_)
        · obtain ⟨p, p1, rfl⟩ := hc_17.mp c_20
          obtain ⟨q, q1, rfl⟩ := hc_28.mp c_31
          have hpq : p ≠ q := fun z => c_36 (by rw [z])
          refine x_aload_n X d_BP_arc_41 rfl ?_
          refine x_getf X d_BP_arc_42 f_BP_10 0 rfl rfl ?_
          refine x_getf X d_BP_arc_45 f_BP_43 5 rfl rfl ?_
          refine x_aload_n X d_BP_arc_48 rfl ?_
          refine x_getf X d_BP_arc_49 f_BP_10 0 rfl rfl ?_
          refine x_getf X d_BP_arc_52 f_BP_29 5 rfl rfl ?_
          refine x_iload_n X d_BP_arc_55 rfl ?_
          refine x_i2b X d_BP_arc_56 (nI_byte _ (by omega)) ?_
          refine x_bast (w' := wB b h _ _ _ _ _ _ _ _ _ _ _) X d_BP_arc_57 6 rfl rfl (by omega) (by decide) (nI_byte _ (by omega)) (upd_nI _ _ _) rfl ?_
          refine x_aload_n X d_BP_arc_58 rfl ?_
          refine x_getf X d_BP_arc_59 f_BP_10 0 rfl rfl ?_
          refine x_getf X d_BP_arc_62 f_BP_47 5 rfl rfl ?_
          refine x_aload_n X d_BP_arc_65 rfl ?_
          refine x_getf X d_BP_arc_66 f_BP_10 0 rfl rfl ?_
          refine x_getf X d_BP_arc_69 f_BP_29 5 rfl rfl ?_
          refine x_iload_n X d_BP_arc_72 rfl ?_
          refine x_i2b X d_BP_arc_73 (nI_byte _ (by omega)) ?_
          refine x_bast (w' := wB b h _ _ _ _ _ _ _ _ _ _ _) X d_BP_arc_74 7 rfl rfl (by omega) (by decide) (nI_byte _ (by omega)) (upd_nI _ _ _) rfl ?_
          refine x_aload_n X d_BP_arc_75 rfl ?_
          refine x_iconst X d_BP_arc_76 k_ic_0 ?_
          refine x_top (show nI 0 = bI false from rfl) ?_
          refine x_putf (w' := wB b h _ _ _ _ _ _ _ _ _ _ _) X d_BP_arc_77 f_BP_35 0 rfl (bI_nar _) (bI_fit _) (Nat.le_of_ble_eq_true rfl) rfl ?_
          refine x_aload_n X d_BP_arc_80 rfl ?_
          refine x_getf X d_BP_arc_81 f_BP_10 0 rfl rfl ?_
          refine x_dup X d_BP_arc_84 rfl ?_
          refine x_getf X d_BP_arc_85 f_BP_29 5 rfl rfl ?_
          refine x_dup_x1 X d_BP_arc_88 rfl rfl ?_
          refine x_iconst X d_BP_arc_89 k_ic_1 ?_
          refine x_iaddN X d_BP_arc_90 ?_
          refine x_putf (w' := wB b h _ _ _ _ _ _ _ _ _ _ _) X d_BP_arc_91 f_BP_29 5 rfl rfl rfl (Nat.le_of_ble_eq_true rfl) rfl ?_
          exact x_ret X Y d_BP_arc_94 rfl (Nat.le_of_ble_eq_true rfl) ⟨_, rfl, Or.inl ⟨p, q, by omega, p1, q1, hpq, rfl, rfl, rfl, rfl⟩⟩
        · refine x_iconst X d_BP_arc_39 k_ic_m1 ?_
          exact x_ret X Y d_BP_arc_40 rfl (Nat.le_of_ble_eq_true rfl) ⟨_, rfl, Or.inr ⟨fun ⟨q1, q2, q3, q4⟩ => by first | omega | (rw [hc_17.mpr q2] at c_20; cases c_20; done) | (rw [hc_28.mpr q3] at c_31; cases c_31; done) | exact q4 c_36, rfl, rfl⟩⟩
set_option maxRecDepth 20000 in
theorem ct_BP_drop {x : Int32} (hN : nOK n A fr to) : xCt b y_BP_drop b_BP_drop 2 (some .boolean) q_BP_drop [.ref (h 0), .int x] (wB b h n A fr to k R hv ow dn u gr) (xIn (fun r w => (∃ e, e < A ∧ x = nI e ∧ r = bI true ∧ w = wB b h n (A - 1) (shf fr e A) (shf to e A) k R hv ow dn u false) ∨ (¬ xLt A x ∧ r = bI false ∧ w = wB b h n A fr to k R hv ow dn u gr))) := by
  refine x_met (by decide +kernel) rfl (Nat.le_of_ble_eq_true rfl) (fun G X Y => ?_)
  obtain ⟨n1, n2, n3, n4, n5⟩ := id hN
  refine x_aload_n X d_BP_drop_0 rfl ?_
  refine x_getf X d_BP_drop_1 f_BP_10 0 rfl rfl ?_
  refine x_iload_n X d_BP_drop_4 rfl ?_
  refine x_callVR X d_BP_drop_5 c_BP_50 (ct_Net_isArc _ (by omega)) [5, 6, 7] rfl rfl rfl rfl rfl (Nat.le_of_ble_eq_true rfl) ⟨Nat.le_of_ble_eq_true rfl, Nat.le_of_ble_eq_true rfl⟩ ⟨rfl, rfl⟩ ⟨Nat.le_of_ble_eq_true rfl, Nat.le_of_ble_eq_true rfl⟩ (fun r_5 h_5 => ?_)
  obtain ⟨c_5, rfl, hc_5⟩ := h_5
  refine x_if_neB 13 X d_BP_drop_8 (by decide) (fun c_8 => ?_) (fun c_8 => ?_)
  · obtain ⟨e, he, rfl⟩ := hc_5.mp c_8
    refine x_aload_n X d_BP_drop_13 rfl ?_
    refine x_getf X d_BP_drop_14 f_BP_10 0 rfl rfl ?_
    refine x_iload_n X d_BP_drop_17 rfl ?_
    refine x_callF ([(h 0, .inr (0, [.ref (h 5), .ref (h 1), .int (bI _)]))] ++ wV b h _ _ _ _ _) (wS b h _) X d_BP_drop_18 c_BP_53 (ct_Net_drop (by omega) (by omega) (by assumption)) rfl rfl rfl rfl (Nat.le_of_ble_eq_true rfl) ⟨Nat.le_of_ble_eq_true rfl, Nat.le_of_ble_eq_true rfl⟩ ⟨rfl, rfl⟩ ⟨Nat.le_of_ble_eq_true rfl, Nat.le_of_ble_eq_true rfl⟩ (fun v_18 w_18 h_18 => ?_)
    obtain ⟨rfl, rfl⟩ := h_18
    refine ⟨rfl, ?_⟩
    refine x_wd (w' := wB b h _ _ _ _ _ _ _ _ _ _ _) rfl ?_
    refine x_st (st' := []) rfl ?_
    refine x_aload_n X d_BP_drop_21 rfl ?_
    refine x_iconst X d_BP_drop_22 k_ic_0 ?_
    refine x_top (show nI 0 = bI false from rfl) ?_
    refine x_putf (w' := wB b h _ _ _ _ _ _ _ _ _ _ _) X d_BP_drop_23 f_BP_35 0 rfl (bI_nar _) (bI_fit _) (Nat.le_of_ble_eq_true rfl) rfl ?_
    refine x_iconst X d_BP_drop_26 k_ic_1 ?_
    refine x_top (show nI 1 = bI true from rfl) ?_
    exact x_ret X Y d_BP_drop_27 (bI_nar _) (Nat.le_of_ble_eq_true rfl) ⟨_, rfl, Or.inl ⟨e, he, rfl, rfl, rfl⟩⟩
  · refine x_iconst X d_BP_drop_11 k_ic_0 ?_
    refine x_top (show nI 0 = bI false from rfl) ?_
    exact x_ret X Y d_BP_drop_12 (bI_nar _) (Nat.le_of_ble_eq_true rfl) ⟨_, rfl, Or.inr ⟨bno hc_5 c_8, rfl, rfl⟩⟩
set_option maxRecDepth 20000 in
theorem ct_BP_plant {x : Int32} (hn : n ≤ 7) (hk : k ≤ 3) : xCt b y_BP_plant b_BP_plant 2 (some .int) q_BP_plant [.ref (h 0), .int x] (wB b h n A fr to k R hv ow dn u gr) (xIn (fun r w => (∃ s, k < 3 ∧ 0 < s ∧ s < 2 ^ n ∧ x = nI s ∧ r = nI k ∧ w = wB b h n A fr to (k + 1) (va_up R k s) hv ow dn u false) ∨ (¬ (k < 3 ∧ xLt (2 ^ n) x ∧ x ≠ 0) ∧ r = -1 ∧ w = wB b h n A fr to k R hv ow dn u gr))) := by
  refine x_met (by decide +kernel) rfl (Nat.le_of_ble_eq_true rfl) (fun G X Y => ?_)
  have hp := pow_le hn
  refine x_aload_n X d_BP_plant_0 rfl ?_
  refine x_getf X d_BP_plant_1 f_BP_21 0 rfl rfl ?_
  refine x_getf X d_BP_plant_4 f_BP_32 1 rfl rfl ?_
  refine x_iconst X d_BP_plant_7 k_ic_3 ?_
  refine x_icmp_eqN 26 X d_BP_plant_8 (by decide) (by omega) (by omega) (fun c_8 => ?_) (fun c_8 => ?_)
  · refine x_iconst X d_BP_plant_26 k_ic_m1 ?_
    exact x_ret X Y d_BP_plant_27 rfl (Nat.le_of_ble_eq_true rfl) ⟨_, rfl, Or.inr ⟨fun ⟨q1, q2, q3⟩ => by first | omega | (rw [hc_16.mpr q2] at c_19; cases c_19; done) | exact q3 c_23, rfl, rfl⟩⟩
  · refine x_aload_n X d_BP_plant_11 rfl ?_
    refine x_getf X d_BP_plant_12 f_BP_10 0 rfl rfl ?_
    refine x_iload_n X d_BP_plant_15 rfl ?_
    refine x_callVR X d_BP_plant_16 c_BP_57 (ct_Net_isSet _ (by omega)) [5, 6, 7] rfl rfl rfl rfl rfl (Nat.le_of_ble_eq_true rfl) ⟨Nat.le_of_ble_eq_true rfl, Nat.le_of_ble_eq_true rfl⟩ ⟨rfl, rfl⟩ ⟨Nat.le_of_ble_eq_true rfl, Nat.le_of_ble_eq_true rfl⟩ (fun r_16 h_16 => ?_)
    obtain ⟨c_16, rfl, hc_16⟩ := h_16
    refine x_if_eqB 26 X d_BP_plant_19 (by decide) (fun c_19 => ?_) (fun c_19 => ?_)
    · refine x_iconst X d_BP_plant_26 k_ic_m1 ?_
      exact x_ret X Y d_BP_plant_27 rfl (Nat.le_of_ble_eq_true rfl) ⟨_, rfl, Or.inr ⟨fun ⟨q1, q2, q3⟩ => by first | omega | (rw [hc_16.mpr q2] at c_19; cases c_19; done) | exact q3 c_23, rfl, rfl⟩⟩
    · refine x_iload_n X d_BP_plant_22 rfl ?_
      refine x_if_ne 28 X d_BP_plant_23 (by decide) (fun c_23 => ?_) (fun c_23 => ?_)
      · obtain ⟨s, s1, rfl⟩ := hc_16.mp c_19
        have hs0 : 0 < s := Nat.pos_of_ne_zero (fun z => c_23 (by rw [z]; exact nI_0))
        refine x_aload_n X d_BP_plant_28 rfl ?_
        refine x_getf X d_BP_plant_29 f_BP_21 0 rfl rfl ?_
        refine x_getf X d_BP_plant_32 f_BP_60 1 rfl rfl ?_
        refine x_aload_n X d_BP_plant_35 rfl ?_
        refine x_getf X d_BP_plant_36 f_BP_21 0 rfl rfl ?_
        refine x_getf X d_BP_plant_39 f_BP_32 1 rfl rfl ?_
        refine x_iload_n X d_BP_plant_42 rfl ?_
        refine x_i2b X d_BP_plant_43 (nI_byte _ (by omega)) ?_
        refine x_bast (w' := wB b h _ _ _ _ _ _ _ _ _ _ _) X d_BP_plant_44 2 rfl rfl (by omega) (by decide) (nI_byte _ (by omega)) (upd_nI _ _ _) rfl ?_
        refine x_aload_n X d_BP_plant_45 rfl ?_
        refine x_iconst X d_BP_plant_46 k_ic_0 ?_
        refine x_top (show nI 0 = bI false from rfl) ?_
        refine x_putf (w' := wB b h _ _ _ _ _ _ _ _ _ _ _) X d_BP_plant_47 f_BP_35 0 rfl (bI_nar _) (bI_fit _) (Nat.le_of_ble_eq_true rfl) rfl ?_
        refine x_aload_n X d_BP_plant_50 rfl ?_
        refine x_getf X d_BP_plant_51 f_BP_21 0 rfl rfl ?_
        refine x_dup X d_BP_plant_54 rfl ?_
        refine x_getf X d_BP_plant_55 f_BP_32 1 rfl rfl ?_
        refine x_dup_x1 X d_BP_plant_58 rfl rfl ?_
        refine x_iconst X d_BP_plant_59 k_ic_1 ?_
        refine x_iaddN X d_BP_plant_60 ?_
        refine x_putf (w' := wB b h _ _ _ _ _ _ _ _ _ _ _) X d_BP_plant_61 f_BP_32 1 rfl rfl rfl (Nat.le_of_ble_eq_true rfl) rfl ?_
        exact x_ret X Y d_BP_plant_64 rfl (Nat.le_of_ble_eq_true rfl) ⟨_, rfl, Or.inl ⟨s, by omega, hs0, s1, rfl, rfl, rfl⟩⟩
      · refine x_iconst X d_BP_plant_26 k_ic_m1 ?_
        exact x_ret X Y d_BP_plant_27 rfl (Nat.le_of_ble_eq_true rfl) ⟨_, rfl, Or.inr ⟨fun ⟨q1, q2, q3⟩ => by first | omega | (rw [hc_16.mpr q2] at c_19; cases c_19; done) | exact q3 c_23, rfl, rfl⟩⟩
set_option maxRecDepth 20000 in
theorem ct_BP_fell (hk : k ≤ 3) : xCt b y_BP_fell b_BP_fell 1 (some .int) q_BP_fell [.ref (h 0)] (wB b h n A fr to k R hv ow dn u gr) (xIn (fun r w => (0 < k ∧ r = nI (k - 1) ∧ w = wB b h n A fr to (k - 1) R hv ow dn u false) ∨ (k = 0 ∧ r = -1 ∧ w = wB b h n A fr to k R hv ow dn u gr))) := by
  refine x_met (by decide +kernel) rfl (Nat.le_of_ble_eq_true rfl) (fun G X Y => ?_)
  refine x_aload_n X d_BP_fell_0 rfl ?_
  refine x_getf X d_BP_fell_1 f_BP_21 0 rfl rfl ?_
  refine x_getf X d_BP_fell_4 f_BP_32 1 rfl rfl ?_
  refine x_if_neN 12 X d_BP_fell_7 (by decide) (by omega) (fun c_7 => ?_) (fun c_7 => ?_)
  · refine x_aload_n X d_BP_fell_12 rfl ?_
    refine x_iconst X d_BP_fell_13 k_ic_0 ?_
    refine x_top (show nI 0 = bI false from rfl) ?_
    refine x_putf (w' := wB b h _ _ _ _ _ _ _ _ _ _ _) X d_BP_fell_14 f_BP_35 0 rfl (bI_nar _) (bI_fit _) (Nat.le_of_ble_eq_true rfl) rfl ?_
    refine x_aload_n X d_BP_fell_17 rfl ?_
    refine x_getf X d_BP_fell_18 f_BP_21 0 rfl rfl ?_
    refine x_dup X d_BP_fell_21 rfl ?_
    refine x_getf X d_BP_fell_22 f_BP_32 1 rfl rfl ?_
    refine x_iconst X d_BP_fell_25 k_ic_1 ?_
    refine x_isubN X d_BP_fell_26 (by omega) ?_
    refine x_dup_x1 X d_BP_fell_27 rfl rfl ?_
    refine x_putf (w' := wB b h _ _ _ _ _ _ _ _ _ _ _) X d_BP_fell_28 f_BP_32 1 rfl rfl rfl (Nat.le_of_ble_eq_true rfl) rfl ?_
    exact x_ret X Y d_BP_fell_31 rfl (Nat.le_of_ble_eq_true rfl) ⟨_, rfl, Or.inl ⟨by omega, rfl, rfl⟩⟩
  · refine x_iconst X d_BP_fell_10 k_ic_m1 ?_
    exact x_ret X Y d_BP_fell_11 rfl (Nat.le_of_ble_eq_true rfl) ⟨_, rfl, Or.inr ⟨c_7, rfl, rfl⟩⟩
set_option maxRecDepth 20000 in
theorem ct_BP_count {x : Int32} : xCt b y_BP_count b_BP_count 2 (some .int) q_BP_count [.ref (h 0), .int x] (wB b h n A fr to k R hv ow dn u gr) (xRd (wB b h n A fr to k R hv ow dn u gr) (fun r => r = q_count n A k x)) := by
  refine x_met (by decide +kernel) rfl (Nat.le_of_ble_eq_true rfl) (fun G X Y => ?_)
  refine x_iload_n X d_BP_count_0 rfl ?_
  refine x_if_ne 14 X d_BP_count_1 (by decide) (fun c_1 => ?_) (fun c_1 => ?_)
  · refine x_iload_n X d_BP_count_14 rfl ?_
    refine x_iconst X d_BP_count_15 k_ic_1 ?_
    refine x_icmp_ne 29 X d_BP_count_16 (by decide) (fun c_16 => ?_) (fun c_16 => ?_)
    · refine x_iload_n X d_BP_count_29 rfl ?_
      refine x_iconst X d_BP_count_30 k_ic_2 ?_
      refine x_icmp_ne 44 X d_BP_count_31 (by decide) (fun c_31 => ?_) (fun c_31 => ?_)
      · refine x_iconst X d_BP_count_44 k_ic_m1 ?_
        exact x_ret X Y d_BP_count_45 rfl (Nat.le_of_ble_eq_true rfl) ⟨_, rfl, rfl, by first | (rw [q_count, if_pos c_1]; done) | (rw [q_count, if_neg c_1, if_pos c_16]; done) | (rw [q_count, if_neg c_1, if_neg c_16, if_pos c_31]; done) | (rw [q_count, if_neg c_1, if_neg c_16, if_neg c_31]; done)⟩
      · refine x_aload_n X d_BP_count_34 rfl ?_
        refine x_getf X d_BP_count_35 f_BP_21 0 rfl rfl ?_
        refine x_getf X d_BP_count_38 f_BP_32 1 rfl rfl ?_
        refine x_goto 45 X d_BP_count_41 (by decide) ?_
        exact x_ret X Y d_BP_count_45 rfl (Nat.le_of_ble_eq_true rfl) ⟨_, rfl, rfl, by first | (rw [q_count, if_pos c_1]; done) | (rw [q_count, if_neg c_1, if_pos c_16]; done) | (rw [q_count, if_neg c_1, if_neg c_16, if_pos c_31]; done) | (rw [q_count, if_neg c_1, if_neg c_16, if_neg c_31]; done)⟩
    · refine x_aload_n X d_BP_count_19 rfl ?_
      refine x_getf X d_BP_count_20 f_BP_10 0 rfl rfl ?_
      refine x_getf X d_BP_count_23 f_BP_29 5 rfl rfl ?_
      refine x_goto 45 X d_BP_count_26 (by decide) ?_
      exact x_ret X Y d_BP_count_45 rfl (Nat.le_of_ble_eq_true rfl) ⟨_, rfl, rfl, by first | (rw [q_count, if_pos c_1]; done) | (rw [q_count, if_neg c_1, if_pos c_16]; done) | (rw [q_count, if_neg c_1, if_neg c_16, if_pos c_31]; done) | (rw [q_count, if_neg c_1, if_neg c_16, if_neg c_31]; done)⟩
  · refine x_aload_n X d_BP_count_4 rfl ?_
    refine x_getf X d_BP_count_5 f_BP_10 0 rfl rfl ?_
    refine x_getf X d_BP_count_8 f_BP_25 5 rfl rfl ?_
    refine x_goto 45 X d_BP_count_11 (by decide) ?_
    exact x_ret X Y d_BP_count_45 rfl (Nat.le_of_ble_eq_true rfl) ⟨_, rfl, rfl, by first | (rw [q_count, if_pos c_1]; done) | (rw [q_count, if_neg c_1, if_pos c_16]; done) | (rw [q_count, if_neg c_1, if_neg c_16, if_pos c_31]; done) | (rw [q_count, if_neg c_1, if_neg c_16, if_neg c_31]; done)⟩
set_option maxRecDepth 20000 in
theorem ct_BP_end {x y : Int32} (hA : A ≤ 14) : xCt b y_BP_end b_BP_end 3 (some .int) q_BP_end [.ref (h 0), .int x, .int y] (wB b h n A fr to k R hv ow dn u gr) (xRd (wB b h n A fr to k R hv ow dn u gr) (opt A x (q_end fr to y) (-1))) := by
  refine x_met (by decide +kernel) rfl (Nat.le_of_ble_eq_true rfl) (fun G X Y => ?_)
  refine x_aload_n X d_BP_end_0 rfl ?_
  refine x_getf X d_BP_end_1 f_BP_10 0 rfl rfl ?_
  refine x_iload_n X d_BP_end_4 rfl ?_
  refine x_callVR X d_BP_end_5 c_BP_50 (ct_Net_isArc _ (by omega)) [5, 6, 7] rfl rfl rfl rfl rfl (Nat.le_of_ble_eq_true rfl) ⟨Nat.le_of_ble_eq_true rfl, Nat.le_of_ble_eq_true rfl⟩ ⟨rfl, rfl⟩ ⟨Nat.le_of_ble_eq_true rfl, Nat.le_of_ble_eq_true rfl⟩ (fun r_5 h_5 => ?_)
  obtain ⟨c_5, rfl, hc_5⟩ := h_5
  refine x_if_eqB 20 X d_BP_end_8 (by decide) (fun c_8 => ?_) (fun c_8 => ?_)
  · have fin : opt A x (q_end fr to y) (-1) (-1) := Or.inr ⟨bno hc_5 c_8, rfl⟩
    refine x_iconst X d_BP_end_20 k_ic_m1 ?_
    refine x_goto 49 X d_BP_end_21 (by decide) ?_
    exact x_ret X Y d_BP_end_49 rfl (Nat.le_of_ble_eq_true rfl) ⟨_, rfl, rfl, fin⟩
  · obtain ⟨e, he, rfl⟩ := hc_5.mp c_8
    refine x_iload_n X d_BP_end_11 rfl ?_
    refine x_if_lt 20 X d_BP_end_12 (by decide) (fun c_12 => ?_) (fun c_12 => ?_)
    · have fin : opt A (nI e) (q_end fr to y) (-1) (-1) := opt_t he (by rw [q_end, if_neg (neg01 c_12).1, if_neg (neg01 c_12).2])
      refine x_iconst X d_BP_end_20 k_ic_m1 ?_
      refine x_goto 49 X d_BP_end_21 (by decide) ?_
      exact x_ret X Y d_BP_end_49 rfl (Nat.le_of_ble_eq_true rfl) ⟨_, rfl, rfl, fin⟩
    · refine x_iload_n X d_BP_end_15 rfl ?_
      refine x_iconst X d_BP_end_16 k_ic_1 ?_
      refine x_icmp_le 24 X d_BP_end_17 (by decide) (fun c_17 => ?_) (fun c_17 => ?_)
      · refine x_iload_n X d_BP_end_24 rfl ?_
        refine x_if_ne 40 X d_BP_end_25 (by decide) (fun c_25 => ?_) (fun c_25 => ?_)
        · have fin : opt A (nI e) (q_end fr to y) (-1) (nI (to e)) := opt_t he (by rw [q_end, if_neg c_25, if_pos (is01 c_12 c_17 c_25)])
          refine x_aload_n X d_BP_end_40 rfl ?_
          refine x_getf X d_BP_end_41 f_BP_10 0 rfl rfl ?_
          refine x_getf X d_BP_end_44 f_BP_47 5 rfl rfl ?_
          refine x_iload_n X d_BP_end_47 rfl ?_
          refine x_bald X d_BP_end_48 7 rfl rfl (by omega) (by decide) ?_
          exact x_ret X Y d_BP_end_49 rfl (Nat.le_of_ble_eq_true rfl) ⟨_, rfl, rfl, fin⟩
        · have fin : opt A (nI e) (q_end fr to y) (-1) (nI (fr e)) := opt_t he (by rw [q_end, if_pos c_25])
          refine x_aload_n X d_BP_end_28 rfl ?_
          refine x_getf X d_BP_end_29 f_BP_10 0 rfl rfl ?_
          refine x_getf X d_BP_end_32 f_BP_43 5 rfl rfl ?_
          refine x_iload_n X d_BP_end_35 rfl ?_
          refine x_bald X d_BP_end_36 6 rfl rfl (by omega) (by decide) ?_
          refine x_goto 49 X d_BP_end_37 (by decide) ?_
          exact x_ret X Y d_BP_end_49 rfl (Nat.le_of_ble_eq_true rfl) ⟨_, rfl, rfl, fin⟩
      · have fin : opt A (nI e) (q_end fr to y) (-1) (-1) := opt_t he (by rw [q_end, if_neg (big01 c_17).1, if_neg (big01 c_17).2])
        refine x_iconst X d_BP_end_20 k_ic_m1 ?_
        refine x_goto 49 X d_BP_end_21 (by decide) ?_
        exact x_ret X Y d_BP_end_49 rfl (Nat.le_of_ble_eq_true rfl) ⟨_, rfl, rfl, fin⟩
set_option maxRecDepth 20000 in
theorem ct_BP_entry {x : Int32} (hN : nOK n A fr to) : xCt b y_BP_entry b_BP_entry 4 (some .int) q_BP_entry [.ref (h 0), .int x] (wB b h n A fr to k R hv ow dn u gr) (xRd (wB b h n A fr to k R hv ow dn u gr) (opt (2 ^ n) x (fun s => nI (eB fr to (fun _ => true) A s)) (-1))) := by
  refine x_met (by decide +kernel) rfl (Nat.le_of_ble_eq_true rfl) (fun G X Y => ?_)
  obtain ⟨n1, n2, n3, n4, n5⟩ := id hN
  have hp := pow_le n2
  refine x_aload_n X d_BP_entry_0 rfl ?_
  refine x_getf X d_BP_entry_1 f_BP_10 0 rfl rfl ?_
  refine x_iload_n X d_BP_entry_4 rfl ?_
  refine x_callVR X d_BP_entry_5 c_BP_57 (ct_Net_isSet _ (by omega)) [5, 6, 7] rfl rfl rfl rfl rfl (Nat.le_of_ble_eq_true rfl) ⟨Nat.le_of_ble_eq_true rfl, Nat.le_of_ble_eq_true rfl⟩ ⟨rfl, rfl⟩ ⟨Nat.le_of_ble_eq_true rfl, Nat.le_of_ble_eq_true rfl⟩ (fun r_5 h_5 => ?_)
  obtain ⟨c_5, rfl, hc_5⟩ := h_5
  refine x_if_neB 13 X d_BP_entry_8 (by decide) (fun c_8 => ?_) (fun c_8 => ?_)
  · obtain ⟨s, s1, rfl⟩ := hc_5.mp c_8
    refine x_iconst X d_BP_entry_13 k_ic_0 ?_
    refine x_istore_n (lv' := [(0, _), (1, _), (2, _)]) X d_BP_entry_14 (by decide) rfl ?_
    refine x_iconst X d_BP_entry_15 k_ic_0 ?_
    refine x_istore_n (lv' := [(0, _), (1, _), (2, _), (3, _)]) X d_BP_entry_16 (by decide) rfl ?_
    have loop := loopU (P := fun e => xW b G 0 0 (wB b h n A fr to k R hv ow dn u gr) 17 [(0, .ref (h 0)), (1, .int (nI s)), (2, .int (nI (eB fr to (fun _ => true) e s))), (3, .int (nI e))] []) A (fun e he ih => by
      refine x_iload_n X d_BP_entry_17 rfl ?_
      refine x_aload_n X d_BP_entry_18 rfl ?_
      refine x_getf X d_BP_entry_19 f_BP_10 0 rfl rfl ?_
      refine x_getf X d_BP_entry_22 f_BP_29 5 rfl rfl ?_
      refine x_icmp_geN 54 X d_BP_entry_25 (by decide) (by omega) (by omega) (fun c_25 => ?_) (fun c_25 => ?_)
      · obtain rfl : e = A := by omega
        refine x_iload_n X d_BP_entry_54 rfl ?_
        exact x_ret X Y d_BP_entry_55 rfl (Nat.le_of_ble_eq_true rfl) ⟨_, rfl, rfl, opt_t s1 rfl⟩
      · refine x_iload_n X d_BP_entry_28 rfl ?_
        refine x_aload_n X d_BP_entry_29 rfl ?_
        refine x_getf X d_BP_entry_30 f_BP_10 0 rfl rfl ?_
        refine x_iload_n X d_BP_entry_33 rfl ?_
        refine x_iload_n X d_BP_entry_34 rfl ?_
        refine x_callVR X d_BP_entry_35 c_BP_63 (ct_Net_enters (by omega) (by omega) (by assumption)) [5, 6, 7] rfl rfl rfl rfl rfl (Nat.le_of_ble_eq_true rfl) ⟨Nat.le_of_ble_eq_true rfl, Nat.le_of_ble_eq_true rfl⟩ ⟨rfl, rfl⟩ ⟨Nat.le_of_ble_eq_true rfl, Nat.le_of_ble_eq_true rfl⟩ (fun r_35 h_35 => ?_)
        obtain rfl := h_35
        refine x_if_eqB 45 X d_BP_entry_38 (by decide) (fun c_38 => ?_) (fun c_38 => ?_)
        · have z : eB fr to (fun _ => true) (e + 1) s = eB fr to (fun _ => true) e s + 0 := by
            simp only [eB, cnt, crs]
            rw [Bool.and_comm (!s.testBit (fr e)), c_38]
            rfl
          refine x_iconst X d_BP_entry_45 k_ic_0 ?_
          refine x_iaddN X d_BP_entry_46 ?_
          refine x_istore_n (lv' := [(0, _), (1, _), (2, _), (3, _)]) X d_BP_entry_47 (by decide) rfl ?_
          refine x_iincN (lv' := [(0, _), (1, _), (2, _), (3, _)]) X d_BP_entry_48 rfl (by decide) rfl ?_
          refine x_goto 17 X d_BP_entry_51 (by decide) ?_
          have q := ih (by omega)
          rw [z] at q
          exact q
        · have z : eB fr to (fun _ => true) (e + 1) s = eB fr to (fun _ => true) e s + 1 := by
            simp only [eB, cnt, crs]
            rw [Bool.and_comm (!s.testBit (fr e)), c_38]
            rfl
          refine x_iconst X d_BP_entry_41 k_ic_1 ?_
          refine x_goto 46 X d_BP_entry_42 (by decide) ?_
          refine x_iaddN X d_BP_entry_46 ?_
          refine x_istore_n (lv' := [(0, _), (1, _), (2, _), (3, _)]) X d_BP_entry_47 (by decide) rfl ?_
          refine x_iincN (lv' := [(0, _), (1, _), (2, _), (3, _)]) X d_BP_entry_48 rfl (by decide) rfl ?_
          refine x_goto 17 X d_BP_entry_51 (by decide) ?_
          have q := ih (by omega)
          rw [z] at q
          exact q
    )
    exact loop 0 (Nat.zero_le _)
  · refine x_iconst X d_BP_entry_11 k_ic_m1 ?_
    exact x_ret X Y d_BP_entry_12 rfl (Nat.le_of_ble_eq_true rfl) ⟨_, rfl, rfl, Or.inr ⟨bno hc_5 c_8, rfl⟩⟩
set_option maxRecDepth 20000 in
theorem ct_BP_missed {x : Int32} (hn : n ≤ 7) (hk : k ≤ 3) : xCt b y_BP_missed b_BP_missed 2 (some .int) q_BP_missed [.ref (h 0), .int x] (wB b h n A fr to k R hv ow dn u gr) (xRd (wB b h n A fr to k R hv ow dn u gr) (opt (2 ^ n) x (fun s => nI (mB R k s)) (-1))) := by
  refine x_met (by decide +kernel) rfl (Nat.le_of_ble_eq_true rfl) (fun G X Y => ?_)
  have hp := pow_le hn
  refine x_aload_n X d_BP_missed_0 rfl ?_
  refine x_getf X d_BP_missed_1 f_BP_10 0 rfl rfl ?_
  refine x_iload_n X d_BP_missed_4 rfl ?_
  refine x_callVR X d_BP_missed_5 c_BP_57 (ct_Net_isSet _ (by omega)) [5, 6, 7] rfl rfl rfl rfl rfl (Nat.le_of_ble_eq_true rfl) ⟨Nat.le_of_ble_eq_true rfl, Nat.le_of_ble_eq_true rfl⟩ ⟨rfl, rfl⟩ ⟨Nat.le_of_ble_eq_true rfl, Nat.le_of_ble_eq_true rfl⟩ (fun r_5 h_5 => ?_)
  obtain ⟨c_5, rfl, hc_5⟩ := h_5
  refine x_if_eqB 22 X d_BP_missed_8 (by decide) (fun c_8 => ?_) (fun c_8 => ?_)
  · have fin : opt (2 ^ n) x (fun s => nI (mB R k s)) (-1) (-1) := Or.inr ⟨bno hc_5 c_8, rfl⟩
    refine x_iconst X d_BP_missed_22 k_ic_m1 ?_
    exact x_ret X Y d_BP_missed_23 rfl (Nat.le_of_ble_eq_true rfl) ⟨_, rfl, rfl, fin⟩
  · obtain ⟨s, s1, rfl⟩ := hc_5.mp c_8
    have fin : opt (2 ^ n) (nI s) (fun s => nI (mB R k s)) (-1) (nI (mB R k s)) := opt_t s1 rfl
    refine x_aload_n X d_BP_missed_11 rfl ?_
    refine x_getf X d_BP_missed_12 f_BP_21 0 rfl rfl ?_
    refine x_iload_n X d_BP_missed_15 rfl ?_
    refine x_callVR X d_BP_missed_16 c_BP_67 (ct_Grove_missed (by omega) (by omega)) [1, 2, 3, 4, 5, 6, 7, 8, 9, 10, 11, 12, 13, 14, 15] rfl rfl rfl rfl rfl (Nat.le_of_ble_eq_true rfl) ⟨Nat.le_of_ble_eq_true rfl, Nat.le_of_ble_eq_true rfl⟩ ⟨rfl, rfl⟩ ⟨Nat.le_of_ble_eq_true rfl, Nat.le_of_ble_eq_true rfl⟩ (fun r_16 h_16 => ?_)
    obtain rfl := h_16
    refine x_goto 23 X d_BP_missed_19 (by decide) ?_
    exact x_ret X Y d_BP_missed_23 rfl (Nat.le_of_ble_eq_true rfl) ⟨_, rfl, rfl, fin⟩
theorem cOK_none {n A k : Nat} {fr to R : Nat → Nat} : cOK n A fr to k R (fun e => decide ((none : Option Nat) ≠ some e)) ↔ cOK n A fr to k R (fun _ => true) := cOK_congr (fun _ _ => rfl) (fun e _ => by simp)
set_option maxRecDepth 20000 in
theorem ct_BP_packs (hS : sOK n A fr to k R) : xCt b y_BP_packs b_BP_packs 1 (some .boolean) q_BP_packs [.ref (h 0)] (wB b h n A fr to k R hv ow dn u gr) (xIn (fun r w => r = bI (cB (cOK n A fr to k R (fun _ => true))) ∧ ∃ hv' ow' u', w = wB b h n A fr to k R hv' ow' dn u' false)) := by
  refine x_met (by decide +kernel) rfl (Nat.le_of_ble_eq_true rfl) (fun G X Y => ?_)
  obtain ⟨hN, hk, hR1, hR2⟩ := id hS
  refine x_aload_n X d_BP_packs_0 rfl ?_
  refine x_iconst X d_BP_packs_1 k_ic_0 ?_
  refine x_top (show nI 0 = bI false from rfl) ?_
  refine x_putf (w' := wB b h _ _ _ _ _ _ _ _ _ _ _) X d_BP_packs_2 f_BP_35 0 rfl (bI_nar _) (bI_fit _) (Nat.le_of_ble_eq_true rfl) rfl ?_
  refine x_aload_n X d_BP_packs_5 rfl ?_
  refine x_getf X d_BP_packs_6 f_BP_21 0 rfl rfl ?_
  refine x_iconst X d_BP_packs_9 k_ic_m1 ?_
  refine x_callF ([(h 0, .inr (0, [.ref (h 5), .ref (h 1), .int (bI _)]))]) ([]) X d_BP_packs_10 c_BP_71 (ct_Grove_packs (wo := none) hN hk (fun i hi => hR1 i) (fun j q => by cases q)) rfl rfl rfl rfl (Nat.le_of_ble_eq_true rfl) ⟨Nat.le_of_ble_eq_true rfl, Nat.le_of_ble_eq_true rfl⟩ ⟨rfl, rfl⟩ ⟨Nat.le_of_ble_eq_true rfl, Nat.le_of_ble_eq_true rfl⟩ (fun v_10 w_10 h_10 => ?_)
  obtain ⟨r_10, rfl, c_10, hv_10, ow_10, u_10, rfl, rfl, hc_10⟩ := h_10
  refine ⟨rfl, ?_⟩
  refine x_wd (w' := wB b h _ _ _ _ _ _ _ _ _ _ _) rfl ?_
  refine x_st (st' := [_]) rfl ?_
  exact x_ret X Y d_BP_packs_13 (bI_nar _) (Nat.le_of_ble_eq_true rfl) ⟨_, rfl, by rw [cB_eq (hc_10.trans cOK_none)], _, _, _, rfl⟩
set_option maxRecDepth 20000 in
theorem ct_BP_spare {x : Int32} (hS : sOK n A fr to k R) : xCt b y_BP_spare b_BP_spare 2 (some .boolean) q_BP_spare [.ref (h 0), .int x] (wB b h n A fr to k R hv ow dn u gr) (xIn (fun r w => opt A x (fun e => bI (cB (cOK n A fr to k R (fun j => decide (j ≠ e))))) (bI false) r ∧ ∃ hv' ow' u' gr', w = wB b h n A fr to k R hv' ow' dn u' gr' ∧ (gr' = false ∨ (gr' = gr ∧ hv' = hv ∧ ow' = ow)))) := by
  refine x_met (by decide +kernel) rfl (Nat.le_of_ble_eq_true rfl) (fun G X Y => ?_)
  obtain ⟨hN, hk, hR1, hR2⟩ := id hS
  obtain ⟨n1, n2, n3, n4, n5⟩ := id hN
  refine x_aload_n X d_BP_spare_0 rfl ?_
  refine x_getf X d_BP_spare_1 f_BP_10 0 rfl rfl ?_
  refine x_iload_n X d_BP_spare_4 rfl ?_
  refine x_callVR X d_BP_spare_5 c_BP_50 (ct_Net_isArc _ (by omega)) [5, 6, 7] rfl rfl rfl rfl rfl (Nat.le_of_ble_eq_true rfl) ⟨Nat.le_of_ble_eq_true rfl, Nat.le_of_ble_eq_true rfl⟩ ⟨rfl, rfl⟩ ⟨Nat.le_of_ble_eq_true rfl, Nat.le_of_ble_eq_true rfl⟩ (fun r_5 h_5 => ?_)
  obtain ⟨c_5, rfl, hc_5⟩ := h_5
  refine x_if_neB 13 X d_BP_spare_8 (by decide) (fun c_8 => ?_) (fun c_8 => ?_)
  · obtain ⟨e, he, rfl⟩ := hc_5.mp c_8
    have e1 : cOK n A fr to k R (fun j => decide (some e ≠ some j)) ↔ cOK n A fr to k R (fun j => decide (j ≠ e)) := cOK_congr (fun _ _ => rfl) (fun j _ => by
      by_cases q : j = e
      · simp [q]
      · simp [q, show ¬ e = j from fun z => q z.symm])
    refine x_aload_n X d_BP_spare_13 rfl ?_
    refine x_iconst X d_BP_spare_14 k_ic_0 ?_
    refine x_top (show nI 0 = bI false from rfl) ?_
    refine x_putf (w' := wB b h _ _ _ _ _ _ _ _ _ _ _) X d_BP_spare_15 f_BP_35 0 rfl (bI_nar _) (bI_fit _) (Nat.le_of_ble_eq_true rfl) rfl ?_
    refine x_aload_n X d_BP_spare_18 rfl ?_
    refine x_getf X d_BP_spare_19 f_BP_21 0 rfl rfl ?_
    refine x_iload_n X d_BP_spare_22 rfl ?_
    refine x_callF ([(h 0, .inr (0, [.ref (h 5), .ref (h 1), .int (bI _)]))]) ([]) X d_BP_spare_23 c_BP_71 (ct_Grove_packs (wo := some e) hN hk (fun i hi => hR1 i) (fun j q => by cases q; omega)) rfl rfl rfl rfl (Nat.le_of_ble_eq_true rfl) ⟨Nat.le_of_ble_eq_true rfl, Nat.le_of_ble_eq_true rfl⟩ ⟨rfl, rfl⟩ ⟨Nat.le_of_ble_eq_true rfl, Nat.le_of_ble_eq_true rfl⟩ (fun v_23 w_23 h_23 => ?_)
    obtain ⟨r_23, rfl, c_23, hv_23, ow_23, u_23, rfl, rfl, hc_23⟩ := h_23
    refine ⟨rfl, ?_⟩
    refine x_wd (w' := wB b h _ _ _ _ _ _ _ _ _ _ _) rfl ?_
    refine x_st (st' := [_]) rfl ?_
    exact x_ret X Y d_BP_spare_26 (bI_nar _) (Nat.le_of_ble_eq_true rfl) ⟨_, rfl, opt_t he (by rw [cB_eq (hc_23.trans e1)]), _, _, _, _, rfl, Or.inl rfl⟩
  · refine x_iconst X d_BP_spare_11 k_ic_0 ?_
    refine x_top (show nI 0 = bI false from rfl) ?_
    exact x_ret X Y d_BP_spare_12 (bI_nar _) (Nat.le_of_ble_eq_true rfl) ⟨_, rfl, Or.inr ⟨bno hc_5 c_8, rfl⟩, hv, ow, u, gr, rfl, Or.inr ⟨rfl, rfl, rfl⟩⟩
set_option maxRecDepth 20000 in
theorem ct_BP_most {x : Int32} (hN : nOK n A fr to) : xCt b y_BP_most b_BP_most 2 (some .int) q_BP_most [.ref (h 0), .int x] (wB b h n A fr to k R hv ow dn u gr) (xIn (fun r w => q_most n A fr to x r ∧ ∃ u', w = wB b h n A fr to k R hv ow dn u' gr)) := by
  refine x_met (by decide +kernel) rfl (Nat.le_of_ble_eq_true rfl) (fun G X Y => ?_)
  obtain ⟨n1, n2, n3, n4, n5⟩ := id hN
  have hp := pow_le n2
  refine x_aload_n X d_BP_most_0 rfl ?_
  refine x_getf X d_BP_most_1 f_BP_10 0 rfl rfl ?_
  refine x_iload_n X d_BP_most_4 rfl ?_
  refine x_callVR X d_BP_most_5 c_BP_57 (ct_Net_isSet _ (by omega)) [5, 6, 7] rfl rfl rfl rfl rfl (Nat.le_of_ble_eq_true rfl) ⟨Nat.le_of_ble_eq_true rfl, Nat.le_of_ble_eq_true rfl⟩ ⟨rfl, rfl⟩ ⟨Nat.le_of_ble_eq_true rfl, Nat.le_of_ble_eq_true rfl⟩ (fun r_5 h_5 => ?_)
  obtain ⟨c_5, rfl, hc_5⟩ := h_5
  refine x_if_eqB 26 X d_BP_most_8 (by decide) (fun c_8 => ?_) (fun c_8 => ?_)
  · have fin : q_most n A fr to x (-1) := Or.inr ⟨fun q => bno hc_5 c_8 q.1, rfl⟩
    have fin2 : ∃ u', wB b h n A fr to k R hv ow dn u gr = wB b h n A fr to k R hv ow dn u' gr := ⟨u, rfl⟩
    refine x_iconst X d_BP_most_26 k_ic_m1 ?_
    exact x_ret X Y d_BP_most_27 rfl (Nat.le_of_ble_eq_true rfl) ⟨_, rfl, fin, fin2⟩
  · refine x_iload_n X d_BP_most_11 rfl ?_
    refine x_if_eq 26 X d_BP_most_12 (by decide) (fun c_12 => ?_) (fun c_12 => ?_)
    · have fin : q_most n A fr to x (-1) := Or.inr ⟨fun q => q.2 c_12, rfl⟩
      have fin2 : ∃ u', wB b h n A fr to k R hv ow dn u gr = wB b h n A fr to k R hv ow dn u' gr := ⟨u, rfl⟩
      refine x_iconst X d_BP_most_26 k_ic_m1 ?_
      exact x_ret X Y d_BP_most_27 rfl (Nat.le_of_ble_eq_true rfl) ⟨_, rfl, fin, fin2⟩
    · obtain ⟨s, s1, rfl⟩ := hc_5.mp c_8
      have s0 : 0 < s := Nat.pos_of_ne_zero (fun z => c_12 (by rw [z]; exact nI_0))
      refine x_aload_n X d_BP_most_15 rfl ?_
      refine x_getf X d_BP_most_16 f_BP_21 0 rfl rfl ?_
      refine x_iload_n X d_BP_most_19 rfl ?_
      refine x_callF ([(h 0, .inr (0, [.ref (h 5), .ref (h 1), .int (bI _)]))]) ([]) X d_BP_most_20 c_BP_108 (ct_Grove_most hN (by omega)) rfl rfl rfl rfl (Nat.le_of_ble_eq_true rfl) ⟨Nat.le_of_ble_eq_true rfl, Nat.le_of_ble_eq_true rfl⟩ ⟨rfl, rfl⟩ ⟨Nat.le_of_ble_eq_true rfl, Nat.le_of_ble_eq_true rfl⟩ (fun v_20 w_20 h_20 => ?_)
      obtain ⟨r_20, rfl, x_20, u_20, rfl, rfl, hm_20⟩ := h_20
      refine ⟨rfl, ?_⟩
      refine x_wd (w' := wB b h _ _ _ _ _ _ _ _ _ _ _) rfl ?_
      refine x_st (st' := [_]) rfl ?_
      have fin : q_most n A fr to (nI s) (nI x_20) := Or.inl ⟨s, x_20, s0, s1, rfl, hm_20, rfl⟩
      have fin2 : ∃ u', wB b h n A fr to k R hv ow dn u_20 gr = wB b h n A fr to k R hv ow dn u' gr := ⟨u_20, rfl⟩
      refine x_goto 27 X d_BP_most_23 (by decide) ?_
      exact x_ret X Y d_BP_most_27 rfl (Nat.le_of_ble_eq_true rfl) ⟨_, rfl, fin, fin2⟩
end BP
end
section
/-! THE PACKER: stopper, hasPacking, owner, way -/
def gOK (n A : Nat) (fr to : Nat → Nat) (k : Nat) (R : Nat → Nat) (ow : Nat → Option Nat) (dn gr : Bool) : Prop := gr = true → (dn = true ↔ cOK n A fr to k R (fun _ => true)) ∧ (dn = true → (∀ e, e < A → ow e = (pks n A fr to k R k).2 e) ∧ ∀ e, e < A → ∀ j, ow e = some j → j < k)
theorem gOK_f {n A : Nat} {fr to : Nat → Nat} {k : Nat} {R : Nat → Nat} {ow : Nat → Option Nat} {dn : Bool} : gOK n A fr to k R ow dn false := fun q => by cases q
theorem lst_congr {to : Nat → Nat} {ow ow' : Nat → Option Nat} {i v : Nat} : ∀ m, (∀ e, e < m → ow e = ow' e) → lst to ow i v m = lst to ow' i v m
  | 0, _ => rfl
  | m + 1, h => by
    simp only [lst, h m (by omega), lst_congr m (fun e he => h e (by omega))]
theorem oI_eq {o : Option Nat} {i : Nat} (hi : i < 2 ^ 31) (ho : ∀ j, o = some j → j < 2 ^ 31) : oI o = nI i ↔ o = some i := ⟨fun q => (oI_is hi ho).mp q.symm, fun q => by rw [q]; rfl⟩
theorem cB_f {P : Prop} (h : ¬ P) : cB P = false := by
  cases q : cB P with
  | false => rfl
  | true => exact absurd (cB_iff.mp q) h
section BP2
variable {b : xB} {h : Nat → Nat} {n A : Nat} {fr to : Nat → Nat} {k : Nat} {R hv : Nat → Nat} {ow : Nat → Option Nat} {dn : Bool} {u : xWs} {gr : Bool}
set_option maxRecDepth 20000 in
set_option maxHeartbeats 1000000 in
theorem ct_BP_stopper (hS : sOK n A fr to k R) : xCt b y_BP_stopper b_BP_stopper 3 (some .int) q_BP_stopper [.ref (h 0)] (wB b h n A fr to k R hv ow dn u gr) (xIn (fun r w => r = nI (sto n A fr to k R) ∧ ∃ hv' ow' u', w = wB b h n A fr to k R hv' ow' dn u' false)) := by
  refine x_met (by decide +kernel) rfl (Nat.le_of_ble_eq_true rfl) (fun G X Y => ?_)
  obtain ⟨hN, hk, hR1, hR2⟩ := id hS
  obtain ⟨n1, n2, n3, n4, n5⟩ := id hN
  have hp := pow_le n2
  have loop : ∀ (hv : Nat → Nat) (ow : Nat → Option Nat) (u : xWs), ∀ j, j ≤ 2 ^ n - 1 → xW b G 0 0 (wB b h n A fr to k R hv ow dn u false) 13 [(0, .ref (h 0)), (1, .int (nI (stF (bads n A fr to k R) j))), (2, .int (nI (j + 1)))] [] := fun hv ow u => loopU (2 ^ n - 1) (fun j hj ih => by
    have hle := stF_le (bads n A fr to k R) j
    have he1 := cnt_le (P := fun e => true && crs (fun v => (j + 1).testBit v) (fr e) (to e)) A
    have hm1 := cnt_le (P := fun i => decide (R i &&& (j + 1) = 0)) k
    refine x_iload_n X d_BP_stopper_13 rfl ?_
    refine x_aload_n X d_BP_stopper_14 rfl ?_
    refine x_getf X d_BP_stopper_15 f_BP_10 0 rfl rfl ?_
    refine x_callVR X d_BP_stopper_18 c_BP_77 (ct_Net_all (by omega)) [5, 6, 7] rfl rfl rfl rfl rfl (Nat.le_of_ble_eq_true rfl) ⟨Nat.le_of_ble_eq_true rfl, Nat.le_of_ble_eq_true rfl⟩ ⟨rfl, rfl⟩ ⟨Nat.le_of_ble_eq_true rfl, Nat.le_of_ble_eq_true rfl⟩ (fun r_18 h_18 => ?_)
    obtain rfl := h_18
    refine x_icmp_gtN 60 X d_BP_stopper_21 (by decide) (by omega) (by omega) (fun c_21 => ?_) (fun c_21 => ?_)
    · obtain rfl : j = 2 ^ n - 1 := by omega
      refine x_iload_n X d_BP_stopper_60 rfl ?_
      exact x_ret X Y d_BP_stopper_61 rfl (Nat.le_of_ble_eq_true rfl) ⟨_, rfl, rfl, _, _, _, rfl⟩
    · refine x_aload_n X d_BP_stopper_24 rfl ?_
      refine x_iload_n X d_BP_stopper_25 rfl ?_
      refine x_callVR X d_BP_stopper_26 c_BP_81 (ct_BP_entry (by assumption)) [0, 1, 2, 3, 4, 5, 6, 7, 8, 9, 10, 11, 12, 13, 14, 15] rfl rfl rfl rfl rfl (Nat.le_of_ble_eq_true rfl) ⟨Nat.le_of_ble_eq_true rfl, Nat.le_of_ble_eq_true rfl⟩ ⟨rfl, rfl⟩ ⟨Nat.le_of_ble_eq_true rfl, Nat.le_of_ble_eq_true rfl⟩ (fun r_26 h_26 => ?_)
      obtain rfl := opt_u (by omega) h_26 (opt_t (j := _) (by omega) rfl)
      refine x_aload_n X d_BP_stopper_29 rfl ?_
      refine x_getf X d_BP_stopper_30 f_BP_21 0 rfl rfl ?_
      refine x_iload_n X d_BP_stopper_33 rfl ?_
      refine x_callVR X d_BP_stopper_34 c_BP_67 (ct_Grove_missed (by omega) (by omega)) [1, 2, 3, 4, 5, 6, 7, 8, 9, 10, 11, 12, 13, 14, 15] rfl rfl rfl rfl rfl (Nat.le_of_ble_eq_true rfl) ⟨Nat.le_of_ble_eq_true rfl, Nat.le_of_ble_eq_true rfl⟩ ⟨rfl, rfl⟩ ⟨Nat.le_of_ble_eq_true rfl, Nat.le_of_ble_eq_true rfl⟩ (fun r_34 h_34 => ?_)
      obtain rfl := h_34
      refine x_icmp_geN 54 X d_BP_stopper_37 (by decide) (by simp only [eB]; omega) (by omega) (fun c_37 => ?_) (fun c_37 => ?_)
      · have z : stF (bads n A fr to k R) (j + 1) = stF (bads n A fr to k R) j := by
          have : bads n A fr to k R (j + 1) = false := decide_eq_false (Nat.not_lt.mpr c_37)
          simp only [stF, this, Bool.false_and]
          rfl
        refine x_iincN (lv' := [(0, _), (1, _), (2, _)]) X d_BP_stopper_54 rfl (by decide) rfl ?_
        refine x_goto 13 X d_BP_stopper_57 (by decide) ?_
        have q := ih (by omega)
        rw [z] at q
        exact q
      · have hb : bads n A fr to k R (j + 1) = true := decide_eq_true c_37
        refine x_iload_n X d_BP_stopper_40 rfl ?_
        refine x_if_eqN 52 X d_BP_stopper_41 (by decide) (by omega) (fun c_41 => ?_) (fun c_41 => ?_)
        · have z : stF (bads n A fr to k R) (j + 1) = j + 1 := by simp [stF, hb, c_41]
          refine x_iload_n X d_BP_stopper_52 rfl ?_
          refine x_istore_n (lv' := [(0, _), (1, _), (2, _)]) X d_BP_stopper_53 (by decide) rfl ?_
          refine x_iincN (lv' := [(0, _), (1, _), (2, _)]) X d_BP_stopper_54 rfl (by decide) rfl ?_
          refine x_goto 13 X d_BP_stopper_57 (by decide) ?_
          have q := ih (by omega)
          rw [z] at q
          exact q
        · refine x_iload_n X d_BP_stopper_44 rfl ?_
          refine x_iload_n X d_BP_stopper_45 rfl ?_
          refine x_callSR X d_BP_stopper_46 c_BP_84 (ct_BP_isBefore (by omega) (by omega)) rfl rfl (Nat.le_of_ble_eq_true rfl) ⟨Nat.le_of_ble_eq_true rfl, Nat.le_of_ble_eq_true rfl⟩ ⟨rfl, rfl⟩ ⟨Nat.le_of_ble_eq_true rfl, Nat.le_of_ble_eq_true rfl⟩ (fun r_46 h_46 => ?_)
          obtain rfl := h_46
          refine x_if_eqB 54 X d_BP_stopper_49 (by decide) (fun c_49 => ?_) (fun c_49 => ?_)
          · have z : stF (bads n A fr to k R) (j + 1) = stF (bads n A fr to k R) j := by simp [stF, hb, c_41, c_49]
            refine x_iincN (lv' := [(0, _), (1, _), (2, _)]) X d_BP_stopper_54 rfl (by decide) rfl ?_
            refine x_goto 13 X d_BP_stopper_57 (by decide) ?_
            have q := ih (by omega)
            rw [z] at q
            exact q
          · have z : stF (bads n A fr to k R) (j + 1) = j + 1 := by simp [stF, hb, c_49]
            refine x_iload_n X d_BP_stopper_52 rfl ?_
            refine x_istore_n (lv' := [(0, _), (1, _), (2, _)]) X d_BP_stopper_53 (by decide) rfl ?_
            refine x_iincN (lv' := [(0, _), (1, _), (2, _)]) X d_BP_stopper_54 rfl (by decide) rfl ?_
            refine x_goto 13 X d_BP_stopper_57 (by decide) ?_
            have q := ih (by omega)
            rw [z] at q
            exact q
  )
  refine x_iconst X d_BP_stopper_0 k_ic_0 ?_
  refine x_istore_n (lv' := [(0, _), (1, _)]) X d_BP_stopper_1 (by decide) rfl ?_
  refine x_aload_n X d_BP_stopper_2 rfl ?_
  refine x_callA X d_BP_stopper_3 c_BP_74 (ct_BP_packs (by assumption)) rfl rfl rfl (Nat.le_of_ble_eq_true rfl) ⟨Nat.le_of_ble_eq_true rfl, Nat.le_of_ble_eq_true rfl⟩ ⟨rfl, rfl⟩ ⟨Nat.le_of_ble_eq_true rfl, Nat.le_of_ble_eq_true rfl⟩ (fun v_3 w_3 h_3 => ?_)
  obtain ⟨r_3, rfl, rfl, hv_3, ow_3, u_3, rfl⟩ := h_3
  refine ⟨rfl, ?_⟩
  refine x_st (st' := [_]) rfl ?_
  refine x_if_eqB 11 X d_BP_stopper_6 (by decide) (fun c_6 => ?_) (fun c_6 => ?_)
  · refine x_iconst X d_BP_stopper_11 k_ic_1 ?_
    refine x_istore_n (lv' := [(0, _), (1, _), (2, _)]) X d_BP_stopper_12 (by decide) rfl ?_
    exact loop _ _ _ 0 (Nat.zero_le _)
  · refine x_iload_n X d_BP_stopper_9 rfl ?_
    exact x_ret X Y d_BP_stopper_10 rfl (Nat.le_of_ble_eq_true rfl) ⟨_, rfl, by rw [sto_0 n5 (cB_iff.mp c_6)], _, _, _, rfl⟩
set_option maxRecDepth 20000 in
theorem ct_BP_hasPacking (hS : sOK n A fr to k R) (hg : gOK n A fr to k R ow dn gr) : xCt b y_BP_hasPacking b_BP_hasPacking 1 (some .boolean) q_BP_hasPacking [.ref (h 0)] (wB b h n A fr to k R hv ow dn u gr) (xIn (fun r w => r = bI (cB (cOK n A fr to k R (fun _ => true))) ∧ ∃ hv' ow' u', w = wB b h n A fr to k R hv' ow' (cB (cOK n A fr to k R (fun _ => true))) u' true ∧ gOK n A fr to k R ow' (cB (cOK n A fr to k R (fun _ => true))) true)) := by
  refine x_met (by decide +kernel) rfl (Nat.le_of_ble_eq_true rfl) (fun G X Y => ?_)
  obtain ⟨hN, hk, hR1, hR2⟩ := id hS
  refine x_aload_n X d_BP_hasPacking_0 rfl ?_
  refine x_getf X d_BP_hasPacking_1 f_BP_35 0 rfl rfl ?_
  refine x_if_neB 19 X d_BP_hasPacking_4 (by decide) (fun c_4 => ?_) (fun c_4 => ?_)
  · obtain rfl := c_4
    have e1 := cB_eq (hg rfl).1
    subst e1
    have fin : ∃ hv' ow' u', wB b h n A fr to k R hv ow (cB (cOK n A fr to k R (fun _ => true))) u true = wB b h n A fr to k R hv' ow' (cB (cOK n A fr to k R (fun _ => true))) u' true ∧ gOK n A fr to k R ow' (cB (cOK n A fr to k R (fun _ => true))) true := ⟨hv, ow, u, rfl, hg⟩
    refine x_aload_n X d_BP_hasPacking_19 rfl ?_
    refine x_getf X d_BP_hasPacking_20 f_BP_21 0 rfl rfl ?_
    refine x_getf X d_BP_hasPacking_23 f_BP_98 1 rfl rfl ?_
    exact x_ret X Y d_BP_hasPacking_26 (bI_nar _) (Nat.le_of_ble_eq_true rfl) ⟨_, rfl, rfl, fin⟩
  · refine x_aload_n X d_BP_hasPacking_7 rfl ?_
    refine x_getf X d_BP_hasPacking_8 f_BP_21 0 rfl rfl ?_
    refine x_callF ([(h 0, .inr (0, [.ref (h 5), .ref (h 1), .int (bI _)]))]) ([]) X d_BP_hasPacking_11 c_BP_95 (ct_Grove_grow hN hk hR2) rfl rfl rfl rfl (Nat.le_of_ble_eq_true rfl) ⟨Nat.le_of_ble_eq_true rfl, Nat.le_of_ble_eq_true rfl⟩ ⟨rfl, rfl⟩ ⟨Nat.le_of_ble_eq_true rfl, Nat.le_of_ble_eq_true rfl⟩ (fun v_11 w_11 h_11 => ?_)
    obtain ⟨rfl, c_11, hv_11, ow_11, u_11, rfl, hc_11, hd_11⟩ := h_11
    refine ⟨rfl, ?_⟩
    refine x_wd (w' := wB b h _ _ _ _ _ _ _ _ _ _ _) rfl ?_
    refine x_st (st' := []) rfl ?_
    have e1 := cB_eq hc_11
    subst e1
    have fin : ∃ hv' ow' u', wB b h n A fr to k R hv_11 ow_11 (cB (cOK n A fr to k R (fun _ => true))) u_11 true = wB b h n A fr to k R hv' ow' (cB (cOK n A fr to k R (fun _ => true))) u' true ∧ gOK n A fr to k R ow' (cB (cOK n A fr to k R (fun _ => true))) true := ⟨hv_11, ow_11, u_11, rfl, fun _ => ⟨cB_iff, hd_11⟩⟩
    refine x_aload_n X d_BP_hasPacking_14 rfl ?_
    refine x_iconst X d_BP_hasPacking_15 k_ic_1 ?_
    refine x_top (show nI 1 = bI true from rfl) ?_
    refine x_putf (w' := wB b h _ _ _ _ _ _ _ _ _ _ _) X d_BP_hasPacking_16 f_BP_35 0 rfl (bI_nar _) (bI_fit _) (Nat.le_of_ble_eq_true rfl) rfl ?_
    refine x_aload_n X d_BP_hasPacking_19 rfl ?_
    refine x_getf X d_BP_hasPacking_20 f_BP_21 0 rfl rfl ?_
    refine x_getf X d_BP_hasPacking_23 f_BP_98 1 rfl rfl ?_
    exact x_ret X Y d_BP_hasPacking_26 (bI_nar _) (Nat.le_of_ble_eq_true rfl) ⟨_, rfl, rfl, fin⟩
set_option maxRecDepth 20000 in
theorem ct_BP_owner {x : Int32} (hS : sOK n A fr to k R) (hg : gOK n A fr to k R ow dn gr) : xCt b y_BP_owner b_BP_owner 2 (some .int) q_BP_owner [.ref (h 0), .int x] (wB b h n A fr to k R hv ow dn u gr) (xIn (fun r w => opt A x (q_own n A fr to k R) (-1) r ∧ ∃ hv' ow' dn' u' gr', w = wB b h n A fr to k R hv' ow' dn' u' gr' ∧ gOK n A fr to k R ow' dn' gr')) := by
  refine x_met (by decide +kernel) rfl (Nat.le_of_ble_eq_true rfl) (fun G X Y => ?_)
  obtain ⟨hN, hk, hR1, hR2⟩ := id hS
  obtain ⟨n1, n2, n3, n4, n5⟩ := id hN
  refine x_aload_n X d_BP_owner_0 rfl ?_
  refine x_getf X d_BP_owner_1 f_BP_10 0 rfl rfl ?_
  refine x_iload_n X d_BP_owner_4 rfl ?_
  refine x_callVR X d_BP_owner_5 c_BP_50 (ct_Net_isArc _ (by omega)) [5, 6, 7] rfl rfl rfl rfl rfl (Nat.le_of_ble_eq_true rfl) ⟨Nat.le_of_ble_eq_true rfl, Nat.le_of_ble_eq_true rfl⟩ ⟨rfl, rfl⟩ ⟨Nat.le_of_ble_eq_true rfl, Nat.le_of_ble_eq_true rfl⟩ (fun r_5 h_5 => ?_)
  obtain ⟨c_5, rfl, hc_5⟩ := h_5
  refine x_if_eqB 30 X d_BP_owner_8 (by decide) (fun c_8 => ?_) (fun c_8 => ?_)
  · have fin : opt A x (q_own n A fr to k R) (-1) (-1) := Or.inr ⟨bno hc_5 c_8, rfl⟩
    have fin2 : ∃ hv' ow' dn' u' gr', wB b h n A fr to k R hv ow dn u gr = wB b h n A fr to k R hv' ow' dn' u' gr' ∧ gOK n A fr to k R ow' dn' gr' := ⟨_, _, _, _, _, rfl, hg⟩
    refine x_iconst X d_BP_owner_30 k_ic_m1 ?_
    exact x_ret X Y d_BP_owner_31 rfl (Nat.le_of_ble_eq_true rfl) ⟨_, rfl, fin, fin2⟩
  · obtain ⟨e, he, rfl⟩ := hc_5.mp c_8
    refine x_aload_n X d_BP_owner_11 rfl ?_
    refine x_callA X d_BP_owner_12 c_BP_101 (ct_BP_hasPacking hS hg) rfl rfl rfl (Nat.le_of_ble_eq_true rfl) ⟨Nat.le_of_ble_eq_true rfl, Nat.le_of_ble_eq_true rfl⟩ ⟨rfl, rfl⟩ ⟨Nat.le_of_ble_eq_true rfl, Nat.le_of_ble_eq_true rfl⟩ (fun v_12 w_12 h_12 => ?_)
    obtain ⟨r_12, rfl, rfl, hv_12, ow_12, u_12, rfl, hg_12⟩ := h_12
    refine ⟨rfl, ?_⟩
    refine x_st (st' := [_]) rfl ?_
    have fin2 : ∃ hv' ow' dn' u' gr', wB b h n A fr to k R hv_12 ow_12 (cB (cOK n A fr to k R (fun _ => true))) u_12 true = wB b h n A fr to k R hv' ow' dn' u' gr' ∧ gOK n A fr to k R ow' dn' gr' := ⟨_, _, _, _, _, rfl, hg_12⟩
    refine x_if_eqB 30 X d_BP_owner_15 (by decide) (fun c_15 => ?_) (fun c_15 => ?_)
    · have fin : opt A (nI e) (q_own n A fr to k R) (-1) (-1) := opt_t he (by simp [q_own, c_15])
      refine x_iconst X d_BP_owner_30 k_ic_m1 ?_
      exact x_ret X Y d_BP_owner_31 rfl (Nat.le_of_ble_eq_true rfl) ⟨_, rfl, fin, fin2⟩
    · have fin : opt A (nI e) (q_own n A fr to k R) (-1) (oI (ow_12 e)) := opt_t he (by simp [q_own, c_15, ((hg_12 rfl).2 c_15).1 e he])
      refine x_aload_n X d_BP_owner_18 rfl ?_
      refine x_getf X d_BP_owner_19 f_BP_21 0 rfl rfl ?_
      refine x_getf X d_BP_owner_22 f_BP_104 1 rfl rfl ?_
      refine x_iload_n X d_BP_owner_25 rfl ?_
      refine x_iald X d_BP_owner_26 4 rfl rfl (by omega) (by decide) ?_
      refine x_goto 31 X d_BP_owner_27 (by decide) ?_
      exact x_ret X Y d_BP_owner_31 rfl (Nat.le_of_ble_eq_true rfl) ⟨_, rfl, fin, fin2⟩
set_option maxRecDepth 20000 in
set_option maxHeartbeats 1000000 in
theorem ct_BP_way {x y : Int32} (hS : sOK n A fr to k R) (hg : gOK n A fr to k R ow dn gr) : xCt b y_BP_way b_BP_way 5 (some .int) q_BP_way [.ref (h 0), .int x, .int y] (wB b h n A fr to k R hv ow dn u gr) (xIn (fun r w => w2 k n x y (q_way n A fr to k R) r ∧ ∃ hv' ow' dn' u' gr', w = wB b h n A fr to k R hv' ow' dn' u' gr' ∧ gOK n A fr to k R ow' dn' gr')) := by
  refine x_met (by decide +kernel) rfl (Nat.le_of_ble_eq_true rfl) (fun G X Y => ?_)
  obtain ⟨hN, hk, hR1, hR2⟩ := id hS
  obtain ⟨n1, n2, n3, n4, n5⟩ := id hN
  refine x_iload_n X d_BP_way_0 rfl ?_
  refine x_if_lt 33 X d_BP_way_1 (by decide) (fun c_1 => ?_) (fun c_1 => ?_)
  · have fin : w2 k n x y (q_way n A fr to k R) (-1) := Or.inr ⟨fun q => xLt_f1 c_1 (by omega) q.1, rfl⟩
    have fin2 : ∃ hv' ow' dn' u' gr', wB b h n A fr to k R hv ow dn u gr = wB b h n A fr to k R hv' ow' dn' u' gr' ∧ gOK n A fr to k R ow' dn' gr' := ⟨_, _, _, _, _, rfl, hg⟩
    refine x_iconst X d_BP_way_33 k_ic_m1 ?_
    exact x_ret X Y d_BP_way_34 rfl (Nat.le_of_ble_eq_true rfl) ⟨_, rfl, fin, fin2⟩
  · refine x_iload_n X d_BP_way_4 rfl ?_
    refine x_aload_n X d_BP_way_5 rfl ?_
    refine x_getf X d_BP_way_6 f_BP_21 0 rfl rfl ?_
    refine x_getf X d_BP_way_9 f_BP_32 1 rfl rfl ?_
    refine x_icmp_ge 33 X d_BP_way_12 (by decide) (fun c_12 => ?_) (fun c_12 => ?_)
    · have fin : w2 k n x y (q_way n A fr to k R) (-1) := Or.inr ⟨fun q => xLt_f2 c_12 (by omega) q.1, rfl⟩
      have fin2 : ∃ hv' ow' dn' u' gr', wB b h n A fr to k R hv ow dn u gr = wB b h n A fr to k R hv' ow' dn' u' gr' ∧ gOK n A fr to k R ow' dn' gr' := ⟨_, _, _, _, _, rfl, hg⟩
      refine x_iconst X d_BP_way_33 k_ic_m1 ?_
      exact x_ret X Y d_BP_way_34 rfl (Nat.le_of_ble_eq_true rfl) ⟨_, rfl, fin, fin2⟩
    · obtain ⟨i, hi, rfl⟩ := xLt_t c_1 c_12 (by omega)
      refine x_aload_n X d_BP_way_15 rfl ?_
      refine x_getf X d_BP_way_16 f_BP_10 0 rfl rfl ?_
      refine x_iload_n X d_BP_way_19 rfl ?_
      refine x_callVR X d_BP_way_20 c_BP_39 (ct_Net_isVertex _ (by omega)) [5, 6, 7] rfl rfl rfl rfl rfl (Nat.le_of_ble_eq_true rfl) ⟨Nat.le_of_ble_eq_true rfl, Nat.le_of_ble_eq_true rfl⟩ ⟨rfl, rfl⟩ ⟨Nat.le_of_ble_eq_true rfl, Nat.le_of_ble_eq_true rfl⟩ (fun r_20 h_20 => ?_)
      obtain ⟨c_20, rfl, hc_20⟩ := h_20
      refine x_if_eqB 33 X d_BP_way_23 (by decide) (fun c_23 => ?_) (fun c_23 => ?_)
      · have fin : w2 k n (nI i) y (q_way n A fr to k R) (-1) := Or.inr ⟨fun q => bno hc_20 c_23 q.2, rfl⟩
        have fin2 : ∃ hv' ow' dn' u' gr', wB b h n A fr to k R hv ow dn u gr = wB b h n A fr to k R hv' ow' dn' u' gr' ∧ gOK n A fr to k R ow' dn' gr' := ⟨_, _, _, _, _, rfl, hg⟩
        refine x_iconst X d_BP_way_33 k_ic_m1 ?_
        exact x_ret X Y d_BP_way_34 rfl (Nat.le_of_ble_eq_true rfl) ⟨_, rfl, fin, fin2⟩
      · obtain ⟨v, hv1, rfl⟩ := hc_20.mp c_23
        refine x_aload_n X d_BP_way_26 rfl ?_
        refine x_callA X d_BP_way_27 c_BP_101 (ct_BP_hasPacking hS hg) rfl rfl rfl (Nat.le_of_ble_eq_true rfl) ⟨Nat.le_of_ble_eq_true rfl, Nat.le_of_ble_eq_true rfl⟩ ⟨rfl, rfl⟩ ⟨Nat.le_of_ble_eq_true rfl, Nat.le_of_ble_eq_true rfl⟩ (fun v_27 w_27 h_27 => ?_)
        obtain ⟨r_27, rfl, rfl, hv_27, ow_27, u_27, rfl, hg_27⟩ := h_27
        refine ⟨rfl, ?_⟩
        refine x_st (st' := [_]) rfl ?_
        have fin2 : ∃ hv' ow' dn' u' gr', wB b h n A fr to k R hv_27 ow_27 (cB (cOK n A fr to k R (fun _ => true))) u_27 true = wB b h n A fr to k R hv' ow' dn' u' gr' ∧ gOK n A fr to k R ow' dn' gr' := ⟨_, _, _, _, _, rfl, hg_27⟩
        refine x_if_neB 35 X d_BP_way_30 (by decide) (fun c_30 => ?_) (fun c_30 => ?_)
        · refine x_iconst X d_BP_way_35 k_ic_m1 ?_
          refine x_istore_n (lv' := [(0, _), (1, _), (2, _), (3, _)]) X d_BP_way_36 (by decide) rfl ?_
          refine x_iconst X d_BP_way_37 k_ic_0 ?_
          refine x_istore (lv' := [(0, _), (1, _), (2, _), (3, _), (4, _)]) X d_BP_way_38 (by decide) rfl ?_
          obtain ⟨o1, o2⟩ := (hg_27 rfl).2 c_30
          have loop := loopU (P := fun e => xW b G 0 0 (wB b h n A fr to k R hv_27 ow_27 (cB (cOK n A fr to k R (fun _ => true))) u_27 true) 40 [(0, .ref (h 0)), (1, .int (nI i)), (2, .int (nI v)), (3, .int (oI (lst to ow_27 i v e))), (4, .int (nI e))] []) A (fun e he ih => by
            have a1 := n4 e
            refine x_iload X d_BP_way_40 rfl ?_
            refine x_aload_n X d_BP_way_42 rfl ?_
            refine x_getf X d_BP_way_43 f_BP_10 0 rfl rfl ?_
            refine x_getf X d_BP_way_46 f_BP_29 5 rfl rfl ?_
            refine x_icmp_geN 93 X d_BP_way_49 (by decide) (by omega) (by omega) (fun c_49 => ?_) (fun c_49 => ?_)
            · obtain rfl : e = A := by omega
              refine x_iload_n X d_BP_way_93 rfl ?_
              exact x_ret X Y d_BP_way_94 rfl (Nat.le_of_ble_eq_true rfl) ⟨_, rfl, Or.inl ⟨i, v, hi, hv1, rfl, rfl, by simp only [q_way, c_30, if_true]; rw [lst_congr e o1]⟩, fin2⟩
            · refine x_aload_n X d_BP_way_52 rfl ?_
              refine x_getf X d_BP_way_53 f_BP_21 0 rfl rfl ?_
              refine x_getf X d_BP_way_56 f_BP_104 1 rfl rfl ?_
              refine x_iload X d_BP_way_59 rfl ?_
              refine x_iald X d_BP_way_61 4 rfl rfl (by omega) (by decide) ?_
              refine x_iload_n X d_BP_way_62 rfl ?_
              refine x_icmp_ne 85 X d_BP_way_63 (by decide) (fun c_63 => ?_) (fun c_63 => ?_)
              · have z : lst to ow_27 i v (e + 1) = lst to ow_27 i v e := by
                  have : ¬ ow_27 e = some i := fun q => c_63 ((oI_eq (by omega) (fun j q => by have := o2 e (by omega) j q; omega)).mpr q)
                  simp [lst, this]
                refine x_iload_n X d_BP_way_85 rfl ?_
                refine x_istore_n (lv' := [(0, _), (1, _), (2, _), (3, _), (4, _)]) X d_BP_way_86 (by decide) rfl ?_
                refine x_iincN (lv' := [(0, _), (1, _), (2, _), (3, _), (4, _)]) X d_BP_way_87 rfl (by decide) rfl ?_
                refine x_goto 40 X d_BP_way_90 (by decide) ?_
                have q := ih (by omega)
                rw [z] at q
                exact q
              · refine x_aload_n X d_BP_way_66 rfl ?_
                refine x_getf X d_BP_way_67 f_BP_10 0 rfl rfl ?_
                refine x_getf X d_BP_way_70 f_BP_47 5 rfl rfl ?_
                refine x_iload X d_BP_way_73 rfl ?_
                refine x_bald X d_BP_way_75 7 rfl rfl (by omega) (by decide) ?_
                refine x_iload_n X d_BP_way_76 rfl ?_
                refine x_icmp_neN 85 X d_BP_way_77 (by decide) (by omega) (by omega) (fun c_77 => ?_) (fun c_77 => ?_)
                · have z : lst to ow_27 i v (e + 1) = lst to ow_27 i v e := by simp [lst, c_77]
                  refine x_iload_n X d_BP_way_85 rfl ?_
                  refine x_istore_n (lv' := [(0, _), (1, _), (2, _), (3, _), (4, _)]) X d_BP_way_86 (by decide) rfl ?_
                  refine x_iincN (lv' := [(0, _), (1, _), (2, _), (3, _), (4, _)]) X d_BP_way_87 rfl (by decide) rfl ?_
                  refine x_goto 40 X d_BP_way_90 (by decide) ?_
                  have q := ih (by omega)
                  rw [z] at q
                  exact q
                · have z : lst to ow_27 i v (e + 1) = some e := by
                    have : ow_27 e = some i := (oI_eq (by omega) (fun j q => by have := o2 e (by omega) j q; omega)).mp c_63
                    simp [lst, this, c_77]
                  refine x_iload X d_BP_way_80 rfl ?_
                  refine x_goto 86 X d_BP_way_82 (by decide) ?_
                  refine x_istore_n (lv' := [(0, _), (1, _), (2, _), (3, _), (4, _)]) X d_BP_way_86 (by decide) rfl ?_
                  refine x_iincN (lv' := [(0, _), (1, _), (2, _), (3, _), (4, _)]) X d_BP_way_87 rfl (by decide) rfl ?_
                  refine x_goto 40 X d_BP_way_90 (by decide) ?_
                  have q := ih (by omega)
                  rw [z] at q
                  exact q
          )
          exact loop 0 (Nat.zero_le _)
        · have fin : w2 k n (nI i) (nI v) (q_way n A fr to k R) (-1) := Or.inl ⟨i, v, hi, hv1, rfl, rfl, by simp [q_way, c_30]⟩
          refine x_iconst X d_BP_way_33 k_ic_m1 ?_
          exact x_ret X Y d_BP_way_34 rfl (Nat.le_of_ble_eq_true rfl) ⟨_, rfl, fin, fin2⟩
end BP2
end
section
/-! THE MODEL: the plain calls -/
theorem bI_inj {x y : Bool} (h : bI x = bI y) : x = y := by
  cases x <;> cases y <;> first | rfl | exact absurd h (by decide)
section MOD1
variable {b : xB} {h : Nat → Nat} {n A : Nat} {fr to : Nat → Nat} {k : Nat} {R : Nat → Nat} {ow wy : Nat → Option Nat} {tr hs us nx : Nat → Nat}
set_option maxRecDepth 20000 in
theorem ct_Mod_has {s v : Nat} (hs : s < 2 ^ 31) (hv : v < 32) : xCt b y_Mod_has b_Mod_has 2 (some .boolean) q_Mod_has [.int (nI s), .int (nI v)] [] (xRd [] (fun r => r = bI (s.testBit v))) := by
  refine x_met (by decide +kernel) rfl (Nat.le_of_ble_eq_true rfl) (fun G X Y => ?_)
  have := bIs (s.testBit v)
  refine x_iload_n X d_Mod_has_0 rfl ?_
  refine x_iload_n X d_Mod_has_1 rfl ?_
  refine x_ishrN X d_Mod_has_2 (by omega) (by omega) ?_
  refine x_iconst X d_Mod_has_3 k_ic_1 ?_
  refine x_bit X d_Mod_has_4 ?_
  refine x_iconst X d_Mod_has_5 k_ic_1 ?_
  refine x_icmp_neN 13 X d_Mod_has_6 (by decide) (by omega) (by omega) (fun c_6 => ?_) (fun c_6 => ?_)
  · refine x_iconst X d_Mod_has_13 k_ic_0 ?_
    refine x_top (show nI 0 = bI false from rfl) ?_
    exact x_ret X Y d_Mod_has_14 (bI_nar _) (Nat.le_of_ble_eq_true rfl) ⟨_, rfl, rfl, by
 have : s.testBit v = false := by simpa using c_6
 rw [this]⟩
  · refine x_iconst X d_Mod_has_9 k_ic_1 ?_
    refine x_goto 14 X d_Mod_has_10 (by decide) ?_
    refine x_top (show nI 1 = bI true from rfl) ?_
    exact x_ret X Y d_Mod_has_14 (bI_nar _) (Nat.le_of_ble_eq_true rfl) ⟨_, rfl, rfl, by
 have : s.testBit v = true := by simpa using c_6
 rw [this]⟩
set_option maxRecDepth 20000 in
theorem ct_Mod_all (hn : n ≤ 7) : xCt b y_Mod_all b_Mod_all 1 (some .int) q_Mod_all [.ref (h 0)] (wM b h n A fr to k R ow wy tr hs us nx) (xRd (wM b h n A fr to k R ow wy tr hs us nx) (fun r => r = nI (2 ^ n - 1))) := by
  refine x_met (by decide +kernel) rfl (Nat.le_of_ble_eq_true rfl) (fun G X Y => ?_)
  have := pow_le hn
  refine x_iconst X d_Mod_all_0 k_ic_1 ?_
  refine x_aload_n X d_Mod_all_1 rfl ?_
  refine x_getf X d_Mod_all_2 f_Mod_7 0 rfl rfl ?_
  refine x_shl1 X d_Mod_all_5 (by omega) ?_
  refine x_iconst X d_Mod_all_6 k_ic_1 ?_
  refine x_isubN X d_Mod_all_7 (by omega) ?_
  exact x_ret X Y d_Mod_all_8 rfl (Nat.le_of_ble_eq_true rfl) ⟨_, rfl, rfl, rfl⟩
set_option maxRecDepth 20000 in
theorem ct_Mod_isArc (x : Int32) (hA : A ≤ 14) : xCt b y_Mod_isArc b_Mod_isArc 2 (some .boolean) q_Mod_isArc [.ref (h 0), .int x] (wM b h n A fr to k R ow wy tr hs us nx) (xRd (wM b h n A fr to k R ow wy tr hs us nx) (xBo (xLt A x))) := by
  refine x_met (by decide +kernel) rfl (Nat.le_of_ble_eq_true rfl) (fun G X Y => ?_)
  refine x_iload_n X d_Mod_isArc_0 rfl ?_
  refine x_if_lt 16 X d_Mod_isArc_1 (by decide) (fun c_1 => ?_) (fun c_1 => ?_)
  · refine x_iconst X d_Mod_isArc_16 k_ic_0 ?_
    refine x_top (show nI 0 = bI false from rfl) ?_
    exact x_ret X Y d_Mod_isArc_17 (bI_nar _) (Nat.le_of_ble_eq_true rfl) ⟨_, rfl, rfl, xBo_f (by first | exact xLt_f1 c_1 (by omega) | exact xLt_f2 c_9 (by omega))⟩
  · refine x_iload_n X d_Mod_isArc_4 rfl ?_
    refine x_aload_n X d_Mod_isArc_5 rfl ?_
    refine x_getf X d_Mod_isArc_6 f_Mod_45 0 rfl rfl ?_
    refine x_icmp_ge 16 X d_Mod_isArc_9 (by decide) (fun c_9 => ?_) (fun c_9 => ?_)
    · refine x_iconst X d_Mod_isArc_16 k_ic_0 ?_
      refine x_top (show nI 0 = bI false from rfl) ?_
      exact x_ret X Y d_Mod_isArc_17 (bI_nar _) (Nat.le_of_ble_eq_true rfl) ⟨_, rfl, rfl, xBo_f (by first | exact xLt_f1 c_1 (by omega) | exact xLt_f2 c_9 (by omega))⟩
    · refine x_iconst X d_Mod_isArc_12 k_ic_1 ?_
      refine x_goto 17 X d_Mod_isArc_13 (by decide) ?_
      refine x_top (show nI 1 = bI true from rfl) ?_
      exact x_ret X Y d_Mod_isArc_17 (bI_nar _) (Nat.le_of_ble_eq_true rfl) ⟨_, rfl, rfl, xBo_t (xLt_t c_1 c_9 (by omega))⟩
set_option maxRecDepth 20000 in
theorem ct_Mod_isSet (x : Int32) (hn : n ≤ 7) : xCt b y_Mod_isSet b_Mod_isSet 2 (some .boolean) q_Mod_isSet [.ref (h 0), .int x] (wM b h n A fr to k R ow wy tr hs us nx) (xRd (wM b h n A fr to k R ow wy tr hs us nx) (xBo (xLt (2 ^ n) x))) := by
  refine x_met (by decide +kernel) rfl (Nat.le_of_ble_eq_true rfl) (fun G X Y => ?_)
  have := pow_le hn
  refine x_iload_n X d_Mod_isSet_0 rfl ?_
  refine x_if_lt 16 X d_Mod_isSet_1 (by decide) (fun c_1 => ?_) (fun c_1 => ?_)
  · refine x_iconst X d_Mod_isSet_16 k_ic_0 ?_
    refine x_top (show nI 0 = bI false from rfl) ?_
    exact x_ret X Y d_Mod_isSet_17 (bI_nar _) (Nat.le_of_ble_eq_true rfl) ⟨_, rfl, rfl, xBo_f (by first | exact xLt_f1 c_1 (by omega) | exact xLt_f2' c_9 (by omega) (by omega))⟩
  · refine x_iload_n X d_Mod_isSet_4 rfl ?_
    refine x_aload_n X d_Mod_isSet_5 rfl ?_
    refine x_callVR X d_Mod_isSet_6 c_Mod_41 (ct_Mod_all (by omega)) [0, 1, 2, 3, 4, 5, 6, 7, 8, 9] rfl rfl rfl rfl rfl (Nat.le_of_ble_eq_true rfl) ⟨Nat.le_of_ble_eq_true rfl, Nat.le_of_ble_eq_true rfl⟩ ⟨rfl, rfl⟩ ⟨Nat.le_of_ble_eq_true rfl, Nat.le_of_ble_eq_true rfl⟩ (fun r_6 h_6 => ?_)
    obtain rfl := h_6
    refine x_icmp_gt 16 X d_Mod_isSet_9 (by decide) (fun c_9 => ?_) (fun c_9 => ?_)
    · refine x_iconst X d_Mod_isSet_16 k_ic_0 ?_
      refine x_top (show nI 0 = bI false from rfl) ?_
      exact x_ret X Y d_Mod_isSet_17 (bI_nar _) (Nat.le_of_ble_eq_true rfl) ⟨_, rfl, rfl, xBo_f (by first | exact xLt_f1 c_1 (by omega) | exact xLt_f2' c_9 (by omega) (by omega))⟩
    · refine x_iconst X d_Mod_isSet_12 k_ic_1 ?_
      refine x_goto 17 X d_Mod_isSet_13 (by decide) ?_
      refine x_top (show nI 1 = bI true from rfl) ?_
      exact x_ret X Y d_Mod_isSet_17 (bI_nar _) (Nat.le_of_ble_eq_true rfl) ⟨_, rfl, rfl, xBo_t (xLt_t' c_1 c_9 (by omega) (by omega))⟩
set_option maxRecDepth 20000 in
theorem ct_Mod_size {s : Nat} (hs : s < 128) : xCt b y_Mod_size b_Mod_size 3 (some .int) q_Mod_size [.int (nI s)] [] (xRd [] (fun r => r = nI (pcn s))) := by
  refine x_met (by decide +kernel) rfl (Nat.le_of_ble_eq_true rfl) (fun G X Y => ?_)
  have loop := loopU (P := fun v => xW b G 0 0 [] 4 [(0, .int (nI s)), (1, .int (nI (cnt (fun v => s.testBit v) v))), (2, .int (nI v))] []) 7 (fun v hv ih => by
    refine x_iload_n X d_Mod_size_4 rfl ?_
    refine x_bipush X d_Mod_size_5 k_bp_7 ?_
    refine x_icmp_geN 32 X d_Mod_size_7 (by decide) (by omega) (by omega) (fun c_7 => ?_) (fun c_7 => ?_)
    · obtain rfl : v = 7 := by omega
      refine x_iload_n X d_Mod_size_32 rfl ?_
      exact x_ret X Y d_Mod_size_33 rfl (Nat.le_of_ble_eq_true rfl) ⟨_, rfl, rfl, rfl⟩
    · refine x_iload_n X d_Mod_size_10 rfl ?_
      refine x_iload_n X d_Mod_size_11 rfl ?_
      refine x_callSR X d_Mod_size_12 c_Mod_48 (ct_Mod_has (by omega) (by omega)) rfl rfl (Nat.le_of_ble_eq_true rfl) ⟨Nat.le_of_ble_eq_true rfl, Nat.le_of_ble_eq_true rfl⟩ ⟨rfl, rfl⟩ ⟨Nat.le_of_ble_eq_true rfl, Nat.le_of_ble_eq_true rfl⟩ (fun r_12 h_12 => ?_)
      obtain rfl := h_12
      refine x_if_eqB 24 X d_Mod_size_15 (by decide) (fun c_15 => ?_) (fun c_15 => ?_)
      · have z : cnt (fun v => s.testBit v) (v + 1) = cnt (fun v => s.testBit v) v := by simp [cnt, c_15]
        refine x_iload_n X d_Mod_size_24 rfl ?_
        refine x_istore_n (lv' := [(0, _), (1, _), (2, _)]) X d_Mod_size_25 (by decide) rfl ?_
        refine x_iincN (lv' := [(0, _), (1, _), (2, _)]) X d_Mod_size_26 rfl (by decide) rfl ?_
        refine x_goto 4 X d_Mod_size_29 (by decide) ?_
        have q := ih (by omega)
        rw [z] at q
        exact q
      · have z : cnt (fun v => s.testBit v) (v + 1) = cnt (fun v => s.testBit v) v + 1 := by simp [cnt, c_15]
        refine x_iload_n X d_Mod_size_18 rfl ?_
        refine x_iconst X d_Mod_size_19 k_ic_1 ?_
        refine x_iaddN X d_Mod_size_20 ?_
        refine x_goto 25 X d_Mod_size_21 (by decide) ?_
        refine x_istore_n (lv' := [(0, _), (1, _), (2, _)]) X d_Mod_size_25 (by decide) rfl ?_
        refine x_iincN (lv' := [(0, _), (1, _), (2, _)]) X d_Mod_size_26 rfl (by decide) rfl ?_
        refine x_goto 4 X d_Mod_size_29 (by decide) ?_
        have q := ih (by omega)
        rw [z] at q
        exact q
  )
  refine x_iconst X d_Mod_size_0 k_ic_0 ?_
  refine x_istore_n (lv' := [(0, _), (1, _)]) X d_Mod_size_1 (by decide) rfl ?_
  refine x_iconst X d_Mod_size_2 k_ic_0 ?_
  refine x_istore_n (lv' := [(0, _), (1, _), (2, _)]) X d_Mod_size_3 (by decide) rfl ?_
  exact loop 0 (Nat.zero_le _)
set_option maxRecDepth 20000 in
theorem ct_Mod_isBefore {a c : Nat} (ha : a < 128) (hc : c < 128) : xCt b y_Mod_isBefore b_Mod_isBefore 3 (some .boolean) q_Mod_isBefore [.int (nI a), .int (nI c)] [] (xRd [] (fun r => r = bI (bfr a c))) := by
  refine x_met (by decide +kernel) rfl (Nat.le_of_ble_eq_true rfl) (fun G X Y => ?_)
  have p1 := pcn_lt a
  have p2 := pcn_lt c
  have loop : pcn a = pcn c → ∀ v, v ≤ 7 → (∀ u, u < v → a.testBit u = c.testBit u) → xW b G 0 0 [] 30 [(0, .int (nI a)), (1, .int (nI c)), (2, .int (nI v))] [] := fun hpc => loopU 7 (fun v hv ih hu => by
    have hb : bfr a c = fdf a c := by simp [bfr, hpc]
    refine x_iload_n X d_Mod_isBefore_30 rfl ?_
    refine x_bipush X d_Mod_isBefore_31 k_bp_7 ?_
    refine x_icmp_geN 55 X d_Mod_isBefore_33 (by decide) (by omega) (by omega) (fun c_33 => ?_) (fun c_33 => ?_)
    · have hne : v < 7 → a.testBit v ≠ c.testBit v := fun z => by omega
      have hall : fdf a c = false := by
        cases q : fdf a c with
        | false => rfl
        | true =>
          obtain ⟨v', g1, g2, g3, g4⟩ := fdf_iff.mp q
          have := hu v' (by omega)
          rw [g2, g3] at this
          cases this
      refine x_iload_n X d_Mod_isBefore_55 rfl ?_
      refine x_bipush X d_Mod_isBefore_56 k_bp_7 ?_
      refine x_icmp_geN 73 X d_Mod_isBefore_58 (by decide) (by omega) (by omega) (fun c_58 => ?_) (fun c_58 => ?_)
      · refine x_iconst X d_Mod_isBefore_73 k_ic_0 ?_
        refine x_top (show nI 0 = bI false from rfl) ?_
        exact x_ret X Y d_Mod_isBefore_74 (bI_nar _) (Nat.le_of_ble_eq_true rfl) ⟨_, rfl, rfl, by first | (rw [hb, hall]; done) | omega⟩
      · refine x_iload_n X d_Mod_isBefore_61 rfl ?_
        refine x_iload_n X d_Mod_isBefore_62 rfl ?_
        refine x_callSR X d_Mod_isBefore_63 c_Mod_48 (ct_Mod_has (by omega) (by omega)) rfl rfl (Nat.le_of_ble_eq_true rfl) ⟨Nat.le_of_ble_eq_true rfl, Nat.le_of_ble_eq_true rfl⟩ ⟨rfl, rfl⟩ ⟨Nat.le_of_ble_eq_true rfl, Nat.le_of_ble_eq_true rfl⟩ (fun r_63 h_63 => ?_)
        obtain rfl := h_63
        refine x_if_eqB 73 X d_Mod_isBefore_66 (by decide) (fun c_66 => ?_) (fun c_66 => ?_)
        · have hall : fdf a c = false := by
            have hc1 : c.testBit v = true := by
              cases q : c.testBit v with
              | true => rfl
              | false => exact absurd (c_66.trans q.symm) (hne (by omega))
            cases q : fdf a c with
            | false => rfl
            | true =>
              obtain ⟨v', g1, g2, g3, g4⟩ := fdf_iff.mp q
              rcases Nat.lt_trichotomy v' v with z | z | z
              · have := hu v' z
                rw [g2, g3] at this
                cases this
              · rw [z, c_66] at g2; cases g2
              · exact absurd (g4 v z) (hne (by omega))
          refine x_iconst X d_Mod_isBefore_73 k_ic_0 ?_
          refine x_top (show nI 0 = bI false from rfl) ?_
          exact x_ret X Y d_Mod_isBefore_74 (bI_nar _) (Nat.le_of_ble_eq_true rfl) ⟨_, rfl, rfl, by first | (rw [hb, hall]; done) | omega⟩
        · refine x_iconst X d_Mod_isBefore_69 k_ic_1 ?_
          refine x_goto 74 X d_Mod_isBefore_70 (by decide) ?_
          refine x_top (show nI 1 = bI true from rfl) ?_
          exact x_ret X Y d_Mod_isBefore_74 (bI_nar _) (Nat.le_of_ble_eq_true rfl) ⟨_, rfl, rfl, by
 have hc1 : c.testBit v = false := by
   cases q : c.testBit v with
   | false => rfl
   | true => exact absurd (c_66.trans q.symm) (hne (by omega))
 rw [hb, fdf_iff.mpr ⟨v, by omega, c_66, hc1, hu⟩]⟩
    · refine x_iload_n X d_Mod_isBefore_36 rfl ?_
      refine x_iload_n X d_Mod_isBefore_37 rfl ?_
      refine x_callSR X d_Mod_isBefore_38 c_Mod_48 (ct_Mod_has (by omega) (by omega)) rfl rfl (Nat.le_of_ble_eq_true rfl) ⟨Nat.le_of_ble_eq_true rfl, Nat.le_of_ble_eq_true rfl⟩ ⟨rfl, rfl⟩ ⟨Nat.le_of_ble_eq_true rfl, Nat.le_of_ble_eq_true rfl⟩ (fun r_38 h_38 => ?_)
      obtain rfl := h_38
      refine x_iload_n X d_Mod_isBefore_41 rfl ?_
      refine x_iload_n X d_Mod_isBefore_42 rfl ?_
      refine x_callSR X d_Mod_isBefore_43 c_Mod_48 (ct_Mod_has (by omega) (by omega)) rfl rfl (Nat.le_of_ble_eq_true rfl) ⟨Nat.le_of_ble_eq_true rfl, Nat.le_of_ble_eq_true rfl⟩ ⟨rfl, rfl⟩ ⟨Nat.le_of_ble_eq_true rfl, Nat.le_of_ble_eq_true rfl⟩ (fun r_43 h_43 => ?_)
      obtain rfl := h_43
      refine x_icmp_ne 55 X d_Mod_isBefore_46 (by decide) (fun c_46 => ?_) (fun c_46 => ?_)
      · have hne : v < 7 → a.testBit v ≠ c.testBit v := fun _ z => c_46 (by rw [z])
        refine x_iload_n X d_Mod_isBefore_55 rfl ?_
        refine x_bipush X d_Mod_isBefore_56 k_bp_7 ?_
        refine x_icmp_geN 73 X d_Mod_isBefore_58 (by decide) (by omega) (by omega) (fun c_58 => ?_) (fun c_58 => ?_)
        · refine x_iconst X d_Mod_isBefore_73 k_ic_0 ?_
          refine x_top (show nI 0 = bI false from rfl) ?_
          exact x_ret X Y d_Mod_isBefore_74 (bI_nar _) (Nat.le_of_ble_eq_true rfl) ⟨_, rfl, rfl, by first | (rw [hb, hall]; done) | omega⟩
        · refine x_iload_n X d_Mod_isBefore_61 rfl ?_
          refine x_iload_n X d_Mod_isBefore_62 rfl ?_
          refine x_callSR X d_Mod_isBefore_63 c_Mod_48 (ct_Mod_has (by omega) (by omega)) rfl rfl (Nat.le_of_ble_eq_true rfl) ⟨Nat.le_of_ble_eq_true rfl, Nat.le_of_ble_eq_true rfl⟩ ⟨rfl, rfl⟩ ⟨Nat.le_of_ble_eq_true rfl, Nat.le_of_ble_eq_true rfl⟩ (fun r_63 h_63 => ?_)
          obtain rfl := h_63
          refine x_if_eqB 73 X d_Mod_isBefore_66 (by decide) (fun c_66 => ?_) (fun c_66 => ?_)
          · have hall : fdf a c = false := by
              have hc1 : c.testBit v = true := by
                cases q : c.testBit v with
                | true => rfl
                | false => exact absurd (c_66.trans q.symm) (hne (by omega))
              cases q : fdf a c with
              | false => rfl
              | true =>
                obtain ⟨v', g1, g2, g3, g4⟩ := fdf_iff.mp q
                rcases Nat.lt_trichotomy v' v with z | z | z
                · have := hu v' z
                  rw [g2, g3] at this
                  cases this
                · rw [z, c_66] at g2; cases g2
                · exact absurd (g4 v z) (hne (by omega))
            refine x_iconst X d_Mod_isBefore_73 k_ic_0 ?_
            refine x_top (show nI 0 = bI false from rfl) ?_
            exact x_ret X Y d_Mod_isBefore_74 (bI_nar _) (Nat.le_of_ble_eq_true rfl) ⟨_, rfl, rfl, by first | (rw [hb, hall]; done) | omega⟩
          · refine x_iconst X d_Mod_isBefore_69 k_ic_1 ?_
            refine x_goto 74 X d_Mod_isBefore_70 (by decide) ?_
            refine x_top (show nI 1 = bI true from rfl) ?_
            exact x_ret X Y d_Mod_isBefore_74 (bI_nar _) (Nat.le_of_ble_eq_true rfl) ⟨_, rfl, rfl, by
 have hc1 : c.testBit v = false := by
   cases q : c.testBit v with
   | false => rfl
   | true => exact absurd (c_66.trans q.symm) (hne (by omega))
 rw [hb, fdf_iff.mpr ⟨v, by omega, c_66, hc1, hu⟩]⟩
      · refine x_iincN (lv' := [(0, _), (1, _), (2, _)]) X d_Mod_isBefore_49 rfl (by decide) rfl ?_
        refine x_goto 30 X d_Mod_isBefore_52 (by decide) ?_
        exact ih (by omega) (fun u hu2 => by
          by_cases q : u = v
          · rw [q]; exact bI_inj c_46
          · exact hu u (by omega))
  )
  refine x_iload_n X d_Mod_isBefore_0 rfl ?_
  refine x_callSR X d_Mod_isBefore_1 c_Mod_52 (ct_Mod_size (by omega)) rfl rfl (Nat.le_of_ble_eq_true rfl) ⟨Nat.le_of_ble_eq_true rfl, Nat.le_of_ble_eq_true rfl⟩ ⟨rfl, rfl⟩ ⟨Nat.le_of_ble_eq_true rfl, Nat.le_of_ble_eq_true rfl⟩ (fun r_1 h_1 => ?_)
  obtain rfl := h_1
  refine x_iload_n X d_Mod_isBefore_4 rfl ?_
  refine x_callSR X d_Mod_isBefore_5 c_Mod_52 (ct_Mod_size (by omega)) rfl rfl (Nat.le_of_ble_eq_true rfl) ⟨Nat.le_of_ble_eq_true rfl, Nat.le_of_ble_eq_true rfl⟩ ⟨rfl, rfl⟩ ⟨Nat.le_of_ble_eq_true rfl, Nat.le_of_ble_eq_true rfl⟩ (fun r_5 h_5 => ?_)
  obtain rfl := h_5
  refine x_icmp_eqN 28 X d_Mod_isBefore_8 (by decide) (by omega) (by omega) (fun c_8 => ?_) (fun c_8 => ?_)
  · refine x_iconst X d_Mod_isBefore_28 k_ic_0 ?_
    refine x_istore_n (lv' := [(0, _), (1, _), (2, _)]) X d_Mod_isBefore_29 (by decide) rfl ?_
    exact loop c_8 0 (Nat.zero_le _) (fun u hu => by omega)
  · refine x_iload_n X d_Mod_isBefore_11 rfl ?_
    refine x_callSR X d_Mod_isBefore_12 c_Mod_52 (ct_Mod_size (by omega)) rfl rfl (Nat.le_of_ble_eq_true rfl) ⟨Nat.le_of_ble_eq_true rfl, Nat.le_of_ble_eq_true rfl⟩ ⟨rfl, rfl⟩ ⟨Nat.le_of_ble_eq_true rfl, Nat.le_of_ble_eq_true rfl⟩ (fun r_12 h_12 => ?_)
    obtain rfl := h_12
    refine x_iload_n X d_Mod_isBefore_15 rfl ?_
    refine x_callSR X d_Mod_isBefore_16 c_Mod_52 (ct_Mod_size (by omega)) rfl rfl (Nat.le_of_ble_eq_true rfl) ⟨Nat.le_of_ble_eq_true rfl, Nat.le_of_ble_eq_true rfl⟩ ⟨rfl, rfl⟩ ⟨Nat.le_of_ble_eq_true rfl, Nat.le_of_ble_eq_true rfl⟩ (fun r_16 h_16 => ?_)
    obtain rfl := h_16
    refine x_icmp_geN 26 X d_Mod_isBefore_19 (by decide) (by omega) (by omega) (fun c_19 => ?_) (fun c_19 => ?_)
    · refine x_iconst X d_Mod_isBefore_26 k_ic_0 ?_
      refine x_top (show nI 0 = bI false from rfl) ?_
      exact x_ret X Y d_Mod_isBefore_27 (bI_nar _) (Nat.le_of_ble_eq_true rfl) ⟨_, rfl, rfl, by simp only [bfr, if_neg c_8]; rw [decide_eq_false (by omega)]⟩
    · refine x_iconst X d_Mod_isBefore_22 k_ic_1 ?_
      refine x_goto 27 X d_Mod_isBefore_23 (by decide) ?_
      refine x_top (show nI 1 = bI true from rfl) ?_
      exact x_ret X Y d_Mod_isBefore_27 (bI_nar _) (Nat.le_of_ble_eq_true rfl) ⟨_, rfl, rfl, by simp only [bfr, if_neg c_8]; rw [decide_eq_true (by omega)]⟩
set_option maxRecDepth 20000 in
theorem ct_Mod_begin {x : Int32} : xCt b y_Mod_begin b_Mod_begin 2 (some .boolean) q_Mod_begin [.ref (h 0), .int x] (wM b h n A fr to k R ow wy tr hs us nx) (xIn (fun r w => (∃ m, 1 ≤ m ∧ m ≤ 7 ∧ x = nI m ∧ r = bI true ∧ w = wM b h m 0 fr to 0 R ow wy tr hs us nx) ∨ ((¬ ∃ m, 1 ≤ m ∧ m ≤ 7 ∧ x = nI m) ∧ r = bI false ∧ w = wM b h n A fr to k R ow wy tr hs us nx))) := by
  refine x_met (by decide +kernel) rfl (Nat.le_of_ble_eq_true rfl) (fun G X Y => ?_)
  refine x_iload_n X d_Mod_begin_0 rfl ?_
  refine x_iconst X d_Mod_begin_1 k_ic_1 ?_
  refine x_icmp_lt 11 X d_Mod_begin_2 (by decide) (fun c_2 => ?_) (fun c_2 => ?_)
  · refine x_iconst X d_Mod_begin_11 k_ic_0 ?_
    refine x_top (show nI 0 = bI false from rfl) ?_
    exact x_ret X Y d_Mod_begin_12 (bI_nar _) (Nat.le_of_ble_eq_true rfl) ⟨_, rfl, Or.inr ⟨fun ⟨m, m1, m2, e⟩ => by first | exact nI_ge (a := 0) (b := m) (by omega) (by omega) (by rw [e] at c_2; have := (nI_ltI (a := m) (b := 1) (by omega) (by omega)).mp c_2; omega) | exact c_8 (by rw [e]; exact nI_le m2 (by omega)), rfl, rfl⟩⟩
  · refine x_iload_n X d_Mod_begin_5 rfl ?_
    refine x_bipush X d_Mod_begin_6 k_bp_7 ?_
    refine x_icmp_le 13 X d_Mod_begin_8 (by decide) (fun c_8 => ?_) (fun c_8 => ?_)
    · obtain ⟨m, m1, m2, rfl⟩ := rng7 c_2 c_8
      refine x_aload_n X d_Mod_begin_13 rfl ?_
      refine x_iload_n X d_Mod_begin_14 rfl ?_
      refine x_putf (w' := wM b h _ _ _ _ _ _ _ _ _ _ _ _) X d_Mod_begin_15 f_Mod_7 0 rfl rfl rfl (Nat.le_of_ble_eq_true rfl) rfl ?_
      refine x_aload_n X d_Mod_begin_18 rfl ?_
      refine x_iconst X d_Mod_begin_19 k_ic_0 ?_
      refine x_putf (w' := wM b h _ _ _ _ _ _ _ _ _ _ _ _) X d_Mod_begin_20 f_Mod_45 0 rfl rfl rfl (Nat.le_of_ble_eq_true rfl) rfl ?_
      refine x_aload_n X d_Mod_begin_23 rfl ?_
      refine x_iconst X d_Mod_begin_24 k_ic_0 ?_
      refine x_putf (w' := wM b h _ _ _ _ _ _ _ _ _ _ _ _) X d_Mod_begin_25 f_Mod_56 0 rfl rfl rfl (Nat.le_of_ble_eq_true rfl) rfl ?_
      refine x_iconst X d_Mod_begin_28 k_ic_1 ?_
      refine x_top (show nI 1 = bI true from rfl) ?_
      exact x_ret X Y d_Mod_begin_29 (bI_nar _) (Nat.le_of_ble_eq_true rfl) ⟨_, rfl, Or.inl ⟨m, m1, m2, rfl, rfl, rfl⟩⟩
    · refine x_iconst X d_Mod_begin_11 k_ic_0 ?_
      refine x_top (show nI 0 = bI false from rfl) ?_
      exact x_ret X Y d_Mod_begin_12 (bI_nar _) (Nat.le_of_ble_eq_true rfl) ⟨_, rfl, Or.inr ⟨fun ⟨m, m1, m2, e⟩ => by first | exact nI_ge (a := 0) (b := m) (by omega) (by omega) (by rw [e] at c_2; have := (nI_ltI (a := m) (b := 1) (by omega) (by omega)).mp c_2; omega) | exact c_8 (by rw [e]; exact nI_le m2 (by omega)), rfl, rfl⟩⟩
set_option maxRecDepth 20000 in
theorem ct_Mod_arc {x y : Int32} (hN : nOK n A fr to) : xCt b y_Mod_arc b_Mod_arc 3 (some .int) q_Mod_arc [.ref (h 0), .int x, .int y] (wM b h n A fr to k R ow wy tr hs us nx) (xIn (fun r w => (∃ p q, A < 14 ∧ p < n ∧ q < n ∧ p ≠ q ∧ x = nI p ∧ y = nI q ∧ r = nI A ∧ w = wM b h n (A + 1) (va_up fr A p) (va_up to A q) k R ow wy tr hs us nx) ∨ (¬ (A < 14 ∧ xLt n x ∧ xLt n y ∧ x ≠ y) ∧ r = -1 ∧ w = wM b h n A fr to k R ow wy tr hs us nx))) := by
  refine x_met (by decide +kernel) rfl (Nat.le_of_ble_eq_true rfl) (fun G X Y => ?_)
  obtain ⟨n1, n2, n3, n4, n5⟩ := id hN
  refine x_aload_n X d_Mod_arc_0 rfl ?_
  refine x_getf X d_Mod_arc_1 f_Mod_45 0 rfl rfl ?_
  refine x_bipush X d_Mod_arc_4 k_bp_14 ?_
  refine x_icmp_eqN 38 X d_Mod_arc_6 (by decide) (by omega) (by omega) (fun c_6 => ?_) (fun c_6 => ?_)
  · refine x_iconst X d_Mod_arc_38 k_ic_m1 ?_
    exact x_ret X Y d_Mod_arc_39 rfl (Nat.le_of_ble_eq_true rfl) ⟨_, rfl, Or.inr ⟨fun ⟨q1, q2, q3, q4⟩ => by first | omega | exact xLt_f1 c_10 (by omega) q2 | exact xLt_f1 c_14 (by omega) q3 | exact xLt_f2 c_22 (by omega) q2 | exact xLt_f2 c_30 (by omega) q3 | exact q4 c_35, rfl, rfl⟩⟩
  · refine x_iload_n X d_Mod_arc_9 rfl ?_
    refine x_if_lt 38 X d_Mod_arc_10 (by decide) (fun c_10 => ?_) (fun c_10 => ?_)
    · refine x_iconst X d_Mod_arc_38 k_ic_m1 ?_
      exact x_ret X Y d_Mod_arc_39 rfl (Nat.le_of_ble_eq_true rfl) ⟨_, rfl, Or.inr ⟨fun ⟨q1, q2, q3, q4⟩ => by first | omega | exact xLt_f1 c_10 (by omega) q2 | exact xLt_f1 c_14 (by omega) q3 | exact xLt_f2 c_22 (by omega) q2 | exact xLt_f2 c_30 (by omega) q3 | exact q4 c_35, rfl, rfl⟩⟩
    · refine x_iload_n X d_Mod_arc_13 rfl ?_
      refine x_if_lt 38 X d_Mod_arc_14 (by decide) (fun c_14 => ?_) (fun c_14 => ?_)
      · refine x_iconst X d_Mod_arc_38 k_ic_m1 ?_
        exact x_ret X Y d_Mod_arc_39 rfl (Nat.le_of_ble_eq_true rfl) ⟨_, rfl, Or.inr ⟨fun ⟨q1, q2, q3, q4⟩ => by first | omega | exact xLt_f1 c_10 (by omega) q2 | exact xLt_f1 c_14 (by omega) q3 | exact xLt_f2 c_22 (by omega) q2 | exact xLt_f2 c_30 (by omega) q3 | exact q4 c_35, rfl, rfl⟩⟩
      · refine x_iload_n X d_Mod_arc_17 rfl ?_
        refine x_aload_n X d_Mod_arc_18 rfl ?_
        refine x_getf X d_Mod_arc_19 f_Mod_7 0 rfl rfl ?_
        refine x_icmp_ge 38 X d_Mod_arc_22 (by decide) (fun c_22 => ?_) (fun c_22 => ?_)
        · refine x_iconst X d_Mod_arc_38 k_ic_m1 ?_
          exact x_ret X Y d_Mod_arc_39 rfl (Nat.le_of_ble_eq_true rfl) ⟨_, rfl, Or.inr ⟨fun ⟨q1, q2, q3, q4⟩ => by first | omega | exact xLt_f1 c_10 (by omega) q2 | exact xLt_f1 c_14 (by omega) q3 | exact xLt_f2 c_22 (by omega) q2 | exact xLt_f2 c_30 (by omega) q3 | exact q4 c_35, rfl, rfl⟩⟩
        · refine x_iload_n X d_Mod_arc_25 rfl ?_
          refine x_aload_n X d_Mod_arc_26 rfl ?_
          refine x_getf X d_Mod_arc_27 f_Mod_7 0 rfl rfl ?_
          refine x_icmp_ge 38 X d_Mod_arc_30 (by decide) (fun c_30 => ?_) (fun c_30 => ?_)
          · refine x_iconst X d_Mod_arc_38 k_ic_m1 ?_
            exact x_ret X Y d_Mod_arc_39 rfl (Nat.le_of_ble_eq_true rfl) ⟨_, rfl, Or.inr ⟨fun ⟨q1, q2, q3, q4⟩ => by first | omega | exact xLt_f1 c_10 (by omega) q2 | exact xLt_f1 c_14 (by omega) q3 | exact xLt_f2 c_22 (by omega) q2 | exact xLt_f2 c_30 (by omega) q3 | exact q4 c_35, rfl, rfl⟩⟩
          · refine x_iload_n X d_Mod_arc_33 rfl ?_
            refine x_iload_n X d_Mod_arc_34 rfl ?_
            refine x_icmp_ne 40 X d_Mod_arc_35 (by decide) (fun c_35 => ?_) (fun c_35 => ?_)
            · obtain ⟨p, p1, rfl⟩ := xLt_t c_10 c_22 (by omega)
              obtain ⟨q, q1, rfl⟩ := xLt_t c_14 c_30 (by omega)
              have hpq : p ≠ q := fun z => c_35 (by rw [z])
              refine x_aload_n X d_Mod_arc_40 rfl ?_
              refine x_getf X d_Mod_arc_41 f_Mod_13 0 rfl rfl ?_
              refine x_aload_n X d_Mod_arc_44 rfl ?_
              refine x_getf X d_Mod_arc_45 f_Mod_45 0 rfl rfl ?_
              refine x_iload_n X d_Mod_arc_48 rfl ?_
              refine x_iast (w' := wM b h _ _ _ _ _ _ _ _ _ _ _ _) X d_Mod_arc_49 1 rfl rfl (by omega) (by decide) (upd_nI _ _ _) rfl ?_
              refine x_aload_n X d_Mod_arc_50 rfl ?_
              refine x_getf X d_Mod_arc_51 f_Mod_17 0 rfl rfl ?_
              refine x_aload_n X d_Mod_arc_54 rfl ?_
              refine x_getf X d_Mod_arc_55 f_Mod_45 0 rfl rfl ?_
              refine x_iload_n X d_Mod_arc_58 rfl ?_
              refine x_iast (w' := wM b h _ _ _ _ _ _ _ _ _ _ _ _) X d_Mod_arc_59 2 rfl rfl (by omega) (by decide) (upd_nI _ _ _) rfl ?_
              refine x_aload_n X d_Mod_arc_60 rfl ?_
              refine x_dup X d_Mod_arc_61 rfl ?_
              refine x_getf X d_Mod_arc_62 f_Mod_45 0 rfl rfl ?_
              refine x_iconst X d_Mod_arc_65 k_ic_1 ?_
              refine x_iaddN X d_Mod_arc_66 ?_
              refine x_putf (w' := wM b h _ _ _ _ _ _ _ _ _ _ _ _) X d_Mod_arc_67 f_Mod_45 0 rfl rfl rfl (Nat.le_of_ble_eq_true rfl) rfl ?_
              refine x_aload_n X d_Mod_arc_70 rfl ?_
              refine x_getf X d_Mod_arc_71 f_Mod_45 0 rfl rfl ?_
              refine x_iconst X d_Mod_arc_74 k_ic_1 ?_
              refine x_isubN X d_Mod_arc_75 (by omega) ?_
              exact x_ret X Y d_Mod_arc_76 rfl (Nat.le_of_ble_eq_true rfl) ⟨_, rfl, Or.inl ⟨p, q, by omega, p1, q1, hpq, rfl, rfl, rfl, rfl⟩⟩
            · refine x_iconst X d_Mod_arc_38 k_ic_m1 ?_
              exact x_ret X Y d_Mod_arc_39 rfl (Nat.le_of_ble_eq_true rfl) ⟨_, rfl, Or.inr ⟨fun ⟨q1, q2, q3, q4⟩ => by first | omega | exact xLt_f1 c_10 (by omega) q2 | exact xLt_f1 c_14 (by omega) q3 | exact xLt_f2 c_22 (by omega) q2 | exact xLt_f2 c_30 (by omega) q3 | exact q4 c_35, rfl, rfl⟩⟩
set_option maxRecDepth 20000 in
theorem ct_Mod_remove {e : Nat} (he : e < A) (hA : A ≤ 14) : xCt b y_Mod_remove b_Mod_remove 3 none q_Mod_remove [.ref (h 0), .int (nI e)] (wM b h n A fr to k R ow wy tr hs us nx) (xVd (fun w => w = wM b h n (A - 1) (shf fr e A) (shf to e A) k R ow wy tr hs us nx)) := by
  refine x_met (by decide +kernel) rfl (Nat.le_of_ble_eq_true rfl) (fun G X Y => ?_)
  have loop := loopU (P := fun i => e ≤ i → xW b G 0 0 (wM b h n (A - 1) (shf fr e (i + 1)) (shf to e (i + 1)) k R ow wy tr hs us nx) 12 [(0, .ref (h 0)), (1, .int (nI e)), (2, .int (nI i))] []) (A - 1) (fun i hi ih hei => by
    refine x_iload_n X d_Mod_remove_12 rfl ?_
    refine x_aload_n X d_Mod_remove_13 rfl ?_
    refine x_getf X d_Mod_remove_14 f_Mod_45 0 rfl rfl ?_
    refine x_icmp_geN 54 X d_Mod_remove_17 (by decide) (by omega) (by omega) (fun c_17 => ?_) (fun c_17 => ?_)
    · have hiA : i + 1 = A := by omega
      exact x_vret X Y d_Mod_remove_54 (Nat.le_of_ble_eq_true rfl) ⟨rfl, by rw [hiA]⟩
    · refine x_aload_n X d_Mod_remove_20 rfl ?_
      refine x_getf X d_Mod_remove_21 f_Mod_13 0 rfl rfl ?_
      refine x_iload_n X d_Mod_remove_24 rfl ?_
      refine x_aload_n X d_Mod_remove_25 rfl ?_
      refine x_getf X d_Mod_remove_26 f_Mod_13 0 rfl rfl ?_
      refine x_iload_n X d_Mod_remove_29 rfl ?_
      refine x_iconst X d_Mod_remove_30 k_ic_1 ?_
      refine x_iaddN X d_Mod_remove_31 ?_
      refine x_iald X d_Mod_remove_32 1 rfl rfl (by omega) (by decide) ?_
      refine x_iast (w' := wM b h _ _ _ _ _ _ _ _ _ _ _ _) X d_Mod_remove_33 1 rfl rfl (by omega) (by decide) (upd_nI _ _ _) rfl ?_
      refine x_aload_n X d_Mod_remove_34 rfl ?_
      refine x_getf X d_Mod_remove_35 f_Mod_17 0 rfl rfl ?_
      refine x_iload_n X d_Mod_remove_38 rfl ?_
      refine x_aload_n X d_Mod_remove_39 rfl ?_
      refine x_getf X d_Mod_remove_40 f_Mod_17 0 rfl rfl ?_
      refine x_iload_n X d_Mod_remove_43 rfl ?_
      refine x_iconst X d_Mod_remove_44 k_ic_1 ?_
      refine x_iaddN X d_Mod_remove_45 ?_
      refine x_iald X d_Mod_remove_46 2 rfl rfl (by omega) (by decide) ?_
      refine x_iast (w' := wM b h _ _ _ _ _ _ _ _ _ _ _ _) X d_Mod_remove_47 2 rfl rfl (by omega) (by decide) (upd_nI _ _ _) rfl ?_
      refine x_iincN (lv' := [(0, _), (1, _), (2, _)]) X d_Mod_remove_48 rfl (by decide) rfl ?_
      refine x_goto 12 X d_Mod_remove_51 (by decide) ?_
      have q := ih (by omega) (by omega)
      rw [← shf_s fr (i := i + 1) (by omega), ← shf_s to (i := i + 1) (by omega)] at q
      exact q
  )
  have q := loop e (by omega) (Nat.le_refl _)
  rw [shf_0, shf_0] at q
  refine x_aload_n X d_Mod_remove_0 rfl ?_
  refine x_dup X d_Mod_remove_1 rfl ?_
  refine x_getf X d_Mod_remove_2 f_Mod_45 0 rfl rfl ?_
  refine x_iconst X d_Mod_remove_5 k_ic_1 ?_
  refine x_isubN X d_Mod_remove_6 (by omega) ?_
  refine x_putf (w' := wM b h _ _ _ _ _ _ _ _ _ _ _ _) X d_Mod_remove_7 f_Mod_45 0 rfl rfl rfl (Nat.le_of_ble_eq_true rfl) rfl ?_
  refine x_iload_n X d_Mod_remove_10 rfl ?_
  refine x_istore_n (lv' := [(0, _), (1, _), (2, _)]) X d_Mod_remove_11 (by decide) rfl ?_
  exact q
set_option maxRecDepth 20000 in
theorem ct_Mod_drop {x : Int32} (hN : nOK n A fr to) : xCt b y_Mod_drop b_Mod_drop 2 (some .boolean) q_Mod_drop [.ref (h 0), .int x] (wM b h n A fr to k R ow wy tr hs us nx) (xIn (fun r w => (∃ e, e < A ∧ x = nI e ∧ r = bI true ∧ w = wM b h n (A - 1) (shf fr e A) (shf to e A) k R ow wy tr hs us nx) ∨ (¬ xLt A x ∧ r = bI false ∧ w = wM b h n A fr to k R ow wy tr hs us nx))) := by
  refine x_met (by decide +kernel) rfl (Nat.le_of_ble_eq_true rfl) (fun G X Y => ?_)
  obtain ⟨n1, n2, n3, n4, n5⟩ := id hN
  refine x_aload_n X d_Mod_drop_0 rfl ?_
  refine x_iload_n X d_Mod_drop_1 rfl ?_
  refine x_callVR X d_Mod_drop_2 c_Mod_59 (ct_Mod_isArc _ (by omega)) [0, 1, 2, 3, 4, 5, 6, 7, 8, 9] rfl rfl rfl rfl rfl (Nat.le_of_ble_eq_true rfl) ⟨Nat.le_of_ble_eq_true rfl, Nat.le_of_ble_eq_true rfl⟩ ⟨rfl, rfl⟩ ⟨Nat.le_of_ble_eq_true rfl, Nat.le_of_ble_eq_true rfl⟩ (fun r_2 h_2 => ?_)
  obtain ⟨c_2, rfl, hc_2⟩ := h_2
  refine x_if_neB 10 X d_Mod_drop_5 (by decide) (fun c_5 => ?_) (fun c_5 => ?_)
  · obtain ⟨e, he, rfl⟩ := hc_2.mp c_5
    refine x_aload_n X d_Mod_drop_10 rfl ?_
    refine x_iload_n X d_Mod_drop_11 rfl ?_
    refine x_callA X d_Mod_drop_12 c_Mod_63 (ct_Mod_remove (by omega) (by omega)) rfl rfl rfl (Nat.le_of_ble_eq_true rfl) ⟨Nat.le_of_ble_eq_true rfl, Nat.le_of_ble_eq_true rfl⟩ ⟨rfl, rfl⟩ ⟨Nat.le_of_ble_eq_true rfl, Nat.le_of_ble_eq_true rfl⟩ (fun v_12 w_12 h_12 => ?_)
    obtain ⟨rfl, rfl⟩ := h_12
    refine ⟨rfl, ?_⟩
    refine x_st (st' := []) rfl ?_
    refine x_iconst X d_Mod_drop_15 k_ic_1 ?_
    refine x_top (show nI 1 = bI true from rfl) ?_
    exact x_ret X Y d_Mod_drop_16 (bI_nar _) (Nat.le_of_ble_eq_true rfl) ⟨_, rfl, Or.inl ⟨e, he, rfl, rfl, rfl⟩⟩
  · refine x_iconst X d_Mod_drop_8 k_ic_0 ?_
    refine x_top (show nI 0 = bI false from rfl) ?_
    exact x_ret X Y d_Mod_drop_9 (bI_nar _) (Nat.le_of_ble_eq_true rfl) ⟨_, rfl, Or.inr ⟨bno hc_2 c_5, rfl, rfl⟩⟩
set_option maxRecDepth 20000 in
theorem ct_Mod_plant {x : Int32} (hn : n ≤ 7) (hk : k ≤ 3) : xCt b y_Mod_plant b_Mod_plant 2 (some .int) q_Mod_plant [.ref (h 0), .int x] (wM b h n A fr to k R ow wy tr hs us nx) (xIn (fun r w => (∃ s, k < 3 ∧ 0 < s ∧ s < 2 ^ n ∧ x = nI s ∧ r = nI k ∧ w = wM b h n A fr to (k + 1) (va_up R k s) ow wy tr hs us nx) ∨ (¬ (k < 3 ∧ xLt (2 ^ n) x ∧ x ≠ 0) ∧ r = -1 ∧ w = wM b h n A fr to k R ow wy tr hs us nx))) := by
  refine x_met (by decide +kernel) rfl (Nat.le_of_ble_eq_true rfl) (fun G X Y => ?_)
  have hp := pow_le hn
  refine x_aload_n X d_Mod_plant_0 rfl ?_
  refine x_getf X d_Mod_plant_1 f_Mod_56 0 rfl rfl ?_
  refine x_iconst X d_Mod_plant_4 k_ic_3 ?_
  refine x_icmp_eqN 20 X d_Mod_plant_5 (by decide) (by omega) (by omega) (fun c_5 => ?_) (fun c_5 => ?_)
  · refine x_iconst X d_Mod_plant_20 k_ic_m1 ?_
    exact x_ret X Y d_Mod_plant_21 rfl (Nat.le_of_ble_eq_true rfl) ⟨_, rfl, Or.inr ⟨fun ⟨q1, q2, q3⟩ => by first | omega | (rw [hc_14.mpr q2] at c_17; cases c_17; done) | exact q3 c_9, rfl, rfl⟩⟩
  · refine x_iload_n X d_Mod_plant_8 rfl ?_
    refine x_if_eq 20 X d_Mod_plant_9 (by decide) (fun c_9 => ?_) (fun c_9 => ?_)
    · refine x_iconst X d_Mod_plant_20 k_ic_m1 ?_
      exact x_ret X Y d_Mod_plant_21 rfl (Nat.le_of_ble_eq_true rfl) ⟨_, rfl, Or.inr ⟨fun ⟨q1, q2, q3⟩ => by first | omega | (rw [hc_14.mpr q2] at c_17; cases c_17; done) | exact q3 c_9, rfl, rfl⟩⟩
    · refine x_aload_n X d_Mod_plant_12 rfl ?_
      refine x_iload_n X d_Mod_plant_13 rfl ?_
      refine x_callVR X d_Mod_plant_14 c_Mod_67 (ct_Mod_isSet _ (by omega)) [0, 1, 2, 3, 4, 5, 6, 7, 8, 9] rfl rfl rfl rfl rfl (Nat.le_of_ble_eq_true rfl) ⟨Nat.le_of_ble_eq_true rfl, Nat.le_of_ble_eq_true rfl⟩ ⟨rfl, rfl⟩ ⟨Nat.le_of_ble_eq_true rfl, Nat.le_of_ble_eq_true rfl⟩ (fun r_14 h_14 => ?_)
      obtain ⟨c_14, rfl, hc_14⟩ := h_14
      refine x_if_neB 22 X d_Mod_plant_17 (by decide) (fun c_17 => ?_) (fun c_17 => ?_)
      · obtain ⟨s, s1, rfl⟩ := hc_14.mp c_17
        have hs0 : 0 < s := Nat.pos_of_ne_zero (fun z => c_9 (by rw [z]; exact nI_0))
        refine x_aload_n X d_Mod_plant_22 rfl ?_
        refine x_getf X d_Mod_plant_23 f_Mod_20 0 rfl rfl ?_
        refine x_aload_n X d_Mod_plant_26 rfl ?_
        refine x_getf X d_Mod_plant_27 f_Mod_56 0 rfl rfl ?_
        refine x_iload_n X d_Mod_plant_30 rfl ?_
        refine x_iast (w' := wM b h _ _ _ _ _ _ _ _ _ _ _ _) X d_Mod_plant_31 3 rfl rfl (by omega) (by decide) (upd_nI _ _ _) rfl ?_
        refine x_aload_n X d_Mod_plant_32 rfl ?_
        refine x_dup X d_Mod_plant_33 rfl ?_
        refine x_getf X d_Mod_plant_34 f_Mod_56 0 rfl rfl ?_
        refine x_iconst X d_Mod_plant_37 k_ic_1 ?_
        refine x_iaddN X d_Mod_plant_38 ?_
        refine x_putf (w' := wM b h _ _ _ _ _ _ _ _ _ _ _ _) X d_Mod_plant_39 f_Mod_56 0 rfl rfl rfl (Nat.le_of_ble_eq_true rfl) rfl ?_
        refine x_aload_n X d_Mod_plant_42 rfl ?_
        refine x_getf X d_Mod_plant_43 f_Mod_56 0 rfl rfl ?_
        refine x_iconst X d_Mod_plant_46 k_ic_1 ?_
        refine x_isubN X d_Mod_plant_47 (by omega) ?_
        exact x_ret X Y d_Mod_plant_48 rfl (Nat.le_of_ble_eq_true rfl) ⟨_, rfl, Or.inl ⟨s, by omega, hs0, s1, rfl, rfl, rfl⟩⟩
      · refine x_iconst X d_Mod_plant_20 k_ic_m1 ?_
        exact x_ret X Y d_Mod_plant_21 rfl (Nat.le_of_ble_eq_true rfl) ⟨_, rfl, Or.inr ⟨fun ⟨q1, q2, q3⟩ => by first | omega | (rw [hc_14.mpr q2] at c_17; cases c_17; done) | exact q3 c_9, rfl, rfl⟩⟩
set_option maxRecDepth 20000 in
theorem ct_Mod_fell (hk : k ≤ 3) : xCt b y_Mod_fell b_Mod_fell 1 (some .int) q_Mod_fell [.ref (h 0)] (wM b h n A fr to k R ow wy tr hs us nx) (xIn (fun r w => (0 < k ∧ r = nI (k - 1) ∧ w = wM b h n A fr to (k - 1) R ow wy tr hs us nx) ∨ (k = 0 ∧ r = -1 ∧ w = wM b h n A fr to k R ow wy tr hs us nx))) := by
  refine x_met (by decide +kernel) rfl (Nat.le_of_ble_eq_true rfl) (fun G X Y => ?_)
  refine x_aload_n X d_Mod_fell_0 rfl ?_
  refine x_getf X d_Mod_fell_1 f_Mod_56 0 rfl rfl ?_
  refine x_if_neN 9 X d_Mod_fell_4 (by decide) (by omega) (fun c_4 => ?_) (fun c_4 => ?_)
  · refine x_aload_n X d_Mod_fell_9 rfl ?_
    refine x_dup X d_Mod_fell_10 rfl ?_
    refine x_getf X d_Mod_fell_11 f_Mod_56 0 rfl rfl ?_
    refine x_iconst X d_Mod_fell_14 k_ic_1 ?_
    refine x_isubN X d_Mod_fell_15 (by omega) ?_
    refine x_putf (w' := wM b h _ _ _ _ _ _ _ _ _ _ _ _) X d_Mod_fell_16 f_Mod_56 0 rfl rfl rfl (Nat.le_of_ble_eq_true rfl) rfl ?_
    refine x_aload_n X d_Mod_fell_19 rfl ?_
    refine x_getf X d_Mod_fell_20 f_Mod_56 0 rfl rfl ?_
    exact x_ret X Y d_Mod_fell_23 rfl (Nat.le_of_ble_eq_true rfl) ⟨_, rfl, Or.inl ⟨by omega, rfl, rfl⟩⟩
  · refine x_iconst X d_Mod_fell_7 k_ic_m1 ?_
    exact x_ret X Y d_Mod_fell_8 rfl (Nat.le_of_ble_eq_true rfl) ⟨_, rfl, Or.inr ⟨c_4, rfl, rfl⟩⟩
set_option maxRecDepth 20000 in
theorem ct_Mod_count {x : Int32} : xCt b y_Mod_count b_Mod_count 2 (some .int) q_Mod_count [.ref (h 0), .int x] (wM b h n A fr to k R ow wy tr hs us nx) (xRd (wM b h n A fr to k R ow wy tr hs us nx) (fun r => r = q_count n A k x)) := by
  refine x_met (by decide +kernel) rfl (Nat.le_of_ble_eq_true rfl) (fun G X Y => ?_)
  refine x_iload_n X d_Mod_count_0 rfl ?_
  refine x_if_ne 11 X d_Mod_count_1 (by decide) (fun c_1 => ?_) (fun c_1 => ?_)
  · refine x_iload_n X d_Mod_count_11 rfl ?_
    refine x_iconst X d_Mod_count_12 k_ic_1 ?_
    refine x_icmp_ne 23 X d_Mod_count_13 (by decide) (fun c_13 => ?_) (fun c_13 => ?_)
    · refine x_iload_n X d_Mod_count_23 rfl ?_
      refine x_iconst X d_Mod_count_24 k_ic_2 ?_
      refine x_icmp_ne 35 X d_Mod_count_25 (by decide) (fun c_25 => ?_) (fun c_25 => ?_)
      · refine x_iconst X d_Mod_count_35 k_ic_m1 ?_
        exact x_ret X Y d_Mod_count_36 rfl (Nat.le_of_ble_eq_true rfl) ⟨_, rfl, rfl, by first | (rw [q_count, if_pos c_1]; done) | (rw [q_count, if_neg c_1, if_pos c_13]; done) | (rw [q_count, if_neg c_1, if_neg c_13, if_pos c_25]; done) | (rw [q_count, if_neg c_1, if_neg c_13, if_neg c_25]; done)⟩
      · refine x_aload_n X d_Mod_count_28 rfl ?_
        refine x_getf X d_Mod_count_29 f_Mod_56 0 rfl rfl ?_
        refine x_goto 36 X d_Mod_count_32 (by decide) ?_
        exact x_ret X Y d_Mod_count_36 rfl (Nat.le_of_ble_eq_true rfl) ⟨_, rfl, rfl, by first | (rw [q_count, if_pos c_1]; done) | (rw [q_count, if_neg c_1, if_pos c_13]; done) | (rw [q_count, if_neg c_1, if_neg c_13, if_pos c_25]; done) | (rw [q_count, if_neg c_1, if_neg c_13, if_neg c_25]; done)⟩
    · refine x_aload_n X d_Mod_count_16 rfl ?_
      refine x_getf X d_Mod_count_17 f_Mod_45 0 rfl rfl ?_
      refine x_goto 36 X d_Mod_count_20 (by decide) ?_
      exact x_ret X Y d_Mod_count_36 rfl (Nat.le_of_ble_eq_true rfl) ⟨_, rfl, rfl, by first | (rw [q_count, if_pos c_1]; done) | (rw [q_count, if_neg c_1, if_pos c_13]; done) | (rw [q_count, if_neg c_1, if_neg c_13, if_pos c_25]; done) | (rw [q_count, if_neg c_1, if_neg c_13, if_neg c_25]; done)⟩
  · refine x_aload_n X d_Mod_count_4 rfl ?_
    refine x_getf X d_Mod_count_5 f_Mod_7 0 rfl rfl ?_
    refine x_goto 36 X d_Mod_count_8 (by decide) ?_
    exact x_ret X Y d_Mod_count_36 rfl (Nat.le_of_ble_eq_true rfl) ⟨_, rfl, rfl, by first | (rw [q_count, if_pos c_1]; done) | (rw [q_count, if_neg c_1, if_pos c_13]; done) | (rw [q_count, if_neg c_1, if_neg c_13, if_pos c_25]; done) | (rw [q_count, if_neg c_1, if_neg c_13, if_neg c_25]; done)⟩
set_option maxRecDepth 20000 in
theorem ct_Mod_end {x y : Int32} (hA : A ≤ 14) : xCt b y_Mod_end b_Mod_end 3 (some .int) q_Mod_end [.ref (h 0), .int x, .int y] (wM b h n A fr to k R ow wy tr hs us nx) (xRd (wM b h n A fr to k R ow wy tr hs us nx) (opt A x (q_end fr to y) (-1))) := by
  refine x_met (by decide +kernel) rfl (Nat.le_of_ble_eq_true rfl) (fun G X Y => ?_)
  refine x_aload_n X d_Mod_end_0 rfl ?_
  refine x_iload_n X d_Mod_end_1 rfl ?_
  refine x_callVR X d_Mod_end_2 c_Mod_59 (ct_Mod_isArc _ (by omega)) [0, 1, 2, 3, 4, 5, 6, 7, 8, 9] rfl rfl rfl rfl rfl (Nat.le_of_ble_eq_true rfl) ⟨Nat.le_of_ble_eq_true rfl, Nat.le_of_ble_eq_true rfl⟩ ⟨rfl, rfl⟩ ⟨Nat.le_of_ble_eq_true rfl, Nat.le_of_ble_eq_true rfl⟩ (fun r_2 h_2 => ?_)
  obtain ⟨c_2, rfl, hc_2⟩ := h_2
  refine x_if_eqB 17 X d_Mod_end_5 (by decide) (fun c_5 => ?_) (fun c_5 => ?_)
  · have fin : opt A x (q_end fr to y) (-1) (-1) := Or.inr ⟨bno hc_2 c_5, rfl⟩
    refine x_iconst X d_Mod_end_17 k_ic_m1 ?_
    refine x_goto 40 X d_Mod_end_18 (by decide) ?_
    exact x_ret X Y d_Mod_end_40 rfl (Nat.le_of_ble_eq_true rfl) ⟨_, rfl, rfl, fin⟩
  · obtain ⟨e, he, rfl⟩ := hc_2.mp c_5
    refine x_iload_n X d_Mod_end_8 rfl ?_
    refine x_if_lt 17 X d_Mod_end_9 (by decide) (fun c_9 => ?_) (fun c_9 => ?_)
    · have fin : opt A (nI e) (q_end fr to y) (-1) (-1) := opt_t he (by rw [q_end, if_neg (neg01 c_9).1, if_neg (neg01 c_9).2])
      refine x_iconst X d_Mod_end_17 k_ic_m1 ?_
      refine x_goto 40 X d_Mod_end_18 (by decide) ?_
      exact x_ret X Y d_Mod_end_40 rfl (Nat.le_of_ble_eq_true rfl) ⟨_, rfl, rfl, fin⟩
    · refine x_iload_n X d_Mod_end_12 rfl ?_
      refine x_iconst X d_Mod_end_13 k_ic_1 ?_
      refine x_icmp_le 21 X d_Mod_end_14 (by decide) (fun c_14 => ?_) (fun c_14 => ?_)
      · refine x_iload_n X d_Mod_end_21 rfl ?_
        refine x_if_ne 34 X d_Mod_end_22 (by decide) (fun c_22 => ?_) (fun c_22 => ?_)
        · have fin : opt A (nI e) (q_end fr to y) (-1) (nI (to e)) := opt_t he (by rw [q_end, if_neg c_22, if_pos (is01 c_9 c_14 c_22)])
          refine x_aload_n X d_Mod_end_34 rfl ?_
          refine x_getf X d_Mod_end_35 f_Mod_17 0 rfl rfl ?_
          refine x_iload_n X d_Mod_end_38 rfl ?_
          refine x_iald X d_Mod_end_39 2 rfl rfl (by omega) (by decide) ?_
          exact x_ret X Y d_Mod_end_40 rfl (Nat.le_of_ble_eq_true rfl) ⟨_, rfl, rfl, fin⟩
        · have fin : opt A (nI e) (q_end fr to y) (-1) (nI (fr e)) := opt_t he (by rw [q_end, if_pos c_22])
          refine x_aload_n X d_Mod_end_25 rfl ?_
          refine x_getf X d_Mod_end_26 f_Mod_13 0 rfl rfl ?_
          refine x_iload_n X d_Mod_end_29 rfl ?_
          refine x_iald X d_Mod_end_30 1 rfl rfl (by omega) (by decide) ?_
          refine x_goto 40 X d_Mod_end_31 (by decide) ?_
          exact x_ret X Y d_Mod_end_40 rfl (Nat.le_of_ble_eq_true rfl) ⟨_, rfl, rfl, fin⟩
      · have fin : opt A (nI e) (q_end fr to y) (-1) (-1) := opt_t he (by rw [q_end, if_neg (big01 c_14).1, if_neg (big01 c_14).2])
        refine x_iconst X d_Mod_end_17 k_ic_m1 ?_
        refine x_goto 40 X d_Mod_end_18 (by decide) ?_
        exact x_ret X Y d_Mod_end_40 rfl (Nat.le_of_ble_eq_true rfl) ⟨_, rfl, rfl, fin⟩
/-- the arcs that are not used -/
def unu (used e : Nat) : Bool := !used.testBit e
set_option maxRecDepth 20000 in
theorem ct_Mod_entryOf {s used : Nat} (hN : nOK n A fr to) (hs1 : s < 128) (hu : used < 2 ^ 14) : xCt b y_Mod_entryOf b_Mod_entryOf 5 (some .int) q_Mod_entryOf [.ref (h 0), .int (nI s), .int (nI used)] (wM b h n A fr to k R ow wy tr hs us nx) (xRd (wM b h n A fr to k R ow wy tr hs us nx) (fun r => r = nI (eB fr to (unu used) A s))) := by
  refine x_met (by decide +kernel) rfl (Nat.le_of_ble_eq_true rfl) (fun G X Y => ?_)
  obtain ⟨n1, n2, n3, n4, n5⟩ := id hN
  have loop := loopU (P := fun e => xW b G 0 0 (wM b h n A fr to k R ow wy tr hs us nx) 5 [(0, .ref (h 0)), (1, .int (nI s)), (2, .int (nI used)), (3, .int (nI (eB fr to (unu used) e s))), (4, .int (nI e))] []) A (fun e he ih => by
    have a1 := n4 e
    refine x_iload X d_Mod_entryOf_5 rfl ?_
    refine x_aload_n X d_Mod_entryOf_7 rfl ?_
    refine x_getf X d_Mod_entryOf_8 f_Mod_45 0 rfl rfl ?_
    refine x_icmp_geN 65 X d_Mod_entryOf_11 (by decide) (by omega) (by omega) (fun c_11 => ?_) (fun c_11 => ?_)
    · obtain rfl : e = A := by omega
      refine x_iload_n X d_Mod_entryOf_65 rfl ?_
      exact x_ret X Y d_Mod_entryOf_66 rfl (Nat.le_of_ble_eq_true rfl) ⟨_, rfl, rfl, rfl⟩
    · refine x_iload_n X d_Mod_entryOf_14 rfl ?_
      refine x_iload X d_Mod_entryOf_15 rfl ?_
      refine x_callSR X d_Mod_entryOf_17 c_Mod_48 (ct_Mod_has (by omega) (by omega)) rfl rfl (Nat.le_of_ble_eq_true rfl) ⟨Nat.le_of_ble_eq_true rfl, Nat.le_of_ble_eq_true rfl⟩ ⟨rfl, rfl⟩ ⟨Nat.le_of_ble_eq_true rfl, Nat.le_of_ble_eq_true rfl⟩ (fun r_17 h_17 => ?_)
      obtain rfl := h_17
      refine x_if_neB 57 X d_Mod_entryOf_20 (by decide) (fun c_20 => ?_) (fun c_20 => ?_)
      · have z : eB fr to (unu used) (e + 1) s = eB fr to (unu used) e s := by simp [eB, cnt, unu, c_20]
        refine x_iload_n X d_Mod_entryOf_57 rfl ?_
        refine x_istore_n (lv' := [(0, _), (1, _), (2, _), (3, _), (4, _)]) X d_Mod_entryOf_58 (by decide) rfl ?_
        refine x_iincN (lv' := [(0, _), (1, _), (2, _), (3, _), (4, _)]) X d_Mod_entryOf_59 rfl (by decide) rfl ?_
        refine x_goto 5 X d_Mod_entryOf_62 (by decide) ?_
        have q := ih (by omega)
        rw [z] at q
        exact q
      · refine x_iload_n X d_Mod_entryOf_23 rfl ?_
        refine x_aload_n X d_Mod_entryOf_24 rfl ?_
        refine x_getf X d_Mod_entryOf_25 f_Mod_17 0 rfl rfl ?_
        refine x_iload X d_Mod_entryOf_28 rfl ?_
        refine x_iald X d_Mod_entryOf_30 2 rfl rfl (by omega) (by decide) ?_
        refine x_callSR X d_Mod_entryOf_31 c_Mod_48 (ct_Mod_has (by omega) (by omega)) rfl rfl (Nat.le_of_ble_eq_true rfl) ⟨Nat.le_of_ble_eq_true rfl, Nat.le_of_ble_eq_true rfl⟩ ⟨rfl, rfl⟩ ⟨Nat.le_of_ble_eq_true rfl, Nat.le_of_ble_eq_true rfl⟩ (fun r_31 h_31 => ?_)
        obtain rfl := h_31
        refine x_if_eqB 57 X d_Mod_entryOf_34 (by decide) (fun c_34 => ?_) (fun c_34 => ?_)
        · have z : eB fr to (unu used) (e + 1) s = eB fr to (unu used) e s := by simp [eB, cnt, crs, c_34]
          refine x_iload_n X d_Mod_entryOf_57 rfl ?_
          refine x_istore_n (lv' := [(0, _), (1, _), (2, _), (3, _), (4, _)]) X d_Mod_entryOf_58 (by decide) rfl ?_
          refine x_iincN (lv' := [(0, _), (1, _), (2, _), (3, _), (4, _)]) X d_Mod_entryOf_59 rfl (by decide) rfl ?_
          refine x_goto 5 X d_Mod_entryOf_62 (by decide) ?_
          have q := ih (by omega)
          rw [z] at q
          exact q
        · refine x_iload_n X d_Mod_entryOf_37 rfl ?_
          refine x_aload_n X d_Mod_entryOf_38 rfl ?_
          refine x_getf X d_Mod_entryOf_39 f_Mod_13 0 rfl rfl ?_
          refine x_iload X d_Mod_entryOf_42 rfl ?_
          refine x_iald X d_Mod_entryOf_44 1 rfl rfl (by omega) (by decide) ?_
          refine x_callSR X d_Mod_entryOf_45 c_Mod_48 (ct_Mod_has (by omega) (by omega)) rfl rfl (Nat.le_of_ble_eq_true rfl) ⟨Nat.le_of_ble_eq_true rfl, Nat.le_of_ble_eq_true rfl⟩ ⟨rfl, rfl⟩ ⟨Nat.le_of_ble_eq_true rfl, Nat.le_of_ble_eq_true rfl⟩ (fun r_45 h_45 => ?_)
          obtain rfl := h_45
          refine x_if_neB 57 X d_Mod_entryOf_48 (by decide) (fun c_48 => ?_) (fun c_48 => ?_)
          · have z : eB fr to (unu used) (e + 1) s = eB fr to (unu used) e s := by simp [eB, cnt, crs, c_48]
            refine x_iload_n X d_Mod_entryOf_57 rfl ?_
            refine x_istore_n (lv' := [(0, _), (1, _), (2, _), (3, _), (4, _)]) X d_Mod_entryOf_58 (by decide) rfl ?_
            refine x_iincN (lv' := [(0, _), (1, _), (2, _), (3, _), (4, _)]) X d_Mod_entryOf_59 rfl (by decide) rfl ?_
            refine x_goto 5 X d_Mod_entryOf_62 (by decide) ?_
            have q := ih (by omega)
            rw [z] at q
            exact q
          · have z : eB fr to (unu used) (e + 1) s = eB fr to (unu used) e s + 1 := by simp [eB, cnt, crs, unu, c_20, c_34, c_48]
            refine x_iload_n X d_Mod_entryOf_51 rfl ?_
            refine x_iconst X d_Mod_entryOf_52 k_ic_1 ?_
            refine x_iaddN X d_Mod_entryOf_53 ?_
            refine x_goto 58 X d_Mod_entryOf_54 (by decide) ?_
            refine x_istore_n (lv' := [(0, _), (1, _), (2, _), (3, _), (4, _)]) X d_Mod_entryOf_58 (by decide) rfl ?_
            refine x_iincN (lv' := [(0, _), (1, _), (2, _), (3, _), (4, _)]) X d_Mod_entryOf_59 rfl (by decide) rfl ?_
            refine x_goto 5 X d_Mod_entryOf_62 (by decide) ?_
            have q := ih (by omega)
            rw [z] at q
            exact q
  )
  refine x_iconst X d_Mod_entryOf_0 k_ic_0 ?_
  refine x_istore_n (lv' := [(0, _), (1, _), (2, _), (3, _)]) X d_Mod_entryOf_1 (by decide) rfl ?_
  refine x_iconst X d_Mod_entryOf_2 k_ic_0 ?_
  refine x_istore (lv' := [(0, _), (1, _), (2, _), (3, _), (4, _)]) X d_Mod_entryOf_3 (by decide) rfl ?_
  exact loop 0 (Nat.zero_le _)
theorem eB_0 {A s : Nat} {fr to : Nat → Nat} : eB fr to (unu 0) A s = eB fr to (fun _ => true) A s := cnt_congr (fun e _ => by simp [unu])
set_option maxRecDepth 20000 in
theorem ct_Mod_entry {x : Int32} (hN : nOK n A fr to) : xCt b y_Mod_entry b_Mod_entry 2 (some .int) q_Mod_entry [.ref (h 0), .int x] (wM b h n A fr to k R ow wy tr hs us nx) (xRd (wM b h n A fr to k R ow wy tr hs us nx) (opt (2 ^ n) x (fun s => nI (eB fr to (fun _ => true) A s)) (-1))) := by
  refine x_met (by decide +kernel) rfl (Nat.le_of_ble_eq_true rfl) (fun G X Y => ?_)
  have n2 := hN.2.1
  have hp := pow_le n2
  refine x_aload_n X d_Mod_entry_0 rfl ?_
  refine x_iload_n X d_Mod_entry_1 rfl ?_
  refine x_callVR X d_Mod_entry_2 c_Mod_67 (ct_Mod_isSet _ (by omega)) [0, 1, 2, 3, 4, 5, 6, 7, 8, 9] rfl rfl rfl rfl rfl (Nat.le_of_ble_eq_true rfl) ⟨Nat.le_of_ble_eq_true rfl, Nat.le_of_ble_eq_true rfl⟩ ⟨rfl, rfl⟩ ⟨Nat.le_of_ble_eq_true rfl, Nat.le_of_ble_eq_true rfl⟩ (fun r_2 h_2 => ?_)
  obtain ⟨c_2, rfl, hc_2⟩ := h_2
  refine x_if_eqB 17 X d_Mod_entry_5 (by decide) (fun c_5 => ?_) (fun c_5 => ?_)
  · have fin : opt (2 ^ n) x (fun s => nI (eB fr to (fun _ => true) A s)) (-1) (-1) := Or.inr ⟨bno hc_2 c_5, rfl⟩
    refine x_iconst X d_Mod_entry_17 k_ic_m1 ?_
    exact x_ret X Y d_Mod_entry_18 rfl (Nat.le_of_ble_eq_true rfl) ⟨_, rfl, rfl, fin⟩
  · obtain ⟨s, s1, rfl⟩ := hc_2.mp c_5
    have fin : opt (2 ^ n) (nI s) (fun s => nI (eB fr to (fun _ => true) A s)) (-1) (nI (eB fr to (unu 0) A s)) := opt_t s1 (by rw [eB_0])
    refine x_aload_n X d_Mod_entry_8 rfl ?_
    refine x_iload_n X d_Mod_entry_9 rfl ?_
    refine x_iconst X d_Mod_entry_10 k_ic_0 ?_
    refine x_callVR X d_Mod_entry_11 c_Mod_70 (ct_Mod_entryOf (by assumption) (by omega) (by omega)) [0, 1, 2, 3, 4, 5, 6, 7, 8, 9] rfl rfl rfl rfl rfl (Nat.le_of_ble_eq_true rfl) ⟨Nat.le_of_ble_eq_true rfl, Nat.le_of_ble_eq_true rfl⟩ ⟨rfl, rfl⟩ ⟨Nat.le_of_ble_eq_true rfl, Nat.le_of_ble_eq_true rfl⟩ (fun r_11 h_11 => ?_)
    obtain rfl := h_11
    refine x_goto 18 X d_Mod_entry_14 (by decide) ?_
    exact x_ret X Y d_Mod_entry_18 rfl (Nat.le_of_ble_eq_true rfl) ⟨_, rfl, rfl, fin⟩
set_option maxRecDepth 20000 in
theorem ct_Mod_missed {x : Int32} (hn : n ≤ 7) (hk : k ≤ 3) : xCt b y_Mod_missed b_Mod_missed 4 (some .int) q_Mod_missed [.ref (h 0), .int x] (wM b h n A fr to k R ow wy tr hs us nx) (xRd (wM b h n A fr to k R ow wy tr hs us nx) (opt (2 ^ n) x (fun s => nI (mB R k s)) (-1))) := by
  refine x_met (by decide +kernel) rfl (Nat.le_of_ble_eq_true rfl) (fun G X Y => ?_)
  have hp := pow_le hn
  refine x_aload_n X d_Mod_missed_0 rfl ?_
  refine x_iload_n X d_Mod_missed_1 rfl ?_
  refine x_callVR X d_Mod_missed_2 c_Mod_67 (ct_Mod_isSet _ (by omega)) [0, 1, 2, 3, 4, 5, 6, 7, 8, 9] rfl rfl rfl rfl rfl (Nat.le_of_ble_eq_true rfl) ⟨Nat.le_of_ble_eq_true rfl, Nat.le_of_ble_eq_true rfl⟩ ⟨rfl, rfl⟩ ⟨Nat.le_of_ble_eq_true rfl, Nat.le_of_ble_eq_true rfl⟩ (fun r_2 h_2 => ?_)
  obtain ⟨c_2, rfl, hc_2⟩ := h_2
  refine x_if_neB 10 X d_Mod_missed_5 (by decide) (fun c_5 => ?_) (fun c_5 => ?_)
  · obtain ⟨s, s1, rfl⟩ := hc_2.mp c_5
    refine x_iconst X d_Mod_missed_10 k_ic_0 ?_
    refine x_istore_n (lv' := [(0, _), (1, _), (2, _)]) X d_Mod_missed_11 (by decide) rfl ?_
    refine x_iconst X d_Mod_missed_12 k_ic_0 ?_
    refine x_istore_n (lv' := [(0, _), (1, _), (2, _), (3, _)]) X d_Mod_missed_13 (by decide) rfl ?_
    have loop := loopU (P := fun i => xW b G 0 0 (wM b h n A fr to k R ow wy tr hs us nx) 14 [(0, .ref (h 0)), (1, .int (nI s)), (2, .int (nI (mB R i s))), (3, .int (nI i))] []) k (fun i hi ih => by
      have hb := Nat.and_le_right (n := R i) (m := s)
      refine x_iload_n X d_Mod_missed_14 rfl ?_
      refine x_aload_n X d_Mod_missed_15 rfl ?_
      refine x_getf X d_Mod_missed_16 f_Mod_56 0 rfl rfl ?_
      refine x_icmp_geN 47 X d_Mod_missed_19 (by decide) (by omega) (by omega) (fun c_19 => ?_) (fun c_19 => ?_)
      · obtain rfl : i = k := by omega
        refine x_iload_n X d_Mod_missed_47 rfl ?_
        exact x_ret X Y d_Mod_missed_48 rfl (Nat.le_of_ble_eq_true rfl) ⟨_, rfl, rfl, opt_t s1 rfl⟩
      · refine x_aload_n X d_Mod_missed_22 rfl ?_
        refine x_getf X d_Mod_missed_23 f_Mod_20 0 rfl rfl ?_
        refine x_iload_n X d_Mod_missed_26 rfl ?_
        refine x_iald X d_Mod_missed_27 3 rfl rfl (by omega) (by decide) ?_
        refine x_iload_n X d_Mod_missed_28 rfl ?_
        refine x_iandN X d_Mod_missed_29 ?_
        refine x_if_neN 39 X d_Mod_missed_30 (by decide) (by omega) (fun c_30 => ?_) (fun c_30 => ?_)
        · have z : mB R (i + 1) s = mB R i s := by simp [mB, cnt, c_30]
          refine x_iload_n X d_Mod_missed_39 rfl ?_
          refine x_istore_n (lv' := [(0, _), (1, _), (2, _), (3, _)]) X d_Mod_missed_40 (by decide) rfl ?_
          refine x_iincN (lv' := [(0, _), (1, _), (2, _), (3, _)]) X d_Mod_missed_41 rfl (by decide) rfl ?_
          refine x_goto 14 X d_Mod_missed_44 (by decide) ?_
          have q := ih (by omega)
          rw [z] at q
          exact q
        · have z : mB R (i + 1) s = mB R i s + 1 := by simp [mB, cnt, c_30]
          refine x_iload_n X d_Mod_missed_33 rfl ?_
          refine x_iconst X d_Mod_missed_34 k_ic_1 ?_
          refine x_iaddN X d_Mod_missed_35 ?_
          refine x_goto 40 X d_Mod_missed_36 (by decide) ?_
          refine x_istore_n (lv' := [(0, _), (1, _), (2, _), (3, _)]) X d_Mod_missed_40 (by decide) rfl ?_
          refine x_iincN (lv' := [(0, _), (1, _), (2, _), (3, _)]) X d_Mod_missed_41 rfl (by decide) rfl ?_
          refine x_goto 14 X d_Mod_missed_44 (by decide) ?_
          have q := ih (by omega)
          rw [z] at q
          exact q
    )
    exact loop 0 (Nat.zero_le _)
  · refine x_iconst X d_Mod_missed_8 k_ic_m1 ?_
    exact x_ret X Y d_Mod_missed_9 rfl (Nat.le_of_ble_eq_true rfl) ⟨_, rfl, rfl, Or.inr ⟨bno hc_2 c_5, rfl⟩⟩
set_option maxRecDepth 20000 in
set_option maxHeartbeats 1000000 in
theorem ct_Mod_stopper (hS : sOK n A fr to k R) : xCt b y_Mod_stopper b_Mod_stopper 3 (some .int) q_Mod_stopper [.ref (h 0)] (wM b h n A fr to k R ow wy tr hs us nx) (xRd (wM b h n A fr to k R ow wy tr hs us nx) (fun r => r = nI (sto n A fr to k R))) := by
  refine x_met (by decide +kernel) rfl (Nat.le_of_ble_eq_true rfl) (fun G X Y => ?_)
  obtain ⟨hN, hk, hR1, hR2⟩ := id hS
  obtain ⟨n1, n2, n3, n4, n5⟩ := id hN
  have hp := pow_le n2
  have loop : ∀ j, j ≤ 2 ^ n - 1 → xW b G 0 0 (wM b h n A fr to k R ow wy tr hs us nx) 4 [(0, .ref (h 0)), (1, .int (nI (stF (bads n A fr to k R) j))), (2, .int (nI (j + 1)))] [] := loopU (2 ^ n - 1) (fun j hj ih => by
    have hle := stF_le (bads n A fr to k R) j
    have he1 := cnt_le (P := fun e => true && crs (fun v => (j + 1).testBit v) (fr e) (to e)) A
    have hm1 := cnt_le (P := fun i => decide (R i &&& (j + 1) = 0)) k
    refine x_iload_n X d_Mod_stopper_4 rfl ?_
    refine x_aload_n X d_Mod_stopper_5 rfl ?_
    refine x_callVR X d_Mod_stopper_6 c_Mod_41 (ct_Mod_all (by omega)) [0, 1, 2, 3, 4, 5, 6, 7, 8, 9] rfl rfl rfl rfl rfl (Nat.le_of_ble_eq_true rfl) ⟨Nat.le_of_ble_eq_true rfl, Nat.le_of_ble_eq_true rfl⟩ ⟨rfl, rfl⟩ ⟨Nat.le_of_ble_eq_true rfl, Nat.le_of_ble_eq_true rfl⟩ (fun r_6 h_6 => ?_)
    obtain rfl := h_6
    refine x_icmp_gtN 45 X d_Mod_stopper_9 (by decide) (by omega) (by omega) (fun c_9 => ?_) (fun c_9 => ?_)
    · obtain rfl : j = 2 ^ n - 1 := by omega
      refine x_iload_n X d_Mod_stopper_45 rfl ?_
      exact x_ret X Y d_Mod_stopper_46 rfl (Nat.le_of_ble_eq_true rfl) ⟨_, rfl, rfl, rfl⟩
    · refine x_aload_n X d_Mod_stopper_12 rfl ?_
      refine x_iload_n X d_Mod_stopper_13 rfl ?_
      refine x_callVR X d_Mod_stopper_14 c_Mod_74 (ct_Mod_entry (by assumption)) [0, 1, 2, 3, 4, 5, 6, 7, 8, 9] rfl rfl rfl rfl rfl (Nat.le_of_ble_eq_true rfl) ⟨Nat.le_of_ble_eq_true rfl, Nat.le_of_ble_eq_true rfl⟩ ⟨rfl, rfl⟩ ⟨Nat.le_of_ble_eq_true rfl, Nat.le_of_ble_eq_true rfl⟩ (fun r_14 h_14 => ?_)
      obtain rfl := opt_u (by omega) h_14 (opt_t (j := _) (by omega) rfl)
      refine x_aload_n X d_Mod_stopper_17 rfl ?_
      refine x_iload_n X d_Mod_stopper_18 rfl ?_
      refine x_callVR X d_Mod_stopper_19 c_Mod_77 (ct_Mod_missed (by omega) (by omega)) [0, 1, 2, 3, 4, 5, 6, 7, 8, 9] rfl rfl rfl rfl rfl (Nat.le_of_ble_eq_true rfl) ⟨Nat.le_of_ble_eq_true rfl, Nat.le_of_ble_eq_true rfl⟩ ⟨rfl, rfl⟩ ⟨Nat.le_of_ble_eq_true rfl, Nat.le_of_ble_eq_true rfl⟩ (fun r_19 h_19 => ?_)
      obtain rfl := opt_u (by omega) h_19 (opt_t (j := _) (by omega) rfl)
      refine x_icmp_geN 39 X d_Mod_stopper_22 (by decide) (by simp only [eB]; omega) (by simp only [mB]; omega) (fun c_22 => ?_) (fun c_22 => ?_)
      · have z : stF (bads n A fr to k R) (j + 1) = stF (bads n A fr to k R) j := by
          have : bads n A fr to k R (j + 1) = false := decide_eq_false (Nat.not_lt.mpr c_22)
          simp only [stF, this, Bool.false_and]
          rfl
        refine x_iincN (lv' := [(0, _), (1, _), (2, _)]) X d_Mod_stopper_39 rfl (by decide) rfl ?_
        refine x_goto 4 X d_Mod_stopper_42 (by decide) ?_
        have q := ih (by omega)
        rw [z] at q
        exact q
      · have hb : bads n A fr to k R (j + 1) = true := decide_eq_true c_22
        refine x_iload_n X d_Mod_stopper_25 rfl ?_
        refine x_if_eqN 37 X d_Mod_stopper_26 (by decide) (by omega) (fun c_26 => ?_) (fun c_26 => ?_)
        · have z : stF (bads n A fr to k R) (j + 1) = j + 1 := by simp [stF, hb, c_26]
          refine x_iload_n X d_Mod_stopper_37 rfl ?_
          refine x_istore_n (lv' := [(0, _), (1, _), (2, _)]) X d_Mod_stopper_38 (by decide) rfl ?_
          refine x_iincN (lv' := [(0, _), (1, _), (2, _)]) X d_Mod_stopper_39 rfl (by decide) rfl ?_
          refine x_goto 4 X d_Mod_stopper_42 (by decide) ?_
          have q := ih (by omega)
          rw [z] at q
          exact q
        · refine x_iload_n X d_Mod_stopper_29 rfl ?_
          refine x_iload_n X d_Mod_stopper_30 rfl ?_
          refine x_callSR X d_Mod_stopper_31 c_Mod_80 (ct_Mod_isBefore (by omega) (by omega)) rfl rfl (Nat.le_of_ble_eq_true rfl) ⟨Nat.le_of_ble_eq_true rfl, Nat.le_of_ble_eq_true rfl⟩ ⟨rfl, rfl⟩ ⟨Nat.le_of_ble_eq_true rfl, Nat.le_of_ble_eq_true rfl⟩ (fun r_31 h_31 => ?_)
          obtain rfl := h_31
          refine x_if_eqB 39 X d_Mod_stopper_34 (by decide) (fun c_34 => ?_) (fun c_34 => ?_)
          · have z : stF (bads n A fr to k R) (j + 1) = stF (bads n A fr to k R) j := by simp [stF, hb, c_26, c_34]
            refine x_iincN (lv' := [(0, _), (1, _), (2, _)]) X d_Mod_stopper_39 rfl (by decide) rfl ?_
            refine x_goto 4 X d_Mod_stopper_42 (by decide) ?_
            have q := ih (by omega)
            rw [z] at q
            exact q
          · have z : stF (bads n A fr to k R) (j + 1) = j + 1 := by simp [stF, hb, c_34]
            refine x_iload_n X d_Mod_stopper_37 rfl ?_
            refine x_istore_n (lv' := [(0, _), (1, _), (2, _)]) X d_Mod_stopper_38 (by decide) rfl ?_
            refine x_iincN (lv' := [(0, _), (1, _), (2, _)]) X d_Mod_stopper_39 rfl (by decide) rfl ?_
            refine x_goto 4 X d_Mod_stopper_42 (by decide) ?_
            have q := ih (by omega)
            rw [z] at q
            exact q
  )
  refine x_iconst X d_Mod_stopper_0 k_ic_0 ?_
  refine x_istore_n (lv' := [(0, _), (1, _)]) X d_Mod_stopper_1 (by decide) rfl ?_
  refine x_iconst X d_Mod_stopper_2 k_ic_1 ?_
  refine x_istore_n (lv' := [(0, _), (1, _), (2, _)]) X d_Mod_stopper_3 (by decide) rfl ?_
  exact loop 0 (Nat.zero_le _)
theorem mo_all {n A : Nat} {fr to : Nat → Nat} {s r : Nat} (hA : ∀ e, e < A → fr e < n ∧ to e < n) (h1 : r ≤ 99) (h2 : ∀ o, 0 < o → o < 2 ^ n → o &&& s = 0 → r ≤ eB fr to (fun _ => true) A o) (h3 : r < 99 → ∃ o, 0 < o ∧ o < 2 ^ n ∧ o &&& s = 0 ∧ eB fr to (fun _ => true) A o ≤ r) : mo n A fr to s n r := by
  refine ⟨h1, fun X hX ⟨v, hv1, hv2⟩ => ?_, fun hr => ?_⟩
  · have h0 : 0 < mkS X n := Nat.pos_of_ne_zero (fun q => by
      have := mkS_bit X v n
      rw [q, Nat.zero_testBit] at this
      simp [hv1, hv2] at this)
    have e2 : eB fr to (fun _ => true) A (mkS X n) = ent fr to (fun _ => true) A X := cnt_congr (fun e he => by
      simp only [crs, mkS_bit, (hA e he).1, (hA e he).2, decide_true, Bool.true_and])
    rw [← e2]
    refine h2 _ h0 (mkS_lt X n) ?_
    apply Nat.eq_of_testBit_eq
    intro u
    rw [Nat.testBit_and, mkS_bit, Nat.zero_testBit]
    by_cases hu : u < n
    · cases hb : s.testBit u with
      | false => simp
      | true => simp [hX u hu hb]
    · simp [hu]
  · obtain ⟨o, o1, o2, o3, o4⟩ := h3 hr
    refine ⟨fun v => o.testBit v, fun u hu hb => ?_, pos_bit o1 o2, o4⟩
    have := congrArg (fun x => x.testBit u) o3
    simp [hb] at this
    exact this
set_option maxRecDepth 20000 in
set_option maxHeartbeats 1000000 in
theorem ct_Mod_most {x : Int32} (hN : nOK n A fr to) : xCt b y_Mod_most b_Mod_most 5 (some .int) q_Mod_most [.ref (h 0), .int x] (wM b h n A fr to k R ow wy tr hs us nx) (xRd (wM b h n A fr to k R ow wy tr hs us nx) (q_most n A fr to x)) := by
  refine x_met (by decide +kernel) rfl (Nat.le_of_ble_eq_true rfl) (fun G X Y => ?_)
  obtain ⟨n1, n2, n3, n4, n5⟩ := id hN
  have hp := pow_le n2
  refine x_iload_n X d_Mod_most_0 rfl ?_
  refine x_if_eq 12 X d_Mod_most_1 (by decide) (fun c_1 => ?_) (fun c_1 => ?_)
  · have fin : q_most n A fr to x (-1) := Or.inr ⟨fun q => q.2 c_1, rfl⟩
    refine x_iconst X d_Mod_most_12 k_ic_m1 ?_
    exact x_ret X Y d_Mod_most_13 rfl (Nat.le_of_ble_eq_true rfl) ⟨_, rfl, rfl, fin⟩
  · refine x_aload_n X d_Mod_most_4 rfl ?_
    refine x_iload_n X d_Mod_most_5 rfl ?_
    refine x_callVR X d_Mod_most_6 c_Mod_67 (ct_Mod_isSet _ (by omega)) [0, 1, 2, 3, 4, 5, 6, 7, 8, 9] rfl rfl rfl rfl rfl (Nat.le_of_ble_eq_true rfl) ⟨Nat.le_of_ble_eq_true rfl, Nat.le_of_ble_eq_true rfl⟩ ⟨rfl, rfl⟩ ⟨Nat.le_of_ble_eq_true rfl, Nat.le_of_ble_eq_true rfl⟩ (fun r_6 h_6 => ?_)
    obtain ⟨c_6, rfl, hc_6⟩ := h_6
    refine x_if_neB 14 X d_Mod_most_9 (by decide) (fun c_9 => ?_) (fun c_9 => ?_)
    · obtain ⟨s, s1, rfl⟩ := hc_6.mp c_9
      have s0 : 0 < s := Nat.pos_of_ne_zero (fun z => c_1 (by rw [z]; exact nI_0))
      refine x_bipush X d_Mod_most_14 k_bp_99 ?_
      refine x_istore_n (lv' := [(0, _), (1, _), (2, _)]) X d_Mod_most_16 (by decide) rfl ?_
      refine x_iconst X d_Mod_most_17 k_ic_1 ?_
      refine x_istore_n (lv' := [(0, _), (1, _), (2, _), (3, _)]) X d_Mod_most_18 (by decide) rfl ?_
      have loop : ∀ j, j ≤ 2 ^ n - 1 → ∀ r, r ≤ 99 → (∀ o, 0 < o → o ≤ j → o &&& s = 0 → r ≤ eB fr to (fun _ => true) A o) → (r < 99 → ∃ o, 0 < o ∧ o < 2 ^ n ∧ o &&& s = 0 ∧ eB fr to (fun _ => true) A o ≤ r) → xW b G 0 0 (wM b h n A fr to k R ow wy tr hs us nx) 19 [(0, .ref (h 0)), (1, .int (nI s)), (2, .int (nI r)), (3, .int (nI (j + 1)))] [] := loopU (2 ^ n - 1) (fun j hj ih r r1 r2 r3 => by
        have he1 := cnt_le (P := fun e => true && crs (fun v => (j + 1).testBit v) (fr e) (to e)) A
        have he2 : eB fr to (fun _ => true) A (j + 1) ≤ 14 := by simp only [eB]; omega
        have hb := Nat.and_le_right (n := j + 1) (m := s)
        refine x_iload_n X d_Mod_most_19 rfl ?_
        refine x_aload_n X d_Mod_most_20 rfl ?_
        refine x_callVR X d_Mod_most_21 c_Mod_41 (ct_Mod_all (by omega)) [0, 1, 2, 3, 4, 5, 6, 7, 8, 9] rfl rfl rfl rfl rfl (Nat.le_of_ble_eq_true rfl) ⟨Nat.le_of_ble_eq_true rfl, Nat.le_of_ble_eq_true rfl⟩ ⟨rfl, rfl⟩ ⟨Nat.le_of_ble_eq_true rfl, Nat.le_of_ble_eq_true rfl⟩ (fun r_21 h_21 => ?_)
        obtain rfl := h_21
        refine x_icmp_gtN 59 X d_Mod_most_24 (by decide) (by omega) (by omega) (fun c_24 => ?_) (fun c_24 => ?_)
        · obtain rfl : j = 2 ^ n - 1 := by omega
          refine x_iload_n X d_Mod_most_59 rfl ?_
          exact x_ret X Y d_Mod_most_60 rfl (Nat.le_of_ble_eq_true rfl) ⟨_, rfl, rfl, Or.inl ⟨s, r, s0, s1, rfl, mo_all n5 r1 (fun o o1 o2 o3 => r2 o o1 (by omega) o3) r3, rfl⟩⟩
        · refine x_aload_n X d_Mod_most_27 rfl ?_
          refine x_iload_n X d_Mod_most_28 rfl ?_
          refine x_callVR X d_Mod_most_29 c_Mod_74 (ct_Mod_entry (by assumption)) [0, 1, 2, 3, 4, 5, 6, 7, 8, 9] rfl rfl rfl rfl rfl (Nat.le_of_ble_eq_true rfl) ⟨Nat.le_of_ble_eq_true rfl, Nat.le_of_ble_eq_true rfl⟩ ⟨rfl, rfl⟩ ⟨Nat.le_of_ble_eq_true rfl, Nat.le_of_ble_eq_true rfl⟩ (fun r_29 h_29 => ?_)
          obtain rfl := opt_u (by omega) h_29 (opt_t (j := _) (by omega) rfl)
          refine x_istore (lv' := [(0, _), (1, _), (2, _), (3, _), (4, _)]) X d_Mod_most_32 (by decide) rfl ?_
          refine x_iload_n X d_Mod_most_34 rfl ?_
          refine x_iload_n X d_Mod_most_35 rfl ?_
          refine x_iandN X d_Mod_most_36 ?_
          refine x_if_neN 51 X d_Mod_most_37 (by decide) (by omega) (fun c_37 => ?_) (fun c_37 => ?_)
          · have q2 : ∀ o, 0 < o → o ≤ j + 1 → o &&& s = 0 → r ≤ eB fr to (fun _ => true) A o := fun o o1 o2 o3 => by
              by_cases z : o = j + 1
              · rw [z] at o3; exact absurd o3 c_37
              · exact r2 o o1 (by omega) o3
            have q1 := r1
            have q3 := r3
            refine x_iload_n X d_Mod_most_51 rfl ?_
            refine x_istore_n (lv' := [(0, _), (1, _), (2, _), (3, _), (4, _)]) X d_Mod_most_52 (by decide) rfl ?_
            refine x_iincN (lv' := [(0, _), (1, _), (2, _), (3, _), (4, _)]) X d_Mod_most_53 rfl (by decide) rfl ?_
            refine x_goto 19 X d_Mod_most_56 (by decide) ?_
            refine x_lv [0, 1, 2, 3] rfl ?_
            exact ih (by omega) _ q1 q2 q3
          · refine x_iload X d_Mod_most_40 rfl ?_
            refine x_iload_n X d_Mod_most_42 rfl ?_
            refine x_icmp_geN 51 X d_Mod_most_43 (by decide) (by omega) (by omega) (fun c_43 => ?_) (fun c_43 => ?_)
            · have q2 : ∀ o, 0 < o → o ≤ j + 1 → o &&& s = 0 → r ≤ eB fr to (fun _ => true) A o := fun o o1 o2 o3 => by
                by_cases z : o = j + 1
                · rw [z]; exact c_43
                · exact r2 o o1 (by omega) o3
              have q1 := r1
              have q3 := r3
              refine x_iload_n X d_Mod_most_51 rfl ?_
              refine x_istore_n (lv' := [(0, _), (1, _), (2, _), (3, _), (4, _)]) X d_Mod_most_52 (by decide) rfl ?_
              refine x_iincN (lv' := [(0, _), (1, _), (2, _), (3, _), (4, _)]) X d_Mod_most_53 rfl (by decide) rfl ?_
              refine x_goto 19 X d_Mod_most_56 (by decide) ?_
              refine x_lv [0, 1, 2, 3] rfl ?_
              exact ih (by omega) _ q1 q2 q3
            · have q2 : ∀ o, 0 < o → o ≤ j + 1 → o &&& s = 0 → eB fr to (fun _ => true) A (j + 1) ≤ eB fr to (fun _ => true) A o := fun o o1 o2 o3 => by
                by_cases z : o = j + 1
                · rw [z]; exact Nat.le_refl _
                · have := r2 o o1 (by omega) o3; omega
              have q1 : eB fr to (fun _ => true) A (j + 1) ≤ 99 := by omega
              have q3 : eB fr to (fun _ => true) A (j + 1) < 99 → ∃ o, 0 < o ∧ o < 2 ^ n ∧ o &&& s = 0 ∧ eB fr to (fun _ => true) A o ≤ eB fr to (fun _ => true) A (j + 1) := fun _ => ⟨j + 1, by omega, by omega, c_37, Nat.le_refl _⟩
              refine x_iload X d_Mod_most_46 rfl ?_
              refine x_goto 52 X d_Mod_most_48 (by decide) ?_
              refine x_istore_n (lv' := [(0, _), (1, _), (2, _), (3, _), (4, _)]) X d_Mod_most_52 (by decide) rfl ?_
              refine x_iincN (lv' := [(0, _), (1, _), (2, _), (3, _), (4, _)]) X d_Mod_most_53 rfl (by decide) rfl ?_
              refine x_goto 19 X d_Mod_most_56 (by decide) ?_
              refine x_lv [0, 1, 2, 3] rfl ?_
              exact ih (by omega) _ q1 q2 q3
      )
      exact loop 0 (Nat.zero_le _) 99 (Nat.le_refl _) (fun o o1 o2 => by omega) (fun z => by omega)
    · have fin : q_most n A fr to x (-1) := Or.inr ⟨fun q => bno hc_6 c_9 q.1, rfl⟩
      refine x_iconst X d_Mod_most_12 k_ic_m1 ?_
      exact x_ret X Y d_Mod_most_13 rfl (Nat.le_of_ble_eq_true rfl) ⟨_, rfl, rfl, fin⟩
end MOD1
end
section
/-! THE MODEL: isStopped, isDone, grows -/
/-- what the branchings have: those ahead of i all, i had, those behind it their roots -/
def hvf (n : Nat) (R : Nat → Nat) (i had : Nat) : Nat → Nat := fun j => if j < i then 2 ^ n - 1 else if j = i then had else R j
theorem all_and {n s : Nat} (hs : s < 2 ^ n) : (2 ^ n - 1) &&& s = s := by
  rw [Nat.and_comm, Nat.and_two_pow_sub_one_eq_mod, Nat.mod_eq_of_lt hs]
def tl_ (R : Nat → Nat) (i s j : Nat) : Bool := decide (i < j) && decide (R j &&& s = 0)
theorem mB_hvf {n i had s : Nat} {R : Nat → Nat} (h0 : 0 < s) (hs : s < 2 ^ n) : ∀ m, mB (hvf n R i had) m s = (if i < m then (decide (had &&& s = 0)).toNat else 0) + cnt (tl_ R i s) m
  | 0 => by simp [mB, cnt]
  | m + 1 => by
    have ih := mB_hvf (i := i) (had := had) (R := R) h0 hs m
    simp only [mB, cnt] at ih ⊢
    rw [ih]
    rcases Nat.lt_trichotomy m i with q | q | q
    · have e1 : hvf n R i had m = 2 ^ n - 1 := by simp [hvf, q]
      have e2 : tl_ R i s m = false := by simp [tl_]; omega
      rw [e1, all_and hs, e2, if_neg (by omega), if_neg (by omega), decide_eq_false (by omega)]
      omega
    · subst q
      have e1 : hvf n R m had m = had := by simp [hvf]
      have e2 : tl_ R m s m = false := by simp [tl_]
      rw [e1, e2, if_neg (by omega), if_pos (by omega)]
      simp
      omega
    · have e1 : hvf n R i had m = R m := by simp [hvf, show ¬ m < i by omega, show ¬ m = i by omega]
      have e2 : tl_ R i s m = decide (R m &&& s = 0) := by simp [tl_, q]
      rw [e1, e2, if_pos q, if_pos (by omega)]
      omega
theorem tl_0 {R : Nat → Nat} {i s : Nat} : cnt (tl_ R i s) (i + 1) = 0 := cnt_zero (fun j hj => by simp [tl_]; omega)
section MOD2
variable {b : xB} {h : Nat → Nat} {n A : Nat} {fr to : Nat → Nat} {k : Nat} {R : Nat → Nat} {ow wy : Nat → Option Nat} {tr hs us nx : Nat → Nat}
set_option maxRecDepth 20000 in
set_option maxHeartbeats 1000000 in
theorem ct_Mod_isStopped {i had used : Nat} (hN : nOK n A fr to) (hk : k ≤ 3) (hR : ∀ j, R j < 128) (hi : i < k) (hh : had < 128) (hu : used < 2 ^ 14) : xCt b y_Mod_isStopped b_Mod_isStopped 7 (some .boolean) q_Mod_isStopped [.ref (h 0), .int (nI i), .int (nI had), .int (nI used)] (wM b h n A fr to k R ow wy tr hs us nx) (xRd (wM b h n A fr to k R ow wy tr hs us nx) (fun r => ∃ c, r = bI c ∧ (c = true ↔ ¬ cOK n A fr to k (hvf n R i had) (unu used)))) := by
  refine x_met (by decide +kernel) rfl (Nat.le_of_ble_eq_true rfl) (fun G X Y => ?_)
  obtain ⟨n1, n2, n3, n4, n5⟩ := id hN
  have hp := pow_le n2
  have loop : ∀ j, j ≤ 2 ^ n - 1 → (∀ s, 0 < s → s ≤ j → mB (hvf n R i had) k s ≤ eB fr to (unu used) A s) → xW b G 0 0 (wM b h n A fr to k R ow wy tr hs us nx) 3 [(0, .ref (h 0)), (1, .int (nI i)), (2, .int (nI had)), (3, .int (nI used)), (4, .int (nI (j + 1)))] [] := loopU (2 ^ n - 1) (fun j hj ih hle => by
    have hb0 := Nat.and_le_left (n := had) (m := j + 1)
    have inner : j < 2 ^ n - 1 → ∀ (d0 : Nat), d0 = (decide (had &&& (j + 1) = 0)).toNat → ∀ m, m ≤ k → i < m → xW b G 0 0 (wM b h n A fr to k R ow wy tr hs us nx) 31 [(0, .ref (h 0)), (1, .int (nI i)), (2, .int (nI had)), (3, .int (nI used)), (4, .int (nI (j + 1))), (5, .int (nI (d0 + cnt (tl_ R i (j + 1)) m))), (6, .int (nI m))] [] := fun hjn d0 hd0 => loopU k (fun m hm ihm him => by
      have hb := Nat.and_le_left (n := R m) (m := j + 1)
      have hRm := hR m
      have he1 := cnt_le (P := fun e => unu used e && crs (fun v => (j + 1).testBit v) (fr e) (to e)) A
      have hm1 := cnt_le (P := tl_ R i (j + 1)) m
      have hd1 := bIs (decide (had &&& (j + 1) = 0))
      refine x_iload X d_Mod_isStopped_31 rfl ?_
      refine x_aload_n X d_Mod_isStopped_33 rfl ?_
      refine x_getf X d_Mod_isStopped_34 f_Mod_56 0 rfl rfl ?_
      refine x_icmp_geN 70 X d_Mod_isStopped_37 (by decide) (by omega) (by omega) (fun c_37 => ?_) (fun c_37 => ?_)
      · obtain rfl : m = k := by omega
        have hmB := mB_hvf (i := i) (had := had) (R := R) (n := n) (s := j + 1) (by omega) (by omega) m
        rw [if_pos him, ← hd0] at hmB
        refine x_aload_n X d_Mod_isStopped_70 rfl ?_
        refine x_iload X d_Mod_isStopped_71 rfl ?_
        refine x_iload_n X d_Mod_isStopped_73 rfl ?_
        refine x_callVR X d_Mod_isStopped_74 c_Mod_70 (ct_Mod_entryOf (by assumption) (by omega) (by omega)) [0, 1, 2, 3, 4, 5, 6, 7, 8, 9] rfl rfl rfl rfl rfl (Nat.le_of_ble_eq_true rfl) ⟨Nat.le_of_ble_eq_true rfl, Nat.le_of_ble_eq_true rfl⟩ ⟨rfl, rfl⟩ ⟨Nat.le_of_ble_eq_true rfl, Nat.le_of_ble_eq_true rfl⟩ (fun r_74 h_74 => ?_)
        obtain rfl := h_74
        refine x_iload X d_Mod_isStopped_77 rfl ?_
        refine x_icmp_geN 84 X d_Mod_isStopped_79 (by decide) (by simp only [eB]; omega) (by omega) (fun c_79 => ?_) (fun c_79 => ?_)
        · refine x_iincN (lv' := [(0, _), (1, _), (2, _), (3, _), (4, _), (5, _), (6, _)]) X d_Mod_isStopped_84 rfl (by decide) rfl ?_
          refine x_goto 3 X d_Mod_isStopped_87 (by decide) ?_
          refine x_lv [0, 1, 2, 3, 4] rfl ?_
          exact ih hjn (fun s s0 s1 => by
            by_cases q : s = j + 1
            · subst q; omega
            · exact hle s s0 (by omega))
        · refine x_iconst X d_Mod_isStopped_82 k_ic_1 ?_
          refine x_top (show nI 1 = bI true from rfl) ?_
          exact x_ret X Y d_Mod_isStopped_83 (bI_nar _) (Nat.le_of_ble_eq_true rfl) ⟨_, rfl, rfl, true, rfl, ⟨fun _ z => by
  have := (cOK_mask n5).mp z (j + 1) (by omega) (by omega)
  omega, fun _ => rfl⟩⟩
      · refine x_aload_n X d_Mod_isStopped_40 rfl ?_
        refine x_getf X d_Mod_isStopped_41 f_Mod_20 0 rfl rfl ?_
        refine x_iload X d_Mod_isStopped_44 rfl ?_
        refine x_iald X d_Mod_isStopped_46 3 rfl rfl (by omega) (by decide) ?_
        refine x_iload X d_Mod_isStopped_47 rfl ?_
        refine x_iandN X d_Mod_isStopped_49 ?_
        refine x_if_neN 60 X d_Mod_isStopped_50 (by decide) (by omega) (fun c_50 => ?_) (fun c_50 => ?_)
        · have z : cnt (tl_ R i (j + 1)) (m + 1) = cnt (tl_ R i (j + 1)) m := by
            have : tl_ R i (j + 1) m = false := by simp [tl_, c_50]
            simp [cnt, this]
          refine x_iload X d_Mod_isStopped_60 rfl ?_
          refine x_istore (lv' := [(0, _), (1, _), (2, _), (3, _), (4, _), (5, _), (6, _)]) X d_Mod_isStopped_62 (by decide) rfl ?_
          refine x_iincN (lv' := [(0, _), (1, _), (2, _), (3, _), (4, _), (5, _), (6, _)]) X d_Mod_isStopped_64 rfl (by decide) rfl ?_
          refine x_goto 31 X d_Mod_isStopped_67 (by decide) ?_
          have q := ihm (by omega) (by omega)
          rw [z] at q
          exact q
        · have z : cnt (tl_ R i (j + 1)) (m + 1) = cnt (tl_ R i (j + 1)) m + 1 := by
            have : tl_ R i (j + 1) m = true := by simp [tl_, c_50, him]
            simp [cnt, this]
          refine x_iload X d_Mod_isStopped_53 rfl ?_
          refine x_iconst X d_Mod_isStopped_55 k_ic_1 ?_
          refine x_iaddN X d_Mod_isStopped_56 ?_
          refine x_goto 62 X d_Mod_isStopped_57 (by decide) ?_
          refine x_istore (lv' := [(0, _), (1, _), (2, _), (3, _), (4, _), (5, _), (6, _)]) X d_Mod_isStopped_62 (by decide) rfl ?_
          refine x_iincN (lv' := [(0, _), (1, _), (2, _), (3, _), (4, _), (5, _), (6, _)]) X d_Mod_isStopped_64 rfl (by decide) rfl ?_
          refine x_goto 31 X d_Mod_isStopped_67 (by decide) ?_
          have q := ihm (by omega) (by omega)
          rw [z] at q
          exact q
    )
    refine x_iload X d_Mod_isStopped_3 rfl ?_
    refine x_aload_n X d_Mod_isStopped_5 rfl ?_
    refine x_callVR X d_Mod_isStopped_6 c_Mod_41 (ct_Mod_all (by omega)) [0, 1, 2, 3, 4, 5, 6, 7, 8, 9] rfl rfl rfl rfl rfl (Nat.le_of_ble_eq_true rfl) ⟨Nat.le_of_ble_eq_true rfl, Nat.le_of_ble_eq_true rfl⟩ ⟨rfl, rfl⟩ ⟨Nat.le_of_ble_eq_true rfl, Nat.le_of_ble_eq_true rfl⟩ (fun r_6 h_6 => ?_)
    obtain rfl := h_6
    refine x_icmp_gtN 90 X d_Mod_isStopped_9 (by decide) (by omega) (by omega) (fun c_9 => ?_) (fun c_9 => ?_)
    · have hfin : cOK n A fr to k (hvf n R i had) (unu used) := (cOK_mask n5).mpr (fun s s0 s1 => hle s s0 (by omega))
      refine x_iconst X d_Mod_isStopped_90 k_ic_0 ?_
      refine x_top (show nI 0 = bI false from rfl) ?_
      exact x_ret X Y d_Mod_isStopped_91 (bI_nar _) (Nat.le_of_ble_eq_true rfl) ⟨_, rfl, rfl, false, rfl, ⟨fun z => (by cases z), fun z => absurd hfin z⟩⟩
    · refine x_iload_n X d_Mod_isStopped_12 rfl ?_
      refine x_iload X d_Mod_isStopped_13 rfl ?_
      refine x_iandN X d_Mod_isStopped_15 ?_
      refine x_if_neN 23 X d_Mod_isStopped_16 (by decide) (by omega) (fun c_16 => ?_) (fun c_16 => ?_)
      · have q := inner (by omega) 0 (by simp [c_16]) (i + 1) (by omega) (by omega)
        rw [tl_0] at q
        refine x_iconst X d_Mod_isStopped_23 k_ic_0 ?_
        refine x_istore (lv' := [(0, _), (1, _), (2, _), (3, _), (4, _), (5, _)]) X d_Mod_isStopped_24 (by decide) rfl ?_
        refine x_iload_n X d_Mod_isStopped_26 rfl ?_
        refine x_iconst X d_Mod_isStopped_27 k_ic_1 ?_
        refine x_iaddN X d_Mod_isStopped_28 ?_
        refine x_istore (lv' := [(0, _), (1, _), (2, _), (3, _), (4, _), (5, _), (6, _)]) X d_Mod_isStopped_29 (by decide) rfl ?_
        exact q
      · have q := inner (by omega) 1 (by simp [c_16]) (i + 1) (by omega) (by omega)
        rw [tl_0] at q
        refine x_iconst X d_Mod_isStopped_19 k_ic_1 ?_
        refine x_goto 24 X d_Mod_isStopped_20 (by decide) ?_
        refine x_istore (lv' := [(0, _), (1, _), (2, _), (3, _), (4, _), (5, _)]) X d_Mod_isStopped_24 (by decide) rfl ?_
        refine x_iload_n X d_Mod_isStopped_26 rfl ?_
        refine x_iconst X d_Mod_isStopped_27 k_ic_1 ?_
        refine x_iaddN X d_Mod_isStopped_28 ?_
        refine x_istore (lv' := [(0, _), (1, _), (2, _), (3, _), (4, _), (5, _), (6, _)]) X d_Mod_isStopped_29 (by decide) rfl ?_
        exact q
  )
  refine x_iconst X d_Mod_isStopped_0 k_ic_1 ?_
  refine x_istore (lv' := [(0, _), (1, _), (2, _), (3, _), (4, _)]) X d_Mod_isStopped_1 (by decide) rfl ?_
  exact loop 0 (Nat.zero_le _) (fun s s0 s1 => by omega)
set_option maxRecDepth 20000 in
theorem ct_Mod_grows {had used e : Nat} (hN : nOK n A fr to) (hh : had < 128) (hu : used < 2 ^ 14) (he : e < A) : xCt b y_Mod_grows b_Mod_grows 4 (some .boolean) q_Mod_grows [.ref (h 0), .int (nI had), .int (nI used), .int (nI e)] (wM b h n A fr to k R ow wy tr hs us nx) (xRd (wM b h n A fr to k R ow wy tr hs us nx) (fun r => r = bI (unu used e && (had.testBit (fr e) && !had.testBit (to e))))) := by
  refine x_met (by decide +kernel) rfl (Nat.le_of_ble_eq_true rfl) (fun G X Y => ?_)
  obtain ⟨n1, n2, n3, n4, n5⟩ := id hN
  have a1 := n4 e
  refine x_iload_n X d_Mod_grows_0 rfl ?_
  refine x_iload_n X d_Mod_grows_1 rfl ?_
  refine x_callSR X d_Mod_grows_2 c_Mod_48 (ct_Mod_has (by omega) (by omega)) rfl rfl (Nat.le_of_ble_eq_true rfl) ⟨Nat.le_of_ble_eq_true rfl, Nat.le_of_ble_eq_true rfl⟩ ⟨rfl, rfl⟩ ⟨Nat.le_of_ble_eq_true rfl, Nat.le_of_ble_eq_true rfl⟩ (fun r_2 h_2 => ?_)
  obtain rfl := h_2
  refine x_if_neB 38 X d_Mod_grows_5 (by decide) (fun c_5 => ?_) (fun c_5 => ?_)
  · refine x_iconst X d_Mod_grows_38 k_ic_0 ?_
    refine x_top (show nI 0 = bI false from rfl) ?_
    exact x_ret X Y d_Mod_grows_39 (bI_nar _) (Nat.le_of_ble_eq_true rfl) ⟨_, rfl, rfl, by first | (simp [unu, c_5]; done) | (simp [c_18]; done) | (simp [c_31]; done)⟩
  · refine x_iload_n X d_Mod_grows_8 rfl ?_
    refine x_aload_n X d_Mod_grows_9 rfl ?_
    refine x_getf X d_Mod_grows_10 f_Mod_13 0 rfl rfl ?_
    refine x_iload_n X d_Mod_grows_13 rfl ?_
    refine x_iald X d_Mod_grows_14 1 rfl rfl (by omega) (by decide) ?_
    refine x_callSR X d_Mod_grows_15 c_Mod_48 (ct_Mod_has (by omega) (by omega)) rfl rfl (Nat.le_of_ble_eq_true rfl) ⟨Nat.le_of_ble_eq_true rfl, Nat.le_of_ble_eq_true rfl⟩ ⟨rfl, rfl⟩ ⟨Nat.le_of_ble_eq_true rfl, Nat.le_of_ble_eq_true rfl⟩ (fun r_15 h_15 => ?_)
    obtain rfl := h_15
    refine x_if_eqB 38 X d_Mod_grows_18 (by decide) (fun c_18 => ?_) (fun c_18 => ?_)
    · refine x_iconst X d_Mod_grows_38 k_ic_0 ?_
      refine x_top (show nI 0 = bI false from rfl) ?_
      exact x_ret X Y d_Mod_grows_39 (bI_nar _) (Nat.le_of_ble_eq_true rfl) ⟨_, rfl, rfl, by first | (simp [unu, c_5]; done) | (simp [c_18]; done) | (simp [c_31]; done)⟩
    · refine x_iload_n X d_Mod_grows_21 rfl ?_
      refine x_aload_n X d_Mod_grows_22 rfl ?_
      refine x_getf X d_Mod_grows_23 f_Mod_17 0 rfl rfl ?_
      refine x_iload_n X d_Mod_grows_26 rfl ?_
      refine x_iald X d_Mod_grows_27 2 rfl rfl (by omega) (by decide) ?_
      refine x_callSR X d_Mod_grows_28 c_Mod_48 (ct_Mod_has (by omega) (by omega)) rfl rfl (Nat.le_of_ble_eq_true rfl) ⟨Nat.le_of_ble_eq_true rfl, Nat.le_of_ble_eq_true rfl⟩ ⟨rfl, rfl⟩ ⟨Nat.le_of_ble_eq_true rfl, Nat.le_of_ble_eq_true rfl⟩ (fun r_28 h_28 => ?_)
      obtain rfl := h_28
      refine x_if_neB 38 X d_Mod_grows_31 (by decide) (fun c_31 => ?_) (fun c_31 => ?_)
      · refine x_iconst X d_Mod_grows_38 k_ic_0 ?_
        refine x_top (show nI 0 = bI false from rfl) ?_
        exact x_ret X Y d_Mod_grows_39 (bI_nar _) (Nat.le_of_ble_eq_true rfl) ⟨_, rfl, rfl, by first | (simp [unu, c_5]; done) | (simp [c_18]; done) | (simp [c_31]; done)⟩
      · refine x_iconst X d_Mod_grows_34 k_ic_1 ?_
        refine x_goto 39 X d_Mod_grows_35 (by decide) ?_
        refine x_top (show nI 1 = bI true from rfl) ?_
        exact x_ret X Y d_Mod_grows_39 (bI_nar _) (Nat.le_of_ble_eq_true rfl) ⟨_, rfl, rfl, by simp [unu, c_5, c_18, c_31]⟩
/-- what a step of the search writes down -/
def dOK (n A : Nat) (fr to : Nat → Nat) (k : Nat) (R : Nat → Nat) (i had used t now nv : Nat) : Prop := i ≤ t ∧ t ≤ k ∧ now < 128 ∧ (t < k → now < 2 ^ n ∧ now ≠ 2 ^ n - 1) ∧ (∀ j, j < k → hvf n R t now j = hvf n R i had j) ∧ (t < k → (nv = 0 ∧ cOK n A fr to k (hvf n R i had) (unu used)) ∨ (nv = A ∧ ¬ cOK n A fr to k (hvf n R i had) (unu used)))
set_option maxRecDepth 20000 in
set_option maxHeartbeats 1000000 in
theorem ct_Mod_isDone {step i had used : Nat} (hS : sOK n A fr to k R) (hi : i ≤ k) (hh : had < 128) (hh2 : i < k → had < 2 ^ n) (hu : used < 2 ^ 14) (hst : step < 16) : xCt b y_Mod_isDone b_Mod_isDone 7 (some .boolean) q_Mod_isDone [.ref (h 0), .int (nI step), .int (nI i), .int (nI had), .int (nI used)] (wM b h n A fr to k R ow wy tr hs us nx) (xIn (fun r w => ∃ t now nv, r = bI (decide (t = k)) ∧ w = wM b h n A fr to k R ow wy (va_up tr step t) (va_up hs step now) (va_up us step used) (va_up nx step nv) ∧ dOK n A fr to k R i had used t now nv)) := by
  refine x_met (by decide +kernel) rfl (Nat.le_of_ble_eq_true rfl) (fun G X Y => ?_)
  obtain ⟨hN, hk, hR1, hR2⟩ := id hS
  obtain ⟨n1, n2, n3, n4, n5⟩ := id hN
  have hp := pow_le n2
  have loop : ∀ t, t ≤ k → i ≤ t → ∀ now, now < 128 → (t < k → now < 2 ^ n) → (∀ j, j < k → hvf n R t now j = hvf n R i had j) → xW b G 0 0 (wM b h n A fr to k R ow wy tr hs us nx) 6 [(0, .ref (h 0)), (1, .int (nI step)), (2, .int (nI i)), (3, .int (nI had)), (4, .int (nI used)), (5, .int (nI t)), (6, .int (nI now))] [] := loopU k (fun t ht ih hit now hn1 hn2 hag => by
    have hcc : t < k → (cOK n A fr to k (hvf n R t now) (unu used) ↔ cOK n A fr to k (hvf n R i had) (unu used)) := fun _ => cOK_congr hag (fun _ _ => rfl)
    refine x_iload X d_Mod_isDone_6 rfl ?_
    refine x_aload_n X d_Mod_isDone_8 rfl ?_
    refine x_getf X d_Mod_isDone_9 f_Mod_56 0 rfl rfl ?_
    refine x_icmp_geN 52 X d_Mod_isDone_12 (by decide) (by omega) (by omega) (fun c_12 => ?_) (fun c_12 => ?_)
    · have hne : t < k → now ≠ 2 ^ n - 1 := fun z => by omega
      refine x_aload_n X d_Mod_isDone_52 rfl ?_
      refine x_getf X d_Mod_isDone_53 f_Mod_29 0 rfl rfl ?_
      refine x_iload_n X d_Mod_isDone_56 rfl ?_
      refine x_iload X d_Mod_isDone_57 rfl ?_
      refine x_iast (w' := wM b h _ _ _ _ _ _ _ _ _ _ _ _) X d_Mod_isDone_59 6 rfl rfl (by omega) (by decide) (upd_nI _ _ _) rfl ?_
      refine x_aload_n X d_Mod_isDone_60 rfl ?_
      refine x_getf X d_Mod_isDone_61 f_Mod_32 0 rfl rfl ?_
      refine x_iload_n X d_Mod_isDone_64 rfl ?_
      refine x_iload X d_Mod_isDone_65 rfl ?_
      refine x_iast (w' := wM b h _ _ _ _ _ _ _ _ _ _ _ _) X d_Mod_isDone_67 7 rfl rfl (by omega) (by decide) (upd_nI _ _ _) rfl ?_
      refine x_aload_n X d_Mod_isDone_68 rfl ?_
      refine x_getf X d_Mod_isDone_69 f_Mod_35 0 rfl rfl ?_
      refine x_iload_n X d_Mod_isDone_72 rfl ?_
      refine x_iload X d_Mod_isDone_73 rfl ?_
      refine x_iast (w' := wM b h _ _ _ _ _ _ _ _ _ _ _ _) X d_Mod_isDone_75 8 rfl rfl (by omega) (by decide) (upd_nI _ _ _) rfl ?_
      refine x_aload_n X d_Mod_isDone_76 rfl ?_
      refine x_getf X d_Mod_isDone_77 f_Mod_38 0 rfl rfl ?_
      refine x_iload_n X d_Mod_isDone_80 rfl ?_
      refine x_iload X d_Mod_isDone_81 rfl ?_
      refine x_aload_n X d_Mod_isDone_83 rfl ?_
      refine x_getf X d_Mod_isDone_84 f_Mod_56 0 rfl rfl ?_
      refine x_icmp_geN 110 X d_Mod_isDone_87 (by decide) (by omega) (by omega) (fun c_87 => ?_) (fun c_87 => ?_)
      · have hst : t < k → (0 = 0 ∧ cOK n A fr to k (hvf n R i had) (unu used)) ∨ (0 = A ∧ ¬ cOK n A fr to k (hvf n R i had) (unu used)) := fun z => by omega
        refine x_iconst X d_Mod_isDone_110 k_ic_0 ?_
        refine x_iast (w' := wM b h _ _ _ _ _ _ _ _ _ _ _ _) X d_Mod_isDone_111 9 rfl rfl (by omega) (by decide) (upd_nI _ _ _) rfl ?_
        refine x_iload X d_Mod_isDone_112 rfl ?_
        refine x_aload_n X d_Mod_isDone_114 rfl ?_
        refine x_getf X d_Mod_isDone_115 f_Mod_56 0 rfl rfl ?_
        refine x_icmp_neN 125 X d_Mod_isDone_118 (by decide) (by omega) (by omega) (fun c_118 => ?_) (fun c_118 => ?_)
        · refine x_iconst X d_Mod_isDone_125 k_ic_0 ?_
          refine x_top (show nI 0 = bI false from rfl) ?_
          exact x_ret X Y d_Mod_isDone_126 (bI_nar _) (Nat.le_of_ble_eq_true rfl) ⟨_, rfl, t, now, _, by rw [decide_eq_false c_118], rfl, hit, ht, hn1, fun z => ⟨hn2 z, hne z⟩, hag, hst⟩
        · refine x_iconst X d_Mod_isDone_121 k_ic_1 ?_
          refine x_goto 126 X d_Mod_isDone_122 (by decide) ?_
          refine x_top (show nI 1 = bI true from rfl) ?_
          exact x_ret X Y d_Mod_isDone_126 (bI_nar _) (Nat.le_of_ble_eq_true rfl) ⟨_, rfl, t, now, _, by rw [decide_eq_true c_118], rfl, hit, ht, hn1, fun z => ⟨hn2 z, hne z⟩, hag, hst⟩
      · refine x_aload_n X d_Mod_isDone_90 rfl ?_
        refine x_iload X d_Mod_isDone_91 rfl ?_
        refine x_iload X d_Mod_isDone_93 rfl ?_
        refine x_iload X d_Mod_isDone_95 rfl ?_
        refine x_callVR X d_Mod_isDone_97 c_Mod_83 (ct_Mod_isStopped (by assumption) (by omega) (by assumption) (by omega) (by omega) (by omega)) [0, 1, 2, 3, 4, 5, 6, 7, 8, 9] rfl rfl rfl rfl rfl (Nat.le_of_ble_eq_true rfl) ⟨Nat.le_of_ble_eq_true rfl, Nat.le_of_ble_eq_true rfl⟩ ⟨rfl, rfl⟩ ⟨Nat.le_of_ble_eq_true rfl, Nat.le_of_ble_eq_true rfl⟩ (fun r_97 h_97 => ?_)
        obtain ⟨c_97, rfl, hc_97⟩ := h_97
        refine x_if_eqB 110 X d_Mod_isDone_100 (by decide) (fun c_100 => ?_) (fun c_100 => ?_)
        · have hst : t < k → (0 = 0 ∧ cOK n A fr to k (hvf n R i had) (unu used)) ∨ (0 = A ∧ ¬ cOK n A fr to k (hvf n R i had) (unu used)) := fun z => Or.inl ⟨rfl, (hcc z).mp (Classical.byContradiction (fun q => by rw [hc_97.mpr q] at c_100; cases c_100))⟩
          refine x_iconst X d_Mod_isDone_110 k_ic_0 ?_
          refine x_iast (w' := wM b h _ _ _ _ _ _ _ _ _ _ _ _) X d_Mod_isDone_111 9 rfl rfl (by omega) (by decide) (upd_nI _ _ _) rfl ?_
          refine x_iload X d_Mod_isDone_112 rfl ?_
          refine x_aload_n X d_Mod_isDone_114 rfl ?_
          refine x_getf X d_Mod_isDone_115 f_Mod_56 0 rfl rfl ?_
          refine x_icmp_neN 125 X d_Mod_isDone_118 (by decide) (by omega) (by omega) (fun c_118 => ?_) (fun c_118 => ?_)
          · refine x_iconst X d_Mod_isDone_125 k_ic_0 ?_
            refine x_top (show nI 0 = bI false from rfl) ?_
            exact x_ret X Y d_Mod_isDone_126 (bI_nar _) (Nat.le_of_ble_eq_true rfl) ⟨_, rfl, t, now, _, by rw [decide_eq_false c_118], rfl, hit, ht, hn1, fun z => ⟨hn2 z, hne z⟩, hag, hst⟩
          · refine x_iconst X d_Mod_isDone_121 k_ic_1 ?_
            refine x_goto 126 X d_Mod_isDone_122 (by decide) ?_
            refine x_top (show nI 1 = bI true from rfl) ?_
            exact x_ret X Y d_Mod_isDone_126 (bI_nar _) (Nat.le_of_ble_eq_true rfl) ⟨_, rfl, t, now, _, by rw [decide_eq_true c_118], rfl, hit, ht, hn1, fun z => ⟨hn2 z, hne z⟩, hag, hst⟩
        · have hst : t < k → (A = 0 ∧ cOK n A fr to k (hvf n R i had) (unu used)) ∨ (A = A ∧ ¬ cOK n A fr to k (hvf n R i had) (unu used)) := fun z => Or.inr ⟨rfl, fun q => hc_97.mp c_100 ((hcc z).mpr q)⟩
          refine x_aload_n X d_Mod_isDone_103 rfl ?_
          refine x_getf X d_Mod_isDone_104 f_Mod_45 0 rfl rfl ?_
          refine x_goto 111 X d_Mod_isDone_107 (by decide) ?_
          refine x_iast (w' := wM b h _ _ _ _ _ _ _ _ _ _ _ _) X d_Mod_isDone_111 9 rfl rfl (by omega) (by decide) (upd_nI _ _ _) rfl ?_
          refine x_iload X d_Mod_isDone_112 rfl ?_
          refine x_aload_n X d_Mod_isDone_114 rfl ?_
          refine x_getf X d_Mod_isDone_115 f_Mod_56 0 rfl rfl ?_
          refine x_icmp_neN 125 X d_Mod_isDone_118 (by decide) (by omega) (by omega) (fun c_118 => ?_) (fun c_118 => ?_)
          · refine x_iconst X d_Mod_isDone_125 k_ic_0 ?_
            refine x_top (show nI 0 = bI false from rfl) ?_
            exact x_ret X Y d_Mod_isDone_126 (bI_nar _) (Nat.le_of_ble_eq_true rfl) ⟨_, rfl, t, now, _, by rw [decide_eq_false c_118], rfl, hit, ht, hn1, fun z => ⟨hn2 z, hne z⟩, hag, hst⟩
          · refine x_iconst X d_Mod_isDone_121 k_ic_1 ?_
            refine x_goto 126 X d_Mod_isDone_122 (by decide) ?_
            refine x_top (show nI 1 = bI true from rfl) ?_
            exact x_ret X Y d_Mod_isDone_126 (bI_nar _) (Nat.le_of_ble_eq_true rfl) ⟨_, rfl, t, now, _, by rw [decide_eq_true c_118], rfl, hit, ht, hn1, fun z => ⟨hn2 z, hne z⟩, hag, hst⟩
    · refine x_iload X d_Mod_isDone_15 rfl ?_
      refine x_aload_n X d_Mod_isDone_17 rfl ?_
      refine x_callVR X d_Mod_isDone_18 c_Mod_41 (ct_Mod_all (by omega)) [0, 1, 2, 3, 4, 5, 6, 7, 8, 9] rfl rfl rfl rfl rfl (Nat.le_of_ble_eq_true rfl) ⟨Nat.le_of_ble_eq_true rfl, Nat.le_of_ble_eq_true rfl⟩ ⟨rfl, rfl⟩ ⟨Nat.le_of_ble_eq_true rfl, Nat.le_of_ble_eq_true rfl⟩ (fun r_18 h_18 => ?_)
      obtain rfl := h_18
      refine x_icmp_neN 52 X d_Mod_isDone_21 (by decide) (by omega) (by omega) (fun c_21 => ?_) (fun c_21 => ?_)
      · have hne : t < k → now ≠ 2 ^ n - 1 := fun z => c_21
        refine x_aload_n X d_Mod_isDone_52 rfl ?_
        refine x_getf X d_Mod_isDone_53 f_Mod_29 0 rfl rfl ?_
        refine x_iload_n X d_Mod_isDone_56 rfl ?_
        refine x_iload X d_Mod_isDone_57 rfl ?_
        refine x_iast (w' := wM b h _ _ _ _ _ _ _ _ _ _ _ _) X d_Mod_isDone_59 6 rfl rfl (by omega) (by decide) (upd_nI _ _ _) rfl ?_
        refine x_aload_n X d_Mod_isDone_60 rfl ?_
        refine x_getf X d_Mod_isDone_61 f_Mod_32 0 rfl rfl ?_
        refine x_iload_n X d_Mod_isDone_64 rfl ?_
        refine x_iload X d_Mod_isDone_65 rfl ?_
        refine x_iast (w' := wM b h _ _ _ _ _ _ _ _ _ _ _ _) X d_Mod_isDone_67 7 rfl rfl (by omega) (by decide) (upd_nI _ _ _) rfl ?_
        refine x_aload_n X d_Mod_isDone_68 rfl ?_
        refine x_getf X d_Mod_isDone_69 f_Mod_35 0 rfl rfl ?_
        refine x_iload_n X d_Mod_isDone_72 rfl ?_
        refine x_iload X d_Mod_isDone_73 rfl ?_
        refine x_iast (w' := wM b h _ _ _ _ _ _ _ _ _ _ _ _) X d_Mod_isDone_75 8 rfl rfl (by omega) (by decide) (upd_nI _ _ _) rfl ?_
        refine x_aload_n X d_Mod_isDone_76 rfl ?_
        refine x_getf X d_Mod_isDone_77 f_Mod_38 0 rfl rfl ?_
        refine x_iload_n X d_Mod_isDone_80 rfl ?_
        refine x_iload X d_Mod_isDone_81 rfl ?_
        refine x_aload_n X d_Mod_isDone_83 rfl ?_
        refine x_getf X d_Mod_isDone_84 f_Mod_56 0 rfl rfl ?_
        refine x_icmp_geN 110 X d_Mod_isDone_87 (by decide) (by omega) (by omega) (fun c_87 => ?_) (fun c_87 => ?_)
        · have hst : t < k → (0 = 0 ∧ cOK n A fr to k (hvf n R i had) (unu used)) ∨ (0 = A ∧ ¬ cOK n A fr to k (hvf n R i had) (unu used)) := fun z => by omega
          refine x_iconst X d_Mod_isDone_110 k_ic_0 ?_
          refine x_iast (w' := wM b h _ _ _ _ _ _ _ _ _ _ _ _) X d_Mod_isDone_111 9 rfl rfl (by omega) (by decide) (upd_nI _ _ _) rfl ?_
          refine x_iload X d_Mod_isDone_112 rfl ?_
          refine x_aload_n X d_Mod_isDone_114 rfl ?_
          refine x_getf X d_Mod_isDone_115 f_Mod_56 0 rfl rfl ?_
          refine x_icmp_neN 125 X d_Mod_isDone_118 (by decide) (by omega) (by omega) (fun c_118 => ?_) (fun c_118 => ?_)
          · refine x_iconst X d_Mod_isDone_125 k_ic_0 ?_
            refine x_top (show nI 0 = bI false from rfl) ?_
            exact x_ret X Y d_Mod_isDone_126 (bI_nar _) (Nat.le_of_ble_eq_true rfl) ⟨_, rfl, t, now, _, by rw [decide_eq_false c_118], rfl, hit, ht, hn1, fun z => ⟨hn2 z, hne z⟩, hag, hst⟩
          · refine x_iconst X d_Mod_isDone_121 k_ic_1 ?_
            refine x_goto 126 X d_Mod_isDone_122 (by decide) ?_
            refine x_top (show nI 1 = bI true from rfl) ?_
            exact x_ret X Y d_Mod_isDone_126 (bI_nar _) (Nat.le_of_ble_eq_true rfl) ⟨_, rfl, t, now, _, by rw [decide_eq_true c_118], rfl, hit, ht, hn1, fun z => ⟨hn2 z, hne z⟩, hag, hst⟩
        · refine x_aload_n X d_Mod_isDone_90 rfl ?_
          refine x_iload X d_Mod_isDone_91 rfl ?_
          refine x_iload X d_Mod_isDone_93 rfl ?_
          refine x_iload X d_Mod_isDone_95 rfl ?_
          refine x_callVR X d_Mod_isDone_97 c_Mod_83 (ct_Mod_isStopped (by assumption) (by omega) (by assumption) (by omega) (by omega) (by omega)) [0, 1, 2, 3, 4, 5, 6, 7, 8, 9] rfl rfl rfl rfl rfl (Nat.le_of_ble_eq_true rfl) ⟨Nat.le_of_ble_eq_true rfl, Nat.le_of_ble_eq_true rfl⟩ ⟨rfl, rfl⟩ ⟨Nat.le_of_ble_eq_true rfl, Nat.le_of_ble_eq_true rfl⟩ (fun r_97 h_97 => ?_)
          obtain ⟨c_97, rfl, hc_97⟩ := h_97
          refine x_if_eqB 110 X d_Mod_isDone_100 (by decide) (fun c_100 => ?_) (fun c_100 => ?_)
          · have hst : t < k → (0 = 0 ∧ cOK n A fr to k (hvf n R i had) (unu used)) ∨ (0 = A ∧ ¬ cOK n A fr to k (hvf n R i had) (unu used)) := fun z => Or.inl ⟨rfl, (hcc z).mp (Classical.byContradiction (fun q => by rw [hc_97.mpr q] at c_100; cases c_100))⟩
            refine x_iconst X d_Mod_isDone_110 k_ic_0 ?_
            refine x_iast (w' := wM b h _ _ _ _ _ _ _ _ _ _ _ _) X d_Mod_isDone_111 9 rfl rfl (by omega) (by decide) (upd_nI _ _ _) rfl ?_
            refine x_iload X d_Mod_isDone_112 rfl ?_
            refine x_aload_n X d_Mod_isDone_114 rfl ?_
            refine x_getf X d_Mod_isDone_115 f_Mod_56 0 rfl rfl ?_
            refine x_icmp_neN 125 X d_Mod_isDone_118 (by decide) (by omega) (by omega) (fun c_118 => ?_) (fun c_118 => ?_)
            · refine x_iconst X d_Mod_isDone_125 k_ic_0 ?_
              refine x_top (show nI 0 = bI false from rfl) ?_
              exact x_ret X Y d_Mod_isDone_126 (bI_nar _) (Nat.le_of_ble_eq_true rfl) ⟨_, rfl, t, now, _, by rw [decide_eq_false c_118], rfl, hit, ht, hn1, fun z => ⟨hn2 z, hne z⟩, hag, hst⟩
            · refine x_iconst X d_Mod_isDone_121 k_ic_1 ?_
              refine x_goto 126 X d_Mod_isDone_122 (by decide) ?_
              refine x_top (show nI 1 = bI true from rfl) ?_
              exact x_ret X Y d_Mod_isDone_126 (bI_nar _) (Nat.le_of_ble_eq_true rfl) ⟨_, rfl, t, now, _, by rw [decide_eq_true c_118], rfl, hit, ht, hn1, fun z => ⟨hn2 z, hne z⟩, hag, hst⟩
          · have hst : t < k → (A = 0 ∧ cOK n A fr to k (hvf n R i had) (unu used)) ∨ (A = A ∧ ¬ cOK n A fr to k (hvf n R i had) (unu used)) := fun z => Or.inr ⟨rfl, fun q => hc_97.mp c_100 ((hcc z).mpr q)⟩
            refine x_aload_n X d_Mod_isDone_103 rfl ?_
            refine x_getf X d_Mod_isDone_104 f_Mod_45 0 rfl rfl ?_
            refine x_goto 111 X d_Mod_isDone_107 (by decide) ?_
            refine x_iast (w' := wM b h _ _ _ _ _ _ _ _ _ _ _ _) X d_Mod_isDone_111 9 rfl rfl (by omega) (by decide) (upd_nI _ _ _) rfl ?_
            refine x_iload X d_Mod_isDone_112 rfl ?_
            refine x_aload_n X d_Mod_isDone_114 rfl ?_
            refine x_getf X d_Mod_isDone_115 f_Mod_56 0 rfl rfl ?_
            refine x_icmp_neN 125 X d_Mod_isDone_118 (by decide) (by omega) (by omega) (fun c_118 => ?_) (fun c_118 => ?_)
            · refine x_iconst X d_Mod_isDone_125 k_ic_0 ?_
              refine x_top (show nI 0 = bI false from rfl) ?_
              exact x_ret X Y d_Mod_isDone_126 (bI_nar _) (Nat.le_of_ble_eq_true rfl) ⟨_, rfl, t, now, _, by rw [decide_eq_false c_118], rfl, hit, ht, hn1, fun z => ⟨hn2 z, hne z⟩, hag, hst⟩
            · refine x_iconst X d_Mod_isDone_121 k_ic_1 ?_
              refine x_goto 126 X d_Mod_isDone_122 (by decide) ?_
              refine x_top (show nI 1 = bI true from rfl) ?_
              exact x_ret X Y d_Mod_isDone_126 (bI_nar _) (Nat.le_of_ble_eq_true rfl) ⟨_, rfl, t, now, _, by rw [decide_eq_true c_118], rfl, hit, ht, hn1, fun z => ⟨hn2 z, hne z⟩, hag, hst⟩
      · refine x_iincN (lv' := [(0, _), (1, _), (2, _), (3, _), (4, _), (5, _), (6, _)]) X d_Mod_isDone_24 rfl (by decide) rfl ?_
        refine x_iload X d_Mod_isDone_27 rfl ?_
        refine x_aload_n X d_Mod_isDone_29 rfl ?_
        refine x_getf X d_Mod_isDone_30 f_Mod_56 0 rfl rfl ?_
        refine x_icmp_geN 46 X d_Mod_isDone_33 (by decide) (by omega) (by omega) (fun c_33 => ?_) (fun c_33 => ?_)
        · have g1 : (0 : Nat) < 128 := by omega
          have g2 : t + 1 < k → (0 : Nat) < 2 ^ n := fun z => by omega
          have g3 : ∀ j, j < k → hvf n R (t + 1) 0 j = hvf n R i had j := fun j hj => by
            rw [← hag j hj]
            simp only [hvf]
            rw [if_pos (by omega)]
            by_cases q : j < t
            · rw [if_pos q]
            · rw [if_neg q, if_pos (by omega), c_21]
          refine x_iconst X d_Mod_isDone_46 k_ic_0 ?_
          refine x_istore (lv' := [(0, _), (1, _), (2, _), (3, _), (4, _), (5, _), (6, _)]) X d_Mod_isDone_47 (by decide) rfl ?_
          refine x_goto 6 X d_Mod_isDone_49 (by decide) ?_
          exact ih (by omega) (by omega) _ g1 g2 g3
        · have g1 := hR1 (t + 1)
          have g2 : t + 1 < k → R (t + 1) < 2 ^ n := fun z => hR2 _ z
          have g3 : ∀ j, j < k → hvf n R (t + 1) (R (t + 1)) j = hvf n R i had j := fun j hj => by
            rw [← hag j hj]
            simp only [hvf]
            by_cases q : j < t
            · rw [if_pos (by omega), if_pos q]
            · by_cases q2 : j = t
              · rw [if_pos (by omega), if_neg q, if_pos q2, c_21]
              · rw [if_neg (by omega), if_neg q, if_neg q2]
                split
                · rename_i q3; rw [q3]
                · rfl
          refine x_aload_n X d_Mod_isDone_36 rfl ?_
          refine x_getf X d_Mod_isDone_37 f_Mod_20 0 rfl rfl ?_
          refine x_iload X d_Mod_isDone_40 rfl ?_
          refine x_iald X d_Mod_isDone_42 3 rfl rfl (by omega) (by decide) ?_
          refine x_goto 47 X d_Mod_isDone_43 (by decide) ?_
          refine x_istore (lv' := [(0, _), (1, _), (2, _), (3, _), (4, _), (5, _), (6, _)]) X d_Mod_isDone_47 (by decide) rfl ?_
          refine x_goto 6 X d_Mod_isDone_49 (by decide) ?_
          exact ih (by omega) (by omega) _ g1 g2 g3
  )
  refine x_iload_n X d_Mod_isDone_0 rfl ?_
  refine x_istore (lv' := [(0, _), (1, _), (2, _), (3, _), (4, _), (5, _)]) X d_Mod_isDone_1 (by decide) rfl ?_
  refine x_iload_n X d_Mod_isDone_3 rfl ?_
  refine x_istore (lv' := [(0, _), (1, _), (2, _), (3, _), (4, _), (5, _), (6, _)]) X d_Mod_isDone_4 (by decide) rfl ?_
  exact loop i hi (Nat.le_refl _) had hh hh2 (fun j _ => rfl)
end MOD2
end
section
/-! THE MODEL: canGoOn, packs -/
theorem cOK_triv {n A k : Nat} {fr to hv : Nat → Nat} {P : Nat → Bool} (h : ∀ j, j < k → hv j = 2 ^ n - 1) : cOK n A fr to k hv P := by
  intro X ⟨v, hv1, hv2⟩
  have : mss n hv k X = 0 := cnt_zero (fun j hj => by rw [h j hj]; exact mis_f.mpr ⟨v, hv1, all_bit hv1, hv2⟩)
  omega
/-- an arc by which the branching may grow -/
def gd (n A : Nat) (fr to : Nat → Nat) (k : Nat) (R : Nat → Nat) (t now used e : Nat) : Prop := e < A ∧ (unu used e && (now.testBit (fr e) && !now.testBit (to e))) = true ∧ cOK n A fr to k (hvf n R t (now ||| 2 ^ to e)) (unu (used ||| 2 ^ e))
theorem unu_s (used e j : Nat) : (unu used j && decide (j ≠ e)) = unu (used ||| 2 ^ e) j := by
  simp only [unu, or_bit]
  by_cases q : j = e
  · simp [q]
  · simp [q, show ¬ e = j from fun z => q z.symm]
theorem gd_ex {n A : Nat} {fr to : Nat → Nat} {k : Nat} {R : Nat → Nat} {t now used : Nat} (hc : cOK n A fr to k (hvf n R t now) (unu used)) (hA : ∀ e, e < A → fr e < n ∧ to e < n) (ht : t < k) (hl : now < 2 ^ n) (hne : now ≠ 2 ^ n - 1) : ∃ e, gd n A fr to k R t now used e := by
  have e0 : hvf n R t now t = now := by simp [hvf]
  obtain ⟨e, h1, h2, h3, h4, h5⟩ := lovasz hc hA ht (by rw [e0]; exact not_all hl hne)
  rw [e0] at h3 h4 h5
  refine ⟨e, h1, by simp [h2, h3, h4], (cOK_congr (fun j hj => ?_) (fun j _ => unu_s used e j)).mp h5⟩
  simp only [va_up, hvf]
  by_cases q : j = t
  · simp [q]
  · simp [q]
theorem unu_lt {A used e : Nat} (he : e < A) (h : unu used e = true) : cnt (unu (used ||| 2 ^ e)) A < cnt (unu used) A := by
  refine cnt_lts he (fun j _ q => ?_) ?_ h
  · rw [← unu_s] at q
    simp only [Bool.and_eq_true] at q
    exact q.1
  · rw [← unu_s]
    simp
theorem hvf_or {n : Nat} {R : Nat → Nat} {t had : Nat} : hvf n R t had t = had := by simp [hvf]
section MOD3
variable {b : xB} {h : Nat → Nat} {n A : Nat} {fr to : Nat → Nat} {k : Nat} {R : Nat → Nat} {ow wy : Nat → Option Nat} {tr hs us nx : Nat → Nat}
set_option maxRecDepth 20000 in
set_option maxHeartbeats 2000000 in
theorem ct_Mod_canGoOn {i had used : Nat} (hS : sOK n A fr to k R) (hi : i ≤ k) (hh : had < 128) (hh2 : i < k → had < 2 ^ n) (hu : used < 2 ^ 14) : xCt b y_Mod_canGoOn b_Mod_canGoOn 7 (some .boolean) q_Mod_canGoOn [.ref (h 0), .int (nI i), .int (nI had), .int (nI used)] (wM b h n A fr to k R ow wy tr hs us nx) (xIn (fun r w => r = bI (cB (cOK n A fr to k (hvf n R i had) (unu used))) ∧ ∃ tr' hs' us' nx', w = wM b h n A fr to k R ow wy tr' hs' us' nx')) := by
  refine x_met (by decide +kernel) rfl (Nat.le_of_ble_eq_true rfl) (fun G X Y => ?_)
  obtain ⟨hN, hk, hR1, hR2⟩ := id hS
  obtain ⟨n1, n2, n3, n4, n5⟩ := id hN
  have hp := pow_le n2
  have alive : cOK n A fr to k (hvf n R i had) (unu used) → ∀ (U e0 : Nat), e0 ≤ A → ∀ (s t now used' : Nat) (tr hs us nx : Nat → Nat), tr s = t → hs s = now → us s = used' → nx s = e0 → t < k → now < 2 ^ n → now ≠ 2 ^ n - 1 → used' < 2 ^ 14 → cOK n A fr to k (hvf n R t now) (unu used') → cnt (unu used') A = U → s + U ≤ A → (∀ e, e < e0 → ¬ gd n A fr to k R t now used' e) → xW b G 0 0 (wM b h n A fr to k R ow wy tr hs us nx) 13 [(0, .ref (h 0)), (1, .int (nI i)), (2, .int (nI had)), (3, .int (nI used)), (4, .int (nI s)), (5, .int (bI false))] [] := by
    intro hC U
    induction U using Nat.strongRecOn with
    | ind U ihU =>
      exact loopU A (fun e0 he0 ihe s t now used' tr hs us nx htr hhs hus hnx htk hn1 hn2 hu1 hcc hU hsU hno => by
        have ex := gd_ex hcc n5 htk hn1 hn2
        have a1 := n4 e0
        refine x_iload X d_Mod_canGoOn_13 rfl ?_
        refine x_if_neB 133 X d_Mod_canGoOn_15 (by decide) (fun c_15 => ?_) (fun c_15 => ?_)
        · cases c_15
        · refine x_iload X d_Mod_canGoOn_18 rfl ?_
          refine x_if_ltN 133 X d_Mod_canGoOn_20 (by decide) (by omega) ?_
          refine x_aload_n X d_Mod_canGoOn_23 rfl ?_
          refine x_getf X d_Mod_canGoOn_24 f_Mod_38 0 rfl rfl ?_
          refine x_iload X d_Mod_canGoOn_27 rfl ?_
          refine x_iald X d_Mod_canGoOn_29 9 rfl rfl (by omega) (by decide) ?_
          refine x_top (show nI (nx s) = nI e0 by rw [hnx]) ?_
          refine x_istore (lv' := [(0, _), (1, _), (2, _), (3, _), (4, _), (5, _), (6, _)]) X d_Mod_canGoOn_30 (by decide) rfl ?_
          refine x_iload X d_Mod_canGoOn_32 rfl ?_
          refine x_aload_n X d_Mod_canGoOn_34 rfl ?_
          refine x_getf X d_Mod_canGoOn_35 f_Mod_45 0 rfl rfl ?_
          refine x_icmp_neN 47 X d_Mod_canGoOn_38 (by decide) (by omega) (by omega) (fun c_38 => ?_) (fun c_38 => ?_)
          · refine x_aload_n X d_Mod_canGoOn_47 rfl ?_
            refine x_getf X d_Mod_canGoOn_48 f_Mod_38 0 rfl rfl ?_
            refine x_iload X d_Mod_canGoOn_51 rfl ?_
            refine x_iload X d_Mod_canGoOn_53 rfl ?_
            refine x_iconst X d_Mod_canGoOn_55 k_ic_1 ?_
            refine x_iaddN X d_Mod_canGoOn_56 ?_
            refine x_iast (w' := wM b h _ _ _ _ _ _ _ _ _ _ _ _) X d_Mod_canGoOn_57 9 rfl rfl (by omega) (by decide) (upd_nI _ _ _) rfl ?_
            refine x_aload_n X d_Mod_canGoOn_58 rfl ?_
            refine x_aload_n X d_Mod_canGoOn_59 rfl ?_
            refine x_getf X d_Mod_canGoOn_60 f_Mod_32 0 rfl rfl ?_
            refine x_iload X d_Mod_canGoOn_63 rfl ?_
            refine x_iald X d_Mod_canGoOn_65 7 rfl rfl (by omega) (by decide) ?_
            refine x_top (show nI (hs s) = nI now by rw [hhs]) ?_
            refine x_aload_n X d_Mod_canGoOn_66 rfl ?_
            refine x_getf X d_Mod_canGoOn_67 f_Mod_35 0 rfl rfl ?_
            refine x_iload X d_Mod_canGoOn_70 rfl ?_
            refine x_iald X d_Mod_canGoOn_72 8 rfl rfl (by omega) (by decide) ?_
            refine x_top (show nI (us s) = nI used' by rw [hus]) ?_
            refine x_iload X d_Mod_canGoOn_73 rfl ?_
            refine x_callVR X d_Mod_canGoOn_75 c_Mod_91 (ct_Mod_grows (by assumption) (by omega) (by omega) (by omega)) [0, 1, 2, 3, 4, 5, 6, 7, 8, 9] rfl rfl rfl rfl rfl (Nat.le_of_ble_eq_true rfl) ⟨Nat.le_of_ble_eq_true rfl, Nat.le_of_ble_eq_true rfl⟩ ⟨rfl, rfl⟩ ⟨Nat.le_of_ble_eq_true rfl, Nat.le_of_ble_eq_true rfl⟩ (fun r_75 h_75 => ?_)
            obtain rfl := h_75
            refine x_if_eqB 130 X d_Mod_canGoOn_78 (by decide) (fun c_78 => ?_) (fun c_78 => ?_)
            · refine x_goto 13 X d_Mod_canGoOn_130 (by decide) ?_
              refine x_lv [0, 1, 2, 3, 4, 5] rfl ?_
              exact ihe (by omega) s t now used' tr hs us _ htr hhs hus (va_up_self _ _ _) htk hn1 hn2 hu1 hcc hU hsU (fun e he => by
                by_cases q : e = e0
                · rw [q]; exact fun g => by have g2 := g.2.1; rw [c_78] at g2; cases g2
                · exact hno e (by omega))
            · have hg0 := c_78
              simp only [Bool.and_eq_true, Bool.not_eq_true'] at hg0
              have hlt := unu_lt (A := A) (used := used') (e := e0) (by omega) hg0.1
              have b5 := n5 e0 (by omega)
              have hor := or_lt hn1 b5.2
              have hor2 : used' ||| 2 ^ e0 < 2 ^ 14 := or_lt hu1 (by omega)
              refine x_aload_n X d_Mod_canGoOn_81 rfl ?_
              refine x_iload X d_Mod_canGoOn_82 rfl ?_
              refine x_iconst X d_Mod_canGoOn_84 k_ic_1 ?_
              refine x_iaddN X d_Mod_canGoOn_85 ?_
              refine x_aload_n X d_Mod_canGoOn_86 rfl ?_
              refine x_getf X d_Mod_canGoOn_87 f_Mod_29 0 rfl rfl ?_
              refine x_iload X d_Mod_canGoOn_90 rfl ?_
              refine x_iald X d_Mod_canGoOn_92 6 rfl rfl (by omega) (by decide) ?_
              refine x_top (show nI (tr s) = nI t by rw [htr]) ?_
              refine x_aload_n X d_Mod_canGoOn_93 rfl ?_
              refine x_getf X d_Mod_canGoOn_94 f_Mod_32 0 rfl rfl ?_
              refine x_iload X d_Mod_canGoOn_97 rfl ?_
              refine x_iald X d_Mod_canGoOn_99 7 rfl rfl (by omega) (by decide) ?_
              refine x_top (show nI (hs s) = nI now by rw [hhs]) ?_
              refine x_iconst X d_Mod_canGoOn_100 k_ic_1 ?_
              refine x_aload_n X d_Mod_canGoOn_101 rfl ?_
              refine x_getf X d_Mod_canGoOn_102 f_Mod_17 0 rfl rfl ?_
              refine x_iload X d_Mod_canGoOn_105 rfl ?_
              refine x_iald X d_Mod_canGoOn_107 2 rfl rfl (by omega) (by decide) ?_
              refine x_shl1 X d_Mod_canGoOn_108 (by omega) ?_
              refine x_iorN X d_Mod_canGoOn_109 ?_
              refine x_aload_n X d_Mod_canGoOn_110 rfl ?_
              refine x_getf X d_Mod_canGoOn_111 f_Mod_35 0 rfl rfl ?_
              refine x_iload X d_Mod_canGoOn_114 rfl ?_
              refine x_iald X d_Mod_canGoOn_116 8 rfl rfl (by omega) (by decide) ?_
              refine x_top (show nI (us s) = nI used' by rw [hus]) ?_
              refine x_iconst X d_Mod_canGoOn_117 k_ic_1 ?_
              refine x_iload X d_Mod_canGoOn_118 rfl ?_
              refine x_shl1 X d_Mod_canGoOn_120 (by omega) ?_
              refine x_iorN X d_Mod_canGoOn_121 ?_
              refine x_callA X d_Mod_canGoOn_122 c_Mod_87 (ct_Mod_isDone hS (by omega) (by omega) (fun _ => hor) hor2 (by omega)) rfl rfl rfl (Nat.le_of_ble_eq_true rfl) ⟨Nat.le_of_ble_eq_true rfl, Nat.le_of_ble_eq_true rfl⟩ ⟨rfl, rfl⟩ ⟨Nat.le_of_ble_eq_true rfl, Nat.le_of_ble_eq_true rfl⟩ (fun v_122 w_122 h_122 => ?_)
              obtain ⟨r_122, rfl, t_122, now_122, nv_122, rfl, rfl, hd_122⟩ := h_122
              refine ⟨rfl, ?_⟩
              refine x_st (st' := [_]) rfl ?_
              refine x_istore (lv' := [(0, _), (1, _), (2, _), (3, _), (4, _), (5, _), (6, _)]) X d_Mod_canGoOn_125 (by decide) rfl ?_
              refine x_iincN (lv' := [(0, _), (1, _), (2, _), (3, _), (4, _), (5, _), (6, _)]) X d_Mod_canGoOn_127 rfl (by decide) rfl ?_
              refine x_goto 13 X d_Mod_canGoOn_130 (by decide) ?_
              obtain ⟨d1, d2, d3, d4, d5, d6⟩ := hd_122
              by_cases htk2 : t_122 = k
              · rw [decide_eq_true htk2]
                refine x_iload X d_Mod_canGoOn_13 rfl ?_
                refine x_if_neB 133 X d_Mod_canGoOn_15 (by decide) (fun c_15 => ?_) (fun c_15 => ?_)
                · refine x_iload X d_Mod_canGoOn_133 rfl ?_
                  exact x_ret X Y d_Mod_canGoOn_135 (bI_nar _) (Nat.le_of_ble_eq_true rfl) ⟨_, rfl, by rw [cB_iff.mpr hC], _, _, _, _, rfl⟩
                · cases c_15
              · rw [decide_eq_false htk2]
                have htk3 : t_122 < k := by omega
                rcases d6 htk3 with ⟨d7, d8⟩ | ⟨d7, d8⟩
                · refine x_lv [0, 1, 2, 3, 4, 5] rfl ?_
                  exact ihU _ (by rw [← hU]; exact hlt) 0 (Nat.zero_le _) (s + 1) t_122 now_122 (used' ||| 2 ^ e0) _ _ _ _ (va_up_self _ _ _) (va_up_self _ _ _) (va_up_self _ _ _) (by rw [va_up_self]; exact d7) htk3 (d4 htk3).1 (d4 htk3).2 hor2 ((cOK_congr d5 (fun _ _ => rfl)).mpr d8) rfl (by omega) (fun e he => by omega)
                · rw [d7]
                  refine x_iload X d_Mod_canGoOn_13 rfl ?_
                  refine x_if_neB 133 X d_Mod_canGoOn_15 (by decide) (fun c_15 => ?_) (fun c_15 => ?_)
                  · cases c_15
                  · refine x_iload X d_Mod_canGoOn_18 rfl ?_
                    refine x_if_ltN 133 X d_Mod_canGoOn_20 (by decide) (by omega) ?_
                    refine x_aload_n X d_Mod_canGoOn_23 rfl ?_
                    refine x_getf X d_Mod_canGoOn_24 f_Mod_38 0 rfl rfl ?_
                    refine x_iload X d_Mod_canGoOn_27 rfl ?_
                    refine x_iald X d_Mod_canGoOn_29 9 rfl rfl (by omega) (by decide) ?_
                    refine x_top (show nI (va_up (va_up nx s (e0 + 1)) (s + 1) A (s + 1)) = nI A by rw [va_up_self]) ?_
                    refine x_istore (lv' := [(0, _), (1, _), (2, _), (3, _), (4, _), (5, _), (6, _)]) X d_Mod_canGoOn_30 (by decide) rfl ?_
                    refine x_iload X d_Mod_canGoOn_32 rfl ?_
                    refine x_aload_n X d_Mod_canGoOn_34 rfl ?_
                    refine x_getf X d_Mod_canGoOn_35 f_Mod_45 0 rfl rfl ?_
                    refine x_icmp_neN 47 X d_Mod_canGoOn_38 (by decide) (by omega) (by omega) (fun c_38 => ?_) (fun c_38 => ?_)
                    · exact absurd rfl c_38
                    · refine x_iinc (v := nI s) (lv' := [(0, _), (1, _), (2, _), (3, _), (4, _), (5, _), (6, _)]) X d_Mod_canGoOn_41 rfl (by rw [k_ic_m1]; exact pk_m1 s) (by decide) rfl ?_
                      refine x_goto 130 X d_Mod_canGoOn_44 (by decide) ?_
                      refine x_goto 13 X d_Mod_canGoOn_130 (by decide) ?_
                      refine x_lv [0, 1, 2, 3, 4, 5] rfl ?_
                      exact ihe (by omega) s t now used' _ _ _ _ (by rw [va_up_ne _ _ (by omega)]; exact htr) (by rw [va_up_ne _ _ (by omega)]; exact hhs) (by rw [va_up_ne _ _ (by omega)]; exact hus) (by rw [va_up_ne _ _ (by omega), va_up_self]) htk hn1 hn2 hu1 hcc hU hsU (fun e he => by
                        by_cases q : e = e0
                        · rw [q]; exact fun g => d8 g.2.2
                        · exact hno e (by omega))
          · obtain ⟨e, ge⟩ := ex
            exact absurd ge (hno e (by have := ge.1; omega))
      )
  refine x_iconst X d_Mod_canGoOn_0 k_ic_0 ?_
  refine x_istore (lv' := [(0, _), (1, _), (2, _), (3, _), (4, _)]) X d_Mod_canGoOn_1 (by decide) rfl ?_
  refine x_aload_n X d_Mod_canGoOn_3 rfl ?_
  refine x_iconst X d_Mod_canGoOn_4 k_ic_0 ?_
  refine x_iload_n X d_Mod_canGoOn_5 rfl ?_
  refine x_iload_n X d_Mod_canGoOn_6 rfl ?_
  refine x_iload_n X d_Mod_canGoOn_7 rfl ?_
  refine x_callA X d_Mod_canGoOn_8 c_Mod_87 (ct_Mod_isDone hS hi hh hh2 hu (by omega)) rfl rfl rfl (Nat.le_of_ble_eq_true rfl) ⟨Nat.le_of_ble_eq_true rfl, Nat.le_of_ble_eq_true rfl⟩ ⟨rfl, rfl⟩ ⟨Nat.le_of_ble_eq_true rfl, Nat.le_of_ble_eq_true rfl⟩ (fun v_8 w_8 h_8 => ?_)
  obtain ⟨r_8, rfl, t_8, now_8, nv_8, rfl, rfl, hd_8⟩ := h_8
  refine ⟨rfl, ?_⟩
  refine x_st (st' := [_]) rfl ?_
  refine x_istore (lv' := [(0, _), (1, _), (2, _), (3, _), (4, _), (5, _)]) X d_Mod_canGoOn_11 (by decide) rfl ?_
  obtain ⟨d1, d2, d3, d4, d5, d6⟩ := hd_8
  by_cases htk2 : t_8 = k
  · rw [decide_eq_true htk2]
    have hC : cOK n A fr to k (hvf n R i had) (unu used) := cOK_triv (fun j hj => by rw [← d5 j hj]; simp [hvf, htk2, hj])
    refine x_iload X d_Mod_canGoOn_13 rfl ?_
    refine x_if_neB 133 X d_Mod_canGoOn_15 (by decide) (fun c_15 => ?_) (fun c_15 => ?_)
    · refine x_iload X d_Mod_canGoOn_133 rfl ?_
      exact x_ret X Y d_Mod_canGoOn_135 (bI_nar _) (Nat.le_of_ble_eq_true rfl) ⟨_, rfl, by rw [cB_iff.mpr hC], _, _, _, _, rfl⟩
    · cases c_15
  · rw [decide_eq_false htk2]
    have htk3 : t_8 < k := by omega
    rcases d6 htk3 with ⟨d7, d8⟩ | ⟨d7, d8⟩
    · exact alive d8 _ 0 (Nat.zero_le _) 0 t_8 now_8 used _ _ _ _ (va_up_self _ _ _) (va_up_self _ _ _) (va_up_self _ _ _) (by rw [va_up_self]; exact d7) htk3 (d4 htk3).1 (d4 htk3).2 hu ((cOK_congr d5 (fun _ _ => rfl)).mpr d8) rfl (by have := cnt_le (P := unu used) A; omega) (fun e he => by omega)
    · rw [d7]
      refine x_iload X d_Mod_canGoOn_13 rfl ?_
      refine x_if_neB 133 X d_Mod_canGoOn_15 (by decide) (fun c_15 => ?_) (fun c_15 => ?_)
      · cases c_15
      · refine x_iload X d_Mod_canGoOn_18 rfl ?_
        refine x_if_ltN 133 X d_Mod_canGoOn_20 (by decide) (by omega) ?_
        refine x_aload_n X d_Mod_canGoOn_23 rfl ?_
        refine x_getf X d_Mod_canGoOn_24 f_Mod_38 0 rfl rfl ?_
        refine x_iload X d_Mod_canGoOn_27 rfl ?_
        refine x_iald X d_Mod_canGoOn_29 9 rfl rfl (by omega) (by decide) ?_
        refine x_top (show nI (va_up nx 0 A 0) = nI A by rw [va_up_self]) ?_
        refine x_istore (lv' := [(0, _), (1, _), (2, _), (3, _), (4, _), (5, _), (6, _)]) X d_Mod_canGoOn_30 (by decide) rfl ?_
        refine x_iload X d_Mod_canGoOn_32 rfl ?_
        refine x_aload_n X d_Mod_canGoOn_34 rfl ?_
        refine x_getf X d_Mod_canGoOn_35 f_Mod_45 0 rfl rfl ?_
        refine x_icmp_neN 47 X d_Mod_canGoOn_38 (by decide) (by omega) (by omega) (fun c_38 => ?_) (fun c_38 => ?_)
        · exact absurd rfl c_38
        · refine x_iinc (lv' := [(0, _), (1, _), (2, _), (3, _), (4, _), (5, _), (6, _)]) X d_Mod_canGoOn_41 rfl (show nI 0 + Int32.ofInt (-1) = -1 by decide) (by decide) rfl ?_
          refine x_goto 130 X d_Mod_canGoOn_44 (by decide) ?_
          refine x_goto 13 X d_Mod_canGoOn_130 (by decide) ?_
          refine x_iload X d_Mod_canGoOn_13 rfl ?_
          refine x_if_neB 133 X d_Mod_canGoOn_15 (by decide) (fun c_15 => ?_) (fun c_15 => ?_)
          · cases c_15
          · refine x_iload X d_Mod_canGoOn_18 rfl ?_
            refine x_if_lt 133 X d_Mod_canGoOn_20 (by decide) (fun c_20 => ?_) (fun c_20 => ?_)
            · refine x_iload X d_Mod_canGoOn_133 rfl ?_
              exact x_ret X Y d_Mod_canGoOn_135 (bI_nar _) (Nat.le_of_ble_eq_true rfl) ⟨_, rfl, by rw [cB_f d8], _, _, _, _, rfl⟩
            · exact absurd (by decide) c_20
theorem hvf_0 {n A k : Nat} {fr to R : Nat → Nat} {r0 : Nat} (h : 0 < k → r0 = R 0) : cOK n A fr to k (hvf n R 0 r0) (unu 0) ↔ cOK n A fr to k R (fun _ => true) := cOK_congr (fun j hj => by
  simp only [hvf]
  rw [if_neg (by omega)]
  split
  · rename_i q; rw [q]; exact h (by omega)
  · rfl) (fun e _ => by simp [unu])
theorem cB_congr {P Q : Prop} (h : P ↔ Q) : cB P = cB Q := cB_eq (cB_iff.trans h)
set_option maxRecDepth 20000 in
theorem ct_Mod_packs (hS : sOK n A fr to k R) : xCt b y_Mod_packs b_Mod_packs 1 (some .boolean) q_Mod_packs [.ref (h 0)] (wM b h n A fr to k R ow wy tr hs us nx) (xIn (fun r w => r = bI (cB (cOK n A fr to k R (fun _ => true))) ∧ ∃ tr' hs' us' nx', w = wM b h n A fr to k R ow wy tr' hs' us' nx')) := by
  refine x_met (by decide +kernel) rfl (Nat.le_of_ble_eq_true rfl) (fun G X Y => ?_)
  obtain ⟨hN, hk, hR1, hR2⟩ := id hS
  refine x_aload_n X d_Mod_packs_0 rfl ?_
  refine x_iconst X d_Mod_packs_1 k_ic_0 ?_
  refine x_aload_n X d_Mod_packs_2 rfl ?_
  refine x_getf X d_Mod_packs_3 f_Mod_56 0 rfl rfl ?_
  refine x_if_leN 18 X d_Mod_packs_6 (by decide) (by omega) (fun c_6 => ?_) (fun c_6 => ?_)
  · have g1 : (0 : Nat) < 128 := by omega
    have g2 : 0 < k → (0 : Nat) < 2 ^ n := fun z => by omega
    have g3 : 0 < k → 0 = R 0 := fun z => by omega
    refine x_iconst X d_Mod_packs_18 k_ic_0 ?_
    refine x_iconst X d_Mod_packs_19 k_ic_0 ?_
    refine x_callA X d_Mod_packs_20 c_Mod_94 (ct_Mod_canGoOn hS (Nat.zero_le _) g1 g2 (by decide)) rfl rfl rfl (Nat.le_of_ble_eq_true rfl) ⟨Nat.le_of_ble_eq_true rfl, Nat.le_of_ble_eq_true rfl⟩ ⟨rfl, rfl⟩ ⟨Nat.le_of_ble_eq_true rfl, Nat.le_of_ble_eq_true rfl⟩ (fun v_20 w_20 h_20 => ?_)
    obtain ⟨r_20, rfl, rfl, tr_20, hs_20, us_20, nx_20, rfl⟩ := h_20
    refine ⟨rfl, ?_⟩
    refine x_st (st' := [_]) rfl ?_
    exact x_ret X Y d_Mod_packs_23 (bI_nar _) (Nat.le_of_ble_eq_true rfl) ⟨_, rfl, by rw [cB_congr (hvf_0 g3)], _, _, _, _, rfl⟩
  · have g1 := hR1 0
    have g2 : 0 < k → R 0 < 2 ^ n := fun z => hR2 0 z
    have g3 : 0 < k → R 0 = R 0 := fun z => rfl
    refine x_aload_n X d_Mod_packs_9 rfl ?_
    refine x_getf X d_Mod_packs_10 f_Mod_20 0 rfl rfl ?_
    refine x_iconst X d_Mod_packs_13 k_ic_0 ?_
    refine x_iald X d_Mod_packs_14 3 rfl rfl (by omega) (by decide) ?_
    refine x_goto 19 X d_Mod_packs_15 (by decide) ?_
    refine x_iconst X d_Mod_packs_19 k_ic_0 ?_
    refine x_callA X d_Mod_packs_20 c_Mod_94 (ct_Mod_canGoOn hS (Nat.zero_le _) g1 g2 (by decide)) rfl rfl rfl (Nat.le_of_ble_eq_true rfl) ⟨Nat.le_of_ble_eq_true rfl, Nat.le_of_ble_eq_true rfl⟩ ⟨rfl, rfl⟩ ⟨Nat.le_of_ble_eq_true rfl, Nat.le_of_ble_eq_true rfl⟩ (fun v_20 w_20 h_20 => ?_)
    obtain ⟨r_20, rfl, rfl, tr_20, hs_20, us_20, nx_20, rfl⟩ := h_20
    refine ⟨rfl, ?_⟩
    refine x_st (st' := [_]) rfl ?_
    exact x_ret X Y d_Mod_packs_23 (bI_nar _) (Nat.le_of_ble_eq_true rfl) ⟨_, rfl, by rw [cB_congr (hvf_0 g3)], _, _, _, _, rfl⟩
end MOD3
end
section
/-! THE MODEL: pack, owner, way -/
theorem lst_none {to : Nat → Nat} {ow : Nat → Option Nat} {i v : Nat} : ∀ m, (∀ e, e < m → ow e = none) → lst to ow i v m = none
  | 0, _ => rfl
  | m + 1, h => by
    simp only [lst, h m (by omega)]
    simp
    exact lst_none m (fun e he => h e (by omega))
theorem lst_new {to : Nat → Nat} {ow : Nat → Option Nat} {i e : Nat} (hn : ow e = none) {A : Nat} (hu : ∀ e', e' < A → ow e' = some i → to e' ≠ to e) {i' v : Nat} : ∀ m, m ≤ A → lst to (va_up ow e (some i)) i' v m = if i' = i ∧ v = to e ∧ e < m then some e else lst to ow i' v m
  | 0, _ => by simp [lst]
  | m + 1, hm => by
    have ih := lst_new hn hu (i' := i') (v := v) m (by omega)
    simp only [lst]
    rw [ih]
    by_cases q : m = e
    · subst q
      rw [va_up_self]
      by_cases z : i' = i ∧ v = to m
      · rw [if_pos ⟨by rw [z.1], z.2.symm⟩, if_pos ⟨z.1, z.2, by omega⟩]
      · rw [if_neg (fun y => z ⟨(Option.some.inj y.1).symm, y.2.symm⟩), if_neg (fun y => z ⟨y.1, y.2.1⟩), if_neg (fun y => z ⟨y.1, y.2.1⟩), if_neg (fun y => by rw [hn] at y; cases y.1)]
    · rw [va_up_ne _ _ q]
      by_cases z : ow m = some i' ∧ to m = v
      · rw [if_pos z, if_pos z]
        by_cases y : i' = i ∧ v = to e ∧ e < m + 1
        · exact absurd (by rw [z.2, y.2.1]) (hu m (by omega) (by rw [z.1, y.1]))
        · rw [if_neg y]
      · rw [if_neg z, if_neg z]
        by_cases y : i' = i ∧ v = to e ∧ e < m
        · rw [if_pos y, if_pos ⟨y.1, y.2.1, by omega⟩]
        · rw [if_neg y, if_neg (fun w => y ⟨w.1, w.2.1, by omega⟩)]
/-- where the model's packing stands: branching i grows, has had; used are the arcs with an owner -/
def pI (n A : Nat) (fr to : Nat → Nat) (k : Nat) (R : Nat → Nat) (i had used : Nat) (ow wy : Nat → Option Nat) : Prop := had < 2 ^ n ∧ used < 2 ^ 14 ∧ (∀ e, e < A → unu used e = decide (ow e = none)) ∧ cOK n A fr to k (hvf n R i had) (unu used) ∧ (∀ i', i' < k → ∀ v, v < n → wy (7 * i' + v) = lst to ow i' v A) ∧ ∀ e, e < A → ∀ i', ow e = some i' → i' ≤ i ∧ (hvf n R i had i').testBit (to e) = true
section PI
variable {n A : Nat} {fr to : Nat → Nat} {k : Nat} {R : Nat → Nat} {i had used : Nat} {ow wy : Nat → Option Nat}
theorem pI_fre (h : pI n A fr to k R i had used ow wy) : cOK n A fr to k (hvf n R i had) (fre ow none) := (cOK_congr (fun _ _ => rfl) (fun e he => by rw [h.2.2.1 e he]; simp [fre])).mp h.2.2.2.1
theorem nhv_hvf {e j : Nat} : nhv to (hvf n R i had) i e j = hvf n R i (had ||| 2 ^ to e) j := by
  simp only [nhv, va_up, hvf]
  by_cases q : j = i
  · simp [q]
  · simp [q]
theorem pI_good (h : pI n A fr to k R i had used ow wy) {e : Nat} : good n A fr to k (hvf n R i had) ow i e ↔ gd n A fr to k R i had used e := by
  simp only [good, gd, gro, hvf_or]
  by_cases he : e < A
  · rw [h.2.2.1 e he]
    have c : cOK n A fr to k (nhv to (hvf n R i had) i e) (fre (va_up ow e (some i)) none) ↔ cOK n A fr to k (hvf n R i (had ||| 2 ^ to e)) (unu (used ||| 2 ^ e)) := cOK_congr (fun j _ => nhv_hvf) (fun j hj => by
      rw [← unu_s, h.2.2.1 j hj]
      simp only [fre, va_up]
      by_cases q : j = e
      · simp [q]
      · simp [q])
    rw [c]
  · simp [he]
theorem pI_s (hN : nOK n A fr to) (h : pI n A fr to k R i had used ow wy) {e : Nat} (hi : i < k) (hg : gd n A fr to k R i had used e) : pI n A fr to k R i (had ||| 2 ^ to e) (used ||| 2 ^ e) (va_up ow e (some i)) (va_up wy (7 * i + to e) (some e)) := by
  obtain ⟨n1, n2, n3, n4, n5⟩ := hN
  obtain ⟨h1, h2, h3, h4, h5, h6⟩ := h
  obtain ⟨g1, g2, g3⟩ := hg
  simp only [Bool.and_eq_true, Bool.not_eq_true'] at g2
  have hon : ow e = none := by
    have := h3 e g1
    rw [g2.1] at this
    simpa using this.symm
  have a5 := n5 e g1
  refine ⟨or_lt h1 a5.2, or_lt h2 (by omega), fun j hj => ?_, g3, fun i' hi' v hv => ?_, fun j hj i' hj2 => ?_⟩
  · rw [← unu_s, h3 j hj]
    by_cases q : j = e
    · simp [q, va_up_self]
    · simp [q, va_up_ne _ _ q]
  · rw [lst_new hon (fun e' he' q z => by
      have := (h6 e' he' i q).2
      rw [hvf_or, z, g2.2.2] at this
      cases this) A (Nat.le_refl _)]
    by_cases q : i' = i ∧ v = to e
    · rw [if_pos ⟨q.1, q.2, g1⟩, q.1, q.2, va_up_self]
    · rw [if_neg (fun y => q ⟨y.1, y.2.1⟩), va_up_ne _ _ (fun y => q (by
        have := (n4 e).2
        omega)), h5 i' hi' v hv]
  · by_cases q : j = e
    · subst q
      rw [va_up_self] at hj2
      cases hj2
      refine ⟨Nat.le_refl _, ?_⟩
      rw [hvf_or, or_bit]
      simp
    · rw [va_up_ne _ _ q] at hj2
      obtain ⟨k1, k2⟩ := h6 j hj i' hj2
      refine ⟨k1, ?_⟩
      by_cases y : i' = i
      · subst y
        rw [hvf_or] at k2 ⊢
        rw [or_bit, k2]
        rfl
      · have e1 : hvf n R i (had ||| 2 ^ to e) i' = hvf n R i had i' := by simp [hvf, y]
        rw [e1]
        exact k2
theorem hvf_next : hvf n R i (2 ^ n - 1) = hvf n R (i + 1) (R (i + 1)) := by
  funext j
  simp only [hvf]
  by_cases q : j < i
  · rw [if_pos q, if_pos (by omega)]
  · rw [if_neg q]
    by_cases q2 : j = i
    · rw [if_pos q2, if_pos (by omega)]
    · rw [if_neg q2, if_neg (by omega)]
      split
      · rename_i z; rw [z]
      · rfl
theorem pI_next (hN : nOK n A fr to) (hR : ∀ i, i < k → R i < 2 ^ n) (h : pI n A fr to k R i (2 ^ n - 1) used ow wy) (hi : i + 1 < k) : pI n A fr to k R (i + 1) (R (i + 1)) used ow wy := by
  obtain ⟨n1, n2, n3, n4, n5⟩ := hN
  obtain ⟨h1, h2, h3, h4, h5, h6⟩ := h
  refine ⟨hR _ hi, h2, h3, by rw [← hvf_next]; exact h4, h5, fun e he i' q => ?_⟩
  obtain ⟨k1, k2⟩ := h6 e he i' q
  exact ⟨by omega, by rw [← hvf_next]; exact k2⟩
end PI
section MOD4
variable {b : xB} {h : Nat → Nat} {n A : Nat} {fr to : Nat → Nat} {k : Nat} {R : Nat → Nat} {ow wy : Nat → Option Nat} {tr hs us nx : Nat → Nat}
set_option maxRecDepth 20000 in
set_option maxHeartbeats 2000000 in
theorem ct_Mod_pack (hS : sOK n A fr to k R) : xCt b y_Mod_pack b_Mod_pack 5 (some .boolean) q_Mod_pack [.ref (h 0)] (wM b h n A fr to k R ow wy tr hs us nx) (xIn (fun r w => r = bI (cB (cOK n A fr to k R (fun _ => true))) ∧ ∃ ow' wy' tr' hs' us' nx', w = wM b h n A fr to k R ow' wy' tr' hs' us' nx' ∧ (cOK n A fr to k R (fun _ => true) → (∀ e, e < A → ow' e = (pks n A fr to k R k).2 e) ∧ ∀ i, i < k → ∀ v, v < n → wy' (7 * i + v) = lst to (pks n A fr to k R k).2 i v A))) := by
  refine x_met (by decide +kernel) rfl (Nat.le_of_ble_eq_true rfl) (fun G X Y => ?_)
  obtain ⟨hN, hk, hR1, hR2⟩ := id hS
  obtain ⟨n1, n2, n3, n4, n5⟩ := id hN
  have hp := pow_le n2
  have main : cOK n A fr to k R (fun _ => true) → ∀ i, i ≤ k → ∀ (used : Nat) (ow wy : Nat → Option Nat) (tr hs us nx : Nat → Nat), (i < k → pI n A fr to k R i (R i) used ow wy) → ag k A (pks n A fr to k R i) (hvf n R i (R i)) ow → (∀ i', i' < k → ∀ v, v < n → wy (7 * i' + v) = lst to ow i' v A) → xW b G 0 0 (wM b h n A fr to k R ow wy tr hs us nx) 55 [(0, .ref (h 0)), (1, .int (nI used)), (2, .int (nI i))] [] := fun hC => loopU k (fun i hi ih used ow wy tr hs us nx hpI hag hwy => by
    have inner : i < k → ∀ (c j had used : Nat) (ow wy : Nat → Option Nat) (tr hs us nx : Nat → Nat), lft n had = c → j + c ≤ 7 → ag k A (itr (gst n A fr to k i) j (pks n A fr to k R i)) (hvf n R i had) ow → pI n A fr to k R i had used ow wy → xW b G 0 0 (wM b h n A fr to k R ow wy tr hs us nx) 70 [(0, .ref (h 0)), (1, .int (nI used)), (2, .int (nI i)), (3, .int (nI had))] [] := by
      intro hik c
      induction c using Nat.strongRecOn with
      | ind c ihc =>
        intro j had used ow wy tr hs us nx hlf hj hag hpI
        obtain ⟨h1, h2, h3, h4, h5, h6⟩ := id hpI
        have find : had ≠ 2 ^ n - 1 → ∀ es, goodF n A fr to k (hvf n R i had) ow i es → ∀ e, e ≤ es → ∀ (tr hs us nx : Nat → Nat), xW b G 0 0 (wM b h n A fr to k R ow wy tr hs us nx) 81 [(0, .ref (h 0)), (1, .int (nI used)), (2, .int (nI i)), (3, .int (nI had)), (4, .int (nI e))] [] := fun hne es hes => loopU es (fun e he ihe tr hs us nx => by
          have hA1 := hes.1.1
          have a4 := n4 e
          have a5 := n5 e (by omega)
          have hor := or_lt h1 a5.2
          have hor2 : used ||| 2 ^ e < 2 ^ 14 := or_lt h2 (by omega)
          refine x_aload_n X d_Mod_pack_81 rfl ?_
          refine x_iload_n X d_Mod_pack_82 rfl ?_
          refine x_iload_n X d_Mod_pack_83 rfl ?_
          refine x_iload X d_Mod_pack_84 rfl ?_
          refine x_callVR X d_Mod_pack_86 c_Mod_91 (ct_Mod_grows (by assumption) (by omega) (by omega) (by omega)) [0, 1, 2, 3, 4, 5, 6, 7, 8, 9] rfl rfl rfl rfl rfl (Nat.le_of_ble_eq_true rfl) ⟨Nat.le_of_ble_eq_true rfl, Nat.le_of_ble_eq_true rfl⟩ ⟨rfl, rfl⟩ ⟨Nat.le_of_ble_eq_true rfl, Nat.le_of_ble_eq_true rfl⟩ (fun r_86 h_86 => ?_)
          obtain rfl := h_86
          refine x_if_eqB 117 X d_Mod_pack_89 (by decide) (fun c_89 => ?_) (fun c_89 => ?_)
          · have hng : ¬ gd n A fr to k R i had used e := fun g => by have g2 := g.2.1; rw [c_89] at g2; cases g2
            refine x_iincN (lv' := [(0, _), (1, _), (2, _), (3, _), (4, _)]) X d_Mod_pack_117 rfl (by decide) rfl ?_
            refine x_goto 81 X d_Mod_pack_120 (by decide) ?_
            have hlt : e < es := Nat.lt_of_le_of_ne he (fun z => hng ((pI_good hpI).mp (by rw [z]; exact hes.1)))
            exact ihe hlt _ _ _ _
          · refine x_aload_n X d_Mod_pack_92 rfl ?_
            refine x_iload_n X d_Mod_pack_93 rfl ?_
            refine x_iload_n X d_Mod_pack_94 rfl ?_
            refine x_iconst X d_Mod_pack_95 k_ic_1 ?_
            refine x_aload_n X d_Mod_pack_96 rfl ?_
            refine x_getf X d_Mod_pack_97 f_Mod_17 0 rfl rfl ?_
            refine x_iload X d_Mod_pack_100 rfl ?_
            refine x_iald X d_Mod_pack_102 2 rfl rfl (by omega) (by decide) ?_
            refine x_shl1 X d_Mod_pack_103 (by omega) ?_
            refine x_iorN X d_Mod_pack_104 ?_
            refine x_iload_n X d_Mod_pack_105 rfl ?_
            refine x_iconst X d_Mod_pack_106 k_ic_1 ?_
            refine x_iload X d_Mod_pack_107 rfl ?_
            refine x_shl1 X d_Mod_pack_109 (by omega) ?_
            refine x_iorN X d_Mod_pack_110 ?_
            refine x_callA X d_Mod_pack_111 c_Mod_94 (ct_Mod_canGoOn hS (by omega) (by omega) (fun _ => hor) hor2) rfl rfl rfl (Nat.le_of_ble_eq_true rfl) ⟨Nat.le_of_ble_eq_true rfl, Nat.le_of_ble_eq_true rfl⟩ ⟨rfl, rfl⟩ ⟨Nat.le_of_ble_eq_true rfl, Nat.le_of_ble_eq_true rfl⟩ (fun v_111 w_111 h_111 => ?_)
            obtain ⟨r_111, rfl, rfl, tr_111, hs_111, us_111, nx_111, rfl⟩ := h_111
            refine ⟨rfl, ?_⟩
            refine x_st (st' := [_]) rfl ?_
            refine x_if_neB 123 X d_Mod_pack_114 (by decide) (fun c_114 => ?_) (fun c_114 => ?_)
            · have hgd : gd n A fr to k R i had used e := ⟨by omega, c_89, cB_iff.mp c_114⟩
              have hee : e = es := by
                rcases Nat.lt_or_ge e es with z | z
                · exact absurd ((pI_good hpI).mpr hgd) (hes.2 e z)
                · omega
              have hb := c_89
              simp only [Bool.and_eq_true, Bool.not_eq_true'] at hb
              have hl2 := lft_s (n := n) (H := had) a5.2 hb.2.2
              refine x_aload_n X d_Mod_pack_123 rfl ?_
              refine x_getf X d_Mod_pack_124 f_Mod_23 0 rfl rfl ?_
              refine x_iload X d_Mod_pack_127 rfl ?_
              refine x_iload_n X d_Mod_pack_129 rfl ?_
              refine x_iast (w' := wM b h _ _ _ _ _ _ _ _ _ _ _ _) X d_Mod_pack_130 4 rfl rfl (by omega) (by decide) (upd_oI _ _ (some _)) rfl ?_
              refine x_aload_n X d_Mod_pack_131 rfl ?_
              refine x_getf X d_Mod_pack_132 f_Mod_26 0 rfl rfl ?_
              refine x_bipush X d_Mod_pack_135 k_bp_7 ?_
              refine x_iload_n X d_Mod_pack_137 rfl ?_
              refine x_imulN X d_Mod_pack_138 ?_
              refine x_aload_n X d_Mod_pack_139 rfl ?_
              refine x_getf X d_Mod_pack_140 f_Mod_17 0 rfl rfl ?_
              refine x_iload X d_Mod_pack_143 rfl ?_
              refine x_iald X d_Mod_pack_145 2 rfl rfl (by omega) (by decide) ?_
              refine x_iaddN X d_Mod_pack_146 ?_
              refine x_iload X d_Mod_pack_147 rfl ?_
              refine x_iast (w' := wM b h _ _ _ _ _ _ _ _ _ _ _ _) X d_Mod_pack_149 5 rfl rfl (by omega) (by decide) (upd_oI _ _ (some _)) rfl ?_
              refine x_iload_n X d_Mod_pack_150 rfl ?_
              refine x_iconst X d_Mod_pack_151 k_ic_1 ?_
              refine x_aload_n X d_Mod_pack_152 rfl ?_
              refine x_getf X d_Mod_pack_153 f_Mod_17 0 rfl rfl ?_
              refine x_iload X d_Mod_pack_156 rfl ?_
              refine x_iald X d_Mod_pack_158 2 rfl rfl (by omega) (by decide) ?_
              refine x_shl1 X d_Mod_pack_159 (by omega) ?_
              refine x_iorN X d_Mod_pack_160 ?_
              refine x_istore_n (lv' := [(0, _), (1, _), (2, _), (3, _), (4, _)]) X d_Mod_pack_161 (by decide) rfl ?_
              refine x_iload_n X d_Mod_pack_162 rfl ?_
              refine x_iconst X d_Mod_pack_163 k_ic_1 ?_
              refine x_iload X d_Mod_pack_164 rfl ?_
              refine x_shl1 X d_Mod_pack_166 (by omega) ?_
              refine x_iorN X d_Mod_pack_167 ?_
              refine x_istore_n (lv' := [(0, _), (1, _), (2, _), (3, _), (4, _)]) X d_Mod_pack_168 (by decide) rfl ?_
              refine x_goto 70 X d_Mod_pack_169 (by decide) ?_
              refine x_lv [0, 1, 2, 3] rfl ?_
              refine ihc (lft n (had ||| 2 ^ to e)) (by omega) (j + 1) _ _ _ _ _ _ _ _ rfl (by omega) ?_ (pI_s hN hpI hik hgd)
              rw [itr_s]
              have q := ag_step (fr := fr) (to := to) hag hik (by rw [hvf_or]; exact hne) (by rw [← hee] at hes; exact hes)
              exact ⟨fun j2 hj2 => (q.1 j2 hj2).trans nhv_hvf, q.2⟩
            · have hng : ¬ gd n A fr to k R i had used e := fun g => by rw [cB_iff.mpr g.2.2] at c_114; cases c_114
              refine x_iincN (lv' := [(0, _), (1, _), (2, _), (3, _), (4, _)]) X d_Mod_pack_117 rfl (by decide) rfl ?_
              refine x_goto 81 X d_Mod_pack_120 (by decide) ?_
              have hlt : e < es := Nat.lt_of_le_of_ne he (fun z => hng ((pI_good hpI).mp (by rw [z]; exact hes.1)))
              exact ihe hlt _ _ _ _
        )
        refine x_iload_n X d_Mod_pack_70 rfl ?_
        refine x_aload_n X d_Mod_pack_71 rfl ?_
        refine x_callVR X d_Mod_pack_72 c_Mod_41 (ct_Mod_all (by omega)) [0, 1, 2, 3, 4, 5, 6, 7, 8, 9] rfl rfl rfl rfl rfl (Nat.le_of_ble_eq_true rfl) ⟨Nat.le_of_ble_eq_true rfl, Nat.le_of_ble_eq_true rfl⟩ ⟨rfl, rfl⟩ ⟨Nat.le_of_ble_eq_true rfl, Nat.le_of_ble_eq_true rfl⟩ (fun r_72 h_72 => ?_)
        obtain rfl := h_72
        refine x_icmp_eqN 172 X d_Mod_pack_75 (by decide) (by omega) (by omega) (fun c_75 => ?_) (fun c_75 => ?_)
        · refine x_iincN (lv' := [(0, _), (1, _), (2, _), (3, _)]) X d_Mod_pack_172 rfl (by decide) rfl ?_
          refine x_goto 55 X d_Mod_pack_175 (by decide) ?_
          subst c_75
          refine x_lv [0, 1, 2] rfl ?_
          refine ih hik used ow wy tr hs us nx (fun z => pI_next hN hR2 hpI z) ?_ h5
          have f := ag_fix (fr := fr) (to := to) (n := n) hag hik (by rw [hvf_or])
          show ag k A (itr (gst n A fr to k i) 7 (pks n A fr to k R i)) _ ow
          rw [← hvf_next, show 7 = (7 - j) + j by omega, itr_add, itr_fix f]
          exact hag
        · refine x_iconst X d_Mod_pack_78 k_ic_0 ?_
          refine x_istore (lv' := [(0, _), (1, _), (2, _), (3, _), (4, _)]) X d_Mod_pack_79 (by decide) rfl ?_
          obtain ⟨es, hes⟩ := pk_least _ (good_ex (pI_fre hpI) n5 hik (by rw [hvf_or]; exact h1) (by rw [hvf_or]; exact c_75))
          exact find c_75 es hes 0 (Nat.zero_le _) tr hs us nx
    refine x_iload_n X d_Mod_pack_55 rfl ?_
    refine x_aload_n X d_Mod_pack_56 rfl ?_
    refine x_getf X d_Mod_pack_57 f_Mod_56 0 rfl rfl ?_
    refine x_icmp_geN 178 X d_Mod_pack_60 (by decide) (by omega) (by omega) (fun c_60 => ?_) (fun c_60 => ?_)
    · obtain rfl : i = k := by omega
      refine x_iconst X d_Mod_pack_178 k_ic_1 ?_
      refine x_top (show nI 1 = bI true from rfl) ?_
      exact x_ret X Y d_Mod_pack_179 (bI_nar _) (Nat.le_of_ble_eq_true rfl) ⟨_, rfl, by rw [cB_iff.mpr hC], _, _, _, _, _, _, rfl, fun _ => ⟨fun e he => (hag.2 e he).symm, fun i2 hi2 v hv => by rw [hwy i2 hi2 v hv, lst_congr A (fun e he => (hag.2 e he).symm)]⟩⟩
    · refine x_aload_n X d_Mod_pack_63 rfl ?_
      refine x_getf X d_Mod_pack_64 f_Mod_20 0 rfl rfl ?_
      refine x_iload_n X d_Mod_pack_67 rfl ?_
      refine x_iald X d_Mod_pack_68 3 rfl rfl (by omega) (by decide) ?_
      refine x_istore_n (lv' := [(0, _), (1, _), (2, _), (3, _)]) X d_Mod_pack_69 (by decide) rfl ?_
      exact inner c_60 _ 0 (R i) used ow wy tr hs us nx rfl (by have := cnt_le (P := fun v => !(R i).testBit v) n; simp only [lft]; omega) hag (hpI c_60)
  )
  have l2 := loopU (P := fun i => xW b G 0 0 (wM b h n A fr to k R (clr ow 14) (clr wy i) tr hs us nx) 23 [(0, .ref (h 0)), (1, .int (nI i))] []) 21 (fun i hi ih => by
    refine x_iload_n X d_Mod_pack_23 rfl ?_
    refine x_bipush X d_Mod_pack_24 k_bp_21 ?_
    refine x_icmp_geN 42 X d_Mod_pack_26 (by decide) (by omega) (by omega) (fun c_26 => ?_) (fun c_26 => ?_)
    · obtain rfl : i = 21 := by omega
      refine x_aload_n X d_Mod_pack_42 rfl ?_
      refine x_callA X d_Mod_pack_43 c_Mod_97 (ct_Mod_packs (by assumption)) rfl rfl rfl (Nat.le_of_ble_eq_true rfl) ⟨Nat.le_of_ble_eq_true rfl, Nat.le_of_ble_eq_true rfl⟩ ⟨rfl, rfl⟩ ⟨Nat.le_of_ble_eq_true rfl, Nat.le_of_ble_eq_true rfl⟩ (fun v_43 w_43 h_43 => ?_)
      obtain ⟨r_43, rfl, rfl, tr_43, hs_43, us_43, nx_43, rfl⟩ := h_43
      refine ⟨rfl, ?_⟩
      refine x_st (st' := [_]) rfl ?_
      refine x_if_neB 51 X d_Mod_pack_46 (by decide) (fun c_46 => ?_) (fun c_46 => ?_)
      · refine x_iconst X d_Mod_pack_51 k_ic_0 ?_
        refine x_istore_n (lv' := [(0, _), (1, _)]) X d_Mod_pack_52 (by decide) rfl ?_
        refine x_iconst X d_Mod_pack_53 k_ic_0 ?_
        refine x_istore_n (lv' := [(0, _), (1, _), (2, _)]) X d_Mod_pack_54 (by decide) rfl ?_
        have hC := cB_iff.mp c_46
        have w0 : ∀ i', i' < k → ∀ v, v < n → clr wy 21 (7 * i' + v) = lst to (clr ow 14) i' v A := fun i' hi' v hv => by rw [clr_lt (by omega), lst_none A (fun e he => clr_lt (by omega))]
        exact main hC 0 (Nat.zero_le _) 0 _ _ _ _ _ _ (fun z => ⟨hR2 0 z, by decide, fun e he => by rw [clr_lt (by omega)]; simp [unu], (hvf_0 (fun _ => rfl)).mpr hC, w0, fun e he i' q => by rw [clr_lt (by omega)] at q; cases q⟩) ⟨fun j hj => by
          simp only [hvf]
          rw [if_neg (by omega)]
          split
          · rename_i q; rw [q]; rfl
          · rfl, fun e he => (clr_lt (by omega)).symm⟩ w0
      · refine x_iconst X d_Mod_pack_49 k_ic_0 ?_
        refine x_top (show nI 0 = bI false from rfl) ?_
        exact x_ret X Y d_Mod_pack_50 (bI_nar _) (Nat.le_of_ble_eq_true rfl) ⟨_, rfl, by rw [c_46], _, _, _, _, _, _, rfl, fun z => by rw [cB_iff.mpr z] at c_46; cases c_46⟩
    · refine x_aload_n X d_Mod_pack_29 rfl ?_
      refine x_getf X d_Mod_pack_30 f_Mod_26 0 rfl rfl ?_
      refine x_iload_n X d_Mod_pack_33 rfl ?_
      refine x_iconst X d_Mod_pack_34 k_ic_m1 ?_
      refine x_iast (w' := wM b h _ _ _ _ _ _ _ _ _ _ _ _) X d_Mod_pack_35 5 rfl rfl (by omega) (by decide) (upd_oI _ _ none) rfl ?_
      refine x_iincN (lv' := [(0, _), (1, _)]) X d_Mod_pack_36 rfl (by decide) rfl ?_
      refine x_goto 23 X d_Mod_pack_39 (by decide) ?_
      have q := ih (by omega)
      rw [← clr_s wy i] at q
      exact q
  )
  have l1 := loopU (P := fun i => xW b G 0 0 (wM b h n A fr to k R (clr ow i) wy tr hs us nx) 2 [(0, .ref (h 0)), (1, .int (nI i))] []) 14 (fun i hi ih => by
    refine x_iload_n X d_Mod_pack_2 rfl ?_
    refine x_bipush X d_Mod_pack_3 k_bp_14 ?_
    refine x_icmp_geN 21 X d_Mod_pack_5 (by decide) (by omega) (by omega) (fun c_5 => ?_) (fun c_5 => ?_)
    · obtain rfl : i = 14 := by omega
      refine x_iconst X d_Mod_pack_21 k_ic_0 ?_
      refine x_istore_n (lv' := [(0, _), (1, _)]) X d_Mod_pack_22 (by decide) rfl ?_
      have q := l2 0 (Nat.zero_le _)
      rw [clr_0] at q
      exact q
    · refine x_aload_n X d_Mod_pack_8 rfl ?_
      refine x_getf X d_Mod_pack_9 f_Mod_23 0 rfl rfl ?_
      refine x_iload_n X d_Mod_pack_12 rfl ?_
      refine x_iconst X d_Mod_pack_13 k_ic_m1 ?_
      refine x_iast (w' := wM b h _ _ _ _ _ _ _ _ _ _ _ _) X d_Mod_pack_14 4 rfl rfl (by omega) (by decide) (upd_oI _ _ none) rfl ?_
      refine x_iincN (lv' := [(0, _), (1, _)]) X d_Mod_pack_15 rfl (by decide) rfl ?_
      refine x_goto 2 X d_Mod_pack_18 (by decide) ?_
      have q := ih (by omega)
      rw [← clr_s] at q
      exact q
  )
  have q := l1 0 (Nat.zero_le _)
  rw [clr_0] at q
  refine x_iconst X d_Mod_pack_0 k_ic_0 ?_
  refine x_istore_n (lv' := [(0, _), (1, _)]) X d_Mod_pack_1 (by decide) rfl ?_
  exact q
set_option maxRecDepth 20000 in
theorem ct_Mod_owner {x : Int32} (hS : sOK n A fr to k R) : xCt b y_Mod_owner b_Mod_owner 2 (some .int) q_Mod_owner [.ref (h 0), .int x] (wM b h n A fr to k R ow wy tr hs us nx) (xIn (fun r w => opt A x (q_own n A fr to k R) (-1) r ∧ ∃ ow' wy' tr' hs' us' nx', w = wM b h n A fr to k R ow' wy' tr' hs' us' nx')) := by
  refine x_met (by decide +kernel) rfl (Nat.le_of_ble_eq_true rfl) (fun G X Y => ?_)
  obtain ⟨hN, hk, hR1, hR2⟩ := id hS
  obtain ⟨n1, n2, n3, n4, n5⟩ := id hN
  refine x_aload_n X d_Mod_owner_0 rfl ?_
  refine x_iload_n X d_Mod_owner_1 rfl ?_
  refine x_callVR X d_Mod_owner_2 c_Mod_59 (ct_Mod_isArc _ (by omega)) [0, 1, 2, 3, 4, 5, 6, 7, 8, 9] rfl rfl rfl rfl rfl (Nat.le_of_ble_eq_true rfl) ⟨Nat.le_of_ble_eq_true rfl, Nat.le_of_ble_eq_true rfl⟩ ⟨rfl, rfl⟩ ⟨Nat.le_of_ble_eq_true rfl, Nat.le_of_ble_eq_true rfl⟩ (fun r_2 h_2 => ?_)
  obtain ⟨c_2, rfl, hc_2⟩ := h_2
  refine x_if_eqB 24 X d_Mod_owner_5 (by decide) (fun c_5 => ?_) (fun c_5 => ?_)
  · have fin : opt A x (q_own n A fr to k R) (-1) (-1) := Or.inr ⟨bno hc_2 c_5, rfl⟩
    refine x_iconst X d_Mod_owner_24 k_ic_m1 ?_
    exact x_ret X Y d_Mod_owner_25 rfl (Nat.le_of_ble_eq_true rfl) ⟨_, rfl, fin, _, _, _, _, _, _, rfl⟩
  · obtain ⟨e, he, rfl⟩ := hc_2.mp c_5
    refine x_aload_n X d_Mod_owner_8 rfl ?_
    refine x_callA X d_Mod_owner_9 c_Mod_101 (ct_Mod_pack (by assumption)) rfl rfl rfl (Nat.le_of_ble_eq_true rfl) ⟨Nat.le_of_ble_eq_true rfl, Nat.le_of_ble_eq_true rfl⟩ ⟨rfl, rfl⟩ ⟨Nat.le_of_ble_eq_true rfl, Nat.le_of_ble_eq_true rfl⟩ (fun v_9 w_9 h_9 => ?_)
    obtain ⟨r_9, rfl, rfl, ow_9, wy_9, tr_9, hs_9, us_9, nx_9, rfl, hw_9⟩ := h_9
    refine ⟨rfl, ?_⟩
    refine x_st (st' := [_]) rfl ?_
    refine x_if_eqB 24 X d_Mod_owner_12 (by decide) (fun c_12 => ?_) (fun c_12 => ?_)
    · have fin : opt A (nI e) (q_own n A fr to k R) (-1) (-1) := opt_t he (by simp [q_own, c_12])
      refine x_iconst X d_Mod_owner_24 k_ic_m1 ?_
      exact x_ret X Y d_Mod_owner_25 rfl (Nat.le_of_ble_eq_true rfl) ⟨_, rfl, fin, _, _, _, _, _, _, rfl⟩
    · have fin : opt A (nI e) (q_own n A fr to k R) (-1) (oI (ow_9 e)) := opt_t he (by simp [q_own, c_12, (hw_9 (cB_iff.mp c_12)).1 e he])
      refine x_aload_n X d_Mod_owner_15 rfl ?_
      refine x_getf X d_Mod_owner_16 f_Mod_23 0 rfl rfl ?_
      refine x_iload_n X d_Mod_owner_19 rfl ?_
      refine x_iald X d_Mod_owner_20 4 rfl rfl (by omega) (by decide) ?_
      refine x_goto 25 X d_Mod_owner_21 (by decide) ?_
      exact x_ret X Y d_Mod_owner_25 rfl (Nat.le_of_ble_eq_true rfl) ⟨_, rfl, fin, _, _, _, _, _, _, rfl⟩
set_option maxRecDepth 20000 in
theorem ct_Mod_way {x y : Int32} (hS : sOK n A fr to k R) : xCt b y_Mod_way b_Mod_way 4 (some .int) q_Mod_way [.ref (h 0), .int x, .int y] (wM b h n A fr to k R ow wy tr hs us nx) (xIn (fun r w => w2 k n x y (q_way n A fr to k R) r ∧ ∃ ow' wy' tr' hs' us' nx', w = wM b h n A fr to k R ow' wy' tr' hs' us' nx')) := by
  refine x_met (by decide +kernel) rfl (Nat.le_of_ble_eq_true rfl) (fun G X Y => ?_)
  obtain ⟨hN, hk, hR1, hR2⟩ := id hS
  obtain ⟨n1, n2, n3, n4, n5⟩ := id hN
  have low : ¬ (xLt k x ∧ xLt n y) → xW b G 0 0 (wM b h n A fr to k R ow wy tr hs us nx) 28 [(0, .ref (h 0)), (1, .int x), (2, .int y)] [] := fun hno => by
    refine x_iconst X d_Mod_way_28 k_ic_0 ?_
    refine x_istore_n (lv' := [(0, _), (1, _), (2, _), (3, _)]) X d_Mod_way_29 (by decide) rfl ?_
    refine x_iload_n X d_Mod_way_30 rfl ?_
    refine x_if_eqN 55 X d_Mod_way_31 (by decide) (by omega) (fun c_31 => ?_) (fun c_31 => ?_)
    · refine x_iconst X d_Mod_way_55 k_ic_m1 ?_
      exact x_ret X Y d_Mod_way_56 rfl (Nat.le_of_ble_eq_true rfl) ⟨_, rfl, Or.inr ⟨hno, rfl⟩, _, _, _, _, _, _, rfl⟩
    · exact absurd rfl c_31
  refine x_iload_n X d_Mod_way_0 rfl ?_
  refine x_if_lt 28 X d_Mod_way_1 (by decide) (fun c_1 => ?_) (fun c_1 => ?_)
  · exact low (fun q => xLt_f1 c_1 (by omega) q.1)
  · refine x_iload_n X d_Mod_way_4 rfl ?_
    refine x_aload_n X d_Mod_way_5 rfl ?_
    refine x_getf X d_Mod_way_6 f_Mod_56 0 rfl rfl ?_
    refine x_icmp_ge 28 X d_Mod_way_9 (by decide) (fun c_9 => ?_) (fun c_9 => ?_)
    · exact low (fun q => xLt_f2 c_9 (by omega) q.1)
    · refine x_iload_n X d_Mod_way_12 rfl ?_
      refine x_if_lt 28 X d_Mod_way_13 (by decide) (fun c_13 => ?_) (fun c_13 => ?_)
      · exact low (fun q => xLt_f1 c_13 (by omega) q.2)
      · refine x_iload_n X d_Mod_way_16 rfl ?_
        refine x_aload_n X d_Mod_way_17 rfl ?_
        refine x_getf X d_Mod_way_18 f_Mod_7 0 rfl rfl ?_
        refine x_icmp_ge 28 X d_Mod_way_21 (by decide) (fun c_21 => ?_) (fun c_21 => ?_)
        · exact low (fun q => xLt_f2 c_21 (by omega) q.2)
        · obtain ⟨i, hi, rfl⟩ := xLt_t c_1 c_9 (by omega)
          obtain ⟨v, hv, rfl⟩ := xLt_t c_13 c_21 (by omega)
          refine x_iconst X d_Mod_way_24 k_ic_1 ?_
          refine x_goto 29 X d_Mod_way_25 (by decide) ?_
          refine x_istore_n (lv' := [(0, _), (1, _), (2, _), (3, _)]) X d_Mod_way_29 (by decide) rfl ?_
          refine x_iload_n X d_Mod_way_30 rfl ?_
          refine x_if_eqN 55 X d_Mod_way_31 (by decide) (by omega) (fun c_31 => ?_) (fun c_31 => ?_)
          · exact absurd c_31 (by decide)
          · refine x_aload_n X d_Mod_way_34 rfl ?_
            refine x_callA X d_Mod_way_35 c_Mod_101 (ct_Mod_pack (by assumption)) rfl rfl rfl (Nat.le_of_ble_eq_true rfl) ⟨Nat.le_of_ble_eq_true rfl, Nat.le_of_ble_eq_true rfl⟩ ⟨rfl, rfl⟩ ⟨Nat.le_of_ble_eq_true rfl, Nat.le_of_ble_eq_true rfl⟩ (fun v_35 w_35 h_35 => ?_)
            obtain ⟨r_35, rfl, rfl, ow_35, wy_35, tr_35, hs_35, us_35, nx_35, rfl, hw_35⟩ := h_35
            refine ⟨rfl, ?_⟩
            refine x_st (st' := [_]) rfl ?_
            refine x_if_eqB 55 X d_Mod_way_38 (by decide) (fun c_38 => ?_) (fun c_38 => ?_)
            · have fin : w2 k n (nI i) (nI v) (q_way n A fr to k R) (-1) := Or.inl ⟨i, v, hi, hv, rfl, rfl, by simp [q_way, c_38]⟩
              refine x_iconst X d_Mod_way_55 k_ic_m1 ?_
              exact x_ret X Y d_Mod_way_56 rfl (Nat.le_of_ble_eq_true rfl) ⟨_, rfl, fin, _, _, _, _, _, _, rfl⟩
            · have fin : w2 k n (nI i) (nI v) (q_way n A fr to k R) (oI (wy_35 (7 * i + v))) := Or.inl ⟨i, v, hi, hv, rfl, rfl, by simp [q_way, c_38, (hw_35 (cB_iff.mp c_38)).2 i hi v hv]⟩
              refine x_aload_n X d_Mod_way_41 rfl ?_
              refine x_getf X d_Mod_way_42 f_Mod_26 0 rfl rfl ?_
              refine x_bipush X d_Mod_way_45 k_bp_7 ?_
              refine x_iload_n X d_Mod_way_47 rfl ?_
              refine x_imulN X d_Mod_way_48 ?_
              refine x_iload_n X d_Mod_way_49 rfl ?_
              refine x_iaddN X d_Mod_way_50 ?_
              refine x_iald X d_Mod_way_51 5 rfl rfl (by omega) (by decide) ?_
              refine x_goto 56 X d_Mod_way_52 (by decide) ?_
              exact x_ret X Y d_Mod_way_56 rfl (Nat.le_of_ble_eq_true rfl) ⟨_, rfl, fin, _, _, _, _, _, _, rfl⟩
end MOD4
end
section
/-! THE MODEL: spare -/
theorem shf_at {f : Nat → Nat} {e A j : Nat} (hj : j < A - 1) : shf f e A j = f (if e ≤ j then j + 1 else j) := by
  simp only [shf]
  by_cases q : e ≤ j
  · rw [if_pos ⟨q, by omega⟩, if_pos q]
  · rw [if_neg (fun z => q z.1), if_neg q]
theorem cnt_shf {Q : Nat → Bool} {e : Nat} : ∀ m, e ≤ m → cnt (fun j => Q (if e ≤ j then j + 1 else j)) m = cnt (fun j => decide (j ≠ e) && Q j) (m + 1) := by
  intro m hm
  obtain ⟨d, rfl⟩ : ∃ d, m = e + d := ⟨m - e, by omega⟩
  induction d with
  | zero =>
    simp only [Nat.add_zero, cnt]
    rw [cnt_congr (Q := fun j => decide (j ≠ e) && Q j) (fun j hj => by rw [if_neg (by omega)]; simp; omega)]
    simp
  | succ d ih =>
    rw [show e + (d + 1) = (e + d) + 1 by omega]
    simp only [cnt]
    rw [ih (by omega)]
    simp only [cnt]
    rw [if_pos (by omega), show decide (e + d + 1 ≠ e) = true from decide_eq_true (by omega), Bool.true_and]
theorem cOK_shf {n A k : Nat} {fr to R : Nat → Nat} {e : Nat} (he : e < A) : cOK n (A - 1) (shf fr e A) (shf to e A) k R (fun _ => true) ↔ cOK n A fr to k R (fun j => decide (j ≠ e)) := by
  have key : ∀ X, ent (shf fr e A) (shf to e A) (fun _ => true) (A - 1) X = ent fr to (fun j => decide (j ≠ e)) A X := fun X => by
    simp only [ent]
    have z := cnt_shf (Q := fun j => crs X (fr j) (to j)) (e := e) (A - 1) (by omega)
    rw [show A - 1 + 1 = A by omega] at z
    exact (cnt_congr (fun j hj => by simp only [Bool.true_and]; rw [shf_at hj, shf_at hj])).trans z
  simp only [cOK, key]
theorem sOK_shf {n A k : Nat} {fr to R : Nat → Nat} {e : Nat} (h : sOK n A fr to k R) : sOK n (A - 1) (shf fr e A) (shf to e A) k R := by
  obtain ⟨⟨n1, n2, n3, n4, n5⟩, h2, h3, h4⟩ := h
  refine ⟨⟨n1, n2, by omega, fun j => ⟨shf_lt (fun j => (n4 j).1) j, shf_lt (fun j => (n4 j).2) j⟩, fun j hj => ?_⟩, h2, h3, h4⟩
  rw [shf_at hj, shf_at hj]
  exact n5 _ (by split <;> omega)
def rst (f : Nat → Nat) (e A j : Nat) : Nat → Nat := fun i => if j < i ∧ i < A then f i else shf f e A i
theorem rst_0 {f : Nat → Nat} {e A : Nat} : rst f e A (A - 1) = shf f e A := by
  funext i
  simp only [rst]
  rw [if_neg (by omega)]
theorem rst_s {f : Nat → Nat} {e A j : Nat} (h1 : e < j) (h2 : j < A) : va_up (rst f e A j) j (rst f e A j (j - 1)) = rst f e A (j - 1) := by
  funext i
  simp only [va_up, rst]
  by_cases q : i = j
  · rw [if_pos q, if_neg (by omega), if_pos (by omega), q]
    simp only [shf]
    rw [if_pos (by omega), show j - 1 + 1 = j by omega]
  · rw [if_neg q]
    by_cases z : j < i ∧ i < A
    · rw [if_pos z, if_pos (by omega)]
    · rw [if_neg z, if_neg (by omega)]
theorem rst_e {f : Nat → Nat} {e A : Nat} : va_up (rst f e A e) e (f e) = f := by
  funext i
  simp only [va_up, rst]
  by_cases q : i = e
  · rw [if_pos q, q]
  · rw [if_neg q]
    by_cases z : e < i ∧ i < A
    · rw [if_pos z]
    · rw [if_neg z]
      simp only [shf]
      rw [if_neg (by omega)]
section MOD5
variable {b : xB} {h : Nat → Nat} {n A : Nat} {fr to : Nat → Nat} {k : Nat} {R : Nat → Nat} {ow wy : Nat → Option Nat} {tr hs us nx : Nat → Nat}
set_option maxRecDepth 20000 in
set_option maxHeartbeats 1000000 in
theorem ct_Mod_spare {x : Int32} (hS : sOK n A fr to k R) : xCt b y_Mod_spare b_Mod_spare 6 (some .boolean) q_Mod_spare [.ref (h 0), .int x] (wM b h n A fr to k R ow wy tr hs us nx) (xIn (fun r w => opt A x (fun e => bI (cB (cOK n A fr to k R (fun j => decide (j ≠ e))))) (bI false) r ∧ ∃ tr' hs' us' nx', w = wM b h n A fr to k R ow wy tr' hs' us' nx')) := by
  refine x_met (by decide +kernel) rfl (Nat.le_of_ble_eq_true rfl) (fun G X Y => ?_)
  obtain ⟨hN, hk, hR1, hR2⟩ := id hS
  obtain ⟨n1, n2, n3, n4, n5⟩ := id hN
  refine x_aload_n X d_Mod_spare_0 rfl ?_
  refine x_iload_n X d_Mod_spare_1 rfl ?_
  refine x_callVR X d_Mod_spare_2 c_Mod_59 (ct_Mod_isArc _ (by omega)) [0, 1, 2, 3, 4, 5, 6, 7, 8, 9] rfl rfl rfl rfl rfl (Nat.le_of_ble_eq_true rfl) ⟨Nat.le_of_ble_eq_true rfl, Nat.le_of_ble_eq_true rfl⟩ ⟨rfl, rfl⟩ ⟨Nat.le_of_ble_eq_true rfl, Nat.le_of_ble_eq_true rfl⟩ (fun r_2 h_2 => ?_)
  obtain ⟨c_2, rfl, hc_2⟩ := h_2
  refine x_if_neB 10 X d_Mod_spare_5 (by decide) (fun c_5 => ?_) (fun c_5 => ?_)
  · obtain ⟨e, he, rfl⟩ := hc_2.mp c_5
    refine x_aload_n X d_Mod_spare_10 rfl ?_
    refine x_getf X d_Mod_spare_11 f_Mod_13 0 rfl rfl ?_
    refine x_iload_n X d_Mod_spare_14 rfl ?_
    refine x_iald X d_Mod_spare_15 1 rfl rfl (by omega) (by decide) ?_
    refine x_istore_n (lv' := [(0, _), (1, _), (2, _)]) X d_Mod_spare_16 (by decide) rfl ?_
    refine x_aload_n X d_Mod_spare_17 rfl ?_
    refine x_getf X d_Mod_spare_18 f_Mod_17 0 rfl rfl ?_
    refine x_iload_n X d_Mod_spare_21 rfl ?_
    refine x_iald X d_Mod_spare_22 2 rfl rfl (by omega) (by decide) ?_
    refine x_istore_n (lv' := [(0, _), (1, _), (2, _), (3, _)]) X d_Mod_spare_23 (by decide) rfl ?_
    refine x_aload_n X d_Mod_spare_24 rfl ?_
    refine x_iload_n X d_Mod_spare_25 rfl ?_
    refine x_callA X d_Mod_spare_26 c_Mod_63 (ct_Mod_remove (by omega) (by omega)) rfl rfl rfl (Nat.le_of_ble_eq_true rfl) ⟨Nat.le_of_ble_eq_true rfl, Nat.le_of_ble_eq_true rfl⟩ ⟨rfl, rfl⟩ ⟨Nat.le_of_ble_eq_true rfl, Nat.le_of_ble_eq_true rfl⟩ (fun v_26 w_26 h_26 => ?_)
    obtain ⟨rfl, rfl⟩ := h_26
    refine ⟨rfl, ?_⟩
    refine x_st (st' := []) rfl ?_
    refine x_aload_n X d_Mod_spare_29 rfl ?_
    refine x_callA X d_Mod_spare_30 c_Mod_97 (ct_Mod_packs (sOK_shf (by assumption))) rfl rfl rfl (Nat.le_of_ble_eq_true rfl) ⟨Nat.le_of_ble_eq_true rfl, Nat.le_of_ble_eq_true rfl⟩ ⟨rfl, rfl⟩ ⟨Nat.le_of_ble_eq_true rfl, Nat.le_of_ble_eq_true rfl⟩ (fun v_30 w_30 h_30 => ?_)
    obtain ⟨r_30, rfl, rfl, tr_30, hs_30, us_30, nx_30, rfl⟩ := h_30
    refine ⟨rfl, ?_⟩
    refine x_st (st' := [_]) rfl ?_
    refine x_istore (lv' := [(0, _), (1, _), (2, _), (3, _), (4, _)]) X d_Mod_spare_33 (by decide) rfl ?_
    refine x_aload_n X d_Mod_spare_35 rfl ?_
    refine x_getf X d_Mod_spare_36 f_Mod_45 0 rfl rfl ?_
    refine x_istore (lv' := [(0, _), (1, _), (2, _), (3, _), (4, _), (5, _)]) X d_Mod_spare_39 (by decide) rfl ?_
    have loop : ∀ d, e + d < A → xW b G 0 0 (wM b h n (A - 1) (rst fr e A (e + d)) (rst to e A (e + d)) k R ow wy tr_30 hs_30 us_30 nx_30) 41 [(0, .ref (h 0)), (1, .int (nI e)), (2, .int (nI (fr e))), (3, .int (nI (to e))), (4, .int (bI (cB (cOK n (A - 1) (shf fr e A) (shf to e A) k R (fun _ => true))))), (5, .int (nI (e + d)))] [] := by
      intro d
      induction d with
      | zero =>
        intro hd
        refine x_iload X d_Mod_spare_41 rfl ?_
        refine x_iload_n X d_Mod_spare_43 rfl ?_
        refine x_icmp_leN 85 X d_Mod_spare_44 (by decide) (by omega) (by omega) (fun c_44 => ?_) (fun c_44 => ?_)
        · refine x_aload_n X d_Mod_spare_85 rfl ?_
          refine x_getf X d_Mod_spare_86 f_Mod_13 0 rfl rfl ?_
          refine x_iload_n X d_Mod_spare_89 rfl ?_
          refine x_iload_n X d_Mod_spare_90 rfl ?_
          refine x_iast (w' := wM b h _ _ _ _ _ _ _ _ _ _ _ _) X d_Mod_spare_91 1 rfl rfl (by omega) (by decide) (upd_nI _ _ _) rfl ?_
          refine x_aload_n X d_Mod_spare_92 rfl ?_
          refine x_getf X d_Mod_spare_93 f_Mod_17 0 rfl rfl ?_
          refine x_iload_n X d_Mod_spare_96 rfl ?_
          refine x_iload_n X d_Mod_spare_97 rfl ?_
          refine x_iast (w' := wM b h _ _ _ _ _ _ _ _ _ _ _ _) X d_Mod_spare_98 2 rfl rfl (by omega) (by decide) (upd_nI _ _ _) rfl ?_
          refine x_aload_n X d_Mod_spare_99 rfl ?_
          refine x_dup X d_Mod_spare_100 rfl ?_
          refine x_getf X d_Mod_spare_101 f_Mod_45 0 rfl rfl ?_
          refine x_iconst X d_Mod_spare_104 k_ic_1 ?_
          refine x_iaddN X d_Mod_spare_105 ?_
          refine x_putf (w' := wM b h _ _ _ _ _ _ _ _ _ _ _ _) X d_Mod_spare_106 f_Mod_45 0 rfl rfl rfl (Nat.le_of_ble_eq_true rfl) rfl ?_
          refine x_iload X d_Mod_spare_109 rfl ?_
          exact x_ret X Y d_Mod_spare_111 (bI_nar _) (Nat.le_of_ble_eq_true rfl) ⟨_, rfl, opt_t he (by rw [cB_congr (cOK_shf he)]), _, _, _, _, by rw [show A - 1 + 1 = A by omega, Nat.add_zero, rst_e, rst_e]⟩
        · omega
      | succ d ih =>
        intro hd
        refine x_iload X d_Mod_spare_41 rfl ?_
        refine x_iload_n X d_Mod_spare_43 rfl ?_
        refine x_icmp_leN 85 X d_Mod_spare_44 (by decide) (by omega) (by omega) (fun c_44 => ?_) (fun c_44 => ?_)
        · omega
        · refine x_aload_n X d_Mod_spare_47 rfl ?_
          refine x_getf X d_Mod_spare_48 f_Mod_13 0 rfl rfl ?_
          refine x_iload X d_Mod_spare_51 rfl ?_
          refine x_aload_n X d_Mod_spare_53 rfl ?_
          refine x_getf X d_Mod_spare_54 f_Mod_13 0 rfl rfl ?_
          refine x_iload X d_Mod_spare_57 rfl ?_
          refine x_iconst X d_Mod_spare_59 k_ic_1 ?_
          refine x_isubN X d_Mod_spare_60 (by omega) ?_
          refine x_iald X d_Mod_spare_61 1 rfl rfl (by omega) (by decide) ?_
          refine x_iast (w' := wM b h _ _ _ _ _ _ _ _ _ _ _ _) X d_Mod_spare_62 1 rfl rfl (by omega) (by decide) (upd_nI _ _ _) rfl ?_
          refine x_aload_n X d_Mod_spare_63 rfl ?_
          refine x_getf X d_Mod_spare_64 f_Mod_17 0 rfl rfl ?_
          refine x_iload X d_Mod_spare_67 rfl ?_
          refine x_aload_n X d_Mod_spare_69 rfl ?_
          refine x_getf X d_Mod_spare_70 f_Mod_17 0 rfl rfl ?_
          refine x_iload X d_Mod_spare_73 rfl ?_
          refine x_iconst X d_Mod_spare_75 k_ic_1 ?_
          refine x_isubN X d_Mod_spare_76 (by omega) ?_
          refine x_iald X d_Mod_spare_77 2 rfl rfl (by omega) (by decide) ?_
          refine x_iast (w' := wM b h _ _ _ _ _ _ _ _ _ _ _ _) X d_Mod_spare_78 2 rfl rfl (by omega) (by decide) (upd_nI _ _ _) rfl ?_
          refine x_iinc (v := nI (e + d)) (lv' := [(0, _), (1, _), (2, _), (3, _), (4, _), (5, _)]) X d_Mod_spare_79 rfl (by rw [k_ic_m1, sb_m1 (by omega)]; congr 1) (by decide) rfl ?_
          refine x_goto 41 X d_Mod_spare_82 (by decide) ?_
          have q := ih (by omega)
          rw [show e + d = e + (d + 1) - 1 by omega, ← rst_s (f := fr) (e := e) (j := e + (d + 1)) (by omega) hd, ← rst_s (f := to) (e := e) (j := e + (d + 1)) (by omega) hd, show e + (d + 1) - 1 = e + d by omega] at q
          exact q
    have q := loop (A - 1 - e) (by omega)
    rw [show e + (A - 1 - e) = A - 1 by omega, rst_0, rst_0] at q
    exact q
  · refine x_iconst X d_Mod_spare_8 k_ic_0 ?_
    refine x_top (show nI 0 = bI false from rfl) ?_
    exact x_ret X Y d_Mod_spare_9 (bI_nar _) (Nat.le_of_ble_eq_true rfl) ⟨_, rfl, Or.inr ⟨bno hc_2 c_5, rfl⟩, _, _, _, _, rfl⟩
end MOD5
end
section
/-! THE CONSTRUCTORS, printed by gen/ctor.py -/
abbrev q_Net_init : Room := { frames := 1, cells := 2, slots := 28, locals := 30 }
set_option maxRecDepth 20000 in
set_option maxHeartbeats 1000000 in
theorem ct_Net_init {b : xB} (a : Nat) : xCt b y_Net_init b_Net_init 1 none q_Net_init [.ref a] [(a, .inr (1, [.int (nI 0), .int (nI 0), .null, .null]))] (xVd (fun w => ∃ q1 q2 : Nat, w = [(a, .inr (1, [.int (nI 1), .int (nI 0), .ref q1, .ref q2])), (q1, .inl (b.2.2.2, 14, .inl (fun _ => nI 0))), (q2, .inl (b.2.2.2, 14, .inl (fun _ => nI 0)))])) := by
  refine x_met (by decide +kernel) rfl (Nat.le_of_ble_eq_true rfl) (fun G X Y => ?_)
  refine x_aload_n X d_Net_init_0 rfl ?_
  refine x_objInit X d_Net_init_1 m_38 (Nat.le_of_ble_eq_true rfl) (Nat.le_of_ble_eq_true rfl) ?_
  refine x_aload_n X d_Net_init_4 rfl ?_
  refine x_iconst X d_Net_init_5 k_ic_1 ?_
  refine x_putf (w' := [(_, .inr (_, [_, _, _, _]))]) X d_Net_init_6 f_Net_9 0 rfl rfl rfl (Nat.le_of_ble_eq_true rfl) rfl ?_
  refine x_aload_n X d_Net_init_9 rfl ?_
  refine x_bipush X d_Net_init_10 k_bp_14 ?_
  refine x_newb X d_Net_init_12 rfl (by decide) (Nat.le_of_ble_eq_true rfl) (Nat.le_of_ble_eq_true rfl) (fun q1 => ?_)
  refine x_wd (w' := [(_, .inr (_, [_, _, _, _])), _]) rfl ?_
  refine x_putF (w' := [(_, .inr (_, [_, _, _, _])), _]) X d_Net_init_14 f_Net_15 rfl 0 rfl rfl rfl (Nat.le_of_ble_eq_true rfl) rfl ?_
  refine x_aload_n X d_Net_init_17 rfl ?_
  refine x_bipush X d_Net_init_18 k_bp_14 ?_
  refine x_newb X d_Net_init_20 rfl (by decide) (Nat.le_of_ble_eq_true rfl) (Nat.le_of_ble_eq_true rfl) (fun q2 => ?_)
  refine x_wd (w' := [(_, .inr (_, [_, _, _, _])), _, _]) rfl ?_
  refine x_putF (w' := [(_, .inr (_, [_, _, _, _])), _, _]) X d_Net_init_22 f_Net_19 rfl 0 rfl rfl rfl (Nat.le_of_ble_eq_true rfl) rfl ?_
  exact x_vret X Y d_Net_init_25 (Nat.le_of_ble_eq_true rfl) ⟨rfl, _, _, rfl⟩
abbrev q_Ways_init : Room := { frames := 1, cells := 7, slots := 337, locals := 30 }
set_option maxRecDepth 20000 in
set_option maxHeartbeats 1000000 in
theorem ct_Ways_init {b : xB} (a : Nat) : xCt b y_Ways_init b_Ways_init 1 none q_Ways_init [.ref a] [(a, .inr (2, [.null, .null, .null, .null, .null, .null, .null, .int (nI 0), .int (nI 0)]))] (xVd (fun w => ∃ q1 q2 q3 q4 q5 q6 q7 : Nat, w = [(a, .inr (2, [.ref q1, .ref q2, .ref q3, .ref q4, .ref q5, .ref q6, .ref q7, .int (nI 0), .int (nI 0)])), (q1, .inl (b.2.2.1, 11, .inl (fun _ => nI 0))), (q2, .inl (b.2.2.1, 76, .inl (fun _ => nI 0))), (q3, .inl (b.2.2.1, 76, .inl (fun _ => nI 0))), (q4, .inl (b.2.2.1, 76, .inl (fun _ => nI 0))), (q5, .inl (b.2.2.1, 76, .inl (fun _ => nI 0))), (q6, .inl (b.2.2.1, 11, .inl (fun _ => nI 0))), (q7, .inl (b.2.2.1, 11, .inl (fun _ => nI 0)))])) := by
  refine x_met (by decide +kernel) rfl (Nat.le_of_ble_eq_true rfl) (fun G X Y => ?_)
  refine x_aload_n X d_Ways_init_0 rfl ?_
  refine x_objInit X d_Ways_init_1 m_72 (Nat.le_of_ble_eq_true rfl) (Nat.le_of_ble_eq_true rfl) ?_
  refine x_aload_n X d_Ways_init_4 rfl ?_
  refine x_bipush X d_Ways_init_5 k_bp_11 ?_
  refine x_newi X d_Ways_init_7 rfl (by decide) (Nat.le_of_ble_eq_true rfl) (Nat.le_of_ble_eq_true rfl) (fun q1 => ?_)
  refine x_wd (w' := [(_, .inr (_, [_, _, _, _, _, _, _, _, _])), _]) rfl ?_
  refine x_putF (w' := [(_, .inr (_, [_, _, _, _, _, _, _, _, _])), _]) X d_Ways_init_9 f_Ways_11 rfl 0 rfl rfl rfl (Nat.le_of_ble_eq_true rfl) rfl ?_
  refine x_aload_n X d_Ways_init_12 rfl ?_
  refine x_bipush X d_Ways_init_13 k_bp_76 ?_
  refine x_newi X d_Ways_init_15 rfl (by decide) (Nat.le_of_ble_eq_true rfl) (Nat.le_of_ble_eq_true rfl) (fun q2 => ?_)
  refine x_wd (w' := [(_, .inr (_, [_, _, _, _, _, _, _, _, _])), _, _]) rfl ?_
  refine x_putF (w' := [(_, .inr (_, [_, _, _, _, _, _, _, _, _])), _, _]) X d_Ways_init_17 f_Ways_15 rfl 0 rfl rfl rfl (Nat.le_of_ble_eq_true rfl) rfl ?_
  refine x_aload_n X d_Ways_init_20 rfl ?_
  refine x_bipush X d_Ways_init_21 k_bp_76 ?_
  refine x_newi X d_Ways_init_23 rfl (by decide) (Nat.le_of_ble_eq_true rfl) (Nat.le_of_ble_eq_true rfl) (fun q3 => ?_)
  refine x_wd (w' := [(_, .inr (_, [_, _, _, _, _, _, _, _, _])), _, _, _]) rfl ?_
  refine x_putF (w' := [(_, .inr (_, [_, _, _, _, _, _, _, _, _])), _, _, _]) X d_Ways_init_25 f_Ways_18 rfl 0 rfl rfl rfl (Nat.le_of_ble_eq_true rfl) rfl ?_
  refine x_aload_n X d_Ways_init_28 rfl ?_
  refine x_bipush X d_Ways_init_29 k_bp_76 ?_
  refine x_newi X d_Ways_init_31 rfl (by decide) (Nat.le_of_ble_eq_true rfl) (Nat.le_of_ble_eq_true rfl) (fun q4 => ?_)
  refine x_wd (w' := [(_, .inr (_, [_, _, _, _, _, _, _, _, _])), _, _, _, _]) rfl ?_
  refine x_putF (w' := [(_, .inr (_, [_, _, _, _, _, _, _, _, _])), _, _, _, _]) X d_Ways_init_33 f_Ways_21 rfl 0 rfl rfl rfl (Nat.le_of_ble_eq_true rfl) rfl ?_
  refine x_aload_n X d_Ways_init_36 rfl ?_
  refine x_bipush X d_Ways_init_37 k_bp_76 ?_
  refine x_newi X d_Ways_init_39 rfl (by decide) (Nat.le_of_ble_eq_true rfl) (Nat.le_of_ble_eq_true rfl) (fun q5 => ?_)
  refine x_wd (w' := [(_, .inr (_, [_, _, _, _, _, _, _, _, _])), _, _, _, _, _]) rfl ?_
  refine x_putF (w' := [(_, .inr (_, [_, _, _, _, _, _, _, _, _])), _, _, _, _, _]) X d_Ways_init_41 f_Ways_24 rfl 0 rfl rfl rfl (Nat.le_of_ble_eq_true rfl) rfl ?_
  refine x_aload_n X d_Ways_init_44 rfl ?_
  refine x_bipush X d_Ways_init_45 k_bp_11 ?_
  refine x_newi X d_Ways_init_47 rfl (by decide) (Nat.le_of_ble_eq_true rfl) (Nat.le_of_ble_eq_true rfl) (fun q6 => ?_)
  refine x_wd (w' := [(_, .inr (_, [_, _, _, _, _, _, _, _, _])), _, _, _, _, _, _]) rfl ?_
  refine x_putF (w' := [(_, .inr (_, [_, _, _, _, _, _, _, _, _])), _, _, _, _, _, _]) X d_Ways_init_49 f_Ways_27 rfl 0 rfl rfl rfl (Nat.le_of_ble_eq_true rfl) rfl ?_
  refine x_aload_n X d_Ways_init_52 rfl ?_
  refine x_bipush X d_Ways_init_53 k_bp_11 ?_
  refine x_newi X d_Ways_init_55 rfl (by decide) (Nat.le_of_ble_eq_true rfl) (Nat.le_of_ble_eq_true rfl) (fun q7 => ?_)
  refine x_wd (w' := [(_, .inr (_, [_, _, _, _, _, _, _, _, _])), _, _, _, _, _, _, _]) rfl ?_
  refine x_putF (w' := [(_, .inr (_, [_, _, _, _, _, _, _, _, _])), _, _, _, _, _, _, _]) X d_Ways_init_57 f_Ways_30 rfl 0 rfl rfl rfl (Nat.le_of_ble_eq_true rfl) rfl ?_
  exact x_vret X Y d_Ways_init_60 (Nat.le_of_ble_eq_true rfl) ⟨rfl, _, _, _, _, _, _, _, rfl⟩
abbrev q_Grove_init : Room := { frames := 2, cells := 11, slots := 366, locals := 50 }
set_option maxRecDepth 20000 in
set_option maxHeartbeats 1000000 in
theorem ct_Grove_init {b : xB} (a nn : Nat) : xCt b y_Grove_init b_Grove_init 2 none q_Grove_init [.ref a, .ref nn] [(a, .inr (3, [.null, .null, .null, .int (nI 0), .null, .null, .int (nI 0)]))] (xVd (fun w => ∃ q1 q2 q3 q4 q5 q6 q7 q8 q9 q10 q11 : Nat, w = [(a, .inr (3, [.ref nn, .ref q1, .ref q9, .int (nI 0), .ref q10, .ref q11, .int (nI 0)])), (q1, .inr (2, [.ref q2, .ref q3, .ref q4, .ref q5, .ref q6, .ref q7, .ref q8, .int (nI 0), .int (nI 0)])), (q2, .inl (b.2.2.1, 11, .inl (fun _ => nI 0))), (q3, .inl (b.2.2.1, 76, .inl (fun _ => nI 0))), (q4, .inl (b.2.2.1, 76, .inl (fun _ => nI 0))), (q5, .inl (b.2.2.1, 76, .inl (fun _ => nI 0))), (q6, .inl (b.2.2.1, 76, .inl (fun _ => nI 0))), (q7, .inl (b.2.2.1, 11, .inl (fun _ => nI 0))), (q8, .inl (b.2.2.1, 11, .inl (fun _ => nI 0))), (q9, .inl (b.2.2.2, 3, .inl (fun _ => nI 0))), (q10, .inl (b.2.2.1, 3, .inl (fun _ => nI 0))), (q11, .inl (b.2.2.1, 14, .inl (fun _ => nI 0)))])) := by
  refine x_met (by decide +kernel) rfl (Nat.le_of_ble_eq_true rfl) (fun G X Y => ?_)
  refine x_aload_n X d_Grove_init_0 rfl ?_
  refine x_objInit X d_Grove_init_1 m_66 (Nat.le_of_ble_eq_true rfl) (Nat.le_of_ble_eq_true rfl) ?_
  refine x_aload_n X d_Grove_init_4 rfl ?_
  refine x_new X d_Grove_init_5 w_Grove_9 (Nat.le_of_ble_eq_true rfl) (Nat.le_of_ble_eq_true rfl) (fun q1 => ?_)
  refine x_wd (w' := [(_, .inr (_, [_, _, _, _, _, _, _])), (_, .inr (_, [_, _, _, _, _, _, _, _, _]))]) rfl ?_
  refine x_dup X d_Grove_init_8 rfl ?_
  refine x_callN X d_Grove_init_9 c_Grove_11 (ct_Ways_init q1) [1] rfl rfl rfl rfl (Nat.le_of_ble_eq_true rfl) ⟨Nat.le_of_ble_eq_true rfl, Nat.le_of_ble_eq_true rfl⟩ ⟨Nat.le_of_ble_eq_true rfl, Nat.le_of_ble_eq_true rfl⟩ (fun v_9 w_9 h_9 => ?_)
  obtain ⟨rfl, q2, q3, q4, q5, q6, q7, q8, rfl⟩ := h_9
  refine x_wd (w' := [(_, .inr (_, [_, _, _, _, _, _, _])), (_, .inr (_, [_, _, _, _, _, _, _, _, _])), _, _, _, _, _, _, _]) rfl ?_
  refine x_st (st' := [_, _]) rfl ?_
  refine x_putF (w' := [(_, .inr (_, [_, _, _, _, _, _, _])), (_, .inr (_, [_, _, _, _, _, _, _, _, _])), _, _, _, _, _, _, _]) X d_Grove_init_12 f_Grove_12 rfl 0 rfl rfl rfl (Nat.le_of_ble_eq_true rfl) rfl ?_
  refine x_aload_n X d_Grove_init_15 rfl ?_
  refine x_iconst X d_Grove_init_16 k_ic_3 ?_
  refine x_newb X d_Grove_init_17 rfl (by decide) (Nat.le_of_ble_eq_true rfl) (Nat.le_of_ble_eq_true rfl) (fun q9 => ?_)
  refine x_wd (w' := [(_, .inr (_, [_, _, _, _, _, _, _])), (_, .inr (_, [_, _, _, _, _, _, _, _, _])), _, _, _, _, _, _, _, _]) rfl ?_
  refine x_putF (w' := [(_, .inr (_, [_, _, _, _, _, _, _])), (_, .inr (_, [_, _, _, _, _, _, _, _, _])), _, _, _, _, _, _, _, _]) X d_Grove_init_19 f_Grove_18 rfl 0 rfl rfl rfl (Nat.le_of_ble_eq_true rfl) rfl ?_
  refine x_aload_n X d_Grove_init_22 rfl ?_
  refine x_iconst X d_Grove_init_23 k_ic_3 ?_
  refine x_newi X d_Grove_init_24 rfl (by decide) (Nat.le_of_ble_eq_true rfl) (Nat.le_of_ble_eq_true rfl) (fun q10 => ?_)
  refine x_wd (w' := [(_, .inr (_, [_, _, _, _, _, _, _])), (_, .inr (_, [_, _, _, _, _, _, _, _, _])), _, _, _, _, _, _, _, _, _]) rfl ?_
  refine x_putF (w' := [(_, .inr (_, [_, _, _, _, _, _, _])), (_, .inr (_, [_, _, _, _, _, _, _, _, _])), _, _, _, _, _, _, _, _, _]) X d_Grove_init_26 f_Grove_22 rfl 0 rfl rfl rfl (Nat.le_of_ble_eq_true rfl) rfl ?_
  refine x_aload_n X d_Grove_init_29 rfl ?_
  refine x_bipush X d_Grove_init_30 k_bp_14 ?_
  refine x_newi X d_Grove_init_32 rfl (by decide) (Nat.le_of_ble_eq_true rfl) (Nat.le_of_ble_eq_true rfl) (fun q11 => ?_)
  refine x_wd (w' := [(_, .inr (_, [_, _, _, _, _, _, _])), (_, .inr (_, [_, _, _, _, _, _, _, _, _])), _, _, _, _, _, _, _, _, _, _]) rfl ?_
  refine x_putF (w' := [(_, .inr (_, [_, _, _, _, _, _, _])), (_, .inr (_, [_, _, _, _, _, _, _, _, _])), _, _, _, _, _, _, _, _, _, _]) X d_Grove_init_34 f_Grove_26 rfl 0 rfl rfl rfl (Nat.le_of_ble_eq_true rfl) rfl ?_
  refine x_aload_n X d_Grove_init_37 rfl ?_
  refine x_aload_n X d_Grove_init_38 rfl ?_
  refine x_putF (w' := [(_, .inr (_, [_, _, _, _, _, _, _])), (_, .inr (_, [_, _, _, _, _, _, _, _, _])), _, _, _, _, _, _, _, _, _, _]) X d_Grove_init_39 f_Grove_29 rfl 0 rfl rfl rfl (Nat.le_of_ble_eq_true rfl) rfl ?_
  exact x_vret X Y d_Grove_init_42 (Nat.le_of_ble_eq_true rfl) ⟨rfl, _, _, _, _, _, _, _, _, _, _, _, rfl⟩
abbrev q_BP_init : Room := { frames := 3, cells := 15, slots := 405, locals := 71 }
set_option maxRecDepth 20000 in
set_option maxHeartbeats 1000000 in
theorem ct_BP_init {b : xB} (a : Nat) : xCt b y_BP_init b_BP_init 1 none q_BP_init [.ref a] [(a, .inr (0, [.null, .null, .int (nI 0)]))] (xVd (fun w => ∃ q1 q2 q3 q4 q5 q6 q7 q8 q9 q10 q11 q12 q13 q14 q15 : Nat, w = [(a, .inr (0, [.ref q1, .ref q4, .int (nI 0)])), (q1, .inr (1, [.int (nI 1), .int (nI 0), .ref q2, .ref q3])), (q2, .inl (b.2.2.2, 14, .inl (fun _ => nI 0))), (q3, .inl (b.2.2.2, 14, .inl (fun _ => nI 0))), (q4, .inr (3, [.ref q1, .ref q5, .ref q13, .int (nI 0), .ref q14, .ref q15, .int (nI 0)])), (q5, .inr (2, [.ref q6, .ref q7, .ref q8, .ref q9, .ref q10, .ref q11, .ref q12, .int (nI 0), .int (nI 0)])), (q6, .inl (b.2.2.1, 11, .inl (fun _ => nI 0))), (q7, .inl (b.2.2.1, 76, .inl (fun _ => nI 0))), (q8, .inl (b.2.2.1, 76, .inl (fun _ => nI 0))), (q9, .inl (b.2.2.1, 76, .inl (fun _ => nI 0))), (q10, .inl (b.2.2.1, 76, .inl (fun _ => nI 0))), (q11, .inl (b.2.2.1, 11, .inl (fun _ => nI 0))), (q12, .inl (b.2.2.1, 11, .inl (fun _ => nI 0))), (q13, .inl (b.2.2.2, 3, .inl (fun _ => nI 0))), (q14, .inl (b.2.2.1, 3, .inl (fun _ => nI 0))), (q15, .inl (b.2.2.1, 14, .inl (fun _ => nI 0)))])) := by
  refine x_met (by decide +kernel) rfl (Nat.le_of_ble_eq_true rfl) (fun G X Y => ?_)
  refine x_aload_n X d_BP_init_0 rfl ?_
  refine x_objInit X d_BP_init_1 m_30 (Nat.le_of_ble_eq_true rfl) (Nat.le_of_ble_eq_true rfl) ?_
  refine x_aload_n X d_BP_init_4 rfl ?_
  refine x_new X d_BP_init_5 w_BP_7 (Nat.le_of_ble_eq_true rfl) (Nat.le_of_ble_eq_true rfl) (fun q1 => ?_)
  refine x_wd (w' := [(_, .inr (_, [_, _, _])), (_, .inr (_, [_, _, _, _]))]) rfl ?_
  refine x_dup X d_BP_init_8 rfl ?_
  refine x_callN X d_BP_init_9 c_BP_9 (ct_Net_init q1) [1] rfl rfl rfl rfl (Nat.le_of_ble_eq_true rfl) ⟨Nat.le_of_ble_eq_true rfl, Nat.le_of_ble_eq_true rfl⟩ ⟨Nat.le_of_ble_eq_true rfl, Nat.le_of_ble_eq_true rfl⟩ (fun v_9 w_9 h_9 => ?_)
  obtain ⟨rfl, q2, q3, rfl⟩ := h_9
  refine x_wd (w' := [(_, .inr (_, [_, _, _])), (_, .inr (_, [_, _, _, _])), _, _]) rfl ?_
  refine x_st (st' := [_, _]) rfl ?_
  refine x_putF (w' := [(_, .inr (_, [_, _, _])), (_, .inr (_, [_, _, _, _])), _, _]) X d_BP_init_12 f_BP_10 rfl 0 rfl rfl rfl (Nat.le_of_ble_eq_true rfl) rfl ?_
  refine x_aload_n X d_BP_init_15 rfl ?_
  refine x_new X d_BP_init_16 w_BP_16 (Nat.le_of_ble_eq_true rfl) (Nat.le_of_ble_eq_true rfl) (fun q4 => ?_)
  refine x_wd (w' := [(_, .inr (_, [_, _, _])), (_, .inr (_, [_, _, _, _])), _, _, (_, .inr (_, [_, _, _, _, _, _, _]))]) rfl ?_
  refine x_dup X d_BP_init_19 rfl ?_
  refine x_aload_n X d_BP_init_20 rfl ?_
  refine x_getf X d_BP_init_21 f_BP_10 0 rfl rfl ?_
  refine x_callI X d_BP_init_24 c_BP_18 (ct_Grove_init q4 q1) [4] rfl rfl rfl rfl (Nat.le_of_ble_eq_true rfl) ⟨Nat.le_of_ble_eq_true rfl, Nat.le_of_ble_eq_true rfl⟩ ⟨Nat.le_of_ble_eq_true rfl, Nat.le_of_ble_eq_true rfl⟩ (fun v_24 w_24 h_24 => ?_)
  obtain ⟨rfl, q5, q6, q7, q8, q9, q10, q11, q12, q13, q14, q15, rfl⟩ := h_24
  refine x_wd (w' := [(_, .inr (_, [_, _, _])), (_, .inr (_, [_, _, _, _])), _, _, (_, .inr (_, [_, _, _, _, _, _, _])), (_, .inr (_, [_, _, _, _, _, _, _, _, _])), _, _, _, _, _, _, _, _, _, _]) rfl ?_
  refine x_st (st' := [_, _]) rfl ?_
  refine x_putF (w' := [(_, .inr (_, [_, _, _])), (_, .inr (_, [_, _, _, _])), _, _, (_, .inr (_, [_, _, _, _, _, _, _])), (_, .inr (_, [_, _, _, _, _, _, _, _, _])), _, _, _, _, _, _, _, _, _, _]) X d_BP_init_27 f_BP_21 rfl 0 rfl rfl rfl (Nat.le_of_ble_eq_true rfl) rfl ?_
  exact x_vret X Y d_BP_init_30 (Nat.le_of_ble_eq_true rfl) ⟨rfl, _, _, _, _, _, _, _, _, _, _, _, _, _, _, _, rfl⟩
abbrev q_Mod_init : Room := { frames := 1, cells := 9, slots := 130, locals := 30 }
set_option maxRecDepth 20000 in
set_option maxHeartbeats 1000000 in
theorem ct_Mod_init {b : xB} (a : Nat) : xCt b y_Mod_init b_Mod_init 1 none q_Mod_init [.ref a] [(a, .inr (4, [.int (nI 0), .int (nI 0), .int (nI 0), .null, .null, .null, .null, .null, .null, .null, .null, .null]))] (xVd (fun w => ∃ q1 q2 q3 q4 q5 q6 q7 q8 q9 : Nat, w = [(a, .inr (4, [.int (nI 1), .int (nI 0), .int (nI 0), .ref q1, .ref q2, .ref q3, .ref q4, .ref q5, .ref q6, .ref q7, .ref q8, .ref q9])), (q1, .inl (b.2.2.1, 14, .inl (fun _ => nI 0))), (q2, .inl (b.2.2.1, 14, .inl (fun _ => nI 0))), (q3, .inl (b.2.2.1, 3, .inl (fun _ => nI 0))), (q4, .inl (b.2.2.1, 14, .inl (fun _ => nI 0))), (q5, .inl (b.2.2.1, 21, .inl (fun _ => nI 0))), (q6, .inl (b.2.2.1, 16, .inl (fun _ => nI 0))), (q7, .inl (b.2.2.1, 16, .inl (fun _ => nI 0))), (q8, .inl (b.2.2.1, 16, .inl (fun _ => nI 0))), (q9, .inl (b.2.2.1, 16, .inl (fun _ => nI 0)))])) := by
  refine x_met (by decide +kernel) rfl (Nat.le_of_ble_eq_true rfl) (fun G X Y => ?_)
  refine x_aload_n X d_Mod_init_0 rfl ?_
  refine x_objInit X d_Mod_init_1 m_301 (Nat.le_of_ble_eq_true rfl) (Nat.le_of_ble_eq_true rfl) ?_
  refine x_aload_n X d_Mod_init_4 rfl ?_
  refine x_iconst X d_Mod_init_5 k_ic_1 ?_
  refine x_putf (w' := [(_, .inr (_, [_, _, _, _, _, _, _, _, _, _, _, _]))]) X d_Mod_init_6 f_Mod_7 0 rfl rfl rfl (Nat.le_of_ble_eq_true rfl) rfl ?_
  refine x_aload_n X d_Mod_init_9 rfl ?_
  refine x_bipush X d_Mod_init_10 k_bp_14 ?_
  refine x_newi X d_Mod_init_12 rfl (by decide) (Nat.le_of_ble_eq_true rfl) (Nat.le_of_ble_eq_true rfl) (fun q1 => ?_)
  refine x_wd (w' := [(_, .inr (_, [_, _, _, _, _, _, _, _, _, _, _, _])), _]) rfl ?_
  refine x_putF (w' := [(_, .inr (_, [_, _, _, _, _, _, _, _, _, _, _, _])), _]) X d_Mod_init_14 f_Mod_13 rfl 0 rfl rfl rfl (Nat.le_of_ble_eq_true rfl) rfl ?_
  refine x_aload_n X d_Mod_init_17 rfl ?_
  refine x_bipush X d_Mod_init_18 k_bp_14 ?_
  refine x_newi X d_Mod_init_20 rfl (by decide) (Nat.le_of_ble_eq_true rfl) (Nat.le_of_ble_eq_true rfl) (fun q2 => ?_)
  refine x_wd (w' := [(_, .inr (_, [_, _, _, _, _, _, _, _, _, _, _, _])), _, _]) rfl ?_
  refine x_putF (w' := [(_, .inr (_, [_, _, _, _, _, _, _, _, _, _, _, _])), _, _]) X d_Mod_init_22 f_Mod_17 rfl 0 rfl rfl rfl (Nat.le_of_ble_eq_true rfl) rfl ?_
  refine x_aload_n X d_Mod_init_25 rfl ?_
  refine x_iconst X d_Mod_init_26 k_ic_3 ?_
  refine x_newi X d_Mod_init_27 rfl (by decide) (Nat.le_of_ble_eq_true rfl) (Nat.le_of_ble_eq_true rfl) (fun q3 => ?_)
  refine x_wd (w' := [(_, .inr (_, [_, _, _, _, _, _, _, _, _, _, _, _])), _, _, _]) rfl ?_
  refine x_putF (w' := [(_, .inr (_, [_, _, _, _, _, _, _, _, _, _, _, _])), _, _, _]) X d_Mod_init_29 f_Mod_20 rfl 0 rfl rfl rfl (Nat.le_of_ble_eq_true rfl) rfl ?_
  refine x_aload_n X d_Mod_init_32 rfl ?_
  refine x_bipush X d_Mod_init_33 k_bp_14 ?_
  refine x_newi X d_Mod_init_35 rfl (by decide) (Nat.le_of_ble_eq_true rfl) (Nat.le_of_ble_eq_true rfl) (fun q4 => ?_)
  refine x_wd (w' := [(_, .inr (_, [_, _, _, _, _, _, _, _, _, _, _, _])), _, _, _, _]) rfl ?_
  refine x_putF (w' := [(_, .inr (_, [_, _, _, _, _, _, _, _, _, _, _, _])), _, _, _, _]) X d_Mod_init_37 f_Mod_23 rfl 0 rfl rfl rfl (Nat.le_of_ble_eq_true rfl) rfl ?_
  refine x_aload_n X d_Mod_init_40 rfl ?_
  refine x_bipush X d_Mod_init_41 k_bp_21 ?_
  refine x_newi X d_Mod_init_43 rfl (by decide) (Nat.le_of_ble_eq_true rfl) (Nat.le_of_ble_eq_true rfl) (fun q5 => ?_)
  refine x_wd (w' := [(_, .inr (_, [_, _, _, _, _, _, _, _, _, _, _, _])), _, _, _, _, _]) rfl ?_
  refine x_putF (w' := [(_, .inr (_, [_, _, _, _, _, _, _, _, _, _, _, _])), _, _, _, _, _]) X d_Mod_init_45 f_Mod_26 rfl 0 rfl rfl rfl (Nat.le_of_ble_eq_true rfl) rfl ?_
  refine x_aload_n X d_Mod_init_48 rfl ?_
  refine x_bipush X d_Mod_init_49 k_bp_16 ?_
  refine x_newi X d_Mod_init_51 rfl (by decide) (Nat.le_of_ble_eq_true rfl) (Nat.le_of_ble_eq_true rfl) (fun q6 => ?_)
  refine x_wd (w' := [(_, .inr (_, [_, _, _, _, _, _, _, _, _, _, _, _])), _, _, _, _, _, _]) rfl ?_
  refine x_putF (w' := [(_, .inr (_, [_, _, _, _, _, _, _, _, _, _, _, _])), _, _, _, _, _, _]) X d_Mod_init_53 f_Mod_29 rfl 0 rfl rfl rfl (Nat.le_of_ble_eq_true rfl) rfl ?_
  refine x_aload_n X d_Mod_init_56 rfl ?_
  refine x_bipush X d_Mod_init_57 k_bp_16 ?_
  refine x_newi X d_Mod_init_59 rfl (by decide) (Nat.le_of_ble_eq_true rfl) (Nat.le_of_ble_eq_true rfl) (fun q7 => ?_)
  refine x_wd (w' := [(_, .inr (_, [_, _, _, _, _, _, _, _, _, _, _, _])), _, _, _, _, _, _, _]) rfl ?_
  refine x_putF (w' := [(_, .inr (_, [_, _, _, _, _, _, _, _, _, _, _, _])), _, _, _, _, _, _, _]) X d_Mod_init_61 f_Mod_32 rfl 0 rfl rfl rfl (Nat.le_of_ble_eq_true rfl) rfl ?_
  refine x_aload_n X d_Mod_init_64 rfl ?_
  refine x_bipush X d_Mod_init_65 k_bp_16 ?_
  refine x_newi X d_Mod_init_67 rfl (by decide) (Nat.le_of_ble_eq_true rfl) (Nat.le_of_ble_eq_true rfl) (fun q8 => ?_)
  refine x_wd (w' := [(_, .inr (_, [_, _, _, _, _, _, _, _, _, _, _, _])), _, _, _, _, _, _, _, _]) rfl ?_
  refine x_putF (w' := [(_, .inr (_, [_, _, _, _, _, _, _, _, _, _, _, _])), _, _, _, _, _, _, _, _]) X d_Mod_init_69 f_Mod_35 rfl 0 rfl rfl rfl (Nat.le_of_ble_eq_true rfl) rfl ?_
  refine x_aload_n X d_Mod_init_72 rfl ?_
  refine x_bipush X d_Mod_init_73 k_bp_16 ?_
  refine x_newi X d_Mod_init_75 rfl (by decide) (Nat.le_of_ble_eq_true rfl) (Nat.le_of_ble_eq_true rfl) (fun q9 => ?_)
  refine x_wd (w' := [(_, .inr (_, [_, _, _, _, _, _, _, _, _, _, _, _])), _, _, _, _, _, _, _, _, _]) rfl ?_
  refine x_putF (w' := [(_, .inr (_, [_, _, _, _, _, _, _, _, _, _, _, _])), _, _, _, _, _, _, _, _, _]) X d_Mod_init_77 f_Mod_38 rfl 0 rfl rfl rfl (Nat.le_of_ble_eq_true rfl) rfl ?_
  exact x_vret X Y d_Mod_init_80 (Nat.le_of_ble_eq_true rfl) ⟨rfl, _, _, _, _, _, _, _, _, _, rfl⟩
end
section
/-! THE CLAIM OUT OF ONE WALK OF THE LAW'S BODY. Your part is whole_start (and what it stands on); all else here is the same for every law, but numbers. -/
def R_law : String := "BranchPackerLaw"
def lw_P (b : Addr) (xs : List Int32) (args : Array Value) (s : State) : Prop := args = #[.ref b] ∧ s.IntsAt b xs ∧ xs.length ≤ 1536 ∧ (Jvm.Cond.and given_1 narrow_1).before args s = true
def lw_Q (_ : Array Value) (s : State) (o : Outcome) (t : State) : Prop := o = .returned (some (.int 1)) ∧ Framed s o t [] 26 550
def lw_Z (below : List Frame) (a : Array Value) (s : State) : State → Prop := fun t => ∃ o, t.status = .running ∧ Ended t below o ∧ lw_Q a s o t
/-- the law's own end, with 1 on the stack, nothing written that was there before, its room as the claim has it -/
theorem lw_ret {p : Program} {l : Launch} {e : Env} {s : State} {m : MethodId} {below : List Frame} {meth : Method} {c : Code} {b : Nat} (hx : p.tables.exec = Jvm.exec) (hb : c.code = code) (hr : meth.sig.returnType = ret) (hlocks : meth.locks = false) {pc : Nat} {H : Heap} {ls : Array Slot} (hdg : decode code pc = .ok (.ireturn, 1)) : W p l e room_1 s m #[Value.ref b] below meth c H [] 26 550 (lw_Z below #[Value.ref b] s) (F0 m pc ls [.int 1]) := by
  intro T hT X
  obtain ⟨fs, hret, hrun, hended, hW, hframe⟩ := X.leave (v := some (.int 1)) (hlocks := hlocks) (fun h => by rw [hr] at h; cases h)
  have hmeth' : T.vm.method? m = some meth := X.method'
  refine ⟨T.setFrames fs, ?_, .returned (some (.int 1)), hrun, hended, rfl, ⟨_, rfl⟩, hW, hframe⟩
  jvm_step X.here [X.here.top, hx, hb, hdg, hmeth', hr, ret, narrow_b1]
  (try refine ⟨rfl, ?_⟩); (try refine ⟨rfl, ?_⟩)
  first | (intro acts; rw [hret _ acts rfl rfl rfl]) | rw [hret _ _ rfl rfl rfl]
  exact Steps.refl _
/-- what holds at the law's entry: the machine, the code, the tables' words (any of lw_tbl by 'hts w (by decide +kernel)'), the script of L ints xs at the cell b, what the Statement gives of the start (any of its parts by flat_of_before) -/
def lw_At (p : Program) (s : State) (m : MethodId) (meth : Method) (c : Code) (b L : Nat) (xs : Nat → Int32) : Prop :=
  p.tables.exec = Jvm.exec ∧ c.code = code ∧ meth.sig.returnType = ret ∧ c.maxLocals = 4 ∧ s.vm.findClass R_law = some m.cls ∧ (∀ w ∈ lw_tbl, w.before #[Value.ref b] s = true) ∧ va_X b L xs s s.heap ∧ b < s.heap.size ∧ meth.locks = false ∧ (Jvm.Cond.and given_1 narrow_1).before #[Value.ref b] s = true
/-! rows of the law's walk -/
def xS (G : xG) (b0 N : Nat) (xs : Nat → Int32) : Prop := match G with
  | (p, e, R, s, m, args, below, meth, c, A, Q, nL) => va_X b0 N xs s s.heap ∧ b0 < s.heap.size ∧ ¬ A b0
def xQ (G : xG) (b0 : Nat) : Prop := match G with
  | (p, e, R, s, m, args, below, meth, c, A, Q, nL) => args = #[Value.ref b0] ∧ R = room_1 ∧ A = (fun q => s.heap.size ≤ q) ∧ Q = lw_Z below #[Value.ref b0] s ∧ meth.sig.returnType = ret ∧ meth.locks = false
section LAWR
variable {b : xB} {G : xG} {own nm : String} {cc : ByteArray} {L : Nat} {rm : Room} {k n pc : Nat} {w : va_W} {lv : List (Nat × Value)} {st : List Value} {b0 N : Nat} {xs : Nat → Int32}
theorem x_sld {j : Nat} {i v : Int32} (X : xX b G own nm cc L rm) (S : xS G b0 N xs) (d : decode cc pc = .ok (.iaload, 1)) (hi : i = nI j) (hj : j < N ∧ N < 2 ^ 31) (hv : xs j = v) (kk : xW b G k n w (pc + 1) lv (.int v :: st)) : xW b G k n w pc lv (.int i :: .ref b0 :: st) := by
  obtain ⟨p, e, R, s, m, args, below, meth, c, A, Q, nL⟩ := G
  obtain ⟨hx, hb, hml, rfl, rfl, hown, hts, hK, hnm, hA⟩ := X
  obtain ⟨s1, s2, s3⟩ := S
  subst hi
  subst hv
  intro H locs ls hP hD hS hl
  refine va_sld hx hb s1 s2 s3 hS (vp_in_nI hj.1 hj.2) d ?_
  rw [nI_clamp (Nat.lt_trans hj.1 hj.2)]
  exact kk H locs ls hP hD hS hl
theorem x_slen (X : xX b G own nm cc L rm) (S : xS G b0 N xs) (d : decode cc pc = .ok (.arraylength, 1)) (kk : xW b G k n w (pc + 1) lv (.int (nI N) :: st)) : xW b G k n w pc lv (.ref b0 :: st) := by
  obtain ⟨p, e, R, s, m, args, below, meth, c, A, Q, nL⟩ := G
  obtain ⟨hx, hb, hml, rfl, rfl, hown, hts, hK, hnm, hA⟩ := X
  obtain ⟨s1, s2, s3⟩ := S
  intro H locs ls hP hD hS hl
  exact va_slen hx hb s1 s2 s3 hS d (kk H locs ls hP hD hS hl)
theorem x_tableIn {dflt lo hi : Int} {offs : Array Int} {len : Nat} {x : Int32} {off : Int} (tgt : Nat) (X : xX b G own nm cc L rm) (d : decode cc pc = .ok (.tableswitch dflt lo hi offs, len)) (h1 : ¬ x.toInt < lo) (h2 : ¬ hi < x.toInt) (ho : offs[(x.toInt - lo).toNat]? = some off) (ht : (pc : Int) + off = (tgt : Int)) (kk : xW b G k n w tgt lv st) : xW b G k n w pc lv (.int x :: st) := by
  obtain ⟨p, e, R, s, m, args, below, meth, c, A, Q, nL⟩ := G
  obtain ⟨hx, hb, hml, rfl, rfl, hown, hts, hK, hnm, hA⟩ := X
  intro H locs ls hP hD hS hl
  exact lv_tableIn hx hb d h1 h2 ho ht (kk H locs ls hP hD hS hl)
theorem x_tableOut {dflt lo hi : Int} {offs : Array Int} {len : Nat} {x : Int32} (tgt : Nat) (X : xX b G own nm cc L rm) (d : decode cc pc = .ok (.tableswitch dflt lo hi offs, len)) (h1 : x.toInt < lo ∨ hi < x.toInt) (ht : (pc : Int) + dflt = (tgt : Int)) (kk : xW b G k n w tgt lv st) : xW b G k n w pc lv (.int x :: st) := by
  obtain ⟨p, e, R, s, m, args, below, meth, c, A, Q, nL⟩ := G
  obtain ⟨hx, hb, hml, rfl, rfl, hown, hts, hK, hnm, hA⟩ := X
  intro H locs ls hP hD hS hl
  exact lv_tableOut hx hb d h1 ht (kk H locs ls hP hD hS hl)
theorem x_perm {w' : va_W} (is : List Nat) (hn : va_nd is = true) (hs : is.map (fun i => w[i]?) = w'.map some) (kk : xW b G k n w' pc lv st) : xW b G k n w pc lv st := by
  obtain ⟨p, e, R, s, m, args, below, meth, c, A, Q, nL⟩ := G
  intro H locs ls hP hD hS hl
  exact kk H locs ls (fun j q hq => by
    obtain ⟨i, -, h⟩ := xat hs j q hq
    exact hP i q h) (hD.sub is hn hs) hS hl
theorem x_lend (X : xX b G own nm code L rm) (E : xQ G b0) (d : decode code pc = .ok (.ireturn, 1)) : xW b G 26 550 w pc lv [.int (nI 1)] := by
  obtain ⟨p, e, R, s, m, args, below, meth, c, A, Q, nL⟩ := G
  obtain ⟨hx, hb, hml, rfl, rfl, hown, hts, hK, hnm, hA⟩ := X
  obtain ⟨rfl, rfl, rfl, rfl, hr, hlk⟩ := E
  intro H locs ls hP hD hS hl
  refine va_forget (fun q hq => hS.2.2 q hq) ?_
  exact lw_ret hx hb hr hlk d
end LAWR
end
section
/-! the contracts as the law uses them -/
theorem nI_u {a c : Nat} (ha : a < 2 ^ 31) (hc : c < 2 ^ 31) (h : nI a = nI c) : a = c := (nI_eq ha hc).mp h
section LCB
variable {b : xB} {h : Nat → Nat} {n A : Nat} {fr to : Nat → Nat} {k : Nat} {R hv : Nat → Nat} {ow : Nat → Option Nat} {dn : Bool} {u : xWs} {gr : Bool}
theorem cl_BP_begin_t {m : Nat} (m1 : 1 ≤ m) (m2 : m ≤ 7) : xCt b y_BP_begin b_BP_begin 2 (some .boolean) q_BP_begin [.ref (h 0), .int (nI m)] (wB b h n A fr to k R hv ow dn u gr) (xIn (fun r w => r = bI true ∧ w = wB b h m 0 fr to 0 R hv ow dn u false)) := xCt_mono (fun v w' hφ => by
  obtain ⟨r, rfl, ⟨m', a1, a2, a3, a4, a5⟩ | ⟨a1, -⟩⟩ := hφ
  · have := nI_u (by omega) (by omega) a3
    subst this
    exact ⟨_, rfl, a4, a5⟩
  · exact absurd ⟨m, m1, m2, rfl⟩ a1) ct_BP_begin
theorem cl_BP_begin_f {x : Int32} (hx : ¬ ∃ m, 1 ≤ m ∧ m ≤ 7 ∧ x = nI m) : xCt b y_BP_begin b_BP_begin 2 (some .boolean) q_BP_begin [.ref (h 0), .int x] (wB b h n A fr to k R hv ow dn u gr) (xIn (fun r w => r = bI false ∧ w = wB b h n A fr to k R hv ow dn u gr)) := xCt_mono (fun v w' hφ => by
  obtain ⟨r, rfl, ⟨m', a1, a2, a3, a4, a5⟩ | ⟨-, a1⟩⟩ := hφ
  · exact absurd ⟨m', a1, a2, a3⟩ hx
  · exact ⟨_, rfl, a1⟩) ct_BP_begin
theorem cl_BP_arc_t {p q : Nat} (hN : nOK n A fr to) (hA : A < 14) (hp : p < n) (hq : q < n) (hpq : p ≠ q) : xCt b y_BP_arc b_BP_arc 3 (some .int) q_BP_arc [.ref (h 0), .int (nI p), .int (nI q)] (wB b h n A fr to k R hv ow dn u gr) (xIn (fun r w => r = nI A ∧ w = wB b h n (A + 1) (va_up fr A p) (va_up to A q) k R hv ow dn u false)) := xCt_mono (fun v w' hφ => by
  have n2 := hN.2.1
  obtain ⟨r, rfl, ⟨p', q', a0, a1, a2, a3, a4, a5, a6, a7⟩ | ⟨a1, -⟩⟩ := hφ
  · have e1 := nI_u (by omega) (by omega) a4
    have e2 := nI_u (by omega) (by omega) a5
    subst e1
    subst e2
    exact ⟨_, rfl, a6, a7⟩
  · exact absurd ⟨hA, ⟨p, hp, rfl⟩, ⟨q, hq, rfl⟩, fun z => hpq (nI_u (by omega) (by omega) z)⟩ a1) (ct_BP_arc hN)
theorem cl_BP_arc_f {x y : Int32} (hN : nOK n A fr to) (hx : ¬ ∃ p q, A < 14 ∧ p < n ∧ q < n ∧ p ≠ q ∧ x = nI p ∧ y = nI q) : xCt b y_BP_arc b_BP_arc 3 (some .int) q_BP_arc [.ref (h 0), .int x, .int y] (wB b h n A fr to k R hv ow dn u gr) (xIn (fun r w => r = -1 ∧ w = wB b h n A fr to k R hv ow dn u gr)) := xCt_mono (fun v w' hφ => by
  obtain ⟨r, rfl, ⟨p', q', a0, a1, a2, a3, a4, a5, -⟩ | ⟨-, a1⟩⟩ := hφ
  · exact absurd ⟨p', q', a0, a1, a2, a3, a4, a5⟩ hx
  · exact ⟨_, rfl, a1⟩) (ct_BP_arc hN)
theorem cl_BP_drop_t {e : Nat} (hN : nOK n A fr to) (he : e < A) : xCt b y_BP_drop b_BP_drop 2 (some .boolean) q_BP_drop [.ref (h 0), .int (nI e)] (wB b h n A fr to k R hv ow dn u gr) (xIn (fun r w => r = bI true ∧ w = wB b h n (A - 1) (shf fr e A) (shf to e A) k R hv ow dn u false)) := xCt_mono (fun v w' hφ => by
  have n3 := hN.2.2.1
  obtain ⟨r, rfl, ⟨e', a1, a2, a3, a4⟩ | ⟨a1, -⟩⟩ := hφ
  · have := nI_u (by omega) (by omega) a2
    subst this
    exact ⟨_, rfl, a3, a4⟩
  · exact absurd ⟨e, he, rfl⟩ a1) (ct_BP_drop hN)
theorem cl_BP_drop_f {x : Int32} (hN : nOK n A fr to) (hx : ¬ ∃ e, e < A ∧ x = nI e) : xCt b y_BP_drop b_BP_drop 2 (some .boolean) q_BP_drop [.ref (h 0), .int x] (wB b h n A fr to k R hv ow dn u gr) (xIn (fun r w => r = bI false ∧ w = wB b h n A fr to k R hv ow dn u gr)) := xCt_mono (fun v w' hφ => by
  obtain ⟨r, rfl, ⟨e', a1, a2, -⟩ | ⟨-, a1⟩⟩ := hφ
  · exact absurd ⟨e', a1, a2⟩ hx
  · exact ⟨_, rfl, a1⟩) (ct_BP_drop hN)
theorem cl_BP_plant_t {s : Nat} (hn : n ≤ 7) (hk : k < 3) (h0 : 0 < s) (hs : s < 2 ^ n) : xCt b y_BP_plant b_BP_plant 2 (some .int) q_BP_plant [.ref (h 0), .int (nI s)] (wB b h n A fr to k R hv ow dn u gr) (xIn (fun r w => r = nI k ∧ w = wB b h n A fr to (k + 1) (va_up R k s) hv ow dn u false)) := xCt_mono (fun v w' hφ => by
  have hp := pow_le hn
  obtain ⟨r, rfl, ⟨s', a0, a1, a2, a3, a4, a5⟩ | ⟨a1, -⟩⟩ := hφ
  · have := nI_u (by omega) (by omega) a3
    subst this
    exact ⟨_, rfl, a4, a5⟩
  · exact absurd ⟨hk, ⟨s, hs, rfl⟩, fun z => by have := (nI_z (x := s) (by omega)).mp z; omega⟩ a1) (ct_BP_plant hn (by omega))
theorem cl_BP_plant_f {x : Int32} (hn : n ≤ 7) (hk : k ≤ 3) (hx : ¬ ∃ s, k < 3 ∧ 0 < s ∧ s < 2 ^ n ∧ x = nI s) : xCt b y_BP_plant b_BP_plant 2 (some .int) q_BP_plant [.ref (h 0), .int x] (wB b h n A fr to k R hv ow dn u gr) (xIn (fun r w => r = -1 ∧ w = wB b h n A fr to k R hv ow dn u gr)) := xCt_mono (fun v w' hφ => by
  obtain ⟨r, rfl, ⟨s', a0, a1, a2, a3, -⟩ | ⟨-, a1⟩⟩ := hφ
  · exact absurd ⟨s', a0, a1, a2, a3⟩ hx
  · exact ⟨_, rfl, a1⟩) (ct_BP_plant hn hk)
theorem cl_BP_fell_t (hk : k ≤ 3) (h0 : 0 < k) : xCt b y_BP_fell b_BP_fell 1 (some .int) q_BP_fell [.ref (h 0)] (wB b h n A fr to k R hv ow dn u gr) (xIn (fun r w => r = nI (k - 1) ∧ w = wB b h n A fr to (k - 1) R hv ow dn u false)) := xCt_mono (fun v w' hφ => by
  obtain ⟨r, rfl, ⟨a0, a1⟩ | ⟨a0, -⟩⟩ := hφ
  · exact ⟨_, rfl, a1⟩
  · omega) (ct_BP_fell hk)
theorem cl_BP_fell_f (hk : k = 0) : xCt b y_BP_fell b_BP_fell 1 (some .int) q_BP_fell [.ref (h 0)] (wB b h n A fr to k R hv ow dn u gr) (xIn (fun r w => r = -1 ∧ w = wB b h n A fr to k R hv ow dn u gr)) := xCt_mono (fun v w' hφ => by
  obtain ⟨r, rfl, ⟨a0, -⟩ | ⟨-, a1⟩⟩ := hφ
  · omega
  · exact ⟨_, rfl, a1⟩) (ct_BP_fell (by omega))
end LCB
section LCM
variable {b : xB} {h : Nat → Nat} {n A : Nat} {fr to : Nat → Nat} {k : Nat} {R : Nat → Nat} {ow wy : Nat → Option Nat} {tr hs us nx : Nat → Nat}
theorem cl_Mod_begin_t {m : Nat} (m1 : 1 ≤ m) (m2 : m ≤ 7) : xCt b y_Mod_begin b_Mod_begin 2 (some .boolean) q_Mod_begin [.ref (h 0), .int (nI m)] (wM b h n A fr to k R ow wy tr hs us nx) (xIn (fun r w => r = bI true ∧ w = wM b h m 0 fr to 0 R ow wy tr hs us nx)) := xCt_mono (fun v w' hφ => by
  obtain ⟨r, rfl, ⟨m', a1, a2, a3, a4, a5⟩ | ⟨a1, -⟩⟩ := hφ
  · have := nI_u (by omega) (by omega) a3
    subst this
    exact ⟨_, rfl, a4, a5⟩
  · exact absurd ⟨m, m1, m2, rfl⟩ a1) ct_Mod_begin
theorem cl_Mod_begin_f {x : Int32} (hx : ¬ ∃ m, 1 ≤ m ∧ m ≤ 7 ∧ x = nI m) : xCt b y_Mod_begin b_Mod_begin 2 (some .boolean) q_Mod_begin [.ref (h 0), .int x] (wM b h n A fr to k R ow wy tr hs us nx) (xIn (fun r w => r = bI false ∧ w = wM b h n A fr to k R ow wy tr hs us nx)) := xCt_mono (fun v w' hφ => by
  obtain ⟨r, rfl, ⟨m', a1, a2, a3, a4, a5⟩ | ⟨-, a1⟩⟩ := hφ
  · exact absurd ⟨m', a1, a2, a3⟩ hx
  · exact ⟨_, rfl, a1⟩) ct_Mod_begin
theorem cl_Mod_arc_t {p q : Nat} (hN : nOK n A fr to) (hA : A < 14) (hp : p < n) (hq : q < n) (hpq : p ≠ q) : xCt b y_Mod_arc b_Mod_arc 3 (some .int) q_Mod_arc [.ref (h 0), .int (nI p), .int (nI q)] (wM b h n A fr to k R ow wy tr hs us nx) (xIn (fun r w => r = nI A ∧ w = wM b h n (A + 1) (va_up fr A p) (va_up to A q) k R ow wy tr hs us nx)) := xCt_mono (fun v w' hφ => by
  have n2 := hN.2.1
  obtain ⟨r, rfl, ⟨p', q', a0, a1, a2, a3, a4, a5, a6, a7⟩ | ⟨a1, -⟩⟩ := hφ
  · have e1 := nI_u (by omega) (by omega) a4
    have e2 := nI_u (by omega) (by omega) a5
    subst e1
    subst e2
    exact ⟨_, rfl, a6, a7⟩
  · exact absurd ⟨hA, ⟨p, hp, rfl⟩, ⟨q, hq, rfl⟩, fun z => hpq (nI_u (by omega) (by omega) z)⟩ a1) (ct_Mod_arc hN)
theorem cl_Mod_arc_f {x y : Int32} (hN : nOK n A fr to) (hx : ¬ ∃ p q, A < 14 ∧ p < n ∧ q < n ∧ p ≠ q ∧ x = nI p ∧ y = nI q) : xCt b y_Mod_arc b_Mod_arc 3 (some .int) q_Mod_arc [.ref (h 0), .int x, .int y] (wM b h n A fr to k R ow wy tr hs us nx) (xIn (fun r w => r = -1 ∧ w = wM b h n A fr to k R ow wy tr hs us nx)) := xCt_mono (fun v w' hφ => by
  obtain ⟨r, rfl, ⟨p', q', a0, a1, a2, a3, a4, a5, -⟩ | ⟨-, a1⟩⟩ := hφ
  · exact absurd ⟨p', q', a0, a1, a2, a3, a4, a5⟩ hx
  · exact ⟨_, rfl, a1⟩) (ct_Mod_arc hN)
theorem cl_Mod_drop_t {e : Nat} (hN : nOK n A fr to) (he : e < A) : xCt b y_Mod_drop b_Mod_drop 2 (some .boolean) q_Mod_drop [.ref (h 0), .int (nI e)] (wM b h n A fr to k R ow wy tr hs us nx) (xIn (fun r w => r = bI true ∧ w = wM b h n (A - 1) (shf fr e A) (shf to e A) k R ow wy tr hs us nx)) := xCt_mono (fun v w' hφ => by
  have n3 := hN.2.2.1
  obtain ⟨r, rfl, ⟨e', a1, a2, a3, a4⟩ | ⟨a1, -⟩⟩ := hφ
  · have := nI_u (by omega) (by omega) a2
    subst this
    exact ⟨_, rfl, a3, a4⟩
  · exact absurd ⟨e, he, rfl⟩ a1) (ct_Mod_drop hN)
theorem cl_Mod_drop_f {x : Int32} (hN : nOK n A fr to) (hx : ¬ ∃ e, e < A ∧ x = nI e) : xCt b y_Mod_drop b_Mod_drop 2 (some .boolean) q_Mod_drop [.ref (h 0), .int x] (wM b h n A fr to k R ow wy tr hs us nx) (xIn (fun r w => r = bI false ∧ w = wM b h n A fr to k R ow wy tr hs us nx)) := xCt_mono (fun v w' hφ => by
  obtain ⟨r, rfl, ⟨e', a1, a2, -⟩ | ⟨-, a1⟩⟩ := hφ
  · exact absurd ⟨e', a1, a2⟩ hx
  · exact ⟨_, rfl, a1⟩) (ct_Mod_drop hN)
theorem cl_Mod_plant_t {s : Nat} (hn : n ≤ 7) (hk : k < 3) (h0 : 0 < s) (hs1 : s < 2 ^ n) : xCt b y_Mod_plant b_Mod_plant 2 (some .int) q_Mod_plant [.ref (h 0), .int (nI s)] (wM b h n A fr to k R ow wy tr hs us nx) (xIn (fun r w => r = nI k ∧ w = wM b h n A fr to (k + 1) (va_up R k s) ow wy tr hs us nx)) := xCt_mono (fun v w' hφ => by
  have hp := pow_le hn
  obtain ⟨r, rfl, ⟨s', a0, a1, a2, a3, a4, a5⟩ | ⟨a1, -⟩⟩ := hφ
  · have := nI_u (by omega) (by omega) a3
    subst this
    exact ⟨_, rfl, a4, a5⟩
  · exact absurd ⟨hk, ⟨s, hs1, rfl⟩, fun z => by have := (nI_z (x := s) (by omega)).mp z; omega⟩ a1) (ct_Mod_plant hn (by omega))
theorem cl_Mod_plant_f {x : Int32} (hn : n ≤ 7) (hk : k ≤ 3) (hx : ¬ ∃ s, k < 3 ∧ 0 < s ∧ s < 2 ^ n ∧ x = nI s) : xCt b y_Mod_plant b_Mod_plant 2 (some .int) q_Mod_plant [.ref (h 0), .int x] (wM b h n A fr to k R ow wy tr hs us nx) (xIn (fun r w => r = -1 ∧ w = wM b h n A fr to k R ow wy tr hs us nx)) := xCt_mono (fun v w' hφ => by
  obtain ⟨r, rfl, ⟨s', a0, a1, a2, a3, -⟩ | ⟨-, a1⟩⟩ := hφ
  · exact absurd ⟨s', a0, a1, a2, a3⟩ hx
  · exact ⟨_, rfl, a1⟩) (ct_Mod_plant hn hk)
theorem cl_Mod_fell_t (hk : k ≤ 3) (h0 : 0 < k) : xCt b y_Mod_fell b_Mod_fell 1 (some .int) q_Mod_fell [.ref (h 0)] (wM b h n A fr to k R ow wy tr hs us nx) (xIn (fun r w => r = nI (k - 1) ∧ w = wM b h n A fr to (k - 1) R ow wy tr hs us nx)) := xCt_mono (fun v w' hφ => by
  obtain ⟨r, rfl, ⟨a0, a1⟩ | ⟨a0, -⟩⟩ := hφ
  · exact ⟨_, rfl, a1⟩
  · omega) (ct_Mod_fell hk)
theorem cl_Mod_fell_f (hk : k = 0) : xCt b y_Mod_fell b_Mod_fell 1 (some .int) q_Mod_fell [.ref (h 0)] (wM b h n A fr to k R ow wy tr hs us nx) (xIn (fun r w => r = -1 ∧ w = wM b h n A fr to k R ow wy tr hs us nx)) := xCt_mono (fun v w' hφ => by
  obtain ⟨r, rfl, ⟨a0, -⟩ | ⟨-, a1⟩⟩ := hφ
  · omega
  · exact ⟨_, rfl, a1⟩) (ct_Mod_fell (by omega))
end LCM
/-! what a call keeps -/
theorem sOK_begin {n A k : Nat} {fr to R : Nat → Nat} {m : Nat} (h : sOK n A fr to k R) (m1 : 1 ≤ m) (m2 : m ≤ 7) : sOK m 0 fr to 0 R := by
  obtain ⟨⟨n1, n2, n3, n4, n5⟩, h2, h3, h4⟩ := h
  exact ⟨⟨m1, m2, by omega, n4, fun j hj => by omega⟩, by omega, h3, fun i hi => by omega⟩
theorem sOK_arc {n A k : Nat} {fr to R : Nat → Nat} {p q : Nat} (h : sOK n A fr to k R) (hA : A < 14) (hp : p < n) (hq : q < n) : sOK n (A + 1) (va_up fr A p) (va_up to A q) k R := by
  obtain ⟨⟨n1, n2, n3, n4, n5⟩, h2, h3, h4⟩ := h
  refine ⟨⟨n1, n2, by omega, fun j => ?_, fun j hj => ?_⟩, h2, h3, h4⟩
  · have := n4 j
    simp only [va_up]
    split <;> omega
  · simp only [va_up]
    split
    · exact ⟨hp, hq⟩
    · exact n5 j (by omega)
theorem sOK_plant {n A k : Nat} {fr to R : Nat → Nat} {s : Nat} (h : sOK n A fr to k R) (hk : k < 3) (hs : s < 2 ^ n) : sOK n A fr to (k + 1) (va_up R k s) := by
  obtain ⟨hN, h2, h3, h4⟩ := h
  have hp := pow_le hN.2.1
  refine ⟨hN, by omega, fun i => ?_, fun i hi => ?_⟩
  · have := h3 i
    simp only [va_up]
    split <;> omega
  · simp only [va_up]
    split
    · exact hs
    · exact h4 i (by omega)
theorem sOK_fell {n A k : Nat} {fr to R : Nat → Nat} (h : sOK n A fr to k R) : sOK n A fr to (k - 1) R := by
  obtain ⟨hN, h2, h3, h4⟩ := h
  exact ⟨hN, by omega, h3, fun i hi => h4 i (by omega)⟩
def lInv (bb : xB) (h g : Nat → Nat) (w : va_W) : Prop := ∃ n A fr to k R hv ow dn u gr ow' wy tr hs us nx, w = wB bb h n A fr to k R hv ow dn u gr ++ wM bb g n A fr to k R ow' wy tr hs us nx ∧ sOK n A fr to k R ∧ gOK n A fr to k R ow dn gr
end
section
/-! THE LAW, case by case. Printed by gen/lawgen.py -/
section LAWC
variable {bb : xB} {G : xG} {nm : String} {h g : Nat → Nat} {b0 L : Nat} {xs : Nat → Int32} {i : Nat} {n A : Nat} {fr to : Nat → Nat} {k : Nat} {R hv : Nat → Nat} {ow : Nat → Option Nat} {dn : Bool} {u : xWs} {gr : Bool} {ow' wy : Nat → Option Nat} {tr hs us nx : Nat → Nat}
set_option maxRecDepth 20000 in
set_option maxHeartbeats 1000000 in
theorem lc_begin (X : xX bb G R_law nm code 4 room_1) (S : xS G b0 L xs) (hL : L ≤ 1536) (hi : i + 3 ≤ L) (hS : sOK n A fr to k R) (hg : gOK n A fr to k R ow dn gr) (next : ∀ w, lInv bb h g w → xW bb G 26 550 w 453 [(0, .ref b0), (1, .ref (h 0)), (2, .ref (g 0)), (3, .int (nI i))] []) : xW bb G 26 550 (wB bb h n A fr to k R hv ow dn u gr ++ wM bb g n A fr to k R ow' wy tr hs us nx) 108 [(0, .ref b0), (1, .ref (h 0)), (2, .ref (g 0)), (3, .int (nI i))] [] := by
  obtain ⟨hN, hk, hR1, hR2⟩ := id hS
  obtain ⟨n1, n2, n3, n4, n5⟩ := id hN
  have hp := pow_le n2
  by_cases hx : ∃ m, 1 ≤ m ∧ m ≤ 7 ∧ xs (i + 1) = nI m
  · obtain ⟨m, m1, m2, e1⟩ := hx
    refine x_aload_n X d_law_law_108 rfl ?_
    refine x_aload_n X d_law_law_109 rfl ?_
    refine x_iload_n X d_law_law_110 rfl ?_
    refine x_iconst X d_law_law_111 k_ic_1 ?_
    refine x_iaddN X d_law_law_112 ?_
    refine x_sld X S d_law_law_113 rfl (by omega) e1 ?_
    refine x_callF ([]) (wM bb g _ _ _ _ _ _ _ _ _ _ _ _) X d_law_law_114 c_law_13 (cl_BP_begin_t m1 m2) rfl rfl rfl rfl (Nat.le_of_ble_eq_true rfl) ⟨Nat.le_of_ble_eq_true rfl, Nat.le_of_ble_eq_true rfl⟩ ⟨rfl, rfl⟩ ⟨Nat.le_of_ble_eq_true rfl, Nat.le_of_ble_eq_true rfl⟩ (fun v_114 w_114 h_114 => ?_)
    obtain ⟨r_114, rfl, rfl, rfl⟩ := h_114
    refine ⟨rfl, ?_⟩
    refine x_wd (w' := wB bb h _ _ _ _ _ _ _ _ _ _ _ ++ wM bb g _ _ _ _ _ _ _ _ _ _ _ _) rfl ?_
    refine x_st (st' := [_]) rfl ?_
    refine x_aload_n X d_law_law_117 rfl ?_
    refine x_aload_n X d_law_law_118 rfl ?_
    refine x_iload_n X d_law_law_119 rfl ?_
    refine x_iconst X d_law_law_120 k_ic_1 ?_
    refine x_iaddN X d_law_law_121 ?_
    refine x_sld X S d_law_law_122 rfl (by omega) e1 ?_
    refine x_callF (wB bb h _ _ _ _ _ _ _ _ _ _ _) ([]) X d_law_law_123 c_law_17 (cl_Mod_begin_t m1 m2) rfl rfl rfl rfl (Nat.le_of_ble_eq_true rfl) ⟨Nat.le_of_ble_eq_true rfl, Nat.le_of_ble_eq_true rfl⟩ ⟨rfl, rfl⟩ ⟨Nat.le_of_ble_eq_true rfl, Nat.le_of_ble_eq_true rfl⟩ (fun v_123 w_123 h_123 => ?_)
    obtain ⟨r_123, rfl, rfl, rfl⟩ := h_123
    refine ⟨rfl, ?_⟩
    refine x_wd (w' := wB bb h _ _ _ _ _ _ _ _ _ _ _ ++ wM bb g _ _ _ _ _ _ _ _ _ _ _ _) rfl ?_
    refine x_st (st' := [_, _]) rfl ?_
    refine x_icmp_eq 453 X d_law_law_126 (by decide) (fun c_126 => ?_) (fun c_126 => ?_)
    · exact next _ ⟨_, _, _, _, _, _, _, _, _, _, _, _, _, _, _, _, _, rfl, sOK_begin hS m1 m2, gOK_f⟩
    · exact absurd (rfl) c_126
  · skip
    refine x_aload_n X d_law_law_108 rfl ?_
    refine x_aload_n X d_law_law_109 rfl ?_
    refine x_iload_n X d_law_law_110 rfl ?_
    refine x_iconst X d_law_law_111 k_ic_1 ?_
    refine x_iaddN X d_law_law_112 ?_
    refine x_sld X S d_law_law_113 rfl (by omega) rfl ?_
    refine x_callF ([]) (wM bb g _ _ _ _ _ _ _ _ _ _ _ _) X d_law_law_114 c_law_13 (cl_BP_begin_f hx) rfl rfl rfl rfl (Nat.le_of_ble_eq_true rfl) ⟨Nat.le_of_ble_eq_true rfl, Nat.le_of_ble_eq_true rfl⟩ ⟨rfl, rfl⟩ ⟨Nat.le_of_ble_eq_true rfl, Nat.le_of_ble_eq_true rfl⟩ (fun v_114 w_114 h_114 => ?_)
    obtain ⟨r_114, rfl, rfl, rfl⟩ := h_114
    refine ⟨rfl, ?_⟩
    refine x_wd (w' := wB bb h _ _ _ _ _ _ _ _ _ _ _ ++ wM bb g _ _ _ _ _ _ _ _ _ _ _ _) rfl ?_
    refine x_st (st' := [_]) rfl ?_
    refine x_aload_n X d_law_law_117 rfl ?_
    refine x_aload_n X d_law_law_118 rfl ?_
    refine x_iload_n X d_law_law_119 rfl ?_
    refine x_iconst X d_law_law_120 k_ic_1 ?_
    refine x_iaddN X d_law_law_121 ?_
    refine x_sld X S d_law_law_122 rfl (by omega) rfl ?_
    refine x_callF (wB bb h _ _ _ _ _ _ _ _ _ _ _) ([]) X d_law_law_123 c_law_17 (cl_Mod_begin_f hx) rfl rfl rfl rfl (Nat.le_of_ble_eq_true rfl) ⟨Nat.le_of_ble_eq_true rfl, Nat.le_of_ble_eq_true rfl⟩ ⟨rfl, rfl⟩ ⟨Nat.le_of_ble_eq_true rfl, Nat.le_of_ble_eq_true rfl⟩ (fun v_123 w_123 h_123 => ?_)
    obtain ⟨r_123, rfl, rfl, rfl⟩ := h_123
    refine ⟨rfl, ?_⟩
    refine x_wd (w' := wB bb h _ _ _ _ _ _ _ _ _ _ _ ++ wM bb g _ _ _ _ _ _ _ _ _ _ _ _) rfl ?_
    refine x_st (st' := [_, _]) rfl ?_
    refine x_icmp_eq 453 X d_law_law_126 (by decide) (fun c_126 => ?_) (fun c_126 => ?_)
    · exact next _ ⟨_, _, _, _, _, _, _, _, _, _, _, _, _, _, _, _, _, rfl, hS, hg⟩
    · exact absurd (rfl) c_126
set_option maxRecDepth 20000 in
set_option maxHeartbeats 1000000 in
theorem lc_arc (X : xX bb G R_law nm code 4 room_1) (S : xS G b0 L xs) (hL : L ≤ 1536) (hi : i + 3 ≤ L) (hS : sOK n A fr to k R) (hg : gOK n A fr to k R ow dn gr) (next : ∀ w, lInv bb h g w → xW bb G 26 550 w 453 [(0, .ref b0), (1, .ref (h 0)), (2, .ref (g 0)), (3, .int (nI i))] []) : xW bb G 26 550 (wB bb h n A fr to k R hv ow dn u gr ++ wM bb g n A fr to k R ow' wy tr hs us nx) 131 [(0, .ref b0), (1, .ref (h 0)), (2, .ref (g 0)), (3, .int (nI i))] [] := by
  obtain ⟨hN, hk, hR1, hR2⟩ := id hS
  obtain ⟨n1, n2, n3, n4, n5⟩ := id hN
  have hp := pow_le n2
  by_cases hx : ∃ p q, A < 14 ∧ p < n ∧ q < n ∧ p ≠ q ∧ xs (i + 1) = nI p ∧ xs (i + 2) = nI q
  · obtain ⟨p, q, q0, q1, q2, q3, e1, e2⟩ := hx
    refine x_aload_n X d_law_law_131 rfl ?_
    refine x_aload_n X d_law_law_132 rfl ?_
    refine x_iload_n X d_law_law_133 rfl ?_
    refine x_iconst X d_law_law_134 k_ic_1 ?_
    refine x_iaddN X d_law_law_135 ?_
    refine x_sld X S d_law_law_136 rfl (by omega) e1 ?_
    refine x_aload_n X d_law_law_137 rfl ?_
    refine x_iload_n X d_law_law_138 rfl ?_
    refine x_iconst X d_law_law_139 k_ic_2 ?_
    refine x_iaddN X d_law_law_140 ?_
    refine x_sld X S d_law_law_141 rfl (by omega) e2 ?_
    refine x_callF ([]) (wM bb g _ _ _ _ _ _ _ _ _ _ _ _) X d_law_law_142 c_law_18 (cl_BP_arc_t hN q0 q1 q2 q3) rfl rfl rfl rfl (Nat.le_of_ble_eq_true rfl) ⟨Nat.le_of_ble_eq_true rfl, Nat.le_of_ble_eq_true rfl⟩ ⟨rfl, rfl⟩ ⟨Nat.le_of_ble_eq_true rfl, Nat.le_of_ble_eq_true rfl⟩ (fun v_142 w_142 h_142 => ?_)
    obtain ⟨r_142, rfl, rfl, rfl⟩ := h_142
    refine ⟨rfl, ?_⟩
    refine x_wd (w' := wB bb h _ _ _ _ _ _ _ _ _ _ _ ++ wM bb g _ _ _ _ _ _ _ _ _ _ _ _) rfl ?_
    refine x_st (st' := [_]) rfl ?_
    refine x_aload_n X d_law_law_145 rfl ?_
    refine x_aload_n X d_law_law_146 rfl ?_
    refine x_iload_n X d_law_law_147 rfl ?_
    refine x_iconst X d_law_law_148 k_ic_1 ?_
    refine x_iaddN X d_law_law_149 ?_
    refine x_sld X S d_law_law_150 rfl (by omega) e1 ?_
    refine x_aload_n X d_law_law_151 rfl ?_
    refine x_iload_n X d_law_law_152 rfl ?_
    refine x_iconst X d_law_law_153 k_ic_2 ?_
    refine x_iaddN X d_law_law_154 ?_
    refine x_sld X S d_law_law_155 rfl (by omega) e2 ?_
    refine x_callF (wB bb h _ _ _ _ _ _ _ _ _ _ _) ([]) X d_law_law_156 c_law_22 (cl_Mod_arc_t hN q0 q1 q2 q3) rfl rfl rfl rfl (Nat.le_of_ble_eq_true rfl) ⟨Nat.le_of_ble_eq_true rfl, Nat.le_of_ble_eq_true rfl⟩ ⟨rfl, rfl⟩ ⟨Nat.le_of_ble_eq_true rfl, Nat.le_of_ble_eq_true rfl⟩ (fun v_156 w_156 h_156 => ?_)
    obtain ⟨r_156, rfl, rfl, rfl⟩ := h_156
    refine ⟨rfl, ?_⟩
    refine x_wd (w' := wB bb h _ _ _ _ _ _ _ _ _ _ _ ++ wM bb g _ _ _ _ _ _ _ _ _ _ _ _) rfl ?_
    refine x_st (st' := [_, _]) rfl ?_
    refine x_icmp_eq 453 X d_law_law_159 (by decide) (fun c_159 => ?_) (fun c_159 => ?_)
    · exact next _ ⟨_, _, _, _, _, _, _, _, _, _, _, _, _, _, _, _, _, rfl, sOK_arc hS q0 q1 q2, gOK_f⟩
    · exact absurd (rfl) c_159
  · skip
    refine x_aload_n X d_law_law_131 rfl ?_
    refine x_aload_n X d_law_law_132 rfl ?_
    refine x_iload_n X d_law_law_133 rfl ?_
    refine x_iconst X d_law_law_134 k_ic_1 ?_
    refine x_iaddN X d_law_law_135 ?_
    refine x_sld X S d_law_law_136 rfl (by omega) rfl ?_
    refine x_aload_n X d_law_law_137 rfl ?_
    refine x_iload_n X d_law_law_138 rfl ?_
    refine x_iconst X d_law_law_139 k_ic_2 ?_
    refine x_iaddN X d_law_law_140 ?_
    refine x_sld X S d_law_law_141 rfl (by omega) rfl ?_
    refine x_callF ([]) (wM bb g _ _ _ _ _ _ _ _ _ _ _ _) X d_law_law_142 c_law_18 (cl_BP_arc_f hN hx) rfl rfl rfl rfl (Nat.le_of_ble_eq_true rfl) ⟨Nat.le_of_ble_eq_true rfl, Nat.le_of_ble_eq_true rfl⟩ ⟨rfl, rfl⟩ ⟨Nat.le_of_ble_eq_true rfl, Nat.le_of_ble_eq_true rfl⟩ (fun v_142 w_142 h_142 => ?_)
    obtain ⟨r_142, rfl, rfl, rfl⟩ := h_142
    refine ⟨rfl, ?_⟩
    refine x_wd (w' := wB bb h _ _ _ _ _ _ _ _ _ _ _ ++ wM bb g _ _ _ _ _ _ _ _ _ _ _ _) rfl ?_
    refine x_st (st' := [_]) rfl ?_
    refine x_aload_n X d_law_law_145 rfl ?_
    refine x_aload_n X d_law_law_146 rfl ?_
    refine x_iload_n X d_law_law_147 rfl ?_
    refine x_iconst X d_law_law_148 k_ic_1 ?_
    refine x_iaddN X d_law_law_149 ?_
    refine x_sld X S d_law_law_150 rfl (by omega) rfl ?_
    refine x_aload_n X d_law_law_151 rfl ?_
    refine x_iload_n X d_law_law_152 rfl ?_
    refine x_iconst X d_law_law_153 k_ic_2 ?_
    refine x_iaddN X d_law_law_154 ?_
    refine x_sld X S d_law_law_155 rfl (by omega) rfl ?_
    refine x_callF (wB bb h _ _ _ _ _ _ _ _ _ _ _) ([]) X d_law_law_156 c_law_22 (cl_Mod_arc_f hN hx) rfl rfl rfl rfl (Nat.le_of_ble_eq_true rfl) ⟨Nat.le_of_ble_eq_true rfl, Nat.le_of_ble_eq_true rfl⟩ ⟨rfl, rfl⟩ ⟨Nat.le_of_ble_eq_true rfl, Nat.le_of_ble_eq_true rfl⟩ (fun v_156 w_156 h_156 => ?_)
    obtain ⟨r_156, rfl, rfl, rfl⟩ := h_156
    refine ⟨rfl, ?_⟩
    refine x_wd (w' := wB bb h _ _ _ _ _ _ _ _ _ _ _ ++ wM bb g _ _ _ _ _ _ _ _ _ _ _ _) rfl ?_
    refine x_st (st' := [_, _]) rfl ?_
    refine x_icmp_eq 453 X d_law_law_159 (by decide) (fun c_159 => ?_) (fun c_159 => ?_)
    · exact next _ ⟨_, _, _, _, _, _, _, _, _, _, _, _, _, _, _, _, _, rfl, hS, hg⟩
    · exact absurd (rfl) c_159
set_option maxRecDepth 20000 in
set_option maxHeartbeats 1000000 in
theorem lc_drop (X : xX bb G R_law nm code 4 room_1) (S : xS G b0 L xs) (hL : L ≤ 1536) (hi : i + 3 ≤ L) (hS : sOK n A fr to k R) (hg : gOK n A fr to k R ow dn gr) (next : ∀ w, lInv bb h g w → xW bb G 26 550 w 453 [(0, .ref b0), (1, .ref (h 0)), (2, .ref (g 0)), (3, .int (nI i))] []) : xW bb G 26 550 (wB bb h n A fr to k R hv ow dn u gr ++ wM bb g n A fr to k R ow' wy tr hs us nx) 164 [(0, .ref b0), (1, .ref (h 0)), (2, .ref (g 0)), (3, .int (nI i))] [] := by
  obtain ⟨hN, hk, hR1, hR2⟩ := id hS
  obtain ⟨n1, n2, n3, n4, n5⟩ := id hN
  have hp := pow_le n2
  by_cases hx : ∃ e, e < A ∧ xs (i + 1) = nI e
  · obtain ⟨e, q0, e1⟩ := hx
    refine x_aload_n X d_law_law_164 rfl ?_
    refine x_aload_n X d_law_law_165 rfl ?_
    refine x_iload_n X d_law_law_166 rfl ?_
    refine x_iconst X d_law_law_167 k_ic_1 ?_
    refine x_iaddN X d_law_law_168 ?_
    refine x_sld X S d_law_law_169 rfl (by omega) e1 ?_
    refine x_callF ([]) (wM bb g _ _ _ _ _ _ _ _ _ _ _ _) X d_law_law_170 c_law_23 (cl_BP_drop_t hN q0) rfl rfl rfl rfl (Nat.le_of_ble_eq_true rfl) ⟨Nat.le_of_ble_eq_true rfl, Nat.le_of_ble_eq_true rfl⟩ ⟨rfl, rfl⟩ ⟨Nat.le_of_ble_eq_true rfl, Nat.le_of_ble_eq_true rfl⟩ (fun v_170 w_170 h_170 => ?_)
    obtain ⟨r_170, rfl, rfl, rfl⟩ := h_170
    refine ⟨rfl, ?_⟩
    refine x_wd (w' := wB bb h _ _ _ _ _ _ _ _ _ _ _ ++ wM bb g _ _ _ _ _ _ _ _ _ _ _ _) rfl ?_
    refine x_st (st' := [_]) rfl ?_
    refine x_aload_n X d_law_law_173 rfl ?_
    refine x_aload_n X d_law_law_174 rfl ?_
    refine x_iload_n X d_law_law_175 rfl ?_
    refine x_iconst X d_law_law_176 k_ic_1 ?_
    refine x_iaddN X d_law_law_177 ?_
    refine x_sld X S d_law_law_178 rfl (by omega) e1 ?_
    refine x_callF (wB bb h _ _ _ _ _ _ _ _ _ _ _) ([]) X d_law_law_179 c_law_26 (cl_Mod_drop_t hN q0) rfl rfl rfl rfl (Nat.le_of_ble_eq_true rfl) ⟨Nat.le_of_ble_eq_true rfl, Nat.le_of_ble_eq_true rfl⟩ ⟨rfl, rfl⟩ ⟨Nat.le_of_ble_eq_true rfl, Nat.le_of_ble_eq_true rfl⟩ (fun v_179 w_179 h_179 => ?_)
    obtain ⟨r_179, rfl, rfl, rfl⟩ := h_179
    refine ⟨rfl, ?_⟩
    refine x_wd (w' := wB bb h _ _ _ _ _ _ _ _ _ _ _ ++ wM bb g _ _ _ _ _ _ _ _ _ _ _ _) rfl ?_
    refine x_st (st' := [_, _]) rfl ?_
    refine x_icmp_eq 453 X d_law_law_182 (by decide) (fun c_182 => ?_) (fun c_182 => ?_)
    · exact next _ ⟨_, _, _, _, _, _, _, _, _, _, _, _, _, _, _, _, _, rfl, sOK_shf hS, gOK_f⟩
    · exact absurd (rfl) c_182
  · skip
    refine x_aload_n X d_law_law_164 rfl ?_
    refine x_aload_n X d_law_law_165 rfl ?_
    refine x_iload_n X d_law_law_166 rfl ?_
    refine x_iconst X d_law_law_167 k_ic_1 ?_
    refine x_iaddN X d_law_law_168 ?_
    refine x_sld X S d_law_law_169 rfl (by omega) rfl ?_
    refine x_callF ([]) (wM bb g _ _ _ _ _ _ _ _ _ _ _ _) X d_law_law_170 c_law_23 (cl_BP_drop_f hN hx) rfl rfl rfl rfl (Nat.le_of_ble_eq_true rfl) ⟨Nat.le_of_ble_eq_true rfl, Nat.le_of_ble_eq_true rfl⟩ ⟨rfl, rfl⟩ ⟨Nat.le_of_ble_eq_true rfl, Nat.le_of_ble_eq_true rfl⟩ (fun v_170 w_170 h_170 => ?_)
    obtain ⟨r_170, rfl, rfl, rfl⟩ := h_170
    refine ⟨rfl, ?_⟩
    refine x_wd (w' := wB bb h _ _ _ _ _ _ _ _ _ _ _ ++ wM bb g _ _ _ _ _ _ _ _ _ _ _ _) rfl ?_
    refine x_st (st' := [_]) rfl ?_
    refine x_aload_n X d_law_law_173 rfl ?_
    refine x_aload_n X d_law_law_174 rfl ?_
    refine x_iload_n X d_law_law_175 rfl ?_
    refine x_iconst X d_law_law_176 k_ic_1 ?_
    refine x_iaddN X d_law_law_177 ?_
    refine x_sld X S d_law_law_178 rfl (by omega) rfl ?_
    refine x_callF (wB bb h _ _ _ _ _ _ _ _ _ _ _) ([]) X d_law_law_179 c_law_26 (cl_Mod_drop_f hN hx) rfl rfl rfl rfl (Nat.le_of_ble_eq_true rfl) ⟨Nat.le_of_ble_eq_true rfl, Nat.le_of_ble_eq_true rfl⟩ ⟨rfl, rfl⟩ ⟨Nat.le_of_ble_eq_true rfl, Nat.le_of_ble_eq_true rfl⟩ (fun v_179 w_179 h_179 => ?_)
    obtain ⟨r_179, rfl, rfl, rfl⟩ := h_179
    refine ⟨rfl, ?_⟩
    refine x_wd (w' := wB bb h _ _ _ _ _ _ _ _ _ _ _ ++ wM bb g _ _ _ _ _ _ _ _ _ _ _ _) rfl ?_
    refine x_st (st' := [_, _]) rfl ?_
    refine x_icmp_eq 453 X d_law_law_182 (by decide) (fun c_182 => ?_) (fun c_182 => ?_)
    · exact next _ ⟨_, _, _, _, _, _, _, _, _, _, _, _, _, _, _, _, _, rfl, hS, hg⟩
    · exact absurd (rfl) c_182
set_option maxRecDepth 20000 in
set_option maxHeartbeats 1000000 in
theorem lc_plant (X : xX bb G R_law nm code 4 room_1) (S : xS G b0 L xs) (hL : L ≤ 1536) (hi : i + 3 ≤ L) (hS : sOK n A fr to k R) (hg : gOK n A fr to k R ow dn gr) (next : ∀ w, lInv bb h g w → xW bb G 26 550 w 453 [(0, .ref b0), (1, .ref (h 0)), (2, .ref (g 0)), (3, .int (nI i))] []) : xW bb G 26 550 (wB bb h n A fr to k R hv ow dn u gr ++ wM bb g n A fr to k R ow' wy tr hs us nx) 187 [(0, .ref b0), (1, .ref (h 0)), (2, .ref (g 0)), (3, .int (nI i))] [] := by
  obtain ⟨hN, hk, hR1, hR2⟩ := id hS
  obtain ⟨n1, n2, n3, n4, n5⟩ := id hN
  have hp := pow_le n2
  by_cases hx : ∃ s, k < 3 ∧ 0 < s ∧ s < 2 ^ n ∧ xs (i + 1) = nI s
  · obtain ⟨s, q0, q1, q2, e1⟩ := hx
    refine x_aload_n X d_law_law_187 rfl ?_
    refine x_aload_n X d_law_law_188 rfl ?_
    refine x_iload_n X d_law_law_189 rfl ?_
    refine x_iconst X d_law_law_190 k_ic_1 ?_
    refine x_iaddN X d_law_law_191 ?_
    refine x_sld X S d_law_law_192 rfl (by omega) e1 ?_
    refine x_callF ([]) (wM bb g _ _ _ _ _ _ _ _ _ _ _ _) X d_law_law_193 c_law_27 (cl_BP_plant_t n2 q0 q1 q2) rfl rfl rfl rfl (Nat.le_of_ble_eq_true rfl) ⟨Nat.le_of_ble_eq_true rfl, Nat.le_of_ble_eq_true rfl⟩ ⟨rfl, rfl⟩ ⟨Nat.le_of_ble_eq_true rfl, Nat.le_of_ble_eq_true rfl⟩ (fun v_193 w_193 h_193 => ?_)
    obtain ⟨r_193, rfl, rfl, rfl⟩ := h_193
    refine ⟨rfl, ?_⟩
    refine x_wd (w' := wB bb h _ _ _ _ _ _ _ _ _ _ _ ++ wM bb g _ _ _ _ _ _ _ _ _ _ _ _) rfl ?_
    refine x_st (st' := [_]) rfl ?_
    refine x_aload_n X d_law_law_196 rfl ?_
    refine x_aload_n X d_law_law_197 rfl ?_
    refine x_iload_n X d_law_law_198 rfl ?_
    refine x_iconst X d_law_law_199 k_ic_1 ?_
    refine x_iaddN X d_law_law_200 ?_
    refine x_sld X S d_law_law_201 rfl (by omega) e1 ?_
    refine x_callF (wB bb h _ _ _ _ _ _ _ _ _ _ _) ([]) X d_law_law_202 c_law_31 (cl_Mod_plant_t n2 q0 q1 q2) rfl rfl rfl rfl (Nat.le_of_ble_eq_true rfl) ⟨Nat.le_of_ble_eq_true rfl, Nat.le_of_ble_eq_true rfl⟩ ⟨rfl, rfl⟩ ⟨Nat.le_of_ble_eq_true rfl, Nat.le_of_ble_eq_true rfl⟩ (fun v_202 w_202 h_202 => ?_)
    obtain ⟨r_202, rfl, rfl, rfl⟩ := h_202
    refine ⟨rfl, ?_⟩
    refine x_wd (w' := wB bb h _ _ _ _ _ _ _ _ _ _ _ ++ wM bb g _ _ _ _ _ _ _ _ _ _ _ _) rfl ?_
    refine x_st (st' := [_, _]) rfl ?_
    refine x_icmp_eq 453 X d_law_law_205 (by decide) (fun c_205 => ?_) (fun c_205 => ?_)
    · exact next _ ⟨_, _, _, _, _, _, _, _, _, _, _, _, _, _, _, _, _, rfl, sOK_plant hS q0 q2, gOK_f⟩
    · exact absurd (rfl) c_205
  · skip
    refine x_aload_n X d_law_law_187 rfl ?_
    refine x_aload_n X d_law_law_188 rfl ?_
    refine x_iload_n X d_law_law_189 rfl ?_
    refine x_iconst X d_law_law_190 k_ic_1 ?_
    refine x_iaddN X d_law_law_191 ?_
    refine x_sld X S d_law_law_192 rfl (by omega) rfl ?_
    refine x_callF ([]) (wM bb g _ _ _ _ _ _ _ _ _ _ _ _) X d_law_law_193 c_law_27 (cl_BP_plant_f n2 hk hx) rfl rfl rfl rfl (Nat.le_of_ble_eq_true rfl) ⟨Nat.le_of_ble_eq_true rfl, Nat.le_of_ble_eq_true rfl⟩ ⟨rfl, rfl⟩ ⟨Nat.le_of_ble_eq_true rfl, Nat.le_of_ble_eq_true rfl⟩ (fun v_193 w_193 h_193 => ?_)
    obtain ⟨r_193, rfl, rfl, rfl⟩ := h_193
    refine ⟨rfl, ?_⟩
    refine x_wd (w' := wB bb h _ _ _ _ _ _ _ _ _ _ _ ++ wM bb g _ _ _ _ _ _ _ _ _ _ _ _) rfl ?_
    refine x_st (st' := [_]) rfl ?_
    refine x_aload_n X d_law_law_196 rfl ?_
    refine x_aload_n X d_law_law_197 rfl ?_
    refine x_iload_n X d_law_law_198 rfl ?_
    refine x_iconst X d_law_law_199 k_ic_1 ?_
    refine x_iaddN X d_law_law_200 ?_
    refine x_sld X S d_law_law_201 rfl (by omega) rfl ?_
    refine x_callF (wB bb h _ _ _ _ _ _ _ _ _ _ _) ([]) X d_law_law_202 c_law_31 (cl_Mod_plant_f n2 hk hx) rfl rfl rfl rfl (Nat.le_of_ble_eq_true rfl) ⟨Nat.le_of_ble_eq_true rfl, Nat.le_of_ble_eq_true rfl⟩ ⟨rfl, rfl⟩ ⟨Nat.le_of_ble_eq_true rfl, Nat.le_of_ble_eq_true rfl⟩ (fun v_202 w_202 h_202 => ?_)
    obtain ⟨r_202, rfl, rfl, rfl⟩ := h_202
    refine ⟨rfl, ?_⟩
    refine x_wd (w' := wB bb h _ _ _ _ _ _ _ _ _ _ _ ++ wM bb g _ _ _ _ _ _ _ _ _ _ _ _) rfl ?_
    refine x_st (st' := [_, _]) rfl ?_
    refine x_icmp_eq 453 X d_law_law_205 (by decide) (fun c_205 => ?_) (fun c_205 => ?_)
    · exact next _ ⟨_, _, _, _, _, _, _, _, _, _, _, _, _, _, _, _, _, rfl, hS, hg⟩
    · exact absurd (rfl) c_205
set_option maxRecDepth 20000 in
set_option maxHeartbeats 1000000 in
theorem lc_fell (X : xX bb G R_law nm code 4 room_1) (S : xS G b0 L xs) (hL : L ≤ 1536) (hi : i + 3 ≤ L) (hS : sOK n A fr to k R) (hg : gOK n A fr to k R ow dn gr) (next : ∀ w, lInv bb h g w → xW bb G 26 550 w 453 [(0, .ref b0), (1, .ref (h 0)), (2, .ref (g 0)), (3, .int (nI i))] []) : xW bb G 26 550 (wB bb h n A fr to k R hv ow dn u gr ++ wM bb g n A fr to k R ow' wy tr hs us nx) 210 [(0, .ref b0), (1, .ref (h 0)), (2, .ref (g 0)), (3, .int (nI i))] [] := by
  obtain ⟨hN, hk, hR1, hR2⟩ := id hS
  obtain ⟨n1, n2, n3, n4, n5⟩ := id hN
  have hp := pow_le n2
  by_cases hx : 0 < k
  · skip
    refine x_aload_n X d_law_law_210 rfl ?_
    refine x_callF ([]) (wM bb g _ _ _ _ _ _ _ _ _ _ _ _) X d_law_law_211 c_law_32 (cl_BP_fell_t hk hx) rfl rfl rfl rfl (Nat.le_of_ble_eq_true rfl) ⟨Nat.le_of_ble_eq_true rfl, Nat.le_of_ble_eq_true rfl⟩ ⟨rfl, rfl⟩ ⟨Nat.le_of_ble_eq_true rfl, Nat.le_of_ble_eq_true rfl⟩ (fun v_211 w_211 h_211 => ?_)
    obtain ⟨r_211, rfl, rfl, rfl⟩ := h_211
    refine ⟨rfl, ?_⟩
    refine x_wd (w' := wB bb h _ _ _ _ _ _ _ _ _ _ _ ++ wM bb g _ _ _ _ _ _ _ _ _ _ _ _) rfl ?_
    refine x_st (st' := [_]) rfl ?_
    refine x_aload_n X d_law_law_214 rfl ?_
    refine x_callF (wB bb h _ _ _ _ _ _ _ _ _ _ _) ([]) X d_law_law_215 c_law_36 (cl_Mod_fell_t hk hx) rfl rfl rfl rfl (Nat.le_of_ble_eq_true rfl) ⟨Nat.le_of_ble_eq_true rfl, Nat.le_of_ble_eq_true rfl⟩ ⟨rfl, rfl⟩ ⟨Nat.le_of_ble_eq_true rfl, Nat.le_of_ble_eq_true rfl⟩ (fun v_215 w_215 h_215 => ?_)
    obtain ⟨r_215, rfl, rfl, rfl⟩ := h_215
    refine ⟨rfl, ?_⟩
    refine x_wd (w' := wB bb h _ _ _ _ _ _ _ _ _ _ _ ++ wM bb g _ _ _ _ _ _ _ _ _ _ _ _) rfl ?_
    refine x_st (st' := [_, _]) rfl ?_
    refine x_icmp_eq 453 X d_law_law_218 (by decide) (fun c_218 => ?_) (fun c_218 => ?_)
    · exact next _ ⟨_, _, _, _, _, _, _, _, _, _, _, _, _, _, _, _, _, rfl, sOK_fell hS, gOK_f⟩
    · exact absurd (rfl) c_218
  · skip
    refine x_aload_n X d_law_law_210 rfl ?_
    refine x_callF ([]) (wM bb g _ _ _ _ _ _ _ _ _ _ _ _) X d_law_law_211 c_law_32 (cl_BP_fell_f (by omega)) rfl rfl rfl rfl (Nat.le_of_ble_eq_true rfl) ⟨Nat.le_of_ble_eq_true rfl, Nat.le_of_ble_eq_true rfl⟩ ⟨rfl, rfl⟩ ⟨Nat.le_of_ble_eq_true rfl, Nat.le_of_ble_eq_true rfl⟩ (fun v_211 w_211 h_211 => ?_)
    obtain ⟨r_211, rfl, rfl, rfl⟩ := h_211
    refine ⟨rfl, ?_⟩
    refine x_wd (w' := wB bb h _ _ _ _ _ _ _ _ _ _ _ ++ wM bb g _ _ _ _ _ _ _ _ _ _ _ _) rfl ?_
    refine x_st (st' := [_]) rfl ?_
    refine x_aload_n X d_law_law_214 rfl ?_
    refine x_callF (wB bb h _ _ _ _ _ _ _ _ _ _ _) ([]) X d_law_law_215 c_law_36 (cl_Mod_fell_f (by omega)) rfl rfl rfl rfl (Nat.le_of_ble_eq_true rfl) ⟨Nat.le_of_ble_eq_true rfl, Nat.le_of_ble_eq_true rfl⟩ ⟨rfl, rfl⟩ ⟨Nat.le_of_ble_eq_true rfl, Nat.le_of_ble_eq_true rfl⟩ (fun v_215 w_215 h_215 => ?_)
    obtain ⟨r_215, rfl, rfl, rfl⟩ := h_215
    refine ⟨rfl, ?_⟩
    refine x_wd (w' := wB bb h _ _ _ _ _ _ _ _ _ _ _ ++ wM bb g _ _ _ _ _ _ _ _ _ _ _ _) rfl ?_
    refine x_st (st' := [_, _]) rfl ?_
    refine x_icmp_eq 453 X d_law_law_218 (by decide) (fun c_218 => ?_) (fun c_218 => ?_)
    · exact next _ ⟨_, _, _, _, _, _, _, _, _, _, _, _, _, _, _, _, _, rfl, hS, hg⟩
    · exact absurd (rfl) c_218
set_option maxRecDepth 20000 in
set_option maxHeartbeats 1000000 in
theorem lc_count (X : xX bb G R_law nm code 4 room_1) (S : xS G b0 L xs) (hL : L ≤ 1536) (hi : i + 3 ≤ L) (hS : sOK n A fr to k R) (hg : gOK n A fr to k R ow dn gr) (next : ∀ w, lInv bb h g w → xW bb G 26 550 w 453 [(0, .ref b0), (1, .ref (h 0)), (2, .ref (g 0)), (3, .int (nI i))] []) : xW bb G 26 550 (wB bb h n A fr to k R hv ow dn u gr ++ wM bb g n A fr to k R ow' wy tr hs us nx) 223 [(0, .ref b0), (1, .ref (h 0)), (2, .ref (g 0)), (3, .int (nI i))] [] := by
  obtain ⟨hN, hk, hR1, hR2⟩ := id hS
  obtain ⟨n1, n2, n3, n4, n5⟩ := id hN
  have hp := pow_le n2
  refine x_aload_n X d_law_law_223 rfl ?_
  refine x_aload_n X d_law_law_224 rfl ?_
  refine x_iload_n X d_law_law_225 rfl ?_
  refine x_iconst X d_law_law_226 k_ic_1 ?_
  refine x_iaddN X d_law_law_227 ?_
  refine x_sld X S d_law_law_228 rfl (by omega) rfl ?_
  refine x_callVR X d_law_law_229 c_law_37 ct_BP_count [0, 1, 2, 3, 4, 5, 6, 7, 8, 9, 10, 11, 12, 13, 14, 15] rfl rfl rfl rfl rfl (Nat.le_of_ble_eq_true rfl) ⟨Nat.le_of_ble_eq_true rfl, Nat.le_of_ble_eq_true rfl⟩ ⟨rfl, rfl⟩ ⟨Nat.le_of_ble_eq_true rfl, Nat.le_of_ble_eq_true rfl⟩ (fun r_229 h_229 => ?_)
  obtain rfl := h_229
  refine x_aload_n X d_law_law_232 rfl ?_
  refine x_aload_n X d_law_law_233 rfl ?_
  refine x_iload_n X d_law_law_234 rfl ?_
  refine x_iconst X d_law_law_235 k_ic_1 ?_
  refine x_iaddN X d_law_law_236 ?_
  refine x_sld X S d_law_law_237 rfl (by omega) rfl ?_
  refine x_callVR X d_law_law_238 c_law_40 ct_Mod_count [16, 17, 18, 19, 20, 21, 22, 23, 24, 25] rfl rfl rfl rfl rfl (Nat.le_of_ble_eq_true rfl) ⟨Nat.le_of_ble_eq_true rfl, Nat.le_of_ble_eq_true rfl⟩ ⟨rfl, rfl⟩ ⟨Nat.le_of_ble_eq_true rfl, Nat.le_of_ble_eq_true rfl⟩ (fun r_238 h_238 => ?_)
  obtain rfl := h_238
  refine x_icmp_eq 453 X d_law_law_241 (by decide) (fun c_241 => ?_) (fun c_241 => ?_)
  · exact next _ ⟨_, _, _, _, _, _, _, _, _, _, _, _, _, _, _, _, _, rfl, hS, hg⟩
  · exact absurd (rfl) c_241
set_option maxRecDepth 20000 in
set_option maxHeartbeats 1000000 in
theorem lc_end (X : xX bb G R_law nm code 4 room_1) (S : xS G b0 L xs) (hL : L ≤ 1536) (hi : i + 3 ≤ L) (hS : sOK n A fr to k R) (hg : gOK n A fr to k R ow dn gr) (next : ∀ w, lInv bb h g w → xW bb G 26 550 w 453 [(0, .ref b0), (1, .ref (h 0)), (2, .ref (g 0)), (3, .int (nI i))] []) : xW bb G 26 550 (wB bb h n A fr to k R hv ow dn u gr ++ wM bb g n A fr to k R ow' wy tr hs us nx) 246 [(0, .ref b0), (1, .ref (h 0)), (2, .ref (g 0)), (3, .int (nI i))] [] := by
  obtain ⟨hN, hk, hR1, hR2⟩ := id hS
  obtain ⟨n1, n2, n3, n4, n5⟩ := id hN
  have hp := pow_le n2
  refine x_aload_n X d_law_law_246 rfl ?_
  refine x_aload_n X d_law_law_247 rfl ?_
  refine x_iload_n X d_law_law_248 rfl ?_
  refine x_iconst X d_law_law_249 k_ic_1 ?_
  refine x_iaddN X d_law_law_250 ?_
  refine x_sld X S d_law_law_251 rfl (by omega) rfl ?_
  refine x_aload_n X d_law_law_252 rfl ?_
  refine x_iload_n X d_law_law_253 rfl ?_
  refine x_iconst X d_law_law_254 k_ic_2 ?_
  refine x_iaddN X d_law_law_255 ?_
  refine x_sld X S d_law_law_256 rfl (by omega) rfl ?_
  refine x_callVR X d_law_law_257 c_law_41 (ct_BP_end n3) [0, 1, 2, 3, 4, 5, 6, 7, 8, 9, 10, 11, 12, 13, 14, 15] rfl rfl rfl rfl rfl (Nat.le_of_ble_eq_true rfl) ⟨Nat.le_of_ble_eq_true rfl, Nat.le_of_ble_eq_true rfl⟩ ⟨rfl, rfl⟩ ⟨Nat.le_of_ble_eq_true rfl, Nat.le_of_ble_eq_true rfl⟩ (fun r_257 h_257 => ?_)
  refine x_aload_n X d_law_law_260 rfl ?_
  refine x_aload_n X d_law_law_261 rfl ?_
  refine x_iload_n X d_law_law_262 rfl ?_
  refine x_iconst X d_law_law_263 k_ic_1 ?_
  refine x_iaddN X d_law_law_264 ?_
  refine x_sld X S d_law_law_265 rfl (by omega) rfl ?_
  refine x_aload_n X d_law_law_266 rfl ?_
  refine x_iload_n X d_law_law_267 rfl ?_
  refine x_iconst X d_law_law_268 k_ic_2 ?_
  refine x_iaddN X d_law_law_269 ?_
  refine x_sld X S d_law_law_270 rfl (by omega) rfl ?_
  refine x_callVR X d_law_law_271 c_law_44 (ct_Mod_end n3) [16, 17, 18, 19, 20, 21, 22, 23, 24, 25] rfl rfl rfl rfl rfl (Nat.le_of_ble_eq_true rfl) ⟨Nat.le_of_ble_eq_true rfl, Nat.le_of_ble_eq_true rfl⟩ ⟨rfl, rfl⟩ ⟨Nat.le_of_ble_eq_true rfl, Nat.le_of_ble_eq_true rfl⟩ (fun r_271 h_271 => ?_)
  refine x_icmp_eq 453 X d_law_law_274 (by decide) (fun c_274 => ?_) (fun c_274 => ?_)
  · exact next _ ⟨_, _, _, _, _, _, _, _, _, _, _, _, _, _, _, _, _, rfl, hS, hg⟩
  · exact absurd (opt_u (by omega) h_257 h_271) c_274
set_option maxRecDepth 20000 in
set_option maxHeartbeats 1000000 in
theorem lc_entry (X : xX bb G R_law nm code 4 room_1) (S : xS G b0 L xs) (hL : L ≤ 1536) (hi : i + 3 ≤ L) (hS : sOK n A fr to k R) (hg : gOK n A fr to k R ow dn gr) (next : ∀ w, lInv bb h g w → xW bb G 26 550 w 453 [(0, .ref b0), (1, .ref (h 0)), (2, .ref (g 0)), (3, .int (nI i))] []) : xW bb G 26 550 (wB bb h n A fr to k R hv ow dn u gr ++ wM bb g n A fr to k R ow' wy tr hs us nx) 279 [(0, .ref b0), (1, .ref (h 0)), (2, .ref (g 0)), (3, .int (nI i))] [] := by
  obtain ⟨hN, hk, hR1, hR2⟩ := id hS
  obtain ⟨n1, n2, n3, n4, n5⟩ := id hN
  have hp := pow_le n2
  refine x_aload_n X d_law_law_279 rfl ?_
  refine x_aload_n X d_law_law_280 rfl ?_
  refine x_iload_n X d_law_law_281 rfl ?_
  refine x_iconst X d_law_law_282 k_ic_1 ?_
  refine x_iaddN X d_law_law_283 ?_
  refine x_sld X S d_law_law_284 rfl (by omega) rfl ?_
  refine x_callVR X d_law_law_285 c_law_45 (ct_BP_entry hN) [0, 1, 2, 3, 4, 5, 6, 7, 8, 9, 10, 11, 12, 13, 14, 15] rfl rfl rfl rfl rfl (Nat.le_of_ble_eq_true rfl) ⟨Nat.le_of_ble_eq_true rfl, Nat.le_of_ble_eq_true rfl⟩ ⟨rfl, rfl⟩ ⟨Nat.le_of_ble_eq_true rfl, Nat.le_of_ble_eq_true rfl⟩ (fun r_285 h_285 => ?_)
  refine x_aload_n X d_law_law_288 rfl ?_
  refine x_aload_n X d_law_law_289 rfl ?_
  refine x_iload_n X d_law_law_290 rfl ?_
  refine x_iconst X d_law_law_291 k_ic_1 ?_
  refine x_iaddN X d_law_law_292 ?_
  refine x_sld X S d_law_law_293 rfl (by omega) rfl ?_
  refine x_callVR X d_law_law_294 c_law_48 (ct_Mod_entry hN) [16, 17, 18, 19, 20, 21, 22, 23, 24, 25] rfl rfl rfl rfl rfl (Nat.le_of_ble_eq_true rfl) ⟨Nat.le_of_ble_eq_true rfl, Nat.le_of_ble_eq_true rfl⟩ ⟨rfl, rfl⟩ ⟨Nat.le_of_ble_eq_true rfl, Nat.le_of_ble_eq_true rfl⟩ (fun r_294 h_294 => ?_)
  refine x_icmp_eq 453 X d_law_law_297 (by decide) (fun c_297 => ?_) (fun c_297 => ?_)
  · exact next _ ⟨_, _, _, _, _, _, _, _, _, _, _, _, _, _, _, _, _, rfl, hS, hg⟩
  · exact absurd (opt_u (by omega) h_285 h_294) c_297
set_option maxRecDepth 20000 in
set_option maxHeartbeats 1000000 in
theorem lc_missed (X : xX bb G R_law nm code 4 room_1) (S : xS G b0 L xs) (hL : L ≤ 1536) (hi : i + 3 ≤ L) (hS : sOK n A fr to k R) (hg : gOK n A fr to k R ow dn gr) (next : ∀ w, lInv bb h g w → xW bb G 26 550 w 453 [(0, .ref b0), (1, .ref (h 0)), (2, .ref (g 0)), (3, .int (nI i))] []) : xW bb G 26 550 (wB bb h n A fr to k R hv ow dn u gr ++ wM bb g n A fr to k R ow' wy tr hs us nx) 302 [(0, .ref b0), (1, .ref (h 0)), (2, .ref (g 0)), (3, .int (nI i))] [] := by
  obtain ⟨hN, hk, hR1, hR2⟩ := id hS
  obtain ⟨n1, n2, n3, n4, n5⟩ := id hN
  have hp := pow_le n2
  refine x_aload_n X d_law_law_302 rfl ?_
  refine x_aload_n X d_law_law_303 rfl ?_
  refine x_iload_n X d_law_law_304 rfl ?_
  refine x_iconst X d_law_law_305 k_ic_1 ?_
  refine x_iaddN X d_law_law_306 ?_
  refine x_sld X S d_law_law_307 rfl (by omega) rfl ?_
  refine x_callVR X d_law_law_308 c_law_49 (ct_BP_missed n2 hk) [0, 1, 2, 3, 4, 5, 6, 7, 8, 9, 10, 11, 12, 13, 14, 15] rfl rfl rfl rfl rfl (Nat.le_of_ble_eq_true rfl) ⟨Nat.le_of_ble_eq_true rfl, Nat.le_of_ble_eq_true rfl⟩ ⟨rfl, rfl⟩ ⟨Nat.le_of_ble_eq_true rfl, Nat.le_of_ble_eq_true rfl⟩ (fun r_308 h_308 => ?_)
  refine x_aload_n X d_law_law_311 rfl ?_
  refine x_aload_n X d_law_law_312 rfl ?_
  refine x_iload_n X d_law_law_313 rfl ?_
  refine x_iconst X d_law_law_314 k_ic_1 ?_
  refine x_iaddN X d_law_law_315 ?_
  refine x_sld X S d_law_law_316 rfl (by omega) rfl ?_
  refine x_callVR X d_law_law_317 c_law_52 (ct_Mod_missed n2 hk) [16, 17, 18, 19, 20, 21, 22, 23, 24, 25] rfl rfl rfl rfl rfl (Nat.le_of_ble_eq_true rfl) ⟨Nat.le_of_ble_eq_true rfl, Nat.le_of_ble_eq_true rfl⟩ ⟨rfl, rfl⟩ ⟨Nat.le_of_ble_eq_true rfl, Nat.le_of_ble_eq_true rfl⟩ (fun r_317 h_317 => ?_)
  refine x_icmp_eq 453 X d_law_law_320 (by decide) (fun c_320 => ?_) (fun c_320 => ?_)
  · exact next _ ⟨_, _, _, _, _, _, _, _, _, _, _, _, _, _, _, _, _, rfl, hS, hg⟩
  · exact absurd (opt_u (by omega) h_308 h_317) c_320
set_option maxRecDepth 20000 in
set_option maxHeartbeats 1000000 in
theorem lc_packs (X : xX bb G R_law nm code 4 room_1) (S : xS G b0 L xs) (hL : L ≤ 1536) (hi : i + 3 ≤ L) (hS : sOK n A fr to k R) (hg : gOK n A fr to k R ow dn gr) (next : ∀ w, lInv bb h g w → xW bb G 26 550 w 453 [(0, .ref b0), (1, .ref (h 0)), (2, .ref (g 0)), (3, .int (nI i))] []) : xW bb G 26 550 (wB bb h n A fr to k R hv ow dn u gr ++ wM bb g n A fr to k R ow' wy tr hs us nx) 325 [(0, .ref b0), (1, .ref (h 0)), (2, .ref (g 0)), (3, .int (nI i))] [] := by
  obtain ⟨hN, hk, hR1, hR2⟩ := id hS
  obtain ⟨n1, n2, n3, n4, n5⟩ := id hN
  have hp := pow_le n2
  refine x_aload_n X d_law_law_325 rfl ?_
  refine x_callF ([]) (wM bb g _ _ _ _ _ _ _ _ _ _ _ _) X d_law_law_326 c_law_53 (ct_BP_packs hS) rfl rfl rfl rfl (Nat.le_of_ble_eq_true rfl) ⟨Nat.le_of_ble_eq_true rfl, Nat.le_of_ble_eq_true rfl⟩ ⟨rfl, rfl⟩ ⟨Nat.le_of_ble_eq_true rfl, Nat.le_of_ble_eq_true rfl⟩ (fun v_326 w_326 h_326 => ?_)
  obtain ⟨r_326, rfl, rfl, hv_326, ow_326, u_326, rfl⟩ := h_326
  refine ⟨rfl, ?_⟩
  refine x_wd (w' := wB bb h _ _ _ _ _ _ _ _ _ _ _ ++ wM bb g _ _ _ _ _ _ _ _ _ _ _ _) rfl ?_
  refine x_st (st' := [_]) rfl ?_
  refine x_aload_n X d_law_law_329 rfl ?_
  refine x_callF (wB bb h _ _ _ _ _ _ _ _ _ _ _) ([]) X d_law_law_330 c_law_57 (ct_Mod_packs hS) rfl rfl rfl rfl (Nat.le_of_ble_eq_true rfl) ⟨Nat.le_of_ble_eq_true rfl, Nat.le_of_ble_eq_true rfl⟩ ⟨rfl, rfl⟩ ⟨Nat.le_of_ble_eq_true rfl, Nat.le_of_ble_eq_true rfl⟩ (fun v_330 w_330 h_330 => ?_)
  obtain ⟨r_330, rfl, rfl, tr_330, hs_330, us_330, nx_330, rfl⟩ := h_330
  refine ⟨rfl, ?_⟩
  refine x_wd (w' := wB bb h _ _ _ _ _ _ _ _ _ _ _ ++ wM bb g _ _ _ _ _ _ _ _ _ _ _ _) rfl ?_
  refine x_st (st' := [_, _]) rfl ?_
  refine x_icmp_eq 453 X d_law_law_333 (by decide) (fun c_333 => ?_) (fun c_333 => ?_)
  · exact next _ ⟨_, _, _, _, _, _, _, _, _, _, _, _, _, _, _, _, _, rfl, hS, gOK_f⟩
  · exact absurd (rfl) c_333
set_option maxRecDepth 20000 in
set_option maxHeartbeats 1000000 in
theorem lc_stopper (X : xX bb G R_law nm code 4 room_1) (S : xS G b0 L xs) (hL : L ≤ 1536) (hi : i + 3 ≤ L) (hS : sOK n A fr to k R) (hg : gOK n A fr to k R ow dn gr) (next : ∀ w, lInv bb h g w → xW bb G 26 550 w 453 [(0, .ref b0), (1, .ref (h 0)), (2, .ref (g 0)), (3, .int (nI i))] []) : xW bb G 26 550 (wB bb h n A fr to k R hv ow dn u gr ++ wM bb g n A fr to k R ow' wy tr hs us nx) 338 [(0, .ref b0), (1, .ref (h 0)), (2, .ref (g 0)), (3, .int (nI i))] [] := by
  obtain ⟨hN, hk, hR1, hR2⟩ := id hS
  obtain ⟨n1, n2, n3, n4, n5⟩ := id hN
  have hp := pow_le n2
  refine x_aload_n X d_law_law_338 rfl ?_
  refine x_callF ([]) (wM bb g _ _ _ _ _ _ _ _ _ _ _ _) X d_law_law_339 c_law_58 (ct_BP_stopper hS) rfl rfl rfl rfl (Nat.le_of_ble_eq_true rfl) ⟨Nat.le_of_ble_eq_true rfl, Nat.le_of_ble_eq_true rfl⟩ ⟨rfl, rfl⟩ ⟨Nat.le_of_ble_eq_true rfl, Nat.le_of_ble_eq_true rfl⟩ (fun v_339 w_339 h_339 => ?_)
  obtain ⟨r_339, rfl, rfl, hv_339, ow_339, u_339, rfl⟩ := h_339
  refine ⟨rfl, ?_⟩
  refine x_wd (w' := wB bb h _ _ _ _ _ _ _ _ _ _ _ ++ wM bb g _ _ _ _ _ _ _ _ _ _ _ _) rfl ?_
  refine x_st (st' := [_]) rfl ?_
  refine x_aload_n X d_law_law_342 rfl ?_
  refine x_callVR X d_law_law_343 c_law_61 (ct_Mod_stopper hS) [16, 17, 18, 19, 20, 21, 22, 23, 24, 25] rfl rfl rfl rfl rfl (Nat.le_of_ble_eq_true rfl) ⟨Nat.le_of_ble_eq_true rfl, Nat.le_of_ble_eq_true rfl⟩ ⟨rfl, rfl⟩ ⟨Nat.le_of_ble_eq_true rfl, Nat.le_of_ble_eq_true rfl⟩ (fun r_343 h_343 => ?_)
  obtain rfl := h_343
  refine x_icmp_eq 453 X d_law_law_346 (by decide) (fun c_346 => ?_) (fun c_346 => ?_)
  · exact next _ ⟨_, _, _, _, _, _, _, _, _, _, _, _, _, _, _, _, _, rfl, hS, gOK_f⟩
  · exact absurd (rfl) c_346
set_option maxRecDepth 20000 in
set_option maxHeartbeats 1000000 in
theorem lc_owner (X : xX bb G R_law nm code 4 room_1) (S : xS G b0 L xs) (hL : L ≤ 1536) (hi : i + 3 ≤ L) (hS : sOK n A fr to k R) (hg : gOK n A fr to k R ow dn gr) (next : ∀ w, lInv bb h g w → xW bb G 26 550 w 453 [(0, .ref b0), (1, .ref (h 0)), (2, .ref (g 0)), (3, .int (nI i))] []) : xW bb G 26 550 (wB bb h n A fr to k R hv ow dn u gr ++ wM bb g n A fr to k R ow' wy tr hs us nx) 351 [(0, .ref b0), (1, .ref (h 0)), (2, .ref (g 0)), (3, .int (nI i))] [] := by
  obtain ⟨hN, hk, hR1, hR2⟩ := id hS
  obtain ⟨n1, n2, n3, n4, n5⟩ := id hN
  have hp := pow_le n2
  refine x_aload_n X d_law_law_351 rfl ?_
  refine x_aload_n X d_law_law_352 rfl ?_
  refine x_iload_n X d_law_law_353 rfl ?_
  refine x_iconst X d_law_law_354 k_ic_1 ?_
  refine x_iaddN X d_law_law_355 ?_
  refine x_sld X S d_law_law_356 rfl (by omega) rfl ?_
  refine x_callF ([]) (wM bb g _ _ _ _ _ _ _ _ _ _ _ _) X d_law_law_357 c_law_62 (ct_BP_owner hS hg) rfl rfl rfl rfl (Nat.le_of_ble_eq_true rfl) ⟨Nat.le_of_ble_eq_true rfl, Nat.le_of_ble_eq_true rfl⟩ ⟨rfl, rfl⟩ ⟨Nat.le_of_ble_eq_true rfl, Nat.le_of_ble_eq_true rfl⟩ (fun v_357 w_357 h_357 => ?_)
  obtain ⟨r_357, rfl, hr_357, hv_357, ow_357, dn_357, u_357, gr_357, rfl, hg_357⟩ := h_357
  refine ⟨rfl, ?_⟩
  refine x_wd (w' := wB bb h _ _ _ _ _ _ _ _ _ _ _ ++ wM bb g _ _ _ _ _ _ _ _ _ _ _ _) rfl ?_
  refine x_st (st' := [_]) rfl ?_
  refine x_aload_n X d_law_law_360 rfl ?_
  refine x_aload_n X d_law_law_361 rfl ?_
  refine x_iload_n X d_law_law_362 rfl ?_
  refine x_iconst X d_law_law_363 k_ic_1 ?_
  refine x_iaddN X d_law_law_364 ?_
  refine x_sld X S d_law_law_365 rfl (by omega) rfl ?_
  refine x_callF (wB bb h _ _ _ _ _ _ _ _ _ _ _) ([]) X d_law_law_366 c_law_65 (ct_Mod_owner hS) rfl rfl rfl rfl (Nat.le_of_ble_eq_true rfl) ⟨Nat.le_of_ble_eq_true rfl, Nat.le_of_ble_eq_true rfl⟩ ⟨rfl, rfl⟩ ⟨Nat.le_of_ble_eq_true rfl, Nat.le_of_ble_eq_true rfl⟩ (fun v_366 w_366 h_366 => ?_)
  obtain ⟨r_366, rfl, hr_366, oo_366, wy_366, tr_366, hs_366, us_366, nx_366, rfl⟩ := h_366
  refine ⟨rfl, ?_⟩
  refine x_wd (w' := wB bb h _ _ _ _ _ _ _ _ _ _ _ ++ wM bb g _ _ _ _ _ _ _ _ _ _ _ _) rfl ?_
  refine x_st (st' := [_, _]) rfl ?_
  refine x_icmp_eq 453 X d_law_law_369 (by decide) (fun c_369 => ?_) (fun c_369 => ?_)
  · exact next _ ⟨_, _, _, _, _, _, _, _, _, _, _, _, _, _, _, _, _, rfl, hS, hg_357⟩
  · exact absurd (opt_u (by omega) hr_357 hr_366) c_369
set_option maxRecDepth 20000 in
set_option maxHeartbeats 1000000 in
theorem lc_way (X : xX bb G R_law nm code 4 room_1) (S : xS G b0 L xs) (hL : L ≤ 1536) (hi : i + 3 ≤ L) (hS : sOK n A fr to k R) (hg : gOK n A fr to k R ow dn gr) (next : ∀ w, lInv bb h g w → xW bb G 26 550 w 453 [(0, .ref b0), (1, .ref (h 0)), (2, .ref (g 0)), (3, .int (nI i))] []) : xW bb G 26 550 (wB bb h n A fr to k R hv ow dn u gr ++ wM bb g n A fr to k R ow' wy tr hs us nx) 374 [(0, .ref b0), (1, .ref (h 0)), (2, .ref (g 0)), (3, .int (nI i))] [] := by
  obtain ⟨hN, hk, hR1, hR2⟩ := id hS
  obtain ⟨n1, n2, n3, n4, n5⟩ := id hN
  have hp := pow_le n2
  refine x_aload_n X d_law_law_374 rfl ?_
  refine x_aload_n X d_law_law_375 rfl ?_
  refine x_iload_n X d_law_law_376 rfl ?_
  refine x_iconst X d_law_law_377 k_ic_1 ?_
  refine x_iaddN X d_law_law_378 ?_
  refine x_sld X S d_law_law_379 rfl (by omega) rfl ?_
  refine x_aload_n X d_law_law_380 rfl ?_
  refine x_iload_n X d_law_law_381 rfl ?_
  refine x_iconst X d_law_law_382 k_ic_2 ?_
  refine x_iaddN X d_law_law_383 ?_
  refine x_sld X S d_law_law_384 rfl (by omega) rfl ?_
  refine x_callF ([]) (wM bb g _ _ _ _ _ _ _ _ _ _ _ _) X d_law_law_385 c_law_66 (ct_BP_way hS hg) rfl rfl rfl rfl (Nat.le_of_ble_eq_true rfl) ⟨Nat.le_of_ble_eq_true rfl, Nat.le_of_ble_eq_true rfl⟩ ⟨rfl, rfl⟩ ⟨Nat.le_of_ble_eq_true rfl, Nat.le_of_ble_eq_true rfl⟩ (fun v_385 w_385 h_385 => ?_)
  obtain ⟨r_385, rfl, hr_385, hv_385, ow_385, dn_385, u_385, gr_385, rfl, hg_385⟩ := h_385
  refine ⟨rfl, ?_⟩
  refine x_wd (w' := wB bb h _ _ _ _ _ _ _ _ _ _ _ ++ wM bb g _ _ _ _ _ _ _ _ _ _ _ _) rfl ?_
  refine x_st (st' := [_]) rfl ?_
  refine x_aload_n X d_law_law_388 rfl ?_
  refine x_aload_n X d_law_law_389 rfl ?_
  refine x_iload_n X d_law_law_390 rfl ?_
  refine x_iconst X d_law_law_391 k_ic_1 ?_
  refine x_iaddN X d_law_law_392 ?_
  refine x_sld X S d_law_law_393 rfl (by omega) rfl ?_
  refine x_aload_n X d_law_law_394 rfl ?_
  refine x_iload_n X d_law_law_395 rfl ?_
  refine x_iconst X d_law_law_396 k_ic_2 ?_
  refine x_iaddN X d_law_law_397 ?_
  refine x_sld X S d_law_law_398 rfl (by omega) rfl ?_
  refine x_callF (wB bb h _ _ _ _ _ _ _ _ _ _ _) ([]) X d_law_law_399 c_law_69 (ct_Mod_way hS) rfl rfl rfl rfl (Nat.le_of_ble_eq_true rfl) ⟨Nat.le_of_ble_eq_true rfl, Nat.le_of_ble_eq_true rfl⟩ ⟨rfl, rfl⟩ ⟨Nat.le_of_ble_eq_true rfl, Nat.le_of_ble_eq_true rfl⟩ (fun v_399 w_399 h_399 => ?_)
  obtain ⟨r_399, rfl, hr_399, oo_399, wy_399, tr_399, hs_399, us_399, nx_399, rfl⟩ := h_399
  refine ⟨rfl, ?_⟩
  refine x_wd (w' := wB bb h _ _ _ _ _ _ _ _ _ _ _ ++ wM bb g _ _ _ _ _ _ _ _ _ _ _ _) rfl ?_
  refine x_st (st' := [_, _]) rfl ?_
  refine x_icmp_eq 453 X d_law_law_402 (by decide) (fun c_402 => ?_) (fun c_402 => ?_)
  · exact next _ ⟨_, _, _, _, _, _, _, _, _, _, _, _, _, _, _, _, _, rfl, hS, hg_385⟩
  · exact absurd (w2_u (by omega) (by omega) hr_385 hr_399) c_402
set_option maxRecDepth 20000 in
set_option maxHeartbeats 1000000 in
theorem lc_spare (X : xX bb G R_law nm code 4 room_1) (S : xS G b0 L xs) (hL : L ≤ 1536) (hi : i + 3 ≤ L) (hS : sOK n A fr to k R) (hg : gOK n A fr to k R ow dn gr) (next : ∀ w, lInv bb h g w → xW bb G 26 550 w 453 [(0, .ref b0), (1, .ref (h 0)), (2, .ref (g 0)), (3, .int (nI i))] []) : xW bb G 26 550 (wB bb h n A fr to k R hv ow dn u gr ++ wM bb g n A fr to k R ow' wy tr hs us nx) 407 [(0, .ref b0), (1, .ref (h 0)), (2, .ref (g 0)), (3, .int (nI i))] [] := by
  obtain ⟨hN, hk, hR1, hR2⟩ := id hS
  obtain ⟨n1, n2, n3, n4, n5⟩ := id hN
  have hp := pow_le n2
  refine x_aload_n X d_law_law_407 rfl ?_
  refine x_aload_n X d_law_law_408 rfl ?_
  refine x_iload_n X d_law_law_409 rfl ?_
  refine x_iconst X d_law_law_410 k_ic_1 ?_
  refine x_iaddN X d_law_law_411 ?_
  refine x_sld X S d_law_law_412 rfl (by omega) rfl ?_
  refine x_callF ([]) (wM bb g _ _ _ _ _ _ _ _ _ _ _ _) X d_law_law_413 c_law_70 (ct_BP_spare hS) rfl rfl rfl rfl (Nat.le_of_ble_eq_true rfl) ⟨Nat.le_of_ble_eq_true rfl, Nat.le_of_ble_eq_true rfl⟩ ⟨rfl, rfl⟩ ⟨Nat.le_of_ble_eq_true rfl, Nat.le_of_ble_eq_true rfl⟩ (fun v_413 w_413 h_413 => ?_)
  obtain ⟨r_413, rfl, hr_413, hv_413, ow_413, u_413, gr_413, rfl, hg_413⟩ := h_413
  refine ⟨rfl, ?_⟩
  refine x_wd (w' := wB bb h _ _ _ _ _ _ _ _ _ _ _ ++ wM bb g _ _ _ _ _ _ _ _ _ _ _ _) rfl ?_
  refine x_st (st' := [_]) rfl ?_
  refine x_aload_n X d_law_law_416 rfl ?_
  refine x_aload_n X d_law_law_417 rfl ?_
  refine x_iload_n X d_law_law_418 rfl ?_
  refine x_iconst X d_law_law_419 k_ic_1 ?_
  refine x_iaddN X d_law_law_420 ?_
  refine x_sld X S d_law_law_421 rfl (by omega) rfl ?_
  refine x_callF (wB bb h _ _ _ _ _ _ _ _ _ _ _) ([]) X d_law_law_422 c_law_73 (ct_Mod_spare hS) rfl rfl rfl rfl (Nat.le_of_ble_eq_true rfl) ⟨Nat.le_of_ble_eq_true rfl, Nat.le_of_ble_eq_true rfl⟩ ⟨rfl, rfl⟩ ⟨Nat.le_of_ble_eq_true rfl, Nat.le_of_ble_eq_true rfl⟩ (fun v_422 w_422 h_422 => ?_)
  obtain ⟨r_422, rfl, hr_422, tr_422, hs_422, us_422, nx_422, rfl⟩ := h_422
  refine ⟨rfl, ?_⟩
  refine x_wd (w' := wB bb h _ _ _ _ _ _ _ _ _ _ _ ++ wM bb g _ _ _ _ _ _ _ _ _ _ _ _) rfl ?_
  refine x_st (st' := [_, _]) rfl ?_
  refine x_icmp_eq 453 X d_law_law_425 (by decide) (fun c_425 => ?_) (fun c_425 => ?_)
  · exact next _ ⟨_, _, _, _, _, _, _, _, _, _, _, _, _, _, _, _, _, rfl, hS, (by rcases hg_413 with rfl | ⟨rfl, rfl, rfl⟩; exact gOK_f; exact hg)⟩
  · exact absurd (opt_u (by omega) hr_413 hr_422) c_425
set_option maxRecDepth 20000 in
set_option maxHeartbeats 1000000 in
theorem lc_most (X : xX bb G R_law nm code 4 room_1) (S : xS G b0 L xs) (hL : L ≤ 1536) (hi : i + 3 ≤ L) (hS : sOK n A fr to k R) (hg : gOK n A fr to k R ow dn gr) (next : ∀ w, lInv bb h g w → xW bb G 26 550 w 453 [(0, .ref b0), (1, .ref (h 0)), (2, .ref (g 0)), (3, .int (nI i))] []) : xW bb G 26 550 (wB bb h n A fr to k R hv ow dn u gr ++ wM bb g n A fr to k R ow' wy tr hs us nx) 430 [(0, .ref b0), (1, .ref (h 0)), (2, .ref (g 0)), (3, .int (nI i))] [] := by
  obtain ⟨hN, hk, hR1, hR2⟩ := id hS
  obtain ⟨n1, n2, n3, n4, n5⟩ := id hN
  have hp := pow_le n2
  refine x_aload_n X d_law_law_430 rfl ?_
  refine x_aload_n X d_law_law_431 rfl ?_
  refine x_iload_n X d_law_law_432 rfl ?_
  refine x_iconst X d_law_law_433 k_ic_1 ?_
  refine x_iaddN X d_law_law_434 ?_
  refine x_sld X S d_law_law_435 rfl (by omega) rfl ?_
  refine x_callF ([]) (wM bb g _ _ _ _ _ _ _ _ _ _ _ _) X d_law_law_436 c_law_74 (ct_BP_most hN) rfl rfl rfl rfl (Nat.le_of_ble_eq_true rfl) ⟨Nat.le_of_ble_eq_true rfl, Nat.le_of_ble_eq_true rfl⟩ ⟨rfl, rfl⟩ ⟨Nat.le_of_ble_eq_true rfl, Nat.le_of_ble_eq_true rfl⟩ (fun v_436 w_436 h_436 => ?_)
  obtain ⟨r_436, rfl, hr_436, u_436, rfl⟩ := h_436
  refine ⟨rfl, ?_⟩
  refine x_wd (w' := wB bb h _ _ _ _ _ _ _ _ _ _ _ ++ wM bb g _ _ _ _ _ _ _ _ _ _ _ _) rfl ?_
  refine x_st (st' := [_]) rfl ?_
  refine x_aload_n X d_law_law_439 rfl ?_
  refine x_aload_n X d_law_law_440 rfl ?_
  refine x_iload_n X d_law_law_441 rfl ?_
  refine x_iconst X d_law_law_442 k_ic_1 ?_
  refine x_iaddN X d_law_law_443 ?_
  refine x_sld X S d_law_law_444 rfl (by omega) rfl ?_
  refine x_callVR X d_law_law_445 c_law_77 (ct_Mod_most hN) [16, 17, 18, 19, 20, 21, 22, 23, 24, 25] rfl rfl rfl rfl rfl (Nat.le_of_ble_eq_true rfl) ⟨Nat.le_of_ble_eq_true rfl, Nat.le_of_ble_eq_true rfl⟩ ⟨rfl, rfl⟩ ⟨Nat.le_of_ble_eq_true rfl, Nat.le_of_ble_eq_true rfl⟩ (fun r_445 h_445 => ?_)
  refine x_icmp_eq 453 X d_law_law_448 (by decide) (fun c_448 => ?_) (fun c_448 => ?_)
  · exact next _ ⟨_, _, _, _, _, _, _, _, _, _, _, _, _, _, _, _, _, rfl, hS, hg⟩
  · exact absurd (q_most_u (by omega) hr_436 h_445) c_448
end LAWC
end
section
/-! THE LAW: its loop, and its start -/
theorem lim3 {L i : Nat} (hL : L ≤ 1536) (hi : i ≤ 2000) : nI L - nI 3 < nI i ↔ L < i + 3 := by
  rw [Int32.lt_iff_toInt_lt, pk_sub_toInt (by omega) (by omega), nI_toInt (by omega)]
  omega
section LAWL
variable {bb : xB} {G : xG} {nm : String} {h g : Nat → Nat} {b0 L : Nat} {xs : Nat → Int32}
set_option maxRecDepth 20000 in
set_option maxHeartbeats 1000000 in
theorem law_loop (X : xX bb G R_law nm code 4 room_1) (S : xS G b0 L xs) (E : xQ G b0) (hL : L ≤ 1536) : ∀ (m i : Nat) (w : va_W), L - i ≤ m → i ≤ L + 3 → lInv bb h g w → xW bb G 26 550 w 18 [(0, .ref b0), (1, .ref (h 0)), (2, .ref (g 0)), (3, .int (nI i))] [] := by
  intro m
  induction m using Nat.strongRecOn with
  | ind m ih =>
    intro i w hm hi hw
    have hw0 := hw
    obtain ⟨n, A, fr, to, k, R, hv, ow, dn, u, gr, ow', wy, tr, hs, us, nx, rfl, hS, hg⟩ := hw
    refine x_iload_n X d_law_law_18 rfl ?_
    refine x_aload_n X d_law_law_19 rfl ?_
    refine x_slen X S d_law_law_20 ?_
    refine x_iconst X d_law_law_21 k_ic_3 ?_
    refine x_isub X d_law_law_22 ?_
    refine x_icmp_gt 459 X d_law_law_23 (by decide) (fun c_23 => ?_) (fun c_23 => ?_)
    · refine x_iconst X d_law_law_459 k_ic_1 ?_
      exact x_lend X E d_law_law_460
    · have hi3 : i + 3 ≤ L := Nat.le_of_not_lt (fun z => c_23 ((lim3 hL (by omega)).mpr z))
      refine x_aload_n X d_law_law_26 rfl ?_
      refine x_iload_n X d_law_law_27 rfl ?_
      refine x_sld X S d_law_law_28 rfl (by omega) rfl ?_
      refine x_bipush X d_law_law_29 k_bp_15 ?_
      refine x_iand X d_law_law_31 ?_
      obtain ⟨j, hj, ej⟩ := pk_andE (xs i) (m := nI 15) 4 (by decide +kernel)
      refine x_top ej ?_
      have next : ∀ w, lInv bb h g w → xW bb G 26 550 w 453 [(0, .ref b0), (1, .ref (h 0)), (2, .ref (g 0)), (3, .int (nI i))] [] := fun w hw => by
        refine x_iinc (v := nI (i + 3)) (lv' := [(0, _), (1, _), (2, _), (3, _)]) X d_law_law_453 rfl (by rw [k_ic_3]; exact nI_add i 3) (by decide) rfl ?_
        refine x_goto 18 X d_law_law_456 (by decide) ?_
        exact ih (L - (i + 3)) (by omega) (i + 3) w (Nat.le_refl _) (by omega) hw
      match j, hj with
      | 0, _ => exact x_tableIn (off := 76) 108 X d_law_law_32 (by decide +kernel) (by decide +kernel) (by decide +kernel) (by decide) (lc_begin X S hL hi3 hS hg next)
      | 1, _ => exact x_tableIn (off := 99) 131 X d_law_law_32 (by decide +kernel) (by decide +kernel) (by decide +kernel) (by decide) (lc_arc X S hL hi3 hS hg next)
      | 2, _ => exact x_tableIn (off := 132) 164 X d_law_law_32 (by decide +kernel) (by decide +kernel) (by decide +kernel) (by decide) (lc_drop X S hL hi3 hS hg next)
      | 3, _ => exact x_tableIn (off := 155) 187 X d_law_law_32 (by decide +kernel) (by decide +kernel) (by decide +kernel) (by decide) (lc_plant X S hL hi3 hS hg next)
      | 4, _ => exact x_tableIn (off := 178) 210 X d_law_law_32 (by decide +kernel) (by decide +kernel) (by decide +kernel) (by decide) (lc_fell X S hL hi3 hS hg next)
      | 5, _ => exact x_tableIn (off := 191) 223 X d_law_law_32 (by decide +kernel) (by decide +kernel) (by decide +kernel) (by decide) (lc_count X S hL hi3 hS hg next)
      | 6, _ => exact x_tableIn (off := 214) 246 X d_law_law_32 (by decide +kernel) (by decide +kernel) (by decide +kernel) (by decide) (lc_end X S hL hi3 hS hg next)
      | 7, _ => exact x_tableIn (off := 247) 279 X d_law_law_32 (by decide +kernel) (by decide +kernel) (by decide +kernel) (by decide) (lc_entry X S hL hi3 hS hg next)
      | 8, _ => exact x_tableIn (off := 270) 302 X d_law_law_32 (by decide +kernel) (by decide +kernel) (by decide +kernel) (by decide) (lc_missed X S hL hi3 hS hg next)
      | 9, _ => exact x_tableIn (off := 293) 325 X d_law_law_32 (by decide +kernel) (by decide +kernel) (by decide +kernel) (by decide) (lc_packs X S hL hi3 hS hg next)
      | 10, _ => exact x_tableIn (off := 306) 338 X d_law_law_32 (by decide +kernel) (by decide +kernel) (by decide +kernel) (by decide) (lc_stopper X S hL hi3 hS hg next)
      | 11, _ => exact x_tableIn (off := 319) 351 X d_law_law_32 (by decide +kernel) (by decide +kernel) (by decide +kernel) (by decide) (lc_owner X S hL hi3 hS hg next)
      | 12, _ => exact x_tableIn (off := 342) 374 X d_law_law_32 (by decide +kernel) (by decide +kernel) (by decide +kernel) (by decide) (lc_way X S hL hi3 hS hg next)
      | 13, _ => exact x_tableIn (off := 375) 407 X d_law_law_32 (by decide +kernel) (by decide +kernel) (by decide +kernel) (by decide) (lc_spare X S hL hi3 hS hg next)
      | 14, _ => exact x_tableIn (off := 398) 430 X d_law_law_32 (by decide +kernel) (by decide +kernel) (by decide +kernel) (by decide) (lc_most X S hL hi3 hS hg next)
      | 15, _ => exact x_tableOut 453 X d_law_law_32 (Or.inr (by decide +kernel)) (by decide) (next _ hw0)
      | j + 16, hj => omega
set_option maxRecDepth 20000 in
set_option maxHeartbeats 1000000 in
theorem law_start (X : xX bb G R_law nm code 4 room_1) (S : xS G b0 L xs) (E : xQ G b0) (hL : L ≤ 1536) : xW bb G 0 0 [] 0 [(0, .ref b0)] [] := by
  refine x_new X d_law_law_0 w_law_7 (Nat.le_of_ble_eq_true rfl) (Nat.le_of_ble_eq_true rfl) (fun q0 => ?_)
  refine x_wd (w' := [(_, .inr (_, [_, _, _]))]) rfl ?_
  refine x_dup X d_law_law_3 rfl ?_
  refine x_callI X d_law_law_4 c_law_9 (ct_BP_init q0) [0] rfl rfl rfl rfl (Nat.le_of_ble_eq_true rfl) ⟨Nat.le_of_ble_eq_true rfl, Nat.le_of_ble_eq_true rfl⟩ ⟨Nat.le_of_ble_eq_true rfl, Nat.le_of_ble_eq_true rfl⟩ (fun v_4 w_4 h_4 => ?_)
  obtain ⟨rfl, q1, q2, q3, q4, q5, q6, q7, q8, q9, q10, q11, q12, q13, q14, q15, rfl⟩ := h_4
  refine x_wd (w' := [_, _, _, _, _, _, _, _, _, _, _, _, _, _, _, _]) rfl ?_
  refine x_st (st' := [_]) rfl ?_
  refine x_astore_n (lv' := [(0, _), (1, _)]) X d_law_law_7 (by decide) rfl ?_
  refine x_new X d_law_law_8 w_law_10 (Nat.le_of_ble_eq_true rfl) (Nat.le_of_ble_eq_true rfl) (fun g0 => ?_)
  refine x_wd (w' := [_, _, _, _, _, _, _, _, _, _, _, _, _, _, _, _, _]) rfl ?_
  refine x_dup X d_law_law_11 rfl ?_
  refine x_callI X d_law_law_12 c_law_12 (ct_Mod_init g0) [16] rfl rfl rfl rfl (Nat.le_of_ble_eq_true rfl) ⟨Nat.le_of_ble_eq_true rfl, Nat.le_of_ble_eq_true rfl⟩ ⟨Nat.le_of_ble_eq_true rfl, Nat.le_of_ble_eq_true rfl⟩ (fun v_12 w_12 h_12 => ?_)
  obtain ⟨rfl, g1, g2, g3, g4, g5, g6, g7, g8, g9, rfl⟩ := h_12
  refine x_wd (w' := [_, _, _, _, _, _, _, _, _, _, _, _, _, _, _, _, _, _, _, _, _, _, _, _, _, _]) rfl ?_
  refine x_st (st' := [_]) rfl ?_
  refine x_astore_n (lv' := [(0, _), (1, _), (2, _)]) X d_law_law_15 (by decide) rfl ?_
  refine x_iconst X d_law_law_16 k_ic_0 ?_
  refine x_istore_n (lv' := [(0, _), (1, _), (2, _), (3, _)]) X d_law_law_17 (by decide) rfl ?_
  refine x_widen (k' := 26) (n' := 550) (Nat.le_of_ble_eq_true rfl) (Nat.le_of_ble_eq_true rfl) ?_
  refine x_perm (w' := wB bb (fun j => [q0, q4, q13, q14, q15, q1, q2, q3, q5, q6, q7, q8, q9, q10, q11, q12].getD j 0) 1 0 (fun _ => 0) (fun _ => 0) 0 (fun _ => 0) (fun _ => 0) (fun _ => some 0) false (0, 0, (fun _ => some 0), (fun _ => some 0), (fun _ => 0), (fun _ => 0), (fun _ => 0), (fun _ => some 0), (fun _ => 0)) false ++ wM bb (fun j => [g0, g1, g2, g3, g4, g5, g6, g7, g8, g9].getD j 0) 1 0 (fun _ => 0) (fun _ => 0) 0 (fun _ => 0) (fun _ => some 0) (fun _ => some 0) (fun _ => 0) (fun _ => 0) (fun _ => 0) (fun _ => 0)) [0, 4, 13, 14, 15, 1, 2, 3, 5, 6, 7, 8, 9, 10, 11, 12, 16, 17, 18, 19, 20, 21, 22, 23, 24, 25] rfl rfl ?_
  exact law_loop (h := fun j => [q0, q4, q13, q14, q15, q1, q2, q3, q5, q6, q7, q8, q9, q10, q11, q12].getD j 0) (g := fun j => [g0, g1, g2, g3, g4, g5, g6, g7, g8, g9].getD j 0) X S E hL (L - 0) 0 _ (Nat.le_refl _) (Nat.zero_le _) ⟨_, _, _, _, _, _, _, _, _, _, _, _, _, _, _, _, _, rfl, ⟨⟨by omega, by omega, by omega, fun j => ⟨(by decide : 0 < 7), (by decide : 0 < 7)⟩, fun j hj => by omega⟩, by omega, fun i => (by decide : 0 < 128), fun i hi => by omega⟩, gOK_f⟩
end LAWL
set_option maxHeartbeats 1000000 in
set_option maxRecDepth 20000 in
/-- from the entry, for every script of at most 1536 ints, the law comes to its end with true -/
theorem whole_start {p : Program} {e : Env} {s : State} {m : MethodId} {below : List Frame} {meth : Method} {c : Code} (l : Launch) {b L : Nat} {xs : Nat → Int32} (hL : L ≤ 1536) (C0 : lw_At p s m meth c b L xs) : W p l e room_1 s m #[Value.ref b] below meth c s.heap [] 0 0 (lw_Z below #[Value.ref b] s) (entryFrame m ([Value.ref b] : List Value).toArray 4) := by
  obtain ⟨hx, hb, hr, hml, hown, hts, hX, hbl, hlocks, hgv⟩ := C0
  have hgw : ∀ w ∈ gw, w.before #[Value.ref b] s = true := fun w hw => hts w (List.mem_filter.mp hw).1
  obtain ⟨c0, iS0, k0⟩ := u_known (C := R_BP) (T := F_BP) (N := 3) (n := 3) hgw i_BP (hgw _ m_26)
  obtain ⟨c1, iS1, k1⟩ := u_known (C := R_Net) (T := F_Net) (N := 4) (n := 4) hgw i_Net (hgw _ m_34)
  obtain ⟨c2, iS2, k2⟩ := u_known (C := R_Ways) (T := F_Ways) (N := 9) (n := 9) hgw i_Ways (hgw _ m_68)
  obtain ⟨c3, iS3, k3⟩ := u_known (C := R_Grove) (T := F_Grove) (N := 7) (n := 7) hgw i_Grove (hgw _ m_62)
  obtain ⟨c4, iS4, k4⟩ := u_known (C := R_Mod) (T := F_Mod) (N := 12) (n := 12) hgw i_Mod (hgw _ m_297)
  obtain ⟨dC, dI, hKc⟩ : ∃ (dC : Nat → ClassId) (dI : Nat → Nat → Nat), ∀ (k : Nat) (q : vw_C), classes[k]? = some q → u_Kn s q.1 q.2.1 q.2.2 (dC k) (dI k) := by
    refine ⟨fun k => if k = 0 then c0 else if k = 1 then c1 else if k = 2 then c2 else if k = 3 then c3 else c4, fun k => if k = 0 then iS0 else if k = 1 then iS1 else if k = 2 then iS2 else if k = 3 then iS3 else iS4, ?_⟩
    intro k q hq
    match k, hq with
    | 0, hq => cases hq; exact k0
    | 1, hq => cases hq; exact k1
    | 2, hq => cases hq; exact k2
    | 3, hq => cases hq; exact k3
    | 4, hq => cases hq; exact k4
    | k + 5, hq => simp [classes] at hq
  obtain ⟨cI, kI, compI, a1, a2, a3⟩ := Cond.arrayClass_spec (show (Cond.arrayClass .int).holds #[Value.ref b] s none s [] = true from hgw _ m_101)
  obtain ⟨cB, kB, compB, b1, b2, b3⟩ := Cond.arrayClass_spec (show (Cond.arrayClass .byte).holds #[Value.ref b] s none s [] = true from hgw _ m_60)
  have hK : xK (l, (dC, dI), cI, cB) s := by
    refine ⟨⟨hKc, fun k q hq => ?_⟩, va_Nw.of rfl (hts xn1 (List.mem_of_getElem? (i := 35) (by decide +kernel))), va_Nw.of rfl (hts xn2 (List.mem_of_getElem? (i := 69) (by decide +kernel)))⟩
    match k, hq with
    | 0, hq => cases hq; exact ⟨fun n z => ⟨fun k h => (by cases h), kI, a2, compI, a3⟩, a1⟩
    | 1, hq => cases hq; exact ⟨fun n z => ⟨fun k h => (by cases h), kB, b2, compB, b3⟩, b1⟩
    | k + 2, hq => simp [xT] at hq
  have hl := lv_entry ([.ref b]) (n := 4) (Nat.le_of_ble_eq_true rfl)
  rw [lg_entry_eq]
  exact law_start (bb := (l, (dC, dI), cI, cB)) (G := (p, e, room_1, s, m, #[Value.ref b], below, meth, c, (fun q => s.heap.size ≤ q), lw_Z below #[Value.ref b] s, 4)) (nm := meth.name) (b0 := b) (L := L) (xs := xs) ⟨hx, hb, hml, rfl, rfl, hown, hgw, hK, rfl, fun _ h => h⟩ ⟨hX, hbl, Nat.not_le.mpr hbl⟩ ⟨rfl, rfl, rfl, rfl, hr, hlocks⟩ hL s.heap [] _ (fun k q h => by simp at h) ⟨fun i j p q h => by simp at h, fun k q h => by simp at h⟩ va_S.rf ⟨hl, fun q hq => by
    rcases List.mem_singleton.mp hq with rfl
    rfl⟩
end
section
set_option maxHeartbeats 4000000 in
theorem lw_walk (l : Launch) (b : Addr) (xs : List Int32) : MetFree l x (headSpec (Jvm.Cond.code x code maxLocals ret :: tables_1) room_1) (lw_P b xs) (fun _ _ _ _ _ => True) lw_Q := by
  refine MetFree.of_bodyS (code := code) (maxLocals := maxLocals) (ret := ret) (by decide) ?_ ?_
  · intro args s m h hn
    obtain ⟨meth, c, h1, h2, h3, h4, h5, h6, -, -⟩ := Cond.code_spec hn (atoms_spec (ws := Jvm.Cond.code x code maxLocals ret :: tables_1) h _ List.mem_cons_self)
    exact ⟨meth, c, h1, h2, h3, h4, h5, h6⟩
  · intro p e s m args below meth c s₁ B hml0 hP _
    obtain ⟨rfl, hx, hbd, hgv⟩ := hP
    obtain ⟨scr, harrAt, hlist, hof, hsmall⟩ := hx
    obtain ⟨hcb, hkn, -, -⟩ := State.arrayAt?_spec harrAt
    have hown : s.vm.findClass R_law = some m.cls := findClass_of_methodNamed B.named
    have hts0 : ∀ c ∈ (Jvm.Cond.code x code maxLocals ret :: tables_1), c.before #[Value.ref b] s = true := atoms_spec (ws := Jvm.Cond.code x code maxLocals ret :: tables_1) B.pre
    have hts : ∀ w ∈ lw_tbl, w.before #[Value.ref b] s = true := k2_hts_sels lw_privs (fun w hw => hts0 w (List.mem_cons_of_mem _ hw)) lw_privs_ok
    have hml : c.maxLocals = 4 := B.maxLocals_eq (hts0 _ List.mem_cons_self)
    have X₀ : Stand p l e room_1 s m #[Value.ref b] below meth c s₁ [] 0 0 := Stand.of_body B
    have hh0 : s₁.heap = s.heap := by rw [B.state]; rfl
    have hsz : scr.slots.size = xs.length := by rw [← Array.length_toList, hlist, List.length_map]
    have hval : ∀ j : Nat, j < xs.length → scr.slots[j]? = some (.int (xs.getD j 0)) := fun j hj => by
      rw [← Array.getElem?_toList, hlist]
      simp [hj]
    have hbl : b < s.heap.size := (Array.getElem?_eq_some_iff.mp hcb).1
    have hX : va_X b xs.length (fun j => xs.getD j 0) s s.heap := ⟨scr, hcb, hof, hkn, hsz, hval⟩
    have K : W p l e room_1 s m #[Value.ref b] below meth c s₁.heap [] 0 0 (lw_Z below #[Value.ref b] s) (entryFrame m ([Value.ref b] : List Value).toArray 4) := by
      rw [hh0]
      exact whole_start l hbd ⟨B.exec, B.bytes, B.returns, hml, hown, hts, hX, hbl, B.notSynchronized, hgv⟩
    obtain ⟨t, a1, o, b1, b2, b3⟩ := K s₁ rfl X₀
    exact ⟨t, o, a1, b1, b2, b3⟩
theorem lw_pre_spec {args : Array Value} {s : State} (h : (Jvm.Cond.and given_1 narrow_1).before args s = true) (hr : rest_1_c.before args s = true) : ∃ (b : Addr) (xs : List Int32), lw_P b xs args s := by
  have hs := flat_of_before _ h
  have hq := flat_of_before _ hr
  have hc : (Cond.count 1).before args s = true := hs _ (by decide +kernel)
  have harr : (Cond.arrayOf (.arg 0) .int).before args s = true := hs _ (by decide +kernel)
  have hle : (Cond.le (.length (.arg 0)) (.int 1536)).before args s = true := hs _ (by decide +kernel)
  have hlen : (Cond.isInt (.length (.arg 0))).before args s = true := hq _ (by decide +kernel)
  have hall : (Cond.all (.arg 0) (.isInt (.elem (.arg 0) (.index 0)))).before args s = true := hq _ (by decide +kernel)
  obtain ⟨b, xs, hb, hx⟩ := State.ints_of_pre rfl harr hlen hall
  have hsm : xs.length < 2 ^ 31 := hx.choose_spec.2.2.2
  have hev : (Term.length (.arg 0)).eval args s none [] s = some (.int xs.length.toInt32) := hx.length_eval hb
  have hv := Cond.le_ints hev (show (Term.int 1536).eval args s none [] s = some (.int 1536) from rfl)
  have hd : xs.length.toInt32 ≤ 1536 := by
    simpa [Cond.before, Cond.holds, hv] using hle
  have hN : xs.length ≤ 1536 := (Int32.ofNat_le_ofNat hsm (by decide)).mp (show Int32.ofNat xs.length ≤ Int32.ofNat 1536 from hd)
  exact ⟨b, xs, Cond.one_arg hc (show args[0]? = some (.ref b) from hb), hx, hN, h⟩
theorem lw_comes (l : Launch) : Comes l x (Jvm.Cond.code x code maxLocals ret :: tables_1) room_1 (fun tb e args s => Calls_1 tb e args s ∧ rest_1 tb e args s ∧ Pre_1 tb e args s)
    (fun _ _ args s o t => lw_Q args s o t) := by
  intro p e ha hc hk s m args below hf hfit hheap happ hpre
  obtain ⟨b, xs, hP⟩ := lw_pre_spec hpre.2.2 hpre.2.1
  obtain ⟨k, o, h1, h2, h3, hQ⟩ := lw_walk l b xs p e ha hc hk s m args below hf ((Spec.applies_iff_loose hf).mp happ).1 hP trivial
  exact ⟨k, o, h1, h2, h3, hQ⟩
theorem lw_frame {s t : State} {o : Outcome} {args : Array Value} (h : Framed s o t [] 26 550) :
    Framed s o t (fieldLocs frame_1_writes args s ++ arrayLocs frame_1_arrays args s ++ staticLocs frame_1_statics s) 26 550 := h
theorem lw_limb (L : Cond) (hL : ∀ (args : Array Value) (s t : State), L.after args s (.returned (some (.int 1))) t = true) :
    ArmFor flags0 classFile x code maxLocals ret World_1 tables_1 room_1 Calls_1 rest_1 Pre_1
      (fun tb e a s o t => postC L tb e a s o t ∧ Framed s o t (fieldLocs frame_1_writes a s ++ arrayLocs frame_1_arrays a s ++ staticLocs frame_1_statics s) 26 550) := by
  intro l _ _ _ p e ha hc hk s m args below hf hfit hheap happ hpre
  obtain ⟨k, o, h1, h2, h3, rfl, hF⟩ := lw_comes l p e ha hc hk s m args below hf hfit hheap happ hpre
  exact ⟨k, _, h1, h2, h3, hL args s _, lw_frame hF⟩
theorem i_vc : Claimed_1_1 ∧ Claimed_1_2 := ⟨lw_limb limb_1_1 (fun args s t => by simp [limb_1_1, Cond.after, Cond.holds, Cond.value]), lw_limb limb_1_2 (fun args s t => Cond.after_iff.mpr (by
  first | (rw [show limb_1_2 = Cond.eq .result (.int 1) from rfl, Cond.eq_ints (x := 1) (y := 1) rfl rfl]; simp; done) | (simp [limb_1_2, Cond.value, Term.eval]; done)))⟩
end
