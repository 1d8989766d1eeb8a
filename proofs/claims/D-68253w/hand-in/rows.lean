section
-- ===== PART A: goes FIRST, ahead of the names: the tables' words, and 'selects' of the private methods out of them =====
/-- a private method of a class that the tables say can be made, by its rows of tables_1 -/
def lw_okq (q : MethodName × Nat) : Prop := (q.1.cls ≠ "java/lang/invoke/MethodHandle" ∧ q.1.cls ≠ "java/lang/invoke/VarHandle") ∧ Cond.instantiable q.1.cls q.2 ∈ tables_1 ∧ Cond.privateMethod q.1 ∈ tables_1 ∧ Cond.instanceMethod q.1 ∈ tables_1
theorem lw_p0 : lw_okq (⟨"BlockVault$Log", "writeHeader", "(I)V"⟩, 10) := ⟨⟨by decide +kernel, by decide +kernel⟩, List.mem_of_getElem? (i := 92) (by decide +kernel), List.mem_of_getElem? (i := 174) (by decide +kernel), List.mem_of_getElem? (i := 175) (by decide +kernel)⟩
theorem lw_p1 : lw_okq (⟨"BlockVault", "isBlock", "(I)Z"⟩, 3) := ⟨⟨by decide +kernel, by decide +kernel⟩, List.mem_of_getElem? (i := 9) (by decide +kernel), List.mem_of_getElem? (i := 190) (by decide +kernel), List.mem_of_getElem? (i := 191) (by decide +kernel)⟩
theorem lw_p2 : lw_okq (⟨"BlockVault$Cache", "victim", "()I"⟩, 7) := ⟨⟨by decide +kernel, by decide +kernel⟩, List.mem_of_getElem? (i := 52) (by decide +kernel), List.mem_of_getElem? (i := 203) (by decide +kernel), List.mem_of_getElem? (i := 204) (by decide +kernel)⟩
theorem lw_p3 : lw_okq (⟨"BlockVault$Cache", "use", "(I)V"⟩, 7) := ⟨⟨by decide +kernel, by decide +kernel⟩, List.mem_of_getElem? (i := 52) (by decide +kernel), List.mem_of_getElem? (i := 211) (by decide +kernel), List.mem_of_getElem? (i := 212) (by decide +kernel)⟩
theorem lw_p4 : lw_okq (⟨"BlockVaultModel", "commit", "()Z"⟩, 15) := ⟨⟨by decide +kernel, by decide +kernel⟩, List.mem_of_getElem? (i := 260) (by decide +kernel), List.mem_of_getElem? (i := 324) (by decide +kernel), List.mem_of_getElem? (i := 325) (by decide +kernel)⟩
theorem lw_p5 : lw_okq (⟨"BlockVaultModel", "written", "(I)Z"⟩, 15) := ⟨⟨by decide +kernel, by decide +kernel⟩, List.mem_of_getElem? (i := 260) (by decide +kernel), List.mem_of_getElem? (i := 328) (by decide +kernel), List.mem_of_getElem? (i := 329) (by decide +kernel)⟩
theorem lw_p6 : lw_okq (⟨"BlockVaultModel", "ended", "()Z"⟩, 15) := ⟨⟨by decide +kernel, by decide +kernel⟩, List.mem_of_getElem? (i := 260) (by decide +kernel), List.mem_of_getElem? (i := 332) (by decide +kernel), List.mem_of_getElem? (i := 333) (by decide +kernel)⟩
theorem lw_p7 : lw_okq (⟨"BlockVaultModel", "isBlock", "(I)Z"⟩, 15) := ⟨⟨by decide +kernel, by decide +kernel⟩, List.mem_of_getElem? (i := 260) (by decide +kernel), List.mem_of_getElem? (i := 344) (by decide +kernel), List.mem_of_getElem? (i := 345) (by decide +kernel)⟩
theorem lw_p8 : lw_okq (⟨"BlockVaultModel", "look", "(I)V"⟩, 15) := ⟨⟨by decide +kernel, by decide +kernel⟩, List.mem_of_getElem? (i := 260) (by decide +kernel), List.mem_of_getElem? (i := 348) (by decide +kernel), List.mem_of_getElem? (i := 349) (by decide +kernel)⟩
def lw_privs_1 : List (MethodName × Nat) := [(⟨"BlockVault$Log", "writeHeader", "(I)V"⟩, 10), (⟨"BlockVault", "isBlock", "(I)Z"⟩, 3), (⟨"BlockVault$Cache", "victim", "()I"⟩, 7), (⟨"BlockVault$Cache", "use", "(I)V"⟩, 7), (⟨"BlockVaultModel", "commit", "()Z"⟩, 15), (⟨"BlockVaultModel", "written", "(I)Z"⟩, 15), (⟨"BlockVaultModel", "ended", "()Z"⟩, 15), (⟨"BlockVaultModel", "isBlock", "(I)Z"⟩, 15), (⟨"BlockVaultModel", "look", "(I)V"⟩, 15)]
theorem lw_r1 : ∀ q ∈ lw_privs_1, lw_okq q := List.forall_mem_cons.mpr ⟨lw_p0, List.forall_mem_cons.mpr ⟨lw_p1, List.forall_mem_cons.mpr ⟨lw_p2, List.forall_mem_cons.mpr ⟨lw_p3, List.forall_mem_cons.mpr ⟨lw_p4, List.forall_mem_cons.mpr ⟨lw_p5, List.forall_mem_cons.mpr ⟨lw_p6, List.forall_mem_cons.mpr ⟨lw_p7, List.forall_mem_cons.mpr ⟨lw_p8, fun _ h => absurd h List.not_mem_nil⟩⟩⟩⟩⟩⟩⟩⟩⟩
def lw_privs : List (MethodName × Nat) := lw_privs_1
def lw_tbl : List Cond := k2_sels lw_privs ++ tables_1
theorem lw_privs_ok : ∀ q ∈ lw_privs, lw_okq q := lw_r1
end
section
def R_BV : String := "BlockVault"
def F_BV : u_T := fun k => match k with
  | 0 => ("BlockVault", "platter", "LBlockVault$Platter;", true)
  | 1 => ("BlockVault", "cache", "LBlockVault$Cache;", true)
  | _ => ("BlockVault", "log", "LBlockVault$Log;", true)
def t_BV : Nat → FieldType := fun k => match k with
  | 0 => .object "BlockVault$Platter"
  | 1 => .object "BlockVault$Cache"
  | _ => .object "BlockVault$Log"
def R_Pl : String := "BlockVault$Platter"
def F_Pl : u_T := fun k => match k with
  | 0 => ("BlockVault$Platter", "bytes", "[B", true)
  | 1 => ("BlockVault$Platter", "blocks", "I", true)
  | 2 => ("BlockVault$Platter", "writes", "I", false)
  | 3 => ("BlockVault$Platter", "left", "I", false)
  | _ => ("BlockVault$Platter", "off", "Z", false)
def t_Pl : Nat → FieldType := fun k => match k with
  | 0 => .array .byte
  | 1 => .int
  | 2 => .int
  | 3 => .int
  | _ => .boolean
def R_Ca : String := "BlockVault$Cache"
def F_Ca : u_T := fun k => match k with
  | 0 => ("BlockVault$Cache", "platter", "LBlockVault$Platter;", true)
  | 1 => ("BlockVault$Cache", "rows", "[[B", true)
  | 2 => ("BlockVault$Cache", "blocks", "[I", true)
  | 3 => ("BlockVault$Cache", "held", "[Z", true)
  | 4 => ("BlockVault$Cache", "after", "[I", true)
  | 5 => ("BlockVault$Cache", "before", "[I", true)
  | _ => ("BlockVault$Cache", "reads", "I", false)
def t_Ca : Nat → FieldType := fun k => match k with
  | 0 => .object "BlockVault$Platter"
  | 1 => .array (.array .byte)
  | 2 => .array .int
  | 3 => .array .boolean
  | 4 => .array .int
  | 5 => .array .int
  | _ => .int
def R_Lg : String := "BlockVault$Log"
def F_Lg : u_T := fun k => match k with
  | 0 => ("BlockVault$Log", "platter", "LBlockVault$Platter;", true)
  | 1 => ("BlockVault$Log", "cache", "LBlockVault$Cache;", true)
  | 2 => ("BlockVault$Log", "homes", "[I", true)
  | 3 => ("BlockVault$Log", "mine", "[Z", true)
  | 4 => ("BlockVault$Log", "header", "[B", true)
  | 5 => ("BlockVault$Log", "row", "[B", true)
  | 6 => ("BlockVault$Log", "size", "I", false)
  | 7 => ("BlockVault$Log", "changed", "I", false)
  | 8 => ("BlockVault$Log", "commits", "I", false)
  | _ => ("BlockVault$Log", "open", "Z", false)
def t_Lg : Nat → FieldType := fun k => match k with
  | 0 => .object "BlockVault$Platter"
  | 1 => .object "BlockVault$Cache"
  | 2 => .array .int
  | 3 => .array .boolean
  | 4 => .array .byte
  | 5 => .array .byte
  | 6 => .int
  | 7 => .int
  | 8 => .int
  | _ => .boolean
def R_Md : String := "BlockVaultModel"
def F_Md : u_T := fun k => match k with
  | 0 => ("BlockVaultModel", "thrown", "I", false)
  | 1 => ("BlockVaultModel", "blocks", "I", true)
  | 2 => ("BlockVaultModel", "safe", "[B", true)
  | 3 => ("BlockVaultModel", "now", "[B", true)
  | 4 => ("BlockVaultModel", "held", "[Z", true)
  | 5 => ("BlockVaultModel", "changed", "[Z", true)
  | 6 => ("BlockVaultModel", "stamp", "[I", true)
  | 7 => ("BlockVaultModel", "time", "I", false)
  | 8 => ("BlockVaultModel", "on", "Z", false)
  | 9 => ("BlockVaultModel", "open", "Z", false)
  | 10 => ("BlockVaultModel", "left", "I", false)
  | 11 => ("BlockVaultModel", "writes", "I", false)
  | 12 => ("BlockVaultModel", "reads", "I", false)
  | 13 => ("BlockVaultModel", "commits", "I", false)
  | _ => ("BlockVaultModel", "unended", "I", false)
def t_Md : Nat → FieldType := fun k => match k with
  | 0 => .int
  | 1 => .int
  | 2 => .array .byte
  | 3 => .array .byte
  | 4 => .array .boolean
  | 5 => .array .boolean
  | 6 => .array .int
  | 7 => .int
  | 8 => .boolean
  | 9 => .boolean
  | 10 => .int
  | 11 => .int
  | 12 => .int
  | 13 => .int
  | _ => .int
def R_law : String := "BlockVaultLaw"
abbrev classes : List vw_C := [(R_BV, F_BV, 3), (R_Pl, F_Pl, 5), (R_Ca, F_Ca, 7), (R_Lg, F_Lg, 10), (R_Md, F_Md, 15)]
abbrev b_BV_init : ByteArray := prog_1_method_1_code
def y_BV_init : MethodName := ⟨R_BV, "<init>", "(I)V"⟩
abbrev b_BV_isBlock : ByteArray := prog_1_method_2_code
def y_BV_isBlock : MethodName := ⟨R_BV, "isBlock", "(I)Z"⟩
abbrev b_BV_begin : ByteArray := prog_1_method_3_code
def y_BV_begin : MethodName := ⟨R_BV, "begin", "()Z"⟩
abbrev b_BV_end : ByteArray := prog_1_method_4_code
def y_BV_end : MethodName := ⟨R_BV, "end", "()I"⟩
abbrev b_BV_flush : ByteArray := prog_1_method_5_code
def y_BV_flush : MethodName := ⟨R_BV, "flush", "()I"⟩
abbrev b_BV_get : ByteArray := prog_1_method_6_code
def y_BV_get : MethodName := ⟨R_BV, "get", "(II)I"⟩
abbrev b_BV_fill : ByteArray := prog_1_method_7_code
def y_BV_fill : MethodName := ⟨R_BV, "fill", "(IIII)Z"⟩
abbrev b_BV_cut : ByteArray := prog_1_method_8_code
def y_BV_cut : MethodName := ⟨R_BV, "cut", "(I)Z"⟩
abbrev b_BV_power : ByteArray := prog_1_method_9_code
def y_BV_power : MethodName := ⟨R_BV, "power", "(I)I"⟩
abbrev b_BV_count : ByteArray := prog_1_method_10_code
def y_BV_count : MethodName := ⟨R_BV, "count", "(I)I"⟩
abbrev b_BV_held : ByteArray := prog_1_method_11_code
def y_BV_held : MethodName := ⟨R_BV, "held", "(I)Z"⟩
abbrev b_BV_cached : ByteArray := prog_1_method_12_code
def y_BV_cached : MethodName := ⟨R_BV, "cached", "(I)Z"⟩
abbrev b_Md_init : ByteArray := prog_7_method_1_code
def y_Md_init : MethodName := ⟨R_Md, "<init>", "(I)V"⟩
abbrev b_Md_isBlock : ByteArray := prog_7_method_3_code
def y_Md_isBlock : MethodName := ⟨R_Md, "isBlock", "(I)Z"⟩
abbrev b_Md_many : ByteArray := prog_7_method_4_code
def y_Md_many : MethodName := ⟨R_Md, "many", "([Z)I"⟩
abbrev b_Md_begin : ByteArray := prog_7_method_5_code
def y_Md_begin : MethodName := ⟨R_Md, "begin", "()Z"⟩
abbrev b_Md_written : ByteArray := prog_7_method_6_code
def y_Md_written : MethodName := ⟨R_Md, "written", "(I)Z"⟩
abbrev b_Md_commit : ByteArray := prog_7_method_7_code
def y_Md_commit : MethodName := ⟨R_Md, "commit", "()Z"⟩
abbrev b_Md_ended : ByteArray := prog_7_method_8_code
def y_Md_ended : MethodName := ⟨R_Md, "ended", "()Z"⟩
abbrev b_Md_end : ByteArray := prog_7_method_9_code
def y_Md_end : MethodName := ⟨R_Md, "end", "()I"⟩
abbrev b_Md_flush : ByteArray := prog_7_method_10_code
def y_Md_flush : MethodName := ⟨R_Md, "flush", "()I"⟩
abbrev b_Md_look : ByteArray := prog_7_method_11_code
def y_Md_look : MethodName := ⟨R_Md, "look", "(I)V"⟩
abbrev b_Md_get : ByteArray := prog_7_method_12_code
def y_Md_get : MethodName := ⟨R_Md, "get", "(II)I"⟩
abbrev b_Md_fill : ByteArray := prog_7_method_13_code
def y_Md_fill : MethodName := ⟨R_Md, "fill", "(IIII)Z"⟩
abbrev b_Md_cut : ByteArray := prog_7_method_14_code
def y_Md_cut : MethodName := ⟨R_Md, "cut", "(I)Z"⟩
abbrev b_Md_power : ByteArray := prog_7_method_15_code
def y_Md_power : MethodName := ⟨R_Md, "power", "(I)I"⟩
abbrev b_Md_count : ByteArray := prog_7_method_16_code
def y_Md_count : MethodName := ⟨R_Md, "count", "(I)I"⟩
abbrev b_Md_held : ByteArray := prog_7_method_17_code
def y_Md_held : MethodName := ⟨R_Md, "held", "(I)Z"⟩
abbrev b_Md_cached : ByteArray := prog_7_method_18_code
def y_Md_cached : MethodName := ⟨R_Md, "cached", "(I)Z"⟩
abbrev b_Ca_init : ByteArray := prog_3_method_1_code
def y_Ca_init : MethodName := ⟨R_Ca, "<init>", "(LBlockVault$Platter;)V"⟩
abbrev b_Ca_clear : ByteArray := prog_3_method_2_code
def y_Ca_clear : MethodName := ⟨R_Ca, "clear", "()V"⟩
abbrev b_Ca_use : ByteArray := prog_3_method_3_code
def y_Ca_use : MethodName := ⟨R_Ca, "use", "(I)V"⟩
abbrev b_Ca_find : ByteArray := prog_3_method_4_code
def y_Ca_find : MethodName := ⟨R_Ca, "find", "(I)I"⟩
abbrev b_Ca_victim : ByteArray := prog_3_method_5_code
def y_Ca_victim : MethodName := ⟨R_Ca, "victim", "()I"⟩
abbrev b_Ca_take : ByteArray := prog_3_method_6_code
def y_Ca_take : MethodName := ⟨R_Ca, "take", "(I)I"⟩
abbrev b_Lg_init : ByteArray := prog_4_method_1_code
def y_Lg_init : MethodName := ⟨R_Lg, "<init>", "(LBlockVault$Platter;LBlockVault$Cache;)V"⟩
abbrev b_Lg_block : ByteArray := prog_4_method_2_code
def y_Lg_block : MethodName := ⟨R_Lg, "block", "(I)[B"⟩
abbrev b_Lg_touch : ByteArray := prog_4_method_3_code
def y_Lg_touch : MethodName := ⟨R_Lg, "touch", "(I)V"⟩
abbrev b_Lg_mayTouch : ByteArray := prog_4_method_4_code
def y_Lg_mayTouch : MethodName := ⟨R_Lg, "mayTouch", "(I)Z"⟩
abbrev b_Lg_begin : ByteArray := prog_4_method_5_code
def y_Lg_begin : MethodName := ⟨R_Lg, "begin", "()V"⟩
abbrev b_Lg_end : ByteArray := prog_4_method_6_code
def y_Lg_end : MethodName := ⟨R_Lg, "end", "()V"⟩
abbrev b_Lg_put : ByteArray := prog_4_method_7_code
def y_Lg_put : MethodName := ⟨R_Lg, "put", "([BII)V"⟩
abbrev b_Lg_get : ByteArray := prog_4_method_8_code
def y_Lg_get : MethodName := ⟨R_Lg, "get", "([BI)I"⟩
abbrev b_Lg_writeHeader : ByteArray := prog_4_method_9_code
def y_Lg_writeHeader : MethodName := ⟨R_Lg, "writeHeader", "(I)V"⟩
abbrev b_Lg_commit : ByteArray := prog_4_method_10_code
def y_Lg_commit : MethodName := ⟨R_Lg, "commit", "()V"⟩
abbrev b_Lg_recover : ByteArray := prog_4_method_11_code
def y_Lg_recover : MethodName := ⟨R_Lg, "recover", "()I"⟩
abbrev b_Pl_init : ByteArray := prog_5_method_1_code
def y_Pl_init : MethodName := ⟨R_Pl, "<init>", "(I)V"⟩
abbrev b_Pl_read : ByteArray := prog_5_method_2_code
def y_Pl_read : MethodName := ⟨R_Pl, "read", "(I[B)V"⟩
abbrev b_Pl_write : ByteArray := prog_5_method_3_code
def y_Pl_write : MethodName := ⟨R_Pl, "write", "(I[B)V"⟩
abbrev b_law_cell : ByteArray := method_2_code
def y_law_cell : MethodName := ⟨R_law, "cell", "([II)I"⟩
def gt : List Cond := lw_tbl.filter goodWord
theorem gt_of {w : Cond} (h : w ∈ tables_1) (hg : goodWord w = true) : w ∈ gt := List.mem_filter.mpr ⟨List.mem_append_right _ h, hg⟩
theorem gt_pv {y : MethodName} {n : Nat} (h : (y, n) ∈ lw_privs) : Cond.selects y.cls y y ∈ gt := List.mem_filter.mpr ⟨List.mem_append_left _ (List.mem_map.mpr ⟨(y, n), h, rfl⟩), rfl⟩
theorem gt_tbl {w : Cond} (h : w ∈ gt) : w ∈ lw_tbl := (List.mem_filter.mp h).1
theorem gt_good {w : Cond} (h : w ∈ gt) : goodWord w = true := (List.mem_filter.mp h).2
theorem k_0 : Cond.initialized R_law ∈ gt := gt_of (List.mem_of_getElem? (i := 0) (by decide +kernel)) rfl
theorem k_1 : Cond.initialized R_BV ∈ gt := gt_of (List.mem_of_getElem? (i := 1) (by decide +kernel)) rfl
theorem k_2 : Cond.initialized R_Pl ∈ gt := gt_of (List.mem_of_getElem? (i := 2) (by decide +kernel)) rfl
theorem k_3 : Cond.initialized "java/lang/Math" ∈ gt := gt_of (List.mem_of_getElem? (i := 3) (by decide +kernel)) rfl
theorem k_4 : Cond.initialized R_Ca ∈ gt := gt_of (List.mem_of_getElem? (i := 4) (by decide +kernel)) rfl
theorem k_5 : Cond.initialized R_Lg ∈ gt := gt_of (List.mem_of_getElem? (i := 5) (by decide +kernel)) rfl
theorem k_6 : Cond.initialized R_Md ∈ gt := gt_of (List.mem_of_getElem? (i := 6) (by decide +kernel)) rfl
theorem k_7 : Cond.initialized "java/lang/System" ∈ gt := gt_of (List.mem_of_getElem? (i := 7) (by decide +kernel)) rfl
theorem k_8 : Cond.classLink R_law 7 R_BV ∈ gt := gt_of (List.mem_of_getElem? (i := 8) (by decide +kernel)) rfl
theorem k_9 : Cond.instantiable R_BV 3 ∈ gt := gt_of (List.mem_of_getElem? (i := 9) (by decide +kernel)) rfl
theorem k_10 : Cond.methodLink R_law 15 y_BV_init ∈ gt := gt_of (List.mem_of_getElem? (i := 10) (by decide +kernel)) rfl
theorem k_11 : Cond.instanceMethod y_BV_init ∈ gt := gt_of (List.mem_of_getElem? (i := 11) (by decide +kernel)) rfl
set_option maxRecDepth 20000 in
theorem k_12 : Cond.code y_BV_init b_BV_init 2 none ∈ gt := gt_of (List.mem_of_getElem? (i := 12) rfl) rfl
theorem k_13 : Cond.methodLink R_BV 1 objectInit ∈ gt := gt_of (List.mem_of_getElem? (i := 13) (by decide +kernel)) rfl
theorem k_14 : Cond.instanceMethod objectInit ∈ gt := gt_of (List.mem_of_getElem? (i := 14) (by decide +kernel)) rfl
set_option maxRecDepth 20000 in
theorem k_15 : Cond.code objectInit ⟨#[0xb1]⟩ 1 none ∈ gt := gt_of (List.mem_of_getElem? (i := 15) rfl) rfl
theorem k_16 : Cond.classLink R_BV 7 R_Pl ∈ gt := gt_of (List.mem_of_getElem? (i := 16) (by decide +kernel)) rfl
theorem k_17 : Cond.instantiable R_Pl 5 ∈ gt := gt_of (List.mem_of_getElem? (i := 17) (by decide +kernel)) rfl
theorem k_18 : Cond.methodLink R_BV 11 ⟨"java/lang/Math", "max", "(II)I"⟩ ∈ gt := gt_of (List.mem_of_getElem? (i := 18) (by decide +kernel)) rfl
theorem k_19 : Cond.static ⟨"java/lang/Math", "max", "(II)I"⟩ ∈ gt := gt_of (List.mem_of_getElem? (i := 19) (by decide +kernel)) rfl
set_option maxRecDepth 20000 in
theorem k_20 : Cond.code Lib.Math.max.name Lib.Math.max.code 2 (some .int) ∈ gt := gt_of (List.mem_of_getElem? (i := 20) rfl) rfl
theorem k_21 : Cond.methodLink R_BV 17 ⟨"java/lang/Math", "min", "(II)I"⟩ ∈ gt := gt_of (List.mem_of_getElem? (i := 21) (by decide +kernel)) rfl
theorem k_22 : Cond.static ⟨"java/lang/Math", "min", "(II)I"⟩ ∈ gt := gt_of (List.mem_of_getElem? (i := 22) (by decide +kernel)) rfl
set_option maxRecDepth 20000 in
theorem k_23 : Cond.code Lib.Math.min.name Lib.Math.min.code 2 (some .int) ∈ gt := gt_of (List.mem_of_getElem? (i := 23) rfl) rfl
theorem k_24 : Cond.methodLink R_BV 20 y_Pl_init ∈ gt := gt_of (List.mem_of_getElem? (i := 24) (by decide +kernel)) rfl
theorem k_25 : Cond.instanceMethod y_Pl_init ∈ gt := gt_of (List.mem_of_getElem? (i := 25) (by decide +kernel)) rfl
set_option maxRecDepth 20000 in
theorem k_26 : Cond.code y_Pl_init b_Pl_init 2 none ∈ gt := gt_of (List.mem_of_getElem? (i := 26) rfl) rfl
theorem k_27 : Cond.methodLink R_Pl 3 objectInit ∈ gt := gt_of (List.mem_of_getElem? (i := 27) (by decide +kernel)) rfl
theorem k_28 : Cond.fieldLink R_Pl 18 R_Pl "bytes" "[B" ∈ gt := gt_of (List.mem_of_getElem? (i := 28) (by decide +kernel)) rfl
theorem k_29 : Cond.fieldLink R_Pl 15 R_Pl "blocks" "I" ∈ gt := gt_of (List.mem_of_getElem? (i := 29) (by decide +kernel)) rfl
theorem k_30 : Cond.fieldLinkNest R_Lg 30 R_Pl "blocks" "I" R_BV ∈ tables_1 := List.mem_of_getElem? (i := 30) (by decide +kernel)
theorem k_31 : Cond.fieldLinkNest R_BV 45 R_Pl "blocks" "I" R_BV ∈ tables_1 := List.mem_of_getElem? (i := 31) (by decide +kernel)
theorem k_32 : Cond.fieldLink R_Pl 32 R_Pl "writes" "I" ∈ gt := gt_of (List.mem_of_getElem? (i := 32) (by decide +kernel)) rfl
theorem k_33 : Cond.fieldLinkNest R_BV 92 R_Pl "writes" "I" R_BV ∈ tables_1 := List.mem_of_getElem? (i := 33) (by decide +kernel)
theorem k_34 : Cond.fieldLink R_Pl 9 R_Pl "left" "I" ∈ gt := gt_of (List.mem_of_getElem? (i := 34) (by decide +kernel)) rfl
theorem k_35 : Cond.fieldLinkNest R_BV 82 R_Pl "left" "I" R_BV ∈ tables_1 := List.mem_of_getElem? (i := 35) (by decide +kernel)
theorem k_36 : Cond.fieldLink R_Pl 28 R_Pl "off" "Z" ∈ gt := gt_of (List.mem_of_getElem? (i := 36) (by decide +kernel)) rfl
theorem k_37 : Cond.fieldLinkNest R_BV 49 R_Pl "off" "Z" R_BV ∈ tables_1 := List.mem_of_getElem? (i := 37) (by decide +kernel)
theorem k_38 : Cond.fieldLinkNest R_Lg 82 R_Pl "off" "Z" R_BV ∈ tables_1 := List.mem_of_getElem? (i := 38) (by decide +kernel)
theorem k_39 : Cond.laysFinal R_Pl R_Pl "bytes" "[B" ∈ gt := gt_of (List.mem_of_getElem? (i := 39) (by decide +kernel)) rfl
theorem k_41 : Cond.laysFinal R_Pl R_Pl "blocks" "I" ∈ gt := gt_of (List.mem_of_getElem? (i := 41) (by decide +kernel)) rfl
theorem k_43 : Cond.lays R_Pl R_Pl "writes" "I" ∈ gt := gt_of (List.mem_of_getElem? (i := 43) (by decide +kernel)) rfl
theorem k_45 : Cond.lays R_Pl R_Pl "left" "I" ∈ gt := gt_of (List.mem_of_getElem? (i := 45) (by decide +kernel)) rfl
theorem k_47 : Cond.lays R_Pl R_Pl "off" "Z" ∈ gt := gt_of (List.mem_of_getElem? (i := 47) (by decide +kernel)) rfl
theorem k_50 : Cond.arrayClass .byte ∈ gt := gt_of (List.mem_of_getElem? (i := 50) (by decide +kernel)) rfl
theorem k_51 : Cond.classLink R_BV 27 R_Ca ∈ gt := gt_of (List.mem_of_getElem? (i := 51) (by decide +kernel)) rfl
theorem k_52 : Cond.instantiable R_Ca 7 ∈ gt := gt_of (List.mem_of_getElem? (i := 52) (by decide +kernel)) rfl
theorem k_53 : Cond.methodLink R_BV 29 y_Ca_init ∈ gt := gt_of (List.mem_of_getElem? (i := 53) (by decide +kernel)) rfl
theorem k_54 : Cond.instanceMethod y_Ca_init ∈ gt := gt_of (List.mem_of_getElem? (i := 54) (by decide +kernel)) rfl
set_option maxRecDepth 20000 in
theorem k_55 : Cond.code y_Ca_init b_Ca_init 3 none ∈ gt := gt_of (List.mem_of_getElem? (i := 55) rfl) rfl
theorem k_56 : Cond.methodLink R_Ca 3 objectInit ∈ gt := gt_of (List.mem_of_getElem? (i := 56) (by decide +kernel)) rfl
theorem k_57 : Cond.classLink R_Ca 13 "[[B" ∈ gt := gt_of (List.mem_of_getElem? (i := 57) (by decide +kernel)) rfl
theorem k_59 : Cond.methodLink R_Ca 36 y_Ca_clear ∈ gt := gt_of (List.mem_of_getElem? (i := 59) (by decide +kernel)) rfl
theorem k_60 : Cond.instanceMethod y_Ca_clear ∈ gt := gt_of (List.mem_of_getElem? (i := 60) (by decide +kernel)) rfl
theorem k_61 : Cond.selects R_Ca y_Ca_clear y_Ca_clear ∈ gt := gt_of (List.mem_of_getElem? (i := 61) (by decide +kernel)) rfl
set_option maxRecDepth 20000 in
theorem k_62 : Cond.code y_Ca_clear b_Ca_clear 2 none ∈ gt := gt_of (List.mem_of_getElem? (i := 62) rfl) rfl
theorem k_63 : Cond.fieldLink R_Ca 32 R_Ca "platter" "LBlockVault$Platter;" ∈ gt := gt_of (List.mem_of_getElem? (i := 63) (by decide +kernel)) rfl
theorem k_64 : Cond.fieldLink R_Ca 15 R_Ca "rows" "[[B" ∈ gt := gt_of (List.mem_of_getElem? (i := 64) (by decide +kernel)) rfl
theorem k_65 : Cond.fieldLinkNest R_Lg 38 R_Ca "rows" "[[B" R_BV ∈ tables_1 := List.mem_of_getElem? (i := 65) (by decide +kernel)
theorem k_66 : Cond.fieldLink R_Ca 18 R_Ca "blocks" "[I" ∈ gt := gt_of (List.mem_of_getElem? (i := 66) (by decide +kernel)) rfl
theorem k_67 : Cond.fieldLink R_Ca 22 R_Ca "held" "[Z" ∈ gt := gt_of (List.mem_of_getElem? (i := 67) (by decide +kernel)) rfl
theorem k_68 : Cond.fieldLinkNest R_Lg 48 R_Ca "held" "[Z" R_BV ∈ tables_1 := List.mem_of_getElem? (i := 68) (by decide +kernel)
theorem k_69 : Cond.fieldLinkNest R_BV 105 R_Ca "held" "[Z" R_BV ∈ tables_1 := List.mem_of_getElem? (i := 69) (by decide +kernel)
theorem k_70 : Cond.fieldLink R_Ca 26 R_Ca "after" "[I" ∈ gt := gt_of (List.mem_of_getElem? (i := 70) (by decide +kernel)) rfl
theorem k_71 : Cond.fieldLink R_Ca 29 R_Ca "before" "[I" ∈ gt := gt_of (List.mem_of_getElem? (i := 71) (by decide +kernel)) rfl
theorem k_72 : Cond.fieldLink R_Ca 51 R_Ca "reads" "I" ∈ gt := gt_of (List.mem_of_getElem? (i := 72) (by decide +kernel)) rfl
theorem k_73 : Cond.fieldLinkNest R_BV 95 R_Ca "reads" "I" R_BV ∈ tables_1 := List.mem_of_getElem? (i := 73) (by decide +kernel)
theorem k_74 : Cond.laysFinal R_Ca R_Ca "platter" "LBlockVault$Platter;" ∈ gt := gt_of (List.mem_of_getElem? (i := 74) (by decide +kernel)) rfl
theorem k_76 : Cond.laysFinal R_Ca R_Ca "rows" "[[B" ∈ gt := gt_of (List.mem_of_getElem? (i := 76) (by decide +kernel)) rfl
theorem k_78 : Cond.laysFinal R_Ca R_Ca "blocks" "[I" ∈ gt := gt_of (List.mem_of_getElem? (i := 78) (by decide +kernel)) rfl
theorem k_80 : Cond.laysFinal R_Ca R_Ca "held" "[Z" ∈ gt := gt_of (List.mem_of_getElem? (i := 80) (by decide +kernel)) rfl
theorem k_82 : Cond.laysFinal R_Ca R_Ca "after" "[I" ∈ gt := gt_of (List.mem_of_getElem? (i := 82) (by decide +kernel)) rfl
theorem k_84 : Cond.laysFinal R_Ca R_Ca "before" "[I" ∈ gt := gt_of (List.mem_of_getElem? (i := 84) (by decide +kernel)) rfl
theorem k_86 : Cond.lays R_Ca R_Ca "reads" "I" ∈ gt := gt_of (List.mem_of_getElem? (i := 86) (by decide +kernel)) rfl
theorem k_89 : Cond.arrayClass .int ∈ gt := gt_of (List.mem_of_getElem? (i := 89) (by decide +kernel)) rfl
theorem k_90 : Cond.arrayClass .boolean ∈ gt := gt_of (List.mem_of_getElem? (i := 90) (by decide +kernel)) rfl
theorem k_91 : Cond.classLink R_BV 36 R_Lg ∈ gt := gt_of (List.mem_of_getElem? (i := 91) (by decide +kernel)) rfl
theorem k_92 : Cond.instantiable R_Lg 10 ∈ gt := gt_of (List.mem_of_getElem? (i := 92) (by decide +kernel)) rfl
theorem k_93 : Cond.methodLink R_BV 38 y_Lg_init ∈ gt := gt_of (List.mem_of_getElem? (i := 93) (by decide +kernel)) rfl
theorem k_94 : Cond.instanceMethod y_Lg_init ∈ gt := gt_of (List.mem_of_getElem? (i := 94) (by decide +kernel)) rfl
set_option maxRecDepth 20000 in
theorem k_95 : Cond.code y_Lg_init b_Lg_init 3 none ∈ gt := gt_of (List.mem_of_getElem? (i := 95) rfl) rfl
theorem k_96 : Cond.methodLink R_Lg 1 objectInit ∈ gt := gt_of (List.mem_of_getElem? (i := 96) (by decide +kernel)) rfl
theorem k_97 : Cond.fieldLink R_Lg 22 R_Lg "platter" "LBlockVault$Platter;" ∈ gt := gt_of (List.mem_of_getElem? (i := 97) (by decide +kernel)) rfl
theorem k_98 : Cond.fieldLink R_Lg 26 R_Lg "cache" "LBlockVault$Cache;" ∈ gt := gt_of (List.mem_of_getElem? (i := 98) (by decide +kernel)) rfl
theorem k_99 : Cond.fieldLink R_Lg 9 R_Lg "homes" "[I" ∈ gt := gt_of (List.mem_of_getElem? (i := 99) (by decide +kernel)) rfl
theorem k_100 : Cond.fieldLink R_Lg 34 R_Lg "mine" "[Z" ∈ gt := gt_of (List.mem_of_getElem? (i := 100) (by decide +kernel)) rfl
theorem k_101 : Cond.fieldLink R_Lg 15 R_Lg "header" "[B" ∈ gt := gt_of (List.mem_of_getElem? (i := 101) (by decide +kernel)) rfl
theorem k_102 : Cond.fieldLink R_Lg 19 R_Lg "row" "[B" ∈ gt := gt_of (List.mem_of_getElem? (i := 102) (by decide +kernel)) rfl
theorem k_103 : Cond.fieldLink R_Lg 51 R_Lg "size" "I" ∈ gt := gt_of (List.mem_of_getElem? (i := 103) (by decide +kernel)) rfl
theorem k_104 : Cond.fieldLinkNest R_BV 62 R_Lg "size" "I" R_BV ∈ tables_1 := List.mem_of_getElem? (i := 104) (by decide +kernel)
theorem k_105 : Cond.fieldLink R_Lg 54 R_Lg "changed" "I" ∈ gt := gt_of (List.mem_of_getElem? (i := 105) (by decide +kernel)) rfl
theorem k_106 : Cond.fieldLinkNest R_BV 89 R_Lg "changed" "I" R_BV ∈ tables_1 := List.mem_of_getElem? (i := 106) (by decide +kernel)
theorem k_107 : Cond.fieldLink R_Lg 79 R_Lg "commits" "I" ∈ gt := gt_of (List.mem_of_getElem? (i := 107) (by decide +kernel)) rfl
theorem k_108 : Cond.fieldLinkNest R_BV 98 R_Lg "commits" "I" R_BV ∈ tables_1 := List.mem_of_getElem? (i := 108) (by decide +kernel)
theorem k_109 : Cond.fieldLinkNest R_BV 53 R_Lg "open" "Z" R_BV ∈ tables_1 := List.mem_of_getElem? (i := 109) (by decide +kernel)
theorem k_110 : Cond.fieldLink R_Lg 57 R_Lg "open" "Z" ∈ gt := gt_of (List.mem_of_getElem? (i := 110) (by decide +kernel)) rfl
theorem k_111 : Cond.laysFinal R_Lg R_Lg "platter" "LBlockVault$Platter;" ∈ gt := gt_of (List.mem_of_getElem? (i := 111) (by decide +kernel)) rfl
theorem k_113 : Cond.laysFinal R_Lg R_Lg "cache" "LBlockVault$Cache;" ∈ gt := gt_of (List.mem_of_getElem? (i := 113) (by decide +kernel)) rfl
theorem k_115 : Cond.laysFinal R_Lg R_Lg "homes" "[I" ∈ gt := gt_of (List.mem_of_getElem? (i := 115) (by decide +kernel)) rfl
theorem k_117 : Cond.laysFinal R_Lg R_Lg "mine" "[Z" ∈ gt := gt_of (List.mem_of_getElem? (i := 117) (by decide +kernel)) rfl
theorem k_119 : Cond.laysFinal R_Lg R_Lg "header" "[B" ∈ gt := gt_of (List.mem_of_getElem? (i := 119) (by decide +kernel)) rfl
theorem k_121 : Cond.laysFinal R_Lg R_Lg "row" "[B" ∈ gt := gt_of (List.mem_of_getElem? (i := 121) (by decide +kernel)) rfl
theorem k_123 : Cond.lays R_Lg R_Lg "size" "I" ∈ gt := gt_of (List.mem_of_getElem? (i := 123) (by decide +kernel)) rfl
theorem k_125 : Cond.lays R_Lg R_Lg "changed" "I" ∈ gt := gt_of (List.mem_of_getElem? (i := 125) (by decide +kernel)) rfl
theorem k_127 : Cond.lays R_Lg R_Lg "commits" "I" ∈ gt := gt_of (List.mem_of_getElem? (i := 127) (by decide +kernel)) rfl
theorem k_129 : Cond.lays R_Lg R_Lg "open" "Z" ∈ gt := gt_of (List.mem_of_getElem? (i := 129) (by decide +kernel)) rfl
theorem k_132 : Cond.fieldLink R_BV 23 R_BV "platter" "LBlockVault$Platter;" ∈ gt := gt_of (List.mem_of_getElem? (i := 132) (by decide +kernel)) rfl
theorem k_133 : Cond.fieldLink R_BV 32 R_BV "cache" "LBlockVault$Cache;" ∈ gt := gt_of (List.mem_of_getElem? (i := 133) (by decide +kernel)) rfl
theorem k_134 : Cond.fieldLink R_BV 41 R_BV "log" "LBlockVault$Log;" ∈ gt := gt_of (List.mem_of_getElem? (i := 134) (by decide +kernel)) rfl
theorem k_135 : Cond.laysFinal R_BV R_BV "platter" "LBlockVault$Platter;" ∈ gt := gt_of (List.mem_of_getElem? (i := 135) (by decide +kernel)) rfl
theorem k_137 : Cond.laysFinal R_BV R_BV "cache" "LBlockVault$Cache;" ∈ gt := gt_of (List.mem_of_getElem? (i := 137) (by decide +kernel)) rfl
theorem k_139 : Cond.laysFinal R_BV R_BV "log" "LBlockVault$Log;" ∈ gt := gt_of (List.mem_of_getElem? (i := 139) (by decide +kernel)) rfl
theorem k_142 : Cond.methodLink R_law 21 y_BV_begin ∈ gt := gt_of (List.mem_of_getElem? (i := 142) (by decide +kernel)) rfl
theorem k_143 : Cond.instanceMethod y_BV_begin ∈ gt := gt_of (List.mem_of_getElem? (i := 143) (by decide +kernel)) rfl
theorem k_144 : Cond.selects R_BV y_BV_begin y_BV_begin ∈ gt := gt_of (List.mem_of_getElem? (i := 144) (by decide +kernel)) rfl
set_option maxRecDepth 20000 in
theorem k_145 : Cond.code y_BV_begin b_BV_begin 1 (some .boolean) ∈ gt := gt_of (List.mem_of_getElem? (i := 145) rfl) rfl
theorem k_146 : Cond.methodLink R_BV 56 y_Lg_begin ∈ gt := gt_of (List.mem_of_getElem? (i := 146) (by decide +kernel)) rfl
theorem k_147 : Cond.instanceMethod y_Lg_begin ∈ gt := gt_of (List.mem_of_getElem? (i := 147) (by decide +kernel)) rfl
theorem k_148 : Cond.selects R_Lg y_Lg_begin y_Lg_begin ∈ gt := gt_of (List.mem_of_getElem? (i := 148) (by decide +kernel)) rfl
set_option maxRecDepth 20000 in
theorem k_149 : Cond.code y_Lg_begin b_Lg_begin 2 none ∈ gt := gt_of (List.mem_of_getElem? (i := 149) rfl) rfl
theorem k_150 : Cond.methodLink R_law 26 y_BV_end ∈ gt := gt_of (List.mem_of_getElem? (i := 150) (by decide +kernel)) rfl
theorem k_151 : Cond.instanceMethod y_BV_end ∈ gt := gt_of (List.mem_of_getElem? (i := 151) (by decide +kernel)) rfl
theorem k_152 : Cond.selects R_BV y_BV_end y_BV_end ∈ gt := gt_of (List.mem_of_getElem? (i := 152) (by decide +kernel)) rfl
set_option maxRecDepth 20000 in
theorem k_153 : Cond.code y_BV_end b_BV_end 1 (some .int) ∈ gt := gt_of (List.mem_of_getElem? (i := 153) rfl) rfl
theorem k_154 : Cond.methodLink R_BV 59 y_Lg_end ∈ gt := gt_of (List.mem_of_getElem? (i := 154) (by decide +kernel)) rfl
theorem k_155 : Cond.instanceMethod y_Lg_end ∈ gt := gt_of (List.mem_of_getElem? (i := 155) (by decide +kernel)) rfl
theorem k_156 : Cond.selects R_Lg y_Lg_end y_Lg_end ∈ gt := gt_of (List.mem_of_getElem? (i := 156) (by decide +kernel)) rfl
set_option maxRecDepth 20000 in
theorem k_157 : Cond.code y_Lg_end b_Lg_end 1 none ∈ gt := gt_of (List.mem_of_getElem? (i := 157) rfl) rfl
theorem k_158 : Cond.methodLink R_Lg 61 y_Lg_commit ∈ gt := gt_of (List.mem_of_getElem? (i := 158) (by decide +kernel)) rfl
theorem k_159 : Cond.instanceMethod y_Lg_commit ∈ gt := gt_of (List.mem_of_getElem? (i := 159) (by decide +kernel)) rfl
theorem k_160 : Cond.selects R_Lg y_Lg_commit y_Lg_commit ∈ gt := gt_of (List.mem_of_getElem? (i := 160) (by decide +kernel)) rfl
set_option maxRecDepth 20000 in
theorem k_161 : Cond.code y_Lg_commit b_Lg_commit 2 none ∈ gt := gt_of (List.mem_of_getElem? (i := 161) rfl) rfl
theorem k_162 : Cond.methodLink R_Lg 72 y_Ca_find ∈ gt := gt_of (List.mem_of_getElem? (i := 162) (by decide +kernel)) rfl
theorem k_163 : Cond.instanceMethod y_Ca_find ∈ gt := gt_of (List.mem_of_getElem? (i := 163) (by decide +kernel)) rfl
theorem k_164 : Cond.selects R_Ca y_Ca_find y_Ca_find ∈ gt := gt_of (List.mem_of_getElem? (i := 164) (by decide +kernel)) rfl
set_option maxRecDepth 20000 in
theorem k_165 : Cond.code y_Ca_find b_Ca_find 3 (some .int) ∈ gt := gt_of (List.mem_of_getElem? (i := 165) rfl) rfl
theorem k_166 : Cond.methodLink R_Lg 68 y_Pl_write ∈ gt := gt_of (List.mem_of_getElem? (i := 166) (by decide +kernel)) rfl
theorem k_167 : Cond.instanceMethod y_Pl_write ∈ gt := gt_of (List.mem_of_getElem? (i := 167) (by decide +kernel)) rfl
theorem k_168 : Cond.selects R_Pl y_Pl_write y_Pl_write ∈ gt := gt_of (List.mem_of_getElem? (i := 168) (by decide +kernel)) rfl
set_option maxRecDepth 20000 in
theorem k_169 : Cond.code y_Pl_write b_Pl_write 3 none ∈ gt := gt_of (List.mem_of_getElem? (i := 169) rfl) rfl
theorem k_170 : Cond.methodLink R_Pl 22 arraycopyName ∈ gt := gt_of (List.mem_of_getElem? (i := 170) (by decide +kernel)) rfl
theorem k_171 : Cond.static arraycopyName ∈ gt := gt_of (List.mem_of_getElem? (i := 171) (by decide +kernel)) rfl
theorem k_172 : Cond.native arraycopyName ∈ gt := gt_of (List.mem_of_getElem? (i := 172) (by decide +kernel)) rfl
theorem k_173 : Cond.methodLink R_Lg 75 y_Lg_writeHeader ∈ gt := gt_of (List.mem_of_getElem? (i := 173) (by decide +kernel)) rfl
theorem k_175 : Cond.instanceMethod y_Lg_writeHeader ∈ gt := gt_of (List.mem_of_getElem? (i := 175) (by decide +kernel)) rfl
set_option maxRecDepth 20000 in
theorem k_176 : Cond.code y_Lg_writeHeader b_Lg_writeHeader 3 none ∈ gt := gt_of (List.mem_of_getElem? (i := 176) rfl) rfl
theorem k_177 : Cond.methodLink R_Lg 64 y_Lg_put ∈ gt := gt_of (List.mem_of_getElem? (i := 177) (by decide +kernel)) rfl
theorem k_178 : Cond.static y_Lg_put ∈ gt := gt_of (List.mem_of_getElem? (i := 178) (by decide +kernel)) rfl
set_option maxRecDepth 20000 in
theorem k_179 : Cond.code y_Lg_put b_Lg_put 4 none ∈ gt := gt_of (List.mem_of_getElem? (i := 179) rfl) rfl
theorem k_180 : Cond.methodLink R_law 31 y_BV_flush ∈ gt := gt_of (List.mem_of_getElem? (i := 180) (by decide +kernel)) rfl
theorem k_181 : Cond.instanceMethod y_BV_flush ∈ gt := gt_of (List.mem_of_getElem? (i := 181) (by decide +kernel)) rfl
theorem k_182 : Cond.selects R_BV y_BV_flush y_BV_flush ∈ gt := gt_of (List.mem_of_getElem? (i := 182) (by decide +kernel)) rfl
set_option maxRecDepth 20000 in
theorem k_183 : Cond.code y_BV_flush b_BV_flush 2 (some .int) ∈ gt := gt_of (List.mem_of_getElem? (i := 183) rfl) rfl
theorem k_184 : Cond.methodLink R_BV 65 y_Lg_commit ∈ gt := gt_of (List.mem_of_getElem? (i := 184) (by decide +kernel)) rfl
theorem k_185 : Cond.methodLink R_law 35 y_BV_get ∈ gt := gt_of (List.mem_of_getElem? (i := 185) (by decide +kernel)) rfl
theorem k_186 : Cond.instanceMethod y_BV_get ∈ gt := gt_of (List.mem_of_getElem? (i := 186) (by decide +kernel)) rfl
theorem k_187 : Cond.selects R_BV y_BV_get y_BV_get ∈ gt := gt_of (List.mem_of_getElem? (i := 187) (by decide +kernel)) rfl
set_option maxRecDepth 20000 in
theorem k_188 : Cond.code y_BV_get b_BV_get 3 (some .int) ∈ gt := gt_of (List.mem_of_getElem? (i := 188) rfl) rfl
theorem k_189 : Cond.methodLink R_BV 68 y_BV_isBlock ∈ gt := gt_of (List.mem_of_getElem? (i := 189) (by decide +kernel)) rfl
theorem k_191 : Cond.instanceMethod y_BV_isBlock ∈ gt := gt_of (List.mem_of_getElem? (i := 191) (by decide +kernel)) rfl
set_option maxRecDepth 20000 in
theorem k_192 : Cond.code y_BV_isBlock b_BV_isBlock 2 (some .boolean) ∈ gt := gt_of (List.mem_of_getElem? (i := 192) rfl) rfl
theorem k_193 : Cond.methodLink R_BV 72 y_Lg_block ∈ gt := gt_of (List.mem_of_getElem? (i := 193) (by decide +kernel)) rfl
theorem k_194 : Cond.instanceMethod y_Lg_block ∈ gt := gt_of (List.mem_of_getElem? (i := 194) (by decide +kernel)) rfl
theorem k_195 : Cond.selects R_Lg y_Lg_block y_Lg_block ∈ gt := gt_of (List.mem_of_getElem? (i := 195) (by decide +kernel)) rfl
set_option maxRecDepth 20000 in
theorem k_196 : Cond.code y_Lg_block b_Lg_block 2 (some (.array .byte)) ∈ gt := gt_of (List.mem_of_getElem? (i := 196) rfl) rfl
theorem k_197 : Cond.methodLink R_Lg 44 y_Ca_take ∈ gt := gt_of (List.mem_of_getElem? (i := 197) (by decide +kernel)) rfl
theorem k_198 : Cond.instanceMethod y_Ca_take ∈ gt := gt_of (List.mem_of_getElem? (i := 198) (by decide +kernel)) rfl
theorem k_199 : Cond.selects R_Ca y_Ca_take y_Ca_take ∈ gt := gt_of (List.mem_of_getElem? (i := 199) (by decide +kernel)) rfl
set_option maxRecDepth 20000 in
theorem k_200 : Cond.code y_Ca_take b_Ca_take 3 (some .int) ∈ gt := gt_of (List.mem_of_getElem? (i := 200) rfl) rfl
theorem k_201 : Cond.methodLink R_Ca 39 y_Ca_find ∈ gt := gt_of (List.mem_of_getElem? (i := 201) (by decide +kernel)) rfl
theorem k_202 : Cond.methodLink R_Ca 43 y_Ca_victim ∈ gt := gt_of (List.mem_of_getElem? (i := 202) (by decide +kernel)) rfl
theorem k_204 : Cond.instanceMethod y_Ca_victim ∈ gt := gt_of (List.mem_of_getElem? (i := 204) (by decide +kernel)) rfl
set_option maxRecDepth 20000 in
theorem k_205 : Cond.code y_Ca_victim b_Ca_victim 2 (some .int) ∈ gt := gt_of (List.mem_of_getElem? (i := 205) rfl) rfl
theorem k_206 : Cond.methodLink R_Ca 47 y_Pl_read ∈ gt := gt_of (List.mem_of_getElem? (i := 206) (by decide +kernel)) rfl
theorem k_207 : Cond.instanceMethod y_Pl_read ∈ gt := gt_of (List.mem_of_getElem? (i := 207) (by decide +kernel)) rfl
theorem k_208 : Cond.selects R_Pl y_Pl_read y_Pl_read ∈ gt := gt_of (List.mem_of_getElem? (i := 208) (by decide +kernel)) rfl
set_option maxRecDepth 20000 in
theorem k_209 : Cond.code y_Pl_read b_Pl_read 3 none ∈ gt := gt_of (List.mem_of_getElem? (i := 209) rfl) rfl
theorem k_210 : Cond.methodLink R_Ca 55 y_Ca_use ∈ gt := gt_of (List.mem_of_getElem? (i := 210) (by decide +kernel)) rfl
theorem k_212 : Cond.instanceMethod y_Ca_use ∈ gt := gt_of (List.mem_of_getElem? (i := 212) (by decide +kernel)) rfl
set_option maxRecDepth 20000 in
theorem k_213 : Cond.code y_Ca_use b_Ca_use 2 none ∈ gt := gt_of (List.mem_of_getElem? (i := 213) rfl) rfl
theorem k_214 : Cond.methodLink R_law 40 y_BV_fill ∈ gt := gt_of (List.mem_of_getElem? (i := 214) (by decide +kernel)) rfl
theorem k_215 : Cond.instanceMethod y_BV_fill ∈ gt := gt_of (List.mem_of_getElem? (i := 215) (by decide +kernel)) rfl
theorem k_216 : Cond.selects R_BV y_BV_fill y_BV_fill ∈ gt := gt_of (List.mem_of_getElem? (i := 216) (by decide +kernel)) rfl
set_option maxRecDepth 20000 in
theorem k_217 : Cond.code y_BV_fill b_BV_fill 7 (some .boolean) ∈ gt := gt_of (List.mem_of_getElem? (i := 217) rfl) rfl
theorem k_218 : Cond.methodLink R_BV 76 y_Lg_mayTouch ∈ gt := gt_of (List.mem_of_getElem? (i := 218) (by decide +kernel)) rfl
theorem k_219 : Cond.instanceMethod y_Lg_mayTouch ∈ gt := gt_of (List.mem_of_getElem? (i := 219) (by decide +kernel)) rfl
theorem k_220 : Cond.selects R_Lg y_Lg_mayTouch y_Lg_mayTouch ∈ gt := gt_of (List.mem_of_getElem? (i := 220) (by decide +kernel)) rfl
set_option maxRecDepth 20000 in
theorem k_221 : Cond.code y_Lg_mayTouch b_Lg_mayTouch 2 (some .boolean) ∈ gt := gt_of (List.mem_of_getElem? (i := 221) rfl) rfl
theorem k_222 : Cond.methodLink R_BV 79 y_Lg_touch ∈ gt := gt_of (List.mem_of_getElem? (i := 222) (by decide +kernel)) rfl
theorem k_223 : Cond.instanceMethod y_Lg_touch ∈ gt := gt_of (List.mem_of_getElem? (i := 223) (by decide +kernel)) rfl
theorem k_224 : Cond.selects R_Lg y_Lg_touch y_Lg_touch ∈ gt := gt_of (List.mem_of_getElem? (i := 224) (by decide +kernel)) rfl
set_option maxRecDepth 20000 in
theorem k_225 : Cond.code y_Lg_touch b_Lg_touch 3 none ∈ gt := gt_of (List.mem_of_getElem? (i := 225) rfl) rfl
theorem k_226 : Cond.methodLink R_law 45 y_BV_cut ∈ gt := gt_of (List.mem_of_getElem? (i := 226) (by decide +kernel)) rfl
theorem k_227 : Cond.instanceMethod y_BV_cut ∈ gt := gt_of (List.mem_of_getElem? (i := 227) (by decide +kernel)) rfl
theorem k_228 : Cond.selects R_BV y_BV_cut y_BV_cut ∈ gt := gt_of (List.mem_of_getElem? (i := 228) (by decide +kernel)) rfl
set_option maxRecDepth 20000 in
theorem k_229 : Cond.code y_BV_cut b_BV_cut 2 (some .boolean) ∈ gt := gt_of (List.mem_of_getElem? (i := 229) rfl) rfl
theorem k_230 : Cond.methodLink R_law 50 y_BV_power ∈ gt := gt_of (List.mem_of_getElem? (i := 230) (by decide +kernel)) rfl
theorem k_231 : Cond.instanceMethod y_BV_power ∈ gt := gt_of (List.mem_of_getElem? (i := 231) (by decide +kernel)) rfl
theorem k_232 : Cond.selects R_BV y_BV_power y_BV_power ∈ gt := gt_of (List.mem_of_getElem? (i := 232) (by decide +kernel)) rfl
set_option maxRecDepth 20000 in
theorem k_233 : Cond.code y_BV_power b_BV_power 3 (some .int) ∈ gt := gt_of (List.mem_of_getElem? (i := 233) rfl) rfl
theorem k_234 : Cond.methodLink R_BV 85 y_Lg_recover ∈ gt := gt_of (List.mem_of_getElem? (i := 234) (by decide +kernel)) rfl
theorem k_235 : Cond.instanceMethod y_Lg_recover ∈ gt := gt_of (List.mem_of_getElem? (i := 235) (by decide +kernel)) rfl
theorem k_236 : Cond.selects R_Lg y_Lg_recover y_Lg_recover ∈ gt := gt_of (List.mem_of_getElem? (i := 236) (by decide +kernel)) rfl
set_option maxRecDepth 20000 in
theorem k_237 : Cond.code y_Lg_recover b_Lg_recover 3 (some .int) ∈ gt := gt_of (List.mem_of_getElem? (i := 237) rfl) rfl
theorem k_238 : Cond.methodLink R_Lg 85 y_Ca_clear ∈ gt := gt_of (List.mem_of_getElem? (i := 238) (by decide +kernel)) rfl
theorem k_239 : Cond.methodLink R_Lg 88 y_Pl_read ∈ gt := gt_of (List.mem_of_getElem? (i := 239) (by decide +kernel)) rfl
theorem k_240 : Cond.methodLink R_Lg 91 y_Lg_get ∈ gt := gt_of (List.mem_of_getElem? (i := 240) (by decide +kernel)) rfl
theorem k_241 : Cond.static y_Lg_get ∈ gt := gt_of (List.mem_of_getElem? (i := 241) (by decide +kernel)) rfl
set_option maxRecDepth 20000 in
theorem k_242 : Cond.code y_Lg_get b_Lg_get 4 (some .int) ∈ gt := gt_of (List.mem_of_getElem? (i := 242) rfl) rfl
theorem k_243 : Cond.methodLink R_law 55 y_BV_count ∈ gt := gt_of (List.mem_of_getElem? (i := 243) (by decide +kernel)) rfl
theorem k_244 : Cond.instanceMethod y_BV_count ∈ gt := gt_of (List.mem_of_getElem? (i := 244) (by decide +kernel)) rfl
theorem k_245 : Cond.selects R_BV y_BV_count y_BV_count ∈ gt := gt_of (List.mem_of_getElem? (i := 245) (by decide +kernel)) rfl
set_option maxRecDepth 20000 in
theorem k_246 : Cond.code y_BV_count b_BV_count 2 (some .int) ∈ gt := gt_of (List.mem_of_getElem? (i := 246) rfl) rfl
theorem k_247 : Cond.methodLink R_law 59 y_BV_held ∈ gt := gt_of (List.mem_of_getElem? (i := 247) (by decide +kernel)) rfl
theorem k_248 : Cond.instanceMethod y_BV_held ∈ gt := gt_of (List.mem_of_getElem? (i := 248) (by decide +kernel)) rfl
theorem k_249 : Cond.selects R_BV y_BV_held y_BV_held ∈ gt := gt_of (List.mem_of_getElem? (i := 249) (by decide +kernel)) rfl
set_option maxRecDepth 20000 in
theorem k_250 : Cond.code y_BV_held b_BV_held 2 (some .boolean) ∈ gt := gt_of (List.mem_of_getElem? (i := 250) rfl) rfl
theorem k_251 : Cond.methodLink R_BV 101 y_Ca_find ∈ gt := gt_of (List.mem_of_getElem? (i := 251) (by decide +kernel)) rfl
theorem k_252 : Cond.methodLink R_law 63 y_BV_cached ∈ gt := gt_of (List.mem_of_getElem? (i := 252) (by decide +kernel)) rfl
theorem k_253 : Cond.instanceMethod y_BV_cached ∈ gt := gt_of (List.mem_of_getElem? (i := 253) (by decide +kernel)) rfl
theorem k_254 : Cond.selects R_BV y_BV_cached y_BV_cached ∈ gt := gt_of (List.mem_of_getElem? (i := 254) (by decide +kernel)) rfl
set_option maxRecDepth 20000 in
theorem k_255 : Cond.code y_BV_cached b_BV_cached 2 (some .boolean) ∈ gt := gt_of (List.mem_of_getElem? (i := 255) rfl) rfl
theorem k_256 : Cond.methodLink R_law 9 y_law_cell ∈ gt := gt_of (List.mem_of_getElem? (i := 256) (by decide +kernel)) rfl
theorem k_257 : Cond.static y_law_cell ∈ gt := gt_of (List.mem_of_getElem? (i := 257) (by decide +kernel)) rfl
set_option maxRecDepth 20000 in
theorem k_258 : Cond.code y_law_cell b_law_cell 2 (some .int) ∈ gt := gt_of (List.mem_of_getElem? (i := 258) rfl) rfl
theorem k_259 : Cond.classLink R_law 18 R_Md ∈ gt := gt_of (List.mem_of_getElem? (i := 259) (by decide +kernel)) rfl
theorem k_260 : Cond.instantiable R_Md 15 ∈ gt := gt_of (List.mem_of_getElem? (i := 260) (by decide +kernel)) rfl
theorem k_261 : Cond.methodLink R_law 20 y_Md_init ∈ gt := gt_of (List.mem_of_getElem? (i := 261) (by decide +kernel)) rfl
theorem k_262 : Cond.instanceMethod y_Md_init ∈ gt := gt_of (List.mem_of_getElem? (i := 262) (by decide +kernel)) rfl
set_option maxRecDepth 20000 in
theorem k_263 : Cond.code y_Md_init b_Md_init 2 none ∈ gt := gt_of (List.mem_of_getElem? (i := 263) rfl) rfl
theorem k_264 : Cond.methodLink R_Md 1 objectInit ∈ gt := gt_of (List.mem_of_getElem? (i := 264) (by decide +kernel)) rfl
theorem k_265 : Cond.constant R_Md 7 81920 ∈ gt := gt_of (List.mem_of_getElem? (i := 265) (by decide +kernel)) rfl
theorem k_266 : Cond.fieldLink R_Md 42 R_Md "thrown" "I" ∈ gt := gt_of (List.mem_of_getElem? (i := 266) (by decide +kernel)) rfl
theorem k_267 : Cond.fieldLink R_Md 39 R_Md "blocks" "I" ∈ gt := gt_of (List.mem_of_getElem? (i := 267) (by decide +kernel)) rfl
theorem k_268 : Cond.fieldLink R_Md 8 R_Md "safe" "[B" ∈ gt := gt_of (List.mem_of_getElem? (i := 268) (by decide +kernel)) rfl
theorem k_269 : Cond.fieldLink R_Md 14 R_Md "now" "[B" ∈ gt := gt_of (List.mem_of_getElem? (i := 269) (by decide +kernel)) rfl
theorem k_270 : Cond.fieldLink R_Md 17 R_Md "held" "[Z" ∈ gt := gt_of (List.mem_of_getElem? (i := 270) (by decide +kernel)) rfl
theorem k_271 : Cond.fieldLink R_Md 21 R_Md "changed" "[Z" ∈ gt := gt_of (List.mem_of_getElem? (i := 271) (by decide +kernel)) rfl
theorem k_272 : Cond.fieldLink R_Md 24 R_Md "stamp" "[I" ∈ gt := gt_of (List.mem_of_getElem? (i := 272) (by decide +kernel)) rfl
theorem k_273 : Cond.fieldLink R_Md 72 R_Md "time" "I" ∈ gt := gt_of (List.mem_of_getElem? (i := 273) (by decide +kernel)) rfl
theorem k_274 : Cond.fieldLink R_Md 28 R_Md "on" "Z" ∈ gt := gt_of (List.mem_of_getElem? (i := 274) (by decide +kernel)) rfl
theorem k_275 : Cond.fieldLink R_Md 45 R_Md "open" "Z" ∈ gt := gt_of (List.mem_of_getElem? (i := 275) (by decide +kernel)) rfl
theorem k_276 : Cond.fieldLink R_Md 32 R_Md "left" "I" ∈ gt := gt_of (List.mem_of_getElem? (i := 276) (by decide +kernel)) rfl
theorem k_277 : Cond.fieldLink R_Md 48 R_Md "writes" "I" ∈ gt := gt_of (List.mem_of_getElem? (i := 277) (by decide +kernel)) rfl
theorem k_278 : Cond.fieldLink R_Md 69 R_Md "reads" "I" ∈ gt := gt_of (List.mem_of_getElem? (i := 278) (by decide +kernel)) rfl
theorem k_279 : Cond.fieldLink R_Md 59 R_Md "commits" "I" ∈ gt := gt_of (List.mem_of_getElem? (i := 279) (by decide +kernel)) rfl
theorem k_280 : Cond.fieldLink R_Md 36 R_Md "unended" "I" ∈ gt := gt_of (List.mem_of_getElem? (i := 280) (by decide +kernel)) rfl
theorem k_281 : Cond.lays R_Md R_Md "thrown" "I" ∈ gt := gt_of (List.mem_of_getElem? (i := 281) (by decide +kernel)) rfl
theorem k_283 : Cond.laysFinal R_Md R_Md "blocks" "I" ∈ gt := gt_of (List.mem_of_getElem? (i := 283) (by decide +kernel)) rfl
theorem k_285 : Cond.laysFinal R_Md R_Md "safe" "[B" ∈ gt := gt_of (List.mem_of_getElem? (i := 285) (by decide +kernel)) rfl
theorem k_287 : Cond.laysFinal R_Md R_Md "now" "[B" ∈ gt := gt_of (List.mem_of_getElem? (i := 287) (by decide +kernel)) rfl
theorem k_289 : Cond.laysFinal R_Md R_Md "held" "[Z" ∈ gt := gt_of (List.mem_of_getElem? (i := 289) (by decide +kernel)) rfl
theorem k_291 : Cond.laysFinal R_Md R_Md "changed" "[Z" ∈ gt := gt_of (List.mem_of_getElem? (i := 291) (by decide +kernel)) rfl
theorem k_293 : Cond.laysFinal R_Md R_Md "stamp" "[I" ∈ gt := gt_of (List.mem_of_getElem? (i := 293) (by decide +kernel)) rfl
theorem k_295 : Cond.lays R_Md R_Md "time" "I" ∈ gt := gt_of (List.mem_of_getElem? (i := 295) (by decide +kernel)) rfl
theorem k_297 : Cond.lays R_Md R_Md "on" "Z" ∈ gt := gt_of (List.mem_of_getElem? (i := 297) (by decide +kernel)) rfl
theorem k_299 : Cond.lays R_Md R_Md "open" "Z" ∈ gt := gt_of (List.mem_of_getElem? (i := 299) (by decide +kernel)) rfl
theorem k_301 : Cond.lays R_Md R_Md "left" "I" ∈ gt := gt_of (List.mem_of_getElem? (i := 301) (by decide +kernel)) rfl
theorem k_303 : Cond.lays R_Md R_Md "writes" "I" ∈ gt := gt_of (List.mem_of_getElem? (i := 303) (by decide +kernel)) rfl
theorem k_305 : Cond.lays R_Md R_Md "reads" "I" ∈ gt := gt_of (List.mem_of_getElem? (i := 305) (by decide +kernel)) rfl
theorem k_307 : Cond.lays R_Md R_Md "commits" "I" ∈ gt := gt_of (List.mem_of_getElem? (i := 307) (by decide +kernel)) rfl
theorem k_309 : Cond.lays R_Md R_Md "unended" "I" ∈ gt := gt_of (List.mem_of_getElem? (i := 309) (by decide +kernel)) rfl
theorem k_312 : Cond.methodLink R_law 25 y_Md_begin ∈ gt := gt_of (List.mem_of_getElem? (i := 312) (by decide +kernel)) rfl
theorem k_313 : Cond.instanceMethod y_Md_begin ∈ gt := gt_of (List.mem_of_getElem? (i := 313) (by decide +kernel)) rfl
theorem k_314 : Cond.selects R_Md y_Md_begin y_Md_begin ∈ gt := gt_of (List.mem_of_getElem? (i := 314) (by decide +kernel)) rfl
set_option maxRecDepth 20000 in
theorem k_315 : Cond.code y_Md_begin b_Md_begin 2 (some .boolean) ∈ gt := gt_of (List.mem_of_getElem? (i := 315) rfl) rfl
theorem k_316 : Cond.methodLink R_law 30 y_Md_end ∈ gt := gt_of (List.mem_of_getElem? (i := 316) (by decide +kernel)) rfl
theorem k_317 : Cond.instanceMethod y_Md_end ∈ gt := gt_of (List.mem_of_getElem? (i := 317) (by decide +kernel)) rfl
theorem k_318 : Cond.selects R_Md y_Md_end y_Md_end ∈ gt := gt_of (List.mem_of_getElem? (i := 318) (by decide +kernel)) rfl
set_option maxRecDepth 20000 in
theorem k_319 : Cond.code y_Md_end b_Md_end 2 (some .int) ∈ gt := gt_of (List.mem_of_getElem? (i := 319) rfl) rfl
theorem k_320 : Cond.methodLink R_Md 51 y_Md_many ∈ gt := gt_of (List.mem_of_getElem? (i := 320) (by decide +kernel)) rfl
theorem k_321 : Cond.static y_Md_many ∈ gt := gt_of (List.mem_of_getElem? (i := 321) (by decide +kernel)) rfl
set_option maxRecDepth 20000 in
theorem k_322 : Cond.code y_Md_many b_Md_many 3 (some .int) ∈ gt := gt_of (List.mem_of_getElem? (i := 322) rfl) rfl
theorem k_323 : Cond.methodLink R_Md 66 y_Md_commit ∈ gt := gt_of (List.mem_of_getElem? (i := 323) (by decide +kernel)) rfl
theorem k_325 : Cond.instanceMethod y_Md_commit ∈ gt := gt_of (List.mem_of_getElem? (i := 325) (by decide +kernel)) rfl
set_option maxRecDepth 20000 in
theorem k_326 : Cond.code y_Md_commit b_Md_commit 4 (some .boolean) ∈ gt := gt_of (List.mem_of_getElem? (i := 326) rfl) rfl
theorem k_327 : Cond.methodLink R_Md 55 y_Md_written ∈ gt := gt_of (List.mem_of_getElem? (i := 327) (by decide +kernel)) rfl
theorem k_329 : Cond.instanceMethod y_Md_written ∈ gt := gt_of (List.mem_of_getElem? (i := 329) (by decide +kernel)) rfl
set_option maxRecDepth 20000 in
theorem k_330 : Cond.code y_Md_written b_Md_written 2 (some .boolean) ∈ gt := gt_of (List.mem_of_getElem? (i := 330) rfl) rfl
theorem k_331 : Cond.methodLink R_Md 62 y_Md_ended ∈ gt := gt_of (List.mem_of_getElem? (i := 331) (by decide +kernel)) rfl
theorem k_333 : Cond.instanceMethod y_Md_ended ∈ gt := gt_of (List.mem_of_getElem? (i := 333) (by decide +kernel)) rfl
set_option maxRecDepth 20000 in
theorem k_334 : Cond.code y_Md_ended b_Md_ended 2 (some .boolean) ∈ gt := gt_of (List.mem_of_getElem? (i := 334) rfl) rfl
theorem k_335 : Cond.methodLink R_law 34 y_Md_flush ∈ gt := gt_of (List.mem_of_getElem? (i := 335) (by decide +kernel)) rfl
theorem k_336 : Cond.instanceMethod y_Md_flush ∈ gt := gt_of (List.mem_of_getElem? (i := 336) (by decide +kernel)) rfl
theorem k_337 : Cond.selects R_Md y_Md_flush y_Md_flush ∈ gt := gt_of (List.mem_of_getElem? (i := 337) (by decide +kernel)) rfl
set_option maxRecDepth 20000 in
theorem k_338 : Cond.code y_Md_flush b_Md_flush 2 (some .int) ∈ gt := gt_of (List.mem_of_getElem? (i := 338) rfl) rfl
theorem k_339 : Cond.methodLink R_law 39 y_Md_get ∈ gt := gt_of (List.mem_of_getElem? (i := 339) (by decide +kernel)) rfl
theorem k_340 : Cond.instanceMethod y_Md_get ∈ gt := gt_of (List.mem_of_getElem? (i := 340) (by decide +kernel)) rfl
theorem k_341 : Cond.selects R_Md y_Md_get y_Md_get ∈ gt := gt_of (List.mem_of_getElem? (i := 341) (by decide +kernel)) rfl
set_option maxRecDepth 20000 in
theorem k_342 : Cond.code y_Md_get b_Md_get 3 (some .int) ∈ gt := gt_of (List.mem_of_getElem? (i := 342) rfl) rfl
theorem k_343 : Cond.methodLink R_Md 75 y_Md_isBlock ∈ gt := gt_of (List.mem_of_getElem? (i := 343) (by decide +kernel)) rfl
theorem k_345 : Cond.instanceMethod y_Md_isBlock ∈ gt := gt_of (List.mem_of_getElem? (i := 345) (by decide +kernel)) rfl
set_option maxRecDepth 20000 in
theorem k_346 : Cond.code y_Md_isBlock b_Md_isBlock 2 (some .boolean) ∈ gt := gt_of (List.mem_of_getElem? (i := 346) rfl) rfl
theorem k_347 : Cond.methodLink R_Md 78 y_Md_look ∈ gt := gt_of (List.mem_of_getElem? (i := 347) (by decide +kernel)) rfl
theorem k_349 : Cond.instanceMethod y_Md_look ∈ gt := gt_of (List.mem_of_getElem? (i := 349) (by decide +kernel)) rfl
set_option maxRecDepth 20000 in
theorem k_350 : Cond.code y_Md_look b_Md_look 5 none ∈ gt := gt_of (List.mem_of_getElem? (i := 350) rfl) rfl
theorem k_351 : Cond.methodLink R_law 44 y_Md_fill ∈ gt := gt_of (List.mem_of_getElem? (i := 351) (by decide +kernel)) rfl
theorem k_352 : Cond.instanceMethod y_Md_fill ∈ gt := gt_of (List.mem_of_getElem? (i := 352) (by decide +kernel)) rfl
theorem k_353 : Cond.selects R_Md y_Md_fill y_Md_fill ∈ gt := gt_of (List.mem_of_getElem? (i := 353) (by decide +kernel)) rfl
set_option maxRecDepth 20000 in
theorem k_354 : Cond.code y_Md_fill b_Md_fill 6 (some .boolean) ∈ gt := gt_of (List.mem_of_getElem? (i := 354) rfl) rfl
theorem k_355 : Cond.methodLink R_law 49 y_Md_cut ∈ gt := gt_of (List.mem_of_getElem? (i := 355) (by decide +kernel)) rfl
theorem k_356 : Cond.instanceMethod y_Md_cut ∈ gt := gt_of (List.mem_of_getElem? (i := 356) (by decide +kernel)) rfl
theorem k_357 : Cond.selects R_Md y_Md_cut y_Md_cut ∈ gt := gt_of (List.mem_of_getElem? (i := 357) (by decide +kernel)) rfl
set_option maxRecDepth 20000 in
theorem k_358 : Cond.code y_Md_cut b_Md_cut 2 (some .boolean) ∈ gt := gt_of (List.mem_of_getElem? (i := 358) rfl) rfl
theorem k_359 : Cond.methodLink R_law 54 y_Md_power ∈ gt := gt_of (List.mem_of_getElem? (i := 359) (by decide +kernel)) rfl
theorem k_360 : Cond.instanceMethod y_Md_power ∈ gt := gt_of (List.mem_of_getElem? (i := 360) (by decide +kernel)) rfl
theorem k_361 : Cond.selects R_Md y_Md_power y_Md_power ∈ gt := gt_of (List.mem_of_getElem? (i := 361) (by decide +kernel)) rfl
set_option maxRecDepth 20000 in
theorem k_362 : Cond.code y_Md_power b_Md_power 3 (some .int) ∈ gt := gt_of (List.mem_of_getElem? (i := 362) rfl) rfl
theorem k_363 : Cond.methodLink R_law 58 y_Md_count ∈ gt := gt_of (List.mem_of_getElem? (i := 363) (by decide +kernel)) rfl
theorem k_364 : Cond.instanceMethod y_Md_count ∈ gt := gt_of (List.mem_of_getElem? (i := 364) (by decide +kernel)) rfl
theorem k_365 : Cond.selects R_Md y_Md_count y_Md_count ∈ gt := gt_of (List.mem_of_getElem? (i := 365) (by decide +kernel)) rfl
set_option maxRecDepth 20000 in
theorem k_366 : Cond.code y_Md_count b_Md_count 2 (some .int) ∈ gt := gt_of (List.mem_of_getElem? (i := 366) rfl) rfl
theorem k_367 : Cond.methodLink R_law 62 y_Md_held ∈ gt := gt_of (List.mem_of_getElem? (i := 367) (by decide +kernel)) rfl
theorem k_368 : Cond.instanceMethod y_Md_held ∈ gt := gt_of (List.mem_of_getElem? (i := 368) (by decide +kernel)) rfl
theorem k_369 : Cond.selects R_Md y_Md_held y_Md_held ∈ gt := gt_of (List.mem_of_getElem? (i := 369) (by decide +kernel)) rfl
set_option maxRecDepth 20000 in
theorem k_370 : Cond.code y_Md_held b_Md_held 2 (some .boolean) ∈ gt := gt_of (List.mem_of_getElem? (i := 370) rfl) rfl
theorem k_371 : Cond.methodLink R_law 66 y_Md_cached ∈ gt := gt_of (List.mem_of_getElem? (i := 371) (by decide +kernel)) rfl
theorem k_372 : Cond.instanceMethod y_Md_cached ∈ gt := gt_of (List.mem_of_getElem? (i := 372) (by decide +kernel)) rfl
theorem k_373 : Cond.selects R_Md y_Md_cached y_Md_cached ∈ gt := gt_of (List.mem_of_getElem? (i := 373) (by decide +kernel)) rfl
set_option maxRecDepth 20000 in
theorem k_374 : Cond.code y_Md_cached b_Md_cached 2 (some .boolean) ∈ gt := gt_of (List.mem_of_getElem? (i := 374) rfl) rfl
theorem s_Lg_writeHeader : Cond.selects R_Lg y_Lg_writeHeader y_Lg_writeHeader ∈ gt := gt_pv (y := y_Lg_writeHeader) (n := 10) (List.mem_of_getElem? (i := 0) (by decide +kernel))
theorem s_BV_isBlock : Cond.selects R_BV y_BV_isBlock y_BV_isBlock ∈ gt := gt_pv (y := y_BV_isBlock) (n := 3) (List.mem_of_getElem? (i := 1) (by decide +kernel))
theorem s_Ca_victim : Cond.selects R_Ca y_Ca_victim y_Ca_victim ∈ gt := gt_pv (y := y_Ca_victim) (n := 7) (List.mem_of_getElem? (i := 2) (by decide +kernel))
theorem s_Ca_use : Cond.selects R_Ca y_Ca_use y_Ca_use ∈ gt := gt_pv (y := y_Ca_use) (n := 7) (List.mem_of_getElem? (i := 3) (by decide +kernel))
theorem s_Md_commit : Cond.selects R_Md y_Md_commit y_Md_commit ∈ gt := gt_pv (y := y_Md_commit) (n := 15) (List.mem_of_getElem? (i := 4) (by decide +kernel))
theorem s_Md_written : Cond.selects R_Md y_Md_written y_Md_written ∈ gt := gt_pv (y := y_Md_written) (n := 15) (List.mem_of_getElem? (i := 5) (by decide +kernel))
theorem s_Md_ended : Cond.selects R_Md y_Md_ended y_Md_ended ∈ gt := gt_pv (y := y_Md_ended) (n := 15) (List.mem_of_getElem? (i := 6) (by decide +kernel))
theorem s_Md_isBlock : Cond.selects R_Md y_Md_isBlock y_Md_isBlock ∈ gt := gt_pv (y := y_Md_isBlock) (n := 15) (List.mem_of_getElem? (i := 7) (by decide +kernel))
theorem s_Md_look : Cond.selects R_Md y_Md_look y_Md_look ∈ gt := gt_pv (y := y_Md_look) (n := 15) (List.mem_of_getElem? (i := 8) (by decide +kernel))
theorem in_BV : ∀ w ∈ u_ws R_BV F_BV 3, w ∈ gt := by
  intro w hw
  obtain ⟨k, hk, rfl⟩ := List.mem_map.mp hw
  have hk := List.mem_range.mp hk
  match k, hk with
  | 0, _ => exact k_135
  | 1, _ => exact k_137
  | 2, _ => exact k_139
  | k + 3, hk => exact absurd hk (by omega)
theorem n_BV : ∀ a, a < 3 → ∀ b, b < 3 → a ≠ b → (F_BV a).2.1 ≠ (F_BV b).2.1 := by decide +kernel
theorem t_BV_ok : ∀ k, k < 3 → parseFieldDescriptor (F_BV k).2.2.1 = some (t_BV k) := by decide +kernel
theorem in_Pl : ∀ w ∈ u_ws R_Pl F_Pl 5, w ∈ gt := by
  intro w hw
  obtain ⟨k, hk, rfl⟩ := List.mem_map.mp hw
  have hk := List.mem_range.mp hk
  match k, hk with
  | 0, _ => exact k_39
  | 1, _ => exact k_41
  | 2, _ => exact k_43
  | 3, _ => exact k_45
  | 4, _ => exact k_47
  | k + 5, hk => exact absurd hk (by omega)
theorem n_Pl : ∀ a, a < 5 → ∀ b, b < 5 → a ≠ b → (F_Pl a).2.1 ≠ (F_Pl b).2.1 := by decide +kernel
theorem t_Pl_ok : ∀ k, k < 5 → parseFieldDescriptor (F_Pl k).2.2.1 = some (t_Pl k) := by decide +kernel
theorem in_Ca : ∀ w ∈ u_ws R_Ca F_Ca 7, w ∈ gt := by
  intro w hw
  obtain ⟨k, hk, rfl⟩ := List.mem_map.mp hw
  have hk := List.mem_range.mp hk
  match k, hk with
  | 0, _ => exact k_74
  | 1, _ => exact k_76
  | 2, _ => exact k_78
  | 3, _ => exact k_80
  | 4, _ => exact k_82
  | 5, _ => exact k_84
  | 6, _ => exact k_86
  | k + 7, hk => exact absurd hk (by omega)
theorem n_Ca : ∀ a, a < 7 → ∀ b, b < 7 → a ≠ b → (F_Ca a).2.1 ≠ (F_Ca b).2.1 := by decide +kernel
theorem t_Ca_ok : ∀ k, k < 7 → parseFieldDescriptor (F_Ca k).2.2.1 = some (t_Ca k) := by decide +kernel
theorem in_Lg : ∀ w ∈ u_ws R_Lg F_Lg 10, w ∈ gt := by
  intro w hw
  obtain ⟨k, hk, rfl⟩ := List.mem_map.mp hw
  have hk := List.mem_range.mp hk
  match k, hk with
  | 0, _ => exact k_111
  | 1, _ => exact k_113
  | 2, _ => exact k_115
  | 3, _ => exact k_117
  | 4, _ => exact k_119
  | 5, _ => exact k_121
  | 6, _ => exact k_123
  | 7, _ => exact k_125
  | 8, _ => exact k_127
  | 9, _ => exact k_129
  | k + 10, hk => exact absurd hk (by omega)
theorem n_Lg : ∀ a, a < 10 → ∀ b, b < 10 → a ≠ b → (F_Lg a).2.1 ≠ (F_Lg b).2.1 := by decide +kernel
theorem t_Lg_ok : ∀ k, k < 10 → parseFieldDescriptor (F_Lg k).2.2.1 = some (t_Lg k) := by decide +kernel
theorem in_Md : ∀ w ∈ u_ws R_Md F_Md 15, w ∈ gt := by
  intro w hw
  obtain ⟨k, hk, rfl⟩ := List.mem_map.mp hw
  have hk := List.mem_range.mp hk
  match k, hk with
  | 0, _ => exact k_281
  | 1, _ => exact k_283
  | 2, _ => exact k_285
  | 3, _ => exact k_287
  | 4, _ => exact k_289
  | 5, _ => exact k_291
  | 6, _ => exact k_293
  | 7, _ => exact k_295
  | 8, _ => exact k_297
  | 9, _ => exact k_299
  | 10, _ => exact k_301
  | 11, _ => exact k_303
  | 12, _ => exact k_305
  | 13, _ => exact k_307
  | 14, _ => exact k_309
  | k + 15, hk => exact absurd hk (by omega)
theorem n_Md : ∀ a, a < 15 → ∀ b, b < 15 → a ≠ b → (F_Md a).2.1 ≠ (F_Md b).2.1 := by decide +kernel
theorem t_Md_ok : ∀ k, k < 15 → parseFieldDescriptor (F_Md k).2.2.1 = some (t_Md k) := by decide +kernel
end
section
theorem d_Ca_init_0 : decode b_Ca_init 0 = .ok (.aload_n 0, 1) := by decide +kernel
theorem d_Ca_init_1 : decode b_Ca_init 1 = .ok (.invokespecial 3, 3) := by decide +kernel
theorem d_Ca_init_4 : decode b_Ca_init 4 = .ok (.aload_n 0, 1) := by decide +kernel
theorem d_Ca_init_5 : decode b_Ca_init 5 = .ok (.bipush 34, 2) := by decide +kernel
theorem d_Ca_init_7 : decode b_Ca_init 7 = .ok (.sipush 1024, 3) := by decide +kernel
theorem d_Ca_init_10 : decode b_Ca_init 10 = .ok (.multianewarray 13 2, 4) := by decide +kernel
theorem d_Ca_init_14 : decode b_Ca_init 14 = .ok (.putfield 15, 3) := by decide +kernel
theorem d_Ca_init_17 : decode b_Ca_init 17 = .ok (.aload_n 0, 1) := by decide +kernel
theorem d_Ca_init_18 : decode b_Ca_init 18 = .ok (.bipush 34, 2) := by decide +kernel
theorem d_Ca_init_20 : decode b_Ca_init 20 = .ok (.newarray .int, 2) := by decide +kernel
theorem d_Ca_init_22 : decode b_Ca_init 22 = .ok (.putfield 18, 3) := by decide +kernel
theorem d_Ca_init_25 : decode b_Ca_init 25 = .ok (.aload_n 0, 1) := by decide +kernel
theorem d_Ca_init_26 : decode b_Ca_init 26 = .ok (.bipush 34, 2) := by decide +kernel
theorem d_Ca_init_28 : decode b_Ca_init 28 = .ok (.newarray .boolean, 2) := by decide +kernel
theorem d_Ca_init_30 : decode b_Ca_init 30 = .ok (.putfield 22, 3) := by decide +kernel
theorem d_Ca_init_33 : decode b_Ca_init 33 = .ok (.aload_n 0, 1) := by decide +kernel
theorem d_Ca_init_34 : decode b_Ca_init 34 = .ok (.bipush 35, 2) := by decide +kernel
theorem d_Ca_init_36 : decode b_Ca_init 36 = .ok (.newarray .int, 2) := by decide +kernel
theorem d_Ca_init_38 : decode b_Ca_init 38 = .ok (.putfield 26, 3) := by decide +kernel
theorem d_Ca_init_41 : decode b_Ca_init 41 = .ok (.aload_n 0, 1) := by decide +kernel
theorem d_Ca_init_42 : decode b_Ca_init 42 = .ok (.bipush 35, 2) := by decide +kernel
theorem d_Ca_init_44 : decode b_Ca_init 44 = .ok (.newarray .int, 2) := by decide +kernel
theorem d_Ca_init_46 : decode b_Ca_init 46 = .ok (.putfield 29, 3) := by decide +kernel
theorem d_Ca_init_49 : decode b_Ca_init 49 = .ok (.aload_n 0, 1) := by decide +kernel
theorem d_Ca_init_50 : decode b_Ca_init 50 = .ok (.aload_n 1, 1) := by decide +kernel
theorem d_Ca_init_51 : decode b_Ca_init 51 = .ok (.putfield 32, 3) := by decide +kernel
theorem d_Ca_init_54 : decode b_Ca_init 54 = .ok (.iconst 0, 1) := by decide +kernel
theorem d_Ca_init_55 : decode b_Ca_init 55 = .ok (.istore_n 2, 1) := by decide +kernel
theorem d_Ca_init_56 : decode b_Ca_init 56 = .ok (.iload_n 2, 1) := by decide +kernel
theorem d_Ca_init_57 : decode b_Ca_init 57 = .ok (.bipush 34, 2) := by decide +kernel
theorem d_Ca_init_59 : decode b_Ca_init 59 = .ok (.if_icmp .gt 46, 3) := by decide +kernel
theorem d_Ca_init_62 : decode b_Ca_init 62 = .ok (.aload_n 0, 1) := by decide +kernel
theorem d_Ca_init_63 : decode b_Ca_init 63 = .ok (.getfield 26, 3) := by decide +kernel
theorem d_Ca_init_66 : decode b_Ca_init 66 = .ok (.iload_n 2, 1) := by decide +kernel
theorem d_Ca_init_67 : decode b_Ca_init 67 = .ok (.iload_n 2, 1) := by decide +kernel
theorem d_Ca_init_68 : decode b_Ca_init 68 = .ok (.bipush 34, 2) := by decide +kernel
theorem d_Ca_init_70 : decode b_Ca_init 70 = .ok (.if_icmp .ne 7, 3) := by decide +kernel
theorem d_Ca_init_73 : decode b_Ca_init 73 = .ok (.iconst 0, 1) := by decide +kernel
theorem d_Ca_init_74 : decode b_Ca_init 74 = .ok (.goto 6, 3) := by decide +kernel
theorem d_Ca_init_77 : decode b_Ca_init 77 = .ok (.iload_n 2, 1) := by decide +kernel
theorem d_Ca_init_78 : decode b_Ca_init 78 = .ok (.iconst 1, 1) := by decide +kernel
theorem d_Ca_init_79 : decode b_Ca_init 79 = .ok (.iadd, 1) := by decide +kernel
theorem d_Ca_init_80 : decode b_Ca_init 80 = .ok (.iastore, 1) := by decide +kernel
theorem d_Ca_init_81 : decode b_Ca_init 81 = .ok (.aload_n 0, 1) := by decide +kernel
theorem d_Ca_init_82 : decode b_Ca_init 82 = .ok (.getfield 29, 3) := by decide +kernel
theorem d_Ca_init_85 : decode b_Ca_init 85 = .ok (.iload_n 2, 1) := by decide +kernel
theorem d_Ca_init_86 : decode b_Ca_init 86 = .ok (.iload_n 2, 1) := by decide +kernel
theorem d_Ca_init_87 : decode b_Ca_init 87 = .ok (.ifCond .ne 8, 3) := by decide +kernel
theorem d_Ca_init_90 : decode b_Ca_init 90 = .ok (.bipush 34, 2) := by decide +kernel
theorem d_Ca_init_92 : decode b_Ca_init 92 = .ok (.goto 6, 3) := by decide +kernel
theorem d_Ca_init_95 : decode b_Ca_init 95 = .ok (.iload_n 2, 1) := by decide +kernel
theorem d_Ca_init_96 : decode b_Ca_init 96 = .ok (.iconst 1, 1) := by decide +kernel
theorem d_Ca_init_97 : decode b_Ca_init 97 = .ok (.isub, 1) := by decide +kernel
theorem d_Ca_init_98 : decode b_Ca_init 98 = .ok (.iastore, 1) := by decide +kernel
theorem d_Ca_init_99 : decode b_Ca_init 99 = .ok (.iinc 2 1, 3) := by decide +kernel
theorem d_Ca_init_102 : decode b_Ca_init 102 = .ok (.goto (-46), 3) := by decide +kernel
theorem d_Ca_init_105 : decode b_Ca_init 105 = .ok (.aload_n 0, 1) := by decide +kernel
theorem d_Ca_init_106 : decode b_Ca_init 106 = .ok (.invokevirtual 36, 3) := by decide +kernel
theorem d_Ca_init_109 : decode b_Ca_init 109 = .ok (.return_, 1) := by decide +kernel
theorem d_Ca_clear_0 : decode b_Ca_clear 0 = .ok (.iconst 0, 1) := by decide +kernel
theorem d_Ca_clear_1 : decode b_Ca_clear 1 = .ok (.istore_n 1, 1) := by decide +kernel
theorem d_Ca_clear_2 : decode b_Ca_clear 2 = .ok (.iload_n 1, 1) := by decide +kernel
theorem d_Ca_clear_3 : decode b_Ca_clear 3 = .ok (.bipush 34, 2) := by decide +kernel
theorem d_Ca_clear_5 : decode b_Ca_clear 5 = .ok (.if_icmp .ge 23, 3) := by decide +kernel
theorem d_Ca_clear_8 : decode b_Ca_clear 8 = .ok (.aload_n 0, 1) := by decide +kernel
theorem d_Ca_clear_9 : decode b_Ca_clear 9 = .ok (.getfield 18, 3) := by decide +kernel
theorem d_Ca_clear_12 : decode b_Ca_clear 12 = .ok (.iload_n 1, 1) := by decide +kernel
theorem d_Ca_clear_13 : decode b_Ca_clear 13 = .ok (.iconst (-1), 1) := by decide +kernel
theorem d_Ca_clear_14 : decode b_Ca_clear 14 = .ok (.iastore, 1) := by decide +kernel
theorem d_Ca_clear_15 : decode b_Ca_clear 15 = .ok (.aload_n 0, 1) := by decide +kernel
theorem d_Ca_clear_16 : decode b_Ca_clear 16 = .ok (.getfield 22, 3) := by decide +kernel
theorem d_Ca_clear_19 : decode b_Ca_clear 19 = .ok (.iload_n 1, 1) := by decide +kernel
theorem d_Ca_clear_20 : decode b_Ca_clear 20 = .ok (.iconst 0, 1) := by decide +kernel
theorem d_Ca_clear_21 : decode b_Ca_clear 21 = .ok (.bastore, 1) := by decide +kernel
theorem d_Ca_clear_22 : decode b_Ca_clear 22 = .ok (.iinc 1 1, 3) := by decide +kernel
theorem d_Ca_clear_25 : decode b_Ca_clear 25 = .ok (.goto (-23), 3) := by decide +kernel
theorem d_Ca_clear_28 : decode b_Ca_clear 28 = .ok (.return_, 1) := by decide +kernel
theorem d_Ca_use_0 : decode b_Ca_use 0 = .ok (.aload_n 0, 1) := by decide +kernel
theorem d_Ca_use_1 : decode b_Ca_use 1 = .ok (.getfield 26, 3) := by decide +kernel
theorem d_Ca_use_4 : decode b_Ca_use 4 = .ok (.aload_n 0, 1) := by decide +kernel
theorem d_Ca_use_5 : decode b_Ca_use 5 = .ok (.getfield 29, 3) := by decide +kernel
theorem d_Ca_use_8 : decode b_Ca_use 8 = .ok (.iload_n 1, 1) := by decide +kernel
theorem d_Ca_use_9 : decode b_Ca_use 9 = .ok (.iaload, 1) := by decide +kernel
theorem d_Ca_use_10 : decode b_Ca_use 10 = .ok (.aload_n 0, 1) := by decide +kernel
theorem d_Ca_use_11 : decode b_Ca_use 11 = .ok (.getfield 26, 3) := by decide +kernel
theorem d_Ca_use_14 : decode b_Ca_use 14 = .ok (.iload_n 1, 1) := by decide +kernel
theorem d_Ca_use_15 : decode b_Ca_use 15 = .ok (.iaload, 1) := by decide +kernel
theorem d_Ca_use_16 : decode b_Ca_use 16 = .ok (.iastore, 1) := by decide +kernel
theorem d_Ca_use_17 : decode b_Ca_use 17 = .ok (.aload_n 0, 1) := by decide +kernel
theorem d_Ca_use_18 : decode b_Ca_use 18 = .ok (.getfield 29, 3) := by decide +kernel
theorem d_Ca_use_21 : decode b_Ca_use 21 = .ok (.aload_n 0, 1) := by decide +kernel
theorem d_Ca_use_22 : decode b_Ca_use 22 = .ok (.getfield 26, 3) := by decide +kernel
theorem d_Ca_use_25 : decode b_Ca_use 25 = .ok (.iload_n 1, 1) := by decide +kernel
theorem d_Ca_use_26 : decode b_Ca_use 26 = .ok (.iaload, 1) := by decide +kernel
theorem d_Ca_use_27 : decode b_Ca_use 27 = .ok (.aload_n 0, 1) := by decide +kernel
theorem d_Ca_use_28 : decode b_Ca_use 28 = .ok (.getfield 29, 3) := by decide +kernel
theorem d_Ca_use_31 : decode b_Ca_use 31 = .ok (.iload_n 1, 1) := by decide +kernel
theorem d_Ca_use_32 : decode b_Ca_use 32 = .ok (.iaload, 1) := by decide +kernel
theorem d_Ca_use_33 : decode b_Ca_use 33 = .ok (.iastore, 1) := by decide +kernel
theorem d_Ca_use_34 : decode b_Ca_use 34 = .ok (.aload_n 0, 1) := by decide +kernel
theorem d_Ca_use_35 : decode b_Ca_use 35 = .ok (.getfield 26, 3) := by decide +kernel
theorem d_Ca_use_38 : decode b_Ca_use 38 = .ok (.iload_n 1, 1) := by decide +kernel
theorem d_Ca_use_39 : decode b_Ca_use 39 = .ok (.aload_n 0, 1) := by decide +kernel
theorem d_Ca_use_40 : decode b_Ca_use 40 = .ok (.getfield 26, 3) := by decide +kernel
theorem d_Ca_use_43 : decode b_Ca_use 43 = .ok (.bipush 34, 2) := by decide +kernel
theorem d_Ca_use_45 : decode b_Ca_use 45 = .ok (.iaload, 1) := by decide +kernel
theorem d_Ca_use_46 : decode b_Ca_use 46 = .ok (.iastore, 1) := by decide +kernel
theorem d_Ca_use_47 : decode b_Ca_use 47 = .ok (.aload_n 0, 1) := by decide +kernel
theorem d_Ca_use_48 : decode b_Ca_use 48 = .ok (.getfield 29, 3) := by decide +kernel
theorem d_Ca_use_51 : decode b_Ca_use 51 = .ok (.iload_n 1, 1) := by decide +kernel
theorem d_Ca_use_52 : decode b_Ca_use 52 = .ok (.bipush 34, 2) := by decide +kernel
theorem d_Ca_use_54 : decode b_Ca_use 54 = .ok (.iastore, 1) := by decide +kernel
theorem d_Ca_use_55 : decode b_Ca_use 55 = .ok (.aload_n 0, 1) := by decide +kernel
theorem d_Ca_use_56 : decode b_Ca_use 56 = .ok (.getfield 29, 3) := by decide +kernel
theorem d_Ca_use_59 : decode b_Ca_use 59 = .ok (.aload_n 0, 1) := by decide +kernel
theorem d_Ca_use_60 : decode b_Ca_use 60 = .ok (.getfield 26, 3) := by decide +kernel
theorem d_Ca_use_63 : decode b_Ca_use 63 = .ok (.bipush 34, 2) := by decide +kernel
theorem d_Ca_use_65 : decode b_Ca_use 65 = .ok (.iaload, 1) := by decide +kernel
theorem d_Ca_use_66 : decode b_Ca_use 66 = .ok (.iload_n 1, 1) := by decide +kernel
theorem d_Ca_use_67 : decode b_Ca_use 67 = .ok (.iastore, 1) := by decide +kernel
theorem d_Ca_use_68 : decode b_Ca_use 68 = .ok (.aload_n 0, 1) := by decide +kernel
theorem d_Ca_use_69 : decode b_Ca_use 69 = .ok (.getfield 26, 3) := by decide +kernel
theorem d_Ca_use_72 : decode b_Ca_use 72 = .ok (.bipush 34, 2) := by decide +kernel
theorem d_Ca_use_74 : decode b_Ca_use 74 = .ok (.iload_n 1, 1) := by decide +kernel
theorem d_Ca_use_75 : decode b_Ca_use 75 = .ok (.iastore, 1) := by decide +kernel
theorem d_Ca_use_76 : decode b_Ca_use 76 = .ok (.return_, 1) := by decide +kernel
theorem d_Ca_find_0 : decode b_Ca_find 0 = .ok (.iconst 0, 1) := by decide +kernel
theorem d_Ca_find_1 : decode b_Ca_find 1 = .ok (.istore_n 2, 1) := by decide +kernel
theorem d_Ca_find_2 : decode b_Ca_find 2 = .ok (.iload_n 2, 1) := by decide +kernel
theorem d_Ca_find_3 : decode b_Ca_find 3 = .ok (.bipush 34, 2) := by decide +kernel
theorem d_Ca_find_5 : decode b_Ca_find 5 = .ok (.if_icmp .ge 19, 3) := by decide +kernel
theorem d_Ca_find_8 : decode b_Ca_find 8 = .ok (.aload_n 0, 1) := by decide +kernel
theorem d_Ca_find_9 : decode b_Ca_find 9 = .ok (.getfield 18, 3) := by decide +kernel
theorem d_Ca_find_12 : decode b_Ca_find 12 = .ok (.iload_n 2, 1) := by decide +kernel
theorem d_Ca_find_13 : decode b_Ca_find 13 = .ok (.iaload, 1) := by decide +kernel
theorem d_Ca_find_14 : decode b_Ca_find 14 = .ok (.iload_n 1, 1) := by decide +kernel
theorem d_Ca_find_15 : decode b_Ca_find 15 = .ok (.if_icmp .eq 9, 3) := by decide +kernel
theorem d_Ca_find_18 : decode b_Ca_find 18 = .ok (.iinc 2 1, 3) := by decide +kernel
theorem d_Ca_find_21 : decode b_Ca_find 21 = .ok (.goto (-19), 3) := by decide +kernel
theorem d_Ca_find_24 : decode b_Ca_find 24 = .ok (.iload_n 2, 1) := by decide +kernel
theorem d_Ca_find_25 : decode b_Ca_find 25 = .ok (.bipush 34, 2) := by decide +kernel
theorem d_Ca_find_27 : decode b_Ca_find 27 = .ok (.if_icmp .ge 7, 3) := by decide +kernel
theorem d_Ca_find_30 : decode b_Ca_find 30 = .ok (.iload_n 2, 1) := by decide +kernel
theorem d_Ca_find_31 : decode b_Ca_find 31 = .ok (.goto 4, 3) := by decide +kernel
theorem d_Ca_find_34 : decode b_Ca_find 34 = .ok (.iconst (-1), 1) := by decide +kernel
theorem d_Ca_find_35 : decode b_Ca_find 35 = .ok (.ireturn, 1) := by decide +kernel
theorem d_Ca_victim_0 : decode b_Ca_victim 0 = .ok (.aload_n 0, 1) := by decide +kernel
theorem d_Ca_victim_1 : decode b_Ca_victim 1 = .ok (.iconst (-1), 1) := by decide +kernel
theorem d_Ca_victim_2 : decode b_Ca_victim 2 = .ok (.invokevirtual 39, 3) := by decide +kernel
theorem d_Ca_victim_5 : decode b_Ca_victim 5 = .ok (.istore_n 1, 1) := by decide +kernel
theorem d_Ca_victim_6 : decode b_Ca_victim 6 = .ok (.iload_n 1, 1) := by decide +kernel
theorem d_Ca_victim_7 : decode b_Ca_victim 7 = .ok (.iconst (-1), 1) := by decide +kernel
theorem d_Ca_victim_8 : decode b_Ca_victim 8 = .ok (.if_icmp .eq 5, 3) := by decide +kernel
theorem d_Ca_victim_11 : decode b_Ca_victim 11 = .ok (.iload_n 1, 1) := by decide +kernel
theorem d_Ca_victim_12 : decode b_Ca_victim 12 = .ok (.ireturn, 1) := by decide +kernel
theorem d_Ca_victim_13 : decode b_Ca_victim 13 = .ok (.aload_n 0, 1) := by decide +kernel
theorem d_Ca_victim_14 : decode b_Ca_victim 14 = .ok (.getfield 29, 3) := by decide +kernel
theorem d_Ca_victim_17 : decode b_Ca_victim 17 = .ok (.bipush 34, 2) := by decide +kernel
theorem d_Ca_victim_19 : decode b_Ca_victim 19 = .ok (.iaload, 1) := by decide +kernel
theorem d_Ca_victim_20 : decode b_Ca_victim 20 = .ok (.istore_n 1, 1) := by decide +kernel
theorem d_Ca_victim_21 : decode b_Ca_victim 21 = .ok (.aload_n 0, 1) := by decide +kernel
theorem d_Ca_victim_22 : decode b_Ca_victim 22 = .ok (.getfield 22, 3) := by decide +kernel
theorem d_Ca_victim_25 : decode b_Ca_victim 25 = .ok (.iload_n 1, 1) := by decide +kernel
theorem d_Ca_victim_26 : decode b_Ca_victim 26 = .ok (.baload, 1) := by decide +kernel
theorem d_Ca_victim_27 : decode b_Ca_victim 27 = .ok (.ifCond .eq 13, 3) := by decide +kernel
theorem d_Ca_victim_30 : decode b_Ca_victim 30 = .ok (.aload_n 0, 1) := by decide +kernel
theorem d_Ca_victim_31 : decode b_Ca_victim 31 = .ok (.getfield 29, 3) := by decide +kernel
theorem d_Ca_victim_34 : decode b_Ca_victim 34 = .ok (.iload_n 1, 1) := by decide +kernel
theorem d_Ca_victim_35 : decode b_Ca_victim 35 = .ok (.iaload, 1) := by decide +kernel
theorem d_Ca_victim_36 : decode b_Ca_victim 36 = .ok (.istore_n 1, 1) := by decide +kernel
theorem d_Ca_victim_37 : decode b_Ca_victim 37 = .ok (.goto (-16), 3) := by decide +kernel
theorem d_Ca_victim_40 : decode b_Ca_victim 40 = .ok (.iload_n 1, 1) := by decide +kernel
theorem d_Ca_victim_41 : decode b_Ca_victim 41 = .ok (.ireturn, 1) := by decide +kernel
theorem d_Ca_take_0 : decode b_Ca_take 0 = .ok (.aload_n 0, 1) := by decide +kernel
theorem d_Ca_take_1 : decode b_Ca_take 1 = .ok (.iload_n 1, 1) := by decide +kernel
theorem d_Ca_take_2 : decode b_Ca_take 2 = .ok (.invokevirtual 39, 3) := by decide +kernel
theorem d_Ca_take_5 : decode b_Ca_take 5 = .ok (.istore_n 2, 1) := by decide +kernel
theorem d_Ca_take_6 : decode b_Ca_take 6 = .ok (.iload_n 2, 1) := by decide +kernel
theorem d_Ca_take_7 : decode b_Ca_take 7 = .ok (.iconst (-1), 1) := by decide +kernel
theorem d_Ca_take_8 : decode b_Ca_take 8 = .ok (.if_icmp .ne 39, 3) := by decide +kernel
theorem d_Ca_take_11 : decode b_Ca_take 11 = .ok (.aload_n 0, 1) := by decide +kernel
theorem d_Ca_take_12 : decode b_Ca_take 12 = .ok (.invokevirtual 43, 3) := by decide +kernel
theorem d_Ca_take_15 : decode b_Ca_take 15 = .ok (.istore_n 2, 1) := by decide +kernel
theorem d_Ca_take_16 : decode b_Ca_take 16 = .ok (.aload_n 0, 1) := by decide +kernel
theorem d_Ca_take_17 : decode b_Ca_take 17 = .ok (.getfield 18, 3) := by decide +kernel
theorem d_Ca_take_20 : decode b_Ca_take 20 = .ok (.iload_n 2, 1) := by decide +kernel
theorem d_Ca_take_21 : decode b_Ca_take 21 = .ok (.iload_n 1, 1) := by decide +kernel
theorem d_Ca_take_22 : decode b_Ca_take 22 = .ok (.iastore, 1) := by decide +kernel
theorem d_Ca_take_23 : decode b_Ca_take 23 = .ok (.aload_n 0, 1) := by decide +kernel
theorem d_Ca_take_24 : decode b_Ca_take 24 = .ok (.getfield 32, 3) := by decide +kernel
theorem d_Ca_take_27 : decode b_Ca_take 27 = .ok (.iload_n 1, 1) := by decide +kernel
theorem d_Ca_take_28 : decode b_Ca_take 28 = .ok (.aload_n 0, 1) := by decide +kernel
theorem d_Ca_take_29 : decode b_Ca_take 29 = .ok (.getfield 15, 3) := by decide +kernel
theorem d_Ca_take_32 : decode b_Ca_take 32 = .ok (.iload_n 2, 1) := by decide +kernel
theorem d_Ca_take_33 : decode b_Ca_take 33 = .ok (.aaload, 1) := by decide +kernel
theorem d_Ca_take_34 : decode b_Ca_take 34 = .ok (.invokevirtual 47, 3) := by decide +kernel
theorem d_Ca_take_37 : decode b_Ca_take 37 = .ok (.aload_n 0, 1) := by decide +kernel
theorem d_Ca_take_38 : decode b_Ca_take 38 = .ok (.dup, 1) := by decide +kernel
theorem d_Ca_take_39 : decode b_Ca_take 39 = .ok (.getfield 51, 3) := by decide +kernel
theorem d_Ca_take_42 : decode b_Ca_take 42 = .ok (.iconst 1, 1) := by decide +kernel
theorem d_Ca_take_43 : decode b_Ca_take 43 = .ok (.iadd, 1) := by decide +kernel
theorem d_Ca_take_44 : decode b_Ca_take 44 = .ok (.putfield 51, 3) := by decide +kernel
theorem d_Ca_take_47 : decode b_Ca_take 47 = .ok (.aload_n 0, 1) := by decide +kernel
theorem d_Ca_take_48 : decode b_Ca_take 48 = .ok (.iload_n 2, 1) := by decide +kernel
theorem d_Ca_take_49 : decode b_Ca_take 49 = .ok (.invokevirtual 55, 3) := by decide +kernel
theorem d_Ca_take_52 : decode b_Ca_take 52 = .ok (.iload_n 2, 1) := by decide +kernel
theorem d_Ca_take_53 : decode b_Ca_take 53 = .ok (.ireturn, 1) := by decide +kernel
theorem d_Pl_init_0 : decode b_Pl_init 0 = .ok (.aload_n 0, 1) := by decide +kernel
theorem d_Pl_init_1 : decode b_Pl_init 1 = .ok (.invokespecial 3, 3) := by decide +kernel
theorem d_Pl_init_4 : decode b_Pl_init 4 = .ok (.aload_n 0, 1) := by decide +kernel
theorem d_Pl_init_5 : decode b_Pl_init 5 = .ok (.iconst (-1), 1) := by decide +kernel
theorem d_Pl_init_6 : decode b_Pl_init 6 = .ok (.putfield 9, 3) := by decide +kernel
theorem d_Pl_init_9 : decode b_Pl_init 9 = .ok (.aload_n 0, 1) := by decide +kernel
theorem d_Pl_init_10 : decode b_Pl_init 10 = .ok (.iload_n 1, 1) := by decide +kernel
theorem d_Pl_init_11 : decode b_Pl_init 11 = .ok (.putfield 15, 3) := by decide +kernel
theorem d_Pl_init_14 : decode b_Pl_init 14 = .ok (.aload_n 0, 1) := by decide +kernel
theorem d_Pl_init_15 : decode b_Pl_init 15 = .ok (.sipush 1024, 3) := by decide +kernel
theorem d_Pl_init_18 : decode b_Pl_init 18 = .ok (.iload_n 1, 1) := by decide +kernel
theorem d_Pl_init_19 : decode b_Pl_init 19 = .ok (.imul, 1) := by decide +kernel
theorem d_Pl_init_20 : decode b_Pl_init 20 = .ok (.newarray .byte, 2) := by decide +kernel
theorem d_Pl_init_22 : decode b_Pl_init 22 = .ok (.putfield 18, 3) := by decide +kernel
theorem d_Pl_init_25 : decode b_Pl_init 25 = .ok (.return_, 1) := by decide +kernel
theorem d_Pl_read_0 : decode b_Pl_read 0 = .ok (.aload_n 0, 1) := by decide +kernel
theorem d_Pl_read_1 : decode b_Pl_read 1 = .ok (.getfield 18, 3) := by decide +kernel
theorem d_Pl_read_4 : decode b_Pl_read 4 = .ok (.sipush 1024, 3) := by decide +kernel
theorem d_Pl_read_7 : decode b_Pl_read 7 = .ok (.iload_n 1, 1) := by decide +kernel
theorem d_Pl_read_8 : decode b_Pl_read 8 = .ok (.imul, 1) := by decide +kernel
theorem d_Pl_read_9 : decode b_Pl_read 9 = .ok (.aload_n 2, 1) := by decide +kernel
theorem d_Pl_read_10 : decode b_Pl_read 10 = .ok (.iconst 0, 1) := by decide +kernel
theorem d_Pl_read_11 : decode b_Pl_read 11 = .ok (.sipush 1024, 3) := by decide +kernel
theorem d_Pl_read_14 : decode b_Pl_read 14 = .ok (.invokestatic 22, 3) := by decide +kernel
theorem d_Pl_read_17 : decode b_Pl_read 17 = .ok (.return_, 1) := by decide +kernel
theorem d_Pl_write_0 : decode b_Pl_write 0 = .ok (.aload_n 0, 1) := by decide +kernel
theorem d_Pl_write_1 : decode b_Pl_write 1 = .ok (.getfield 28, 3) := by decide +kernel
theorem d_Pl_write_4 : decode b_Pl_write 4 = .ok (.ifCond .ne 10, 3) := by decide +kernel
theorem d_Pl_write_7 : decode b_Pl_write 7 = .ok (.aload_n 0, 1) := by decide +kernel
theorem d_Pl_write_8 : decode b_Pl_write 8 = .ok (.getfield 9, 3) := by decide +kernel
theorem d_Pl_write_11 : decode b_Pl_write 11 = .ok (.ifCond .ne 9, 3) := by decide +kernel
theorem d_Pl_write_14 : decode b_Pl_write 14 = .ok (.aload_n 0, 1) := by decide +kernel
theorem d_Pl_write_15 : decode b_Pl_write 15 = .ok (.iconst 1, 1) := by decide +kernel
theorem d_Pl_write_16 : decode b_Pl_write 16 = .ok (.putfield 28, 3) := by decide +kernel
theorem d_Pl_write_19 : decode b_Pl_write 19 = .ok (.return_, 1) := by decide +kernel
theorem d_Pl_write_20 : decode b_Pl_write 20 = .ok (.aload_n 0, 1) := by decide +kernel
theorem d_Pl_write_21 : decode b_Pl_write 21 = .ok (.aload_n 0, 1) := by decide +kernel
theorem d_Pl_write_22 : decode b_Pl_write 22 = .ok (.getfield 9, 3) := by decide +kernel
theorem d_Pl_write_25 : decode b_Pl_write 25 = .ok (.ifCond .le 12, 3) := by decide +kernel
theorem d_Pl_write_28 : decode b_Pl_write 28 = .ok (.aload_n 0, 1) := by decide +kernel
theorem d_Pl_write_29 : decode b_Pl_write 29 = .ok (.getfield 9, 3) := by decide +kernel
theorem d_Pl_write_32 : decode b_Pl_write 32 = .ok (.iconst 1, 1) := by decide +kernel
theorem d_Pl_write_33 : decode b_Pl_write 33 = .ok (.isub, 1) := by decide +kernel
theorem d_Pl_write_34 : decode b_Pl_write 34 = .ok (.goto 7, 3) := by decide +kernel
theorem d_Pl_write_37 : decode b_Pl_write 37 = .ok (.aload_n 0, 1) := by decide +kernel
theorem d_Pl_write_38 : decode b_Pl_write 38 = .ok (.getfield 9, 3) := by decide +kernel
theorem d_Pl_write_41 : decode b_Pl_write 41 = .ok (.putfield 9, 3) := by decide +kernel
theorem d_Pl_write_44 : decode b_Pl_write 44 = .ok (.aload_n 0, 1) := by decide +kernel
theorem d_Pl_write_45 : decode b_Pl_write 45 = .ok (.dup, 1) := by decide +kernel
theorem d_Pl_write_46 : decode b_Pl_write 46 = .ok (.getfield 32, 3) := by decide +kernel
theorem d_Pl_write_49 : decode b_Pl_write 49 = .ok (.iconst 1, 1) := by decide +kernel
theorem d_Pl_write_50 : decode b_Pl_write 50 = .ok (.iadd, 1) := by decide +kernel
theorem d_Pl_write_51 : decode b_Pl_write 51 = .ok (.putfield 32, 3) := by decide +kernel
theorem d_Pl_write_54 : decode b_Pl_write 54 = .ok (.aload_n 2, 1) := by decide +kernel
theorem d_Pl_write_55 : decode b_Pl_write 55 = .ok (.iconst 0, 1) := by decide +kernel
theorem d_Pl_write_56 : decode b_Pl_write 56 = .ok (.aload_n 0, 1) := by decide +kernel
theorem d_Pl_write_57 : decode b_Pl_write 57 = .ok (.getfield 18, 3) := by decide +kernel
theorem d_Pl_write_60 : decode b_Pl_write 60 = .ok (.sipush 1024, 3) := by decide +kernel
theorem d_Pl_write_63 : decode b_Pl_write 63 = .ok (.iload_n 1, 1) := by decide +kernel
theorem d_Pl_write_64 : decode b_Pl_write 64 = .ok (.imul, 1) := by decide +kernel
theorem d_Pl_write_65 : decode b_Pl_write 65 = .ok (.sipush 1024, 3) := by decide +kernel
theorem d_Pl_write_68 : decode b_Pl_write 68 = .ok (.invokestatic 22, 3) := by decide +kernel
theorem d_Pl_write_71 : decode b_Pl_write 71 = .ok (.return_, 1) := by decide +kernel
end
section
theorem d_Lg_init_0 : decode b_Lg_init 0 = .ok (.aload_n 0, 1) := by decide +kernel
theorem d_Lg_init_1 : decode b_Lg_init 1 = .ok (.invokespecial 1, 3) := by decide +kernel
theorem d_Lg_init_4 : decode b_Lg_init 4 = .ok (.aload_n 0, 1) := by decide +kernel
theorem d_Lg_init_5 : decode b_Lg_init 5 = .ok (.bipush 30, 2) := by decide +kernel
theorem d_Lg_init_7 : decode b_Lg_init 7 = .ok (.newarray .int, 2) := by decide +kernel
theorem d_Lg_init_9 : decode b_Lg_init 9 = .ok (.putfield 9, 3) := by decide +kernel
theorem d_Lg_init_12 : decode b_Lg_init 12 = .ok (.aload_n 0, 1) := by decide +kernel
theorem d_Lg_init_13 : decode b_Lg_init 13 = .ok (.sipush 1024, 3) := by decide +kernel
theorem d_Lg_init_16 : decode b_Lg_init 16 = .ok (.newarray .byte, 2) := by decide +kernel
theorem d_Lg_init_18 : decode b_Lg_init 18 = .ok (.putfield 15, 3) := by decide +kernel
theorem d_Lg_init_21 : decode b_Lg_init 21 = .ok (.aload_n 0, 1) := by decide +kernel
theorem d_Lg_init_22 : decode b_Lg_init 22 = .ok (.sipush 1024, 3) := by decide +kernel
theorem d_Lg_init_25 : decode b_Lg_init 25 = .ok (.newarray .byte, 2) := by decide +kernel
theorem d_Lg_init_27 : decode b_Lg_init 27 = .ok (.putfield 19, 3) := by decide +kernel
theorem d_Lg_init_30 : decode b_Lg_init 30 = .ok (.aload_n 0, 1) := by decide +kernel
theorem d_Lg_init_31 : decode b_Lg_init 31 = .ok (.aload_n 1, 1) := by decide +kernel
theorem d_Lg_init_32 : decode b_Lg_init 32 = .ok (.putfield 22, 3) := by decide +kernel
theorem d_Lg_init_35 : decode b_Lg_init 35 = .ok (.aload_n 0, 1) := by decide +kernel
theorem d_Lg_init_36 : decode b_Lg_init 36 = .ok (.aload_n 2, 1) := by decide +kernel
theorem d_Lg_init_37 : decode b_Lg_init 37 = .ok (.putfield 26, 3) := by decide +kernel
theorem d_Lg_init_40 : decode b_Lg_init 40 = .ok (.aload_n 0, 1) := by decide +kernel
theorem d_Lg_init_41 : decode b_Lg_init 41 = .ok (.aload_n 1, 1) := by decide +kernel
theorem d_Lg_init_42 : decode b_Lg_init 42 = .ok (.getfield 30, 3) := by decide +kernel
theorem d_Lg_init_45 : decode b_Lg_init 45 = .ok (.newarray .boolean, 2) := by decide +kernel
theorem d_Lg_init_47 : decode b_Lg_init 47 = .ok (.putfield 34, 3) := by decide +kernel
theorem d_Lg_init_50 : decode b_Lg_init 50 = .ok (.return_, 1) := by decide +kernel
theorem d_Lg_block_0 : decode b_Lg_block 0 = .ok (.aload_n 0, 1) := by decide +kernel
theorem d_Lg_block_1 : decode b_Lg_block 1 = .ok (.getfield 26, 3) := by decide +kernel
theorem d_Lg_block_4 : decode b_Lg_block 4 = .ok (.getfield 38, 3) := by decide +kernel
theorem d_Lg_block_7 : decode b_Lg_block 7 = .ok (.aload_n 0, 1) := by decide +kernel
theorem d_Lg_block_8 : decode b_Lg_block 8 = .ok (.getfield 26, 3) := by decide +kernel
theorem d_Lg_block_11 : decode b_Lg_block 11 = .ok (.iload_n 1, 1) := by decide +kernel
theorem d_Lg_block_12 : decode b_Lg_block 12 = .ok (.invokevirtual 44, 3) := by decide +kernel
theorem d_Lg_block_15 : decode b_Lg_block 15 = .ok (.aaload, 1) := by decide +kernel
theorem d_Lg_block_16 : decode b_Lg_block 16 = .ok (.areturn, 1) := by decide +kernel
theorem d_Lg_touch_0 : decode b_Lg_touch 0 = .ok (.aload_n 0, 1) := by decide +kernel
theorem d_Lg_touch_1 : decode b_Lg_touch 1 = .ok (.getfield 26, 3) := by decide +kernel
theorem d_Lg_touch_4 : decode b_Lg_touch 4 = .ok (.iload_n 1, 1) := by decide +kernel
theorem d_Lg_touch_5 : decode b_Lg_touch 5 = .ok (.invokevirtual 44, 3) := by decide +kernel
theorem d_Lg_touch_8 : decode b_Lg_touch 8 = .ok (.istore_n 2, 1) := by decide +kernel
theorem d_Lg_touch_9 : decode b_Lg_touch 9 = .ok (.aload_n 0, 1) := by decide +kernel
theorem d_Lg_touch_10 : decode b_Lg_touch 10 = .ok (.getfield 26, 3) := by decide +kernel
theorem d_Lg_touch_13 : decode b_Lg_touch 13 = .ok (.getfield 48, 3) := by decide +kernel
theorem d_Lg_touch_16 : decode b_Lg_touch 16 = .ok (.iload_n 2, 1) := by decide +kernel
theorem d_Lg_touch_17 : decode b_Lg_touch 17 = .ok (.baload, 1) := by decide +kernel
theorem d_Lg_touch_18 : decode b_Lg_touch 18 = .ok (.ifCond .ne 33, 3) := by decide +kernel
theorem d_Lg_touch_21 : decode b_Lg_touch 21 = .ok (.aload_n 0, 1) := by decide +kernel
theorem d_Lg_touch_22 : decode b_Lg_touch 22 = .ok (.getfield 26, 3) := by decide +kernel
theorem d_Lg_touch_25 : decode b_Lg_touch 25 = .ok (.getfield 48, 3) := by decide +kernel
theorem d_Lg_touch_28 : decode b_Lg_touch 28 = .ok (.iload_n 2, 1) := by decide +kernel
theorem d_Lg_touch_29 : decode b_Lg_touch 29 = .ok (.iconst 1, 1) := by decide +kernel
theorem d_Lg_touch_30 : decode b_Lg_touch 30 = .ok (.bastore, 1) := by decide +kernel
theorem d_Lg_touch_31 : decode b_Lg_touch 31 = .ok (.aload_n 0, 1) := by decide +kernel
theorem d_Lg_touch_32 : decode b_Lg_touch 32 = .ok (.getfield 9, 3) := by decide +kernel
theorem d_Lg_touch_35 : decode b_Lg_touch 35 = .ok (.aload_n 0, 1) := by decide +kernel
theorem d_Lg_touch_36 : decode b_Lg_touch 36 = .ok (.getfield 51, 3) := by decide +kernel
theorem d_Lg_touch_39 : decode b_Lg_touch 39 = .ok (.iload_n 1, 1) := by decide +kernel
theorem d_Lg_touch_40 : decode b_Lg_touch 40 = .ok (.iastore, 1) := by decide +kernel
theorem d_Lg_touch_41 : decode b_Lg_touch 41 = .ok (.aload_n 0, 1) := by decide +kernel
theorem d_Lg_touch_42 : decode b_Lg_touch 42 = .ok (.dup, 1) := by decide +kernel
theorem d_Lg_touch_43 : decode b_Lg_touch 43 = .ok (.getfield 51, 3) := by decide +kernel
theorem d_Lg_touch_46 : decode b_Lg_touch 46 = .ok (.iconst 1, 1) := by decide +kernel
theorem d_Lg_touch_47 : decode b_Lg_touch 47 = .ok (.iadd, 1) := by decide +kernel
theorem d_Lg_touch_48 : decode b_Lg_touch 48 = .ok (.putfield 51, 3) := by decide +kernel
theorem d_Lg_touch_51 : decode b_Lg_touch 51 = .ok (.aload_n 0, 1) := by decide +kernel
theorem d_Lg_touch_52 : decode b_Lg_touch 52 = .ok (.getfield 34, 3) := by decide +kernel
theorem d_Lg_touch_55 : decode b_Lg_touch 55 = .ok (.iload_n 1, 1) := by decide +kernel
theorem d_Lg_touch_56 : decode b_Lg_touch 56 = .ok (.baload, 1) := by decide +kernel
theorem d_Lg_touch_57 : decode b_Lg_touch 57 = .ok (.ifCond .ne 20, 3) := by decide +kernel
theorem d_Lg_touch_60 : decode b_Lg_touch 60 = .ok (.aload_n 0, 1) := by decide +kernel
theorem d_Lg_touch_61 : decode b_Lg_touch 61 = .ok (.getfield 34, 3) := by decide +kernel
theorem d_Lg_touch_64 : decode b_Lg_touch 64 = .ok (.iload_n 1, 1) := by decide +kernel
theorem d_Lg_touch_65 : decode b_Lg_touch 65 = .ok (.iconst 1, 1) := by decide +kernel
theorem d_Lg_touch_66 : decode b_Lg_touch 66 = .ok (.bastore, 1) := by decide +kernel
theorem d_Lg_touch_67 : decode b_Lg_touch 67 = .ok (.aload_n 0, 1) := by decide +kernel
theorem d_Lg_touch_68 : decode b_Lg_touch 68 = .ok (.dup, 1) := by decide +kernel
theorem d_Lg_touch_69 : decode b_Lg_touch 69 = .ok (.getfield 54, 3) := by decide +kernel
theorem d_Lg_touch_72 : decode b_Lg_touch 72 = .ok (.iconst 1, 1) := by decide +kernel
theorem d_Lg_touch_73 : decode b_Lg_touch 73 = .ok (.iadd, 1) := by decide +kernel
theorem d_Lg_touch_74 : decode b_Lg_touch 74 = .ok (.putfield 54, 3) := by decide +kernel
theorem d_Lg_touch_77 : decode b_Lg_touch 77 = .ok (.return_, 1) := by decide +kernel
theorem d_Lg_mayTouch_0 : decode b_Lg_mayTouch 0 = .ok (.aload_n 0, 1) := by decide +kernel
theorem d_Lg_mayTouch_1 : decode b_Lg_mayTouch 1 = .ok (.getfield 57, 3) := by decide +kernel
theorem d_Lg_mayTouch_4 : decode b_Lg_mayTouch 4 = .ok (.ifCond .eq 25, 3) := by decide +kernel
theorem d_Lg_mayTouch_7 : decode b_Lg_mayTouch 7 = .ok (.aload_n 0, 1) := by decide +kernel
theorem d_Lg_mayTouch_8 : decode b_Lg_mayTouch 8 = .ok (.getfield 34, 3) := by decide +kernel
theorem d_Lg_mayTouch_11 : decode b_Lg_mayTouch 11 = .ok (.iload_n 1, 1) := by decide +kernel
theorem d_Lg_mayTouch_12 : decode b_Lg_mayTouch 12 = .ok (.baload, 1) := by decide +kernel
theorem d_Lg_mayTouch_13 : decode b_Lg_mayTouch 13 = .ok (.ifCond .ne 12, 3) := by decide +kernel
theorem d_Lg_mayTouch_16 : decode b_Lg_mayTouch 16 = .ok (.aload_n 0, 1) := by decide +kernel
theorem d_Lg_mayTouch_17 : decode b_Lg_mayTouch 17 = .ok (.getfield 54, 3) := by decide +kernel
theorem d_Lg_mayTouch_20 : decode b_Lg_mayTouch 20 = .ok (.bipush 10, 2) := by decide +kernel
theorem d_Lg_mayTouch_22 : decode b_Lg_mayTouch 22 = .ok (.if_icmp .ge 7, 3) := by decide +kernel
theorem d_Lg_mayTouch_25 : decode b_Lg_mayTouch 25 = .ok (.iconst 1, 1) := by decide +kernel
theorem d_Lg_mayTouch_26 : decode b_Lg_mayTouch 26 = .ok (.goto 4, 3) := by decide +kernel
theorem d_Lg_mayTouch_29 : decode b_Lg_mayTouch 29 = .ok (.iconst 0, 1) := by decide +kernel
theorem d_Lg_mayTouch_30 : decode b_Lg_mayTouch 30 = .ok (.ireturn, 1) := by decide +kernel
theorem d_Lg_begin_0 : decode b_Lg_begin 0 = .ok (.aload_n 0, 1) := by decide +kernel
theorem d_Lg_begin_1 : decode b_Lg_begin 1 = .ok (.iconst 1, 1) := by decide +kernel
theorem d_Lg_begin_2 : decode b_Lg_begin 2 = .ok (.putfield 57, 3) := by decide +kernel
theorem d_Lg_begin_5 : decode b_Lg_begin 5 = .ok (.aload_n 0, 1) := by decide +kernel
theorem d_Lg_begin_6 : decode b_Lg_begin 6 = .ok (.iconst 0, 1) := by decide +kernel
theorem d_Lg_begin_7 : decode b_Lg_begin 7 = .ok (.putfield 54, 3) := by decide +kernel
theorem d_Lg_begin_10 : decode b_Lg_begin 10 = .ok (.iconst 0, 1) := by decide +kernel
theorem d_Lg_begin_11 : decode b_Lg_begin 11 = .ok (.istore_n 1, 1) := by decide +kernel
theorem d_Lg_begin_12 : decode b_Lg_begin 12 = .ok (.iload_n 1, 1) := by decide +kernel
theorem d_Lg_begin_13 : decode b_Lg_begin 13 = .ok (.aload_n 0, 1) := by decide +kernel
theorem d_Lg_begin_14 : decode b_Lg_begin 14 = .ok (.getfield 34, 3) := by decide +kernel
theorem d_Lg_begin_17 : decode b_Lg_begin 17 = .ok (.arraylength, 1) := by decide +kernel
theorem d_Lg_begin_18 : decode b_Lg_begin 18 = .ok (.if_icmp .ge 16, 3) := by decide +kernel
theorem d_Lg_begin_21 : decode b_Lg_begin 21 = .ok (.aload_n 0, 1) := by decide +kernel
theorem d_Lg_begin_22 : decode b_Lg_begin 22 = .ok (.getfield 34, 3) := by decide +kernel
theorem d_Lg_begin_25 : decode b_Lg_begin 25 = .ok (.iload_n 1, 1) := by decide +kernel
theorem d_Lg_begin_26 : decode b_Lg_begin 26 = .ok (.iconst 0, 1) := by decide +kernel
theorem d_Lg_begin_27 : decode b_Lg_begin 27 = .ok (.bastore, 1) := by decide +kernel
theorem d_Lg_begin_28 : decode b_Lg_begin 28 = .ok (.iinc 1 1, 3) := by decide +kernel
theorem d_Lg_begin_31 : decode b_Lg_begin 31 = .ok (.goto (-19), 3) := by decide +kernel
theorem d_Lg_begin_34 : decode b_Lg_begin 34 = .ok (.return_, 1) := by decide +kernel
theorem d_Lg_end_0 : decode b_Lg_end 0 = .ok (.aload_n 0, 1) := by decide +kernel
theorem d_Lg_end_1 : decode b_Lg_end 1 = .ok (.iconst 0, 1) := by decide +kernel
theorem d_Lg_end_2 : decode b_Lg_end 2 = .ok (.putfield 57, 3) := by decide +kernel
theorem d_Lg_end_5 : decode b_Lg_end 5 = .ok (.aload_n 0, 1) := by decide +kernel
theorem d_Lg_end_6 : decode b_Lg_end 6 = .ok (.getfield 51, 3) := by decide +kernel
theorem d_Lg_end_9 : decode b_Lg_end 9 = .ok (.bipush 20, 2) := by decide +kernel
theorem d_Lg_end_11 : decode b_Lg_end 11 = .ok (.if_icmp .le 7, 3) := by decide +kernel
theorem d_Lg_end_14 : decode b_Lg_end 14 = .ok (.aload_n 0, 1) := by decide +kernel
theorem d_Lg_end_15 : decode b_Lg_end 15 = .ok (.invokevirtual 61, 3) := by decide +kernel
theorem d_Lg_end_18 : decode b_Lg_end 18 = .ok (.return_, 1) := by decide +kernel
theorem d_Lg_put_0 : decode b_Lg_put 0 = .ok (.iconst 0, 1) := by decide +kernel
theorem d_Lg_put_1 : decode b_Lg_put 1 = .ok (.istore_n 3, 1) := by decide +kernel
theorem d_Lg_put_2 : decode b_Lg_put 2 = .ok (.iload_n 3, 1) := by decide +kernel
theorem d_Lg_put_3 : decode b_Lg_put 3 = .ok (.iconst 4, 1) := by decide +kernel
theorem d_Lg_put_4 : decode b_Lg_put 4 = .ok (.if_icmp .ge 21, 3) := by decide +kernel
theorem d_Lg_put_7 : decode b_Lg_put 7 = .ok (.aload_n 0, 1) := by decide +kernel
theorem d_Lg_put_8 : decode b_Lg_put 8 = .ok (.iload_n 1, 1) := by decide +kernel
theorem d_Lg_put_9 : decode b_Lg_put 9 = .ok (.iload_n 3, 1) := by decide +kernel
theorem d_Lg_put_10 : decode b_Lg_put 10 = .ok (.iadd, 1) := by decide +kernel
theorem d_Lg_put_11 : decode b_Lg_put 11 = .ok (.iload_n 2, 1) := by decide +kernel
theorem d_Lg_put_12 : decode b_Lg_put 12 = .ok (.bipush 8, 2) := by decide +kernel
theorem d_Lg_put_14 : decode b_Lg_put 14 = .ok (.iload_n 3, 1) := by decide +kernel
theorem d_Lg_put_15 : decode b_Lg_put 15 = .ok (.imul, 1) := by decide +kernel
theorem d_Lg_put_16 : decode b_Lg_put 16 = .ok (.ishr, 1) := by decide +kernel
theorem d_Lg_put_17 : decode b_Lg_put 17 = .ok (.i2b, 1) := by decide +kernel
theorem d_Lg_put_18 : decode b_Lg_put 18 = .ok (.bastore, 1) := by decide +kernel
theorem d_Lg_put_19 : decode b_Lg_put 19 = .ok (.iinc 3 1, 3) := by decide +kernel
theorem d_Lg_put_22 : decode b_Lg_put 22 = .ok (.goto (-20), 3) := by decide +kernel
theorem d_Lg_put_25 : decode b_Lg_put 25 = .ok (.return_, 1) := by decide +kernel
theorem d_Lg_get_0 : decode b_Lg_get 0 = .ok (.iconst 0, 1) := by decide +kernel
theorem d_Lg_get_1 : decode b_Lg_get 1 = .ok (.istore_n 2, 1) := by decide +kernel
theorem d_Lg_get_2 : decode b_Lg_get 2 = .ok (.iconst 3, 1) := by decide +kernel
theorem d_Lg_get_3 : decode b_Lg_get 3 = .ok (.istore_n 3, 1) := by decide +kernel
theorem d_Lg_get_4 : decode b_Lg_get 4 = .ok (.iload_n 3, 1) := by decide +kernel
theorem d_Lg_get_5 : decode b_Lg_get 5 = .ok (.ifCond .lt 24, 3) := by decide +kernel
theorem d_Lg_get_8 : decode b_Lg_get 8 = .ok (.iload_n 2, 1) := by decide +kernel
theorem d_Lg_get_9 : decode b_Lg_get 9 = .ok (.bipush 8, 2) := by decide +kernel
theorem d_Lg_get_11 : decode b_Lg_get 11 = .ok (.ishl, 1) := by decide +kernel
theorem d_Lg_get_12 : decode b_Lg_get 12 = .ok (.aload_n 0, 1) := by decide +kernel
theorem d_Lg_get_13 : decode b_Lg_get 13 = .ok (.iload_n 1, 1) := by decide +kernel
theorem d_Lg_get_14 : decode b_Lg_get 14 = .ok (.iload_n 3, 1) := by decide +kernel
theorem d_Lg_get_15 : decode b_Lg_get 15 = .ok (.iadd, 1) := by decide +kernel
theorem d_Lg_get_16 : decode b_Lg_get 16 = .ok (.baload, 1) := by decide +kernel
theorem d_Lg_get_17 : decode b_Lg_get 17 = .ok (.sipush 255, 3) := by decide +kernel
theorem d_Lg_get_20 : decode b_Lg_get 20 = .ok (.iand, 1) := by decide +kernel
theorem d_Lg_get_21 : decode b_Lg_get 21 = .ok (.ior, 1) := by decide +kernel
theorem d_Lg_get_22 : decode b_Lg_get 22 = .ok (.istore_n 2, 1) := by decide +kernel
theorem d_Lg_get_23 : decode b_Lg_get 23 = .ok (.iinc 3 (-1), 3) := by decide +kernel
theorem d_Lg_get_26 : decode b_Lg_get 26 = .ok (.goto (-22), 3) := by decide +kernel
theorem d_Lg_get_29 : decode b_Lg_get 29 = .ok (.iload_n 2, 1) := by decide +kernel
theorem d_Lg_get_30 : decode b_Lg_get 30 = .ok (.ireturn, 1) := by decide +kernel
theorem d_Lg_writeHeader_0 : decode b_Lg_writeHeader 0 = .ok (.aload_n 0, 1) := by decide +kernel
theorem d_Lg_writeHeader_1 : decode b_Lg_writeHeader 1 = .ok (.getfield 15, 3) := by decide +kernel
theorem d_Lg_writeHeader_4 : decode b_Lg_writeHeader 4 = .ok (.iconst 0, 1) := by decide +kernel
theorem d_Lg_writeHeader_5 : decode b_Lg_writeHeader 5 = .ok (.iload_n 1, 1) := by decide +kernel
theorem d_Lg_writeHeader_6 : decode b_Lg_writeHeader 6 = .ok (.invokestatic 64, 3) := by decide +kernel
theorem d_Lg_writeHeader_9 : decode b_Lg_writeHeader 9 = .ok (.iconst 0, 1) := by decide +kernel
theorem d_Lg_writeHeader_10 : decode b_Lg_writeHeader 10 = .ok (.istore_n 2, 1) := by decide +kernel
theorem d_Lg_writeHeader_11 : decode b_Lg_writeHeader 11 = .ok (.iload_n 2, 1) := by decide +kernel
theorem d_Lg_writeHeader_12 : decode b_Lg_writeHeader 12 = .ok (.iload_n 1, 1) := by decide +kernel
theorem d_Lg_writeHeader_13 : decode b_Lg_writeHeader 13 = .ok (.if_icmp .ge 27, 3) := by decide +kernel
theorem d_Lg_writeHeader_16 : decode b_Lg_writeHeader 16 = .ok (.aload_n 0, 1) := by decide +kernel
theorem d_Lg_writeHeader_17 : decode b_Lg_writeHeader 17 = .ok (.getfield 15, 3) := by decide +kernel
theorem d_Lg_writeHeader_20 : decode b_Lg_writeHeader 20 = .ok (.iconst 4, 1) := by decide +kernel
theorem d_Lg_writeHeader_21 : decode b_Lg_writeHeader 21 = .ok (.iconst 4, 1) := by decide +kernel
theorem d_Lg_writeHeader_22 : decode b_Lg_writeHeader 22 = .ok (.iload_n 2, 1) := by decide +kernel
theorem d_Lg_writeHeader_23 : decode b_Lg_writeHeader 23 = .ok (.imul, 1) := by decide +kernel
theorem d_Lg_writeHeader_24 : decode b_Lg_writeHeader 24 = .ok (.iadd, 1) := by decide +kernel
theorem d_Lg_writeHeader_25 : decode b_Lg_writeHeader 25 = .ok (.aload_n 0, 1) := by decide +kernel
theorem d_Lg_writeHeader_26 : decode b_Lg_writeHeader 26 = .ok (.getfield 9, 3) := by decide +kernel
theorem d_Lg_writeHeader_29 : decode b_Lg_writeHeader 29 = .ok (.iload_n 2, 1) := by decide +kernel
theorem d_Lg_writeHeader_30 : decode b_Lg_writeHeader 30 = .ok (.iaload, 1) := by decide +kernel
theorem d_Lg_writeHeader_31 : decode b_Lg_writeHeader 31 = .ok (.invokestatic 64, 3) := by decide +kernel
theorem d_Lg_writeHeader_34 : decode b_Lg_writeHeader 34 = .ok (.iinc 2 1, 3) := by decide +kernel
theorem d_Lg_writeHeader_37 : decode b_Lg_writeHeader 37 = .ok (.goto (-26), 3) := by decide +kernel
theorem d_Lg_writeHeader_40 : decode b_Lg_writeHeader 40 = .ok (.aload_n 0, 1) := by decide +kernel
theorem d_Lg_writeHeader_41 : decode b_Lg_writeHeader 41 = .ok (.getfield 22, 3) := by decide +kernel
theorem d_Lg_writeHeader_44 : decode b_Lg_writeHeader 44 = .ok (.iconst 2, 1) := by decide +kernel
theorem d_Lg_writeHeader_45 : decode b_Lg_writeHeader 45 = .ok (.aload_n 0, 1) := by decide +kernel
theorem d_Lg_writeHeader_46 : decode b_Lg_writeHeader 46 = .ok (.getfield 15, 3) := by decide +kernel
theorem d_Lg_writeHeader_49 : decode b_Lg_writeHeader 49 = .ok (.invokevirtual 68, 3) := by decide +kernel
theorem d_Lg_writeHeader_52 : decode b_Lg_writeHeader 52 = .ok (.return_, 1) := by decide +kernel
theorem d_Lg_commit_0 : decode b_Lg_commit 0 = .ok (.aload_n 0, 1) := by decide +kernel
theorem d_Lg_commit_1 : decode b_Lg_commit 1 = .ok (.getfield 51, 3) := by decide +kernel
theorem d_Lg_commit_4 : decode b_Lg_commit 4 = .ok (.ifCond .ne 4, 3) := by decide +kernel
theorem d_Lg_commit_7 : decode b_Lg_commit 7 = .ok (.return_, 1) := by decide +kernel
theorem d_Lg_commit_8 : decode b_Lg_commit 8 = .ok (.iconst 0, 1) := by decide +kernel
theorem d_Lg_commit_9 : decode b_Lg_commit 9 = .ok (.istore_n 1, 1) := by decide +kernel
theorem d_Lg_commit_10 : decode b_Lg_commit 10 = .ok (.iload_n 1, 1) := by decide +kernel
theorem d_Lg_commit_11 : decode b_Lg_commit 11 = .ok (.aload_n 0, 1) := by decide +kernel
theorem d_Lg_commit_12 : decode b_Lg_commit 12 = .ok (.getfield 51, 3) := by decide +kernel
theorem d_Lg_commit_15 : decode b_Lg_commit 15 = .ok (.if_icmp .ge 40, 3) := by decide +kernel
theorem d_Lg_commit_18 : decode b_Lg_commit 18 = .ok (.aload_n 0, 1) := by decide +kernel
theorem d_Lg_commit_19 : decode b_Lg_commit 19 = .ok (.getfield 22, 3) := by decide +kernel
theorem d_Lg_commit_22 : decode b_Lg_commit 22 = .ok (.iconst 3, 1) := by decide +kernel
theorem d_Lg_commit_23 : decode b_Lg_commit 23 = .ok (.iload_n 1, 1) := by decide +kernel
theorem d_Lg_commit_24 : decode b_Lg_commit 24 = .ok (.iadd, 1) := by decide +kernel
theorem d_Lg_commit_25 : decode b_Lg_commit 25 = .ok (.aload_n 0, 1) := by decide +kernel
theorem d_Lg_commit_26 : decode b_Lg_commit 26 = .ok (.getfield 26, 3) := by decide +kernel
theorem d_Lg_commit_29 : decode b_Lg_commit 29 = .ok (.getfield 38, 3) := by decide +kernel
theorem d_Lg_commit_32 : decode b_Lg_commit 32 = .ok (.aload_n 0, 1) := by decide +kernel
theorem d_Lg_commit_33 : decode b_Lg_commit 33 = .ok (.getfield 26, 3) := by decide +kernel
theorem d_Lg_commit_36 : decode b_Lg_commit 36 = .ok (.aload_n 0, 1) := by decide +kernel
theorem d_Lg_commit_37 : decode b_Lg_commit 37 = .ok (.getfield 9, 3) := by decide +kernel
theorem d_Lg_commit_40 : decode b_Lg_commit 40 = .ok (.iload_n 1, 1) := by decide +kernel
theorem d_Lg_commit_41 : decode b_Lg_commit 41 = .ok (.iaload, 1) := by decide +kernel
theorem d_Lg_commit_42 : decode b_Lg_commit 42 = .ok (.invokevirtual 72, 3) := by decide +kernel
theorem d_Lg_commit_45 : decode b_Lg_commit 45 = .ok (.aaload, 1) := by decide +kernel
theorem d_Lg_commit_46 : decode b_Lg_commit 46 = .ok (.invokevirtual 68, 3) := by decide +kernel
theorem d_Lg_commit_49 : decode b_Lg_commit 49 = .ok (.iinc 1 1, 3) := by decide +kernel
theorem d_Lg_commit_52 : decode b_Lg_commit 52 = .ok (.goto (-42), 3) := by decide +kernel
theorem d_Lg_commit_55 : decode b_Lg_commit 55 = .ok (.aload_n 0, 1) := by decide +kernel
theorem d_Lg_commit_56 : decode b_Lg_commit 56 = .ok (.aload_n 0, 1) := by decide +kernel
theorem d_Lg_commit_57 : decode b_Lg_commit 57 = .ok (.getfield 51, 3) := by decide +kernel
theorem d_Lg_commit_60 : decode b_Lg_commit 60 = .ok (.invokevirtual 75, 3) := by decide +kernel
theorem d_Lg_commit_63 : decode b_Lg_commit 63 = .ok (.aload_n 0, 1) := by decide +kernel
theorem d_Lg_commit_64 : decode b_Lg_commit 64 = .ok (.dup, 1) := by decide +kernel
theorem d_Lg_commit_65 : decode b_Lg_commit 65 = .ok (.getfield 79, 3) := by decide +kernel
theorem d_Lg_commit_68 : decode b_Lg_commit 68 = .ok (.aload_n 0, 1) := by decide +kernel
theorem d_Lg_commit_69 : decode b_Lg_commit 69 = .ok (.getfield 22, 3) := by decide +kernel
theorem d_Lg_commit_72 : decode b_Lg_commit 72 = .ok (.getfield 82, 3) := by decide +kernel
theorem d_Lg_commit_75 : decode b_Lg_commit 75 = .ok (.ifCond .eq 7, 3) := by decide +kernel
theorem d_Lg_commit_78 : decode b_Lg_commit 78 = .ok (.iconst 0, 1) := by decide +kernel
theorem d_Lg_commit_79 : decode b_Lg_commit 79 = .ok (.goto 4, 3) := by decide +kernel
theorem d_Lg_commit_82 : decode b_Lg_commit 82 = .ok (.iconst 1, 1) := by decide +kernel
theorem d_Lg_commit_83 : decode b_Lg_commit 83 = .ok (.iadd, 1) := by decide +kernel
theorem d_Lg_commit_84 : decode b_Lg_commit 84 = .ok (.putfield 79, 3) := by decide +kernel
theorem d_Lg_commit_87 : decode b_Lg_commit 87 = .ok (.iconst 0, 1) := by decide +kernel
theorem d_Lg_commit_88 : decode b_Lg_commit 88 = .ok (.istore_n 1, 1) := by decide +kernel
theorem d_Lg_commit_89 : decode b_Lg_commit 89 = .ok (.iload_n 1, 1) := by decide +kernel
theorem d_Lg_commit_90 : decode b_Lg_commit 90 = .ok (.aload_n 0, 1) := by decide +kernel
theorem d_Lg_commit_91 : decode b_Lg_commit 91 = .ok (.getfield 51, 3) := by decide +kernel
theorem d_Lg_commit_94 : decode b_Lg_commit 94 = .ok (.if_icmp .ge 43, 3) := by decide +kernel
theorem d_Lg_commit_97 : decode b_Lg_commit 97 = .ok (.aload_n 0, 1) := by decide +kernel
theorem d_Lg_commit_98 : decode b_Lg_commit 98 = .ok (.getfield 22, 3) := by decide +kernel
theorem d_Lg_commit_101 : decode b_Lg_commit 101 = .ok (.aload_n 0, 1) := by decide +kernel
theorem d_Lg_commit_102 : decode b_Lg_commit 102 = .ok (.getfield 9, 3) := by decide +kernel
theorem d_Lg_commit_105 : decode b_Lg_commit 105 = .ok (.iload_n 1, 1) := by decide +kernel
theorem d_Lg_commit_106 : decode b_Lg_commit 106 = .ok (.iaload, 1) := by decide +kernel
theorem d_Lg_commit_107 : decode b_Lg_commit 107 = .ok (.aload_n 0, 1) := by decide +kernel
theorem d_Lg_commit_108 : decode b_Lg_commit 108 = .ok (.getfield 26, 3) := by decide +kernel
theorem d_Lg_commit_111 : decode b_Lg_commit 111 = .ok (.getfield 38, 3) := by decide +kernel
theorem d_Lg_commit_114 : decode b_Lg_commit 114 = .ok (.aload_n 0, 1) := by decide +kernel
theorem d_Lg_commit_115 : decode b_Lg_commit 115 = .ok (.getfield 26, 3) := by decide +kernel
theorem d_Lg_commit_118 : decode b_Lg_commit 118 = .ok (.aload_n 0, 1) := by decide +kernel
theorem d_Lg_commit_119 : decode b_Lg_commit 119 = .ok (.getfield 9, 3) := by decide +kernel
theorem d_Lg_commit_122 : decode b_Lg_commit 122 = .ok (.iload_n 1, 1) := by decide +kernel
theorem d_Lg_commit_123 : decode b_Lg_commit 123 = .ok (.iaload, 1) := by decide +kernel
theorem d_Lg_commit_124 : decode b_Lg_commit 124 = .ok (.invokevirtual 72, 3) := by decide +kernel
theorem d_Lg_commit_127 : decode b_Lg_commit 127 = .ok (.aaload, 1) := by decide +kernel
theorem d_Lg_commit_128 : decode b_Lg_commit 128 = .ok (.invokevirtual 68, 3) := by decide +kernel
theorem d_Lg_commit_131 : decode b_Lg_commit 131 = .ok (.iinc 1 1, 3) := by decide +kernel
theorem d_Lg_commit_134 : decode b_Lg_commit 134 = .ok (.goto (-45), 3) := by decide +kernel
theorem d_Lg_commit_137 : decode b_Lg_commit 137 = .ok (.aload_n 0, 1) := by decide +kernel
theorem d_Lg_commit_138 : decode b_Lg_commit 138 = .ok (.iconst 0, 1) := by decide +kernel
theorem d_Lg_commit_139 : decode b_Lg_commit 139 = .ok (.invokevirtual 75, 3) := by decide +kernel
theorem d_Lg_commit_142 : decode b_Lg_commit 142 = .ok (.iconst 0, 1) := by decide +kernel
theorem d_Lg_commit_143 : decode b_Lg_commit 143 = .ok (.istore_n 1, 1) := by decide +kernel
theorem d_Lg_commit_144 : decode b_Lg_commit 144 = .ok (.iload_n 1, 1) := by decide +kernel
theorem d_Lg_commit_145 : decode b_Lg_commit 145 = .ok (.aload_n 0, 1) := by decide +kernel
theorem d_Lg_commit_146 : decode b_Lg_commit 146 = .ok (.getfield 51, 3) := by decide +kernel
theorem d_Lg_commit_149 : decode b_Lg_commit 149 = .ok (.if_icmp .ge 31, 3) := by decide +kernel
theorem d_Lg_commit_152 : decode b_Lg_commit 152 = .ok (.aload_n 0, 1) := by decide +kernel
theorem d_Lg_commit_153 : decode b_Lg_commit 153 = .ok (.getfield 26, 3) := by decide +kernel
theorem d_Lg_commit_156 : decode b_Lg_commit 156 = .ok (.getfield 48, 3) := by decide +kernel
theorem d_Lg_commit_159 : decode b_Lg_commit 159 = .ok (.aload_n 0, 1) := by decide +kernel
theorem d_Lg_commit_160 : decode b_Lg_commit 160 = .ok (.getfield 26, 3) := by decide +kernel
theorem d_Lg_commit_163 : decode b_Lg_commit 163 = .ok (.aload_n 0, 1) := by decide +kernel
theorem d_Lg_commit_164 : decode b_Lg_commit 164 = .ok (.getfield 9, 3) := by decide +kernel
theorem d_Lg_commit_167 : decode b_Lg_commit 167 = .ok (.iload_n 1, 1) := by decide +kernel
theorem d_Lg_commit_168 : decode b_Lg_commit 168 = .ok (.iaload, 1) := by decide +kernel
theorem d_Lg_commit_169 : decode b_Lg_commit 169 = .ok (.invokevirtual 72, 3) := by decide +kernel
theorem d_Lg_commit_172 : decode b_Lg_commit 172 = .ok (.iconst 0, 1) := by decide +kernel
theorem d_Lg_commit_173 : decode b_Lg_commit 173 = .ok (.bastore, 1) := by decide +kernel
theorem d_Lg_commit_174 : decode b_Lg_commit 174 = .ok (.iinc 1 1, 3) := by decide +kernel
theorem d_Lg_commit_177 : decode b_Lg_commit 177 = .ok (.goto (-33), 3) := by decide +kernel
theorem d_Lg_commit_180 : decode b_Lg_commit 180 = .ok (.aload_n 0, 1) := by decide +kernel
theorem d_Lg_commit_181 : decode b_Lg_commit 181 = .ok (.iconst 0, 1) := by decide +kernel
theorem d_Lg_commit_182 : decode b_Lg_commit 182 = .ok (.putfield 51, 3) := by decide +kernel
theorem d_Lg_commit_185 : decode b_Lg_commit 185 = .ok (.return_, 1) := by decide +kernel
theorem d_Lg_recover_0 : decode b_Lg_recover 0 = .ok (.aload_n 0, 1) := by decide +kernel
theorem d_Lg_recover_1 : decode b_Lg_recover 1 = .ok (.getfield 26, 3) := by decide +kernel
theorem d_Lg_recover_4 : decode b_Lg_recover 4 = .ok (.invokevirtual 85, 3) := by decide +kernel
theorem d_Lg_recover_7 : decode b_Lg_recover 7 = .ok (.aload_n 0, 1) := by decide +kernel
theorem d_Lg_recover_8 : decode b_Lg_recover 8 = .ok (.iconst 0, 1) := by decide +kernel
theorem d_Lg_recover_9 : decode b_Lg_recover 9 = .ok (.putfield 57, 3) := by decide +kernel
theorem d_Lg_recover_12 : decode b_Lg_recover 12 = .ok (.aload_n 0, 1) := by decide +kernel
theorem d_Lg_recover_13 : decode b_Lg_recover 13 = .ok (.iconst 0, 1) := by decide +kernel
theorem d_Lg_recover_14 : decode b_Lg_recover 14 = .ok (.putfield 51, 3) := by decide +kernel
theorem d_Lg_recover_17 : decode b_Lg_recover 17 = .ok (.aload_n 0, 1) := by decide +kernel
theorem d_Lg_recover_18 : decode b_Lg_recover 18 = .ok (.getfield 22, 3) := by decide +kernel
theorem d_Lg_recover_21 : decode b_Lg_recover 21 = .ok (.iconst 2, 1) := by decide +kernel
theorem d_Lg_recover_22 : decode b_Lg_recover 22 = .ok (.aload_n 0, 1) := by decide +kernel
theorem d_Lg_recover_23 : decode b_Lg_recover 23 = .ok (.getfield 15, 3) := by decide +kernel
theorem d_Lg_recover_26 : decode b_Lg_recover 26 = .ok (.invokevirtual 88, 3) := by decide +kernel
theorem d_Lg_recover_29 : decode b_Lg_recover 29 = .ok (.aload_n 0, 1) := by decide +kernel
theorem d_Lg_recover_30 : decode b_Lg_recover 30 = .ok (.getfield 15, 3) := by decide +kernel
theorem d_Lg_recover_33 : decode b_Lg_recover 33 = .ok (.iconst 0, 1) := by decide +kernel
theorem d_Lg_recover_34 : decode b_Lg_recover 34 = .ok (.invokestatic 91, 3) := by decide +kernel
theorem d_Lg_recover_37 : decode b_Lg_recover 37 = .ok (.istore_n 1, 1) := by decide +kernel
theorem d_Lg_recover_38 : decode b_Lg_recover 38 = .ok (.iconst 0, 1) := by decide +kernel
theorem d_Lg_recover_39 : decode b_Lg_recover 39 = .ok (.istore_n 2, 1) := by decide +kernel
theorem d_Lg_recover_40 : decode b_Lg_recover 40 = .ok (.iload_n 2, 1) := by decide +kernel
theorem d_Lg_recover_41 : decode b_Lg_recover 41 = .ok (.iload_n 1, 1) := by decide +kernel
theorem d_Lg_recover_42 : decode b_Lg_recover 42 = .ok (.if_icmp .ge 58, 3) := by decide +kernel
theorem d_Lg_recover_45 : decode b_Lg_recover 45 = .ok (.aload_n 0, 1) := by decide +kernel
theorem d_Lg_recover_46 : decode b_Lg_recover 46 = .ok (.getfield 9, 3) := by decide +kernel
theorem d_Lg_recover_49 : decode b_Lg_recover 49 = .ok (.iload_n 2, 1) := by decide +kernel
theorem d_Lg_recover_50 : decode b_Lg_recover 50 = .ok (.aload_n 0, 1) := by decide +kernel
theorem d_Lg_recover_51 : decode b_Lg_recover 51 = .ok (.getfield 15, 3) := by decide +kernel
theorem d_Lg_recover_54 : decode b_Lg_recover 54 = .ok (.iconst 4, 1) := by decide +kernel
theorem d_Lg_recover_55 : decode b_Lg_recover 55 = .ok (.iconst 4, 1) := by decide +kernel
theorem d_Lg_recover_56 : decode b_Lg_recover 56 = .ok (.iload_n 2, 1) := by decide +kernel
theorem d_Lg_recover_57 : decode b_Lg_recover 57 = .ok (.imul, 1) := by decide +kernel
theorem d_Lg_recover_58 : decode b_Lg_recover 58 = .ok (.iadd, 1) := by decide +kernel
theorem d_Lg_recover_59 : decode b_Lg_recover 59 = .ok (.invokestatic 91, 3) := by decide +kernel
theorem d_Lg_recover_62 : decode b_Lg_recover 62 = .ok (.iastore, 1) := by decide +kernel
theorem d_Lg_recover_63 : decode b_Lg_recover 63 = .ok (.aload_n 0, 1) := by decide +kernel
theorem d_Lg_recover_64 : decode b_Lg_recover 64 = .ok (.getfield 22, 3) := by decide +kernel
theorem d_Lg_recover_67 : decode b_Lg_recover 67 = .ok (.iconst 3, 1) := by decide +kernel
theorem d_Lg_recover_68 : decode b_Lg_recover 68 = .ok (.iload_n 2, 1) := by decide +kernel
theorem d_Lg_recover_69 : decode b_Lg_recover 69 = .ok (.iadd, 1) := by decide +kernel
theorem d_Lg_recover_70 : decode b_Lg_recover 70 = .ok (.aload_n 0, 1) := by decide +kernel
theorem d_Lg_recover_71 : decode b_Lg_recover 71 = .ok (.getfield 19, 3) := by decide +kernel
theorem d_Lg_recover_74 : decode b_Lg_recover 74 = .ok (.invokevirtual 88, 3) := by decide +kernel
theorem d_Lg_recover_77 : decode b_Lg_recover 77 = .ok (.aload_n 0, 1) := by decide +kernel
theorem d_Lg_recover_78 : decode b_Lg_recover 78 = .ok (.getfield 22, 3) := by decide +kernel
theorem d_Lg_recover_81 : decode b_Lg_recover 81 = .ok (.aload_n 0, 1) := by decide +kernel
theorem d_Lg_recover_82 : decode b_Lg_recover 82 = .ok (.getfield 9, 3) := by decide +kernel
theorem d_Lg_recover_85 : decode b_Lg_recover 85 = .ok (.iload_n 2, 1) := by decide +kernel
theorem d_Lg_recover_86 : decode b_Lg_recover 86 = .ok (.iaload, 1) := by decide +kernel
theorem d_Lg_recover_87 : decode b_Lg_recover 87 = .ok (.aload_n 0, 1) := by decide +kernel
theorem d_Lg_recover_88 : decode b_Lg_recover 88 = .ok (.getfield 19, 3) := by decide +kernel
theorem d_Lg_recover_91 : decode b_Lg_recover 91 = .ok (.invokevirtual 68, 3) := by decide +kernel
theorem d_Lg_recover_94 : decode b_Lg_recover 94 = .ok (.iinc 2 1, 3) := by decide +kernel
theorem d_Lg_recover_97 : decode b_Lg_recover 97 = .ok (.goto (-57), 3) := by decide +kernel
theorem d_Lg_recover_100 : decode b_Lg_recover 100 = .ok (.iload_n 1, 1) := by decide +kernel
theorem d_Lg_recover_101 : decode b_Lg_recover 101 = .ok (.ifCond .le 8, 3) := by decide +kernel
theorem d_Lg_recover_104 : decode b_Lg_recover 104 = .ok (.aload_n 0, 1) := by decide +kernel
theorem d_Lg_recover_105 : decode b_Lg_recover 105 = .ok (.iconst 0, 1) := by decide +kernel
theorem d_Lg_recover_106 : decode b_Lg_recover 106 = .ok (.invokevirtual 75, 3) := by decide +kernel
theorem d_Lg_recover_109 : decode b_Lg_recover 109 = .ok (.iload_n 1, 1) := by decide +kernel
theorem d_Lg_recover_110 : decode b_Lg_recover 110 = .ok (.ireturn, 1) := by decide +kernel
end
section
theorem d_BV_init_0 : decode b_BV_init 0 = .ok (.aload_n 0, 1) := by decide +kernel
theorem d_BV_init_1 : decode b_BV_init 1 = .ok (.invokespecial 1, 3) := by decide +kernel
theorem d_BV_init_4 : decode b_BV_init 4 = .ok (.aload_n 0, 1) := by decide +kernel
theorem d_BV_init_5 : decode b_BV_init 5 = .ok (.new 7, 3) := by decide +kernel
theorem d_BV_init_8 : decode b_BV_init 8 = .ok (.dup, 1) := by decide +kernel
theorem d_BV_init_9 : decode b_BV_init 9 = .ok (.bipush 80, 2) := by decide +kernel
theorem d_BV_init_11 : decode b_BV_init 11 = .ok (.bipush 40, 2) := by decide +kernel
theorem d_BV_init_13 : decode b_BV_init 13 = .ok (.iload_n 1, 1) := by decide +kernel
theorem d_BV_init_14 : decode b_BV_init 14 = .ok (.invokestatic 11, 3) := by decide +kernel
theorem d_BV_init_17 : decode b_BV_init 17 = .ok (.invokestatic 17, 3) := by decide +kernel
theorem d_BV_init_20 : decode b_BV_init 20 = .ok (.invokespecial 20, 3) := by decide +kernel
theorem d_BV_init_23 : decode b_BV_init 23 = .ok (.putfield 23, 3) := by decide +kernel
theorem d_BV_init_26 : decode b_BV_init 26 = .ok (.aload_n 0, 1) := by decide +kernel
theorem d_BV_init_27 : decode b_BV_init 27 = .ok (.new 27, 3) := by decide +kernel
theorem d_BV_init_30 : decode b_BV_init 30 = .ok (.dup, 1) := by decide +kernel
theorem d_BV_init_31 : decode b_BV_init 31 = .ok (.aload_n 0, 1) := by decide +kernel
theorem d_BV_init_32 : decode b_BV_init 32 = .ok (.getfield 23, 3) := by decide +kernel
theorem d_BV_init_35 : decode b_BV_init 35 = .ok (.invokespecial 29, 3) := by decide +kernel
theorem d_BV_init_38 : decode b_BV_init 38 = .ok (.putfield 32, 3) := by decide +kernel
theorem d_BV_init_41 : decode b_BV_init 41 = .ok (.aload_n 0, 1) := by decide +kernel
theorem d_BV_init_42 : decode b_BV_init 42 = .ok (.new 36, 3) := by decide +kernel
theorem d_BV_init_45 : decode b_BV_init 45 = .ok (.dup, 1) := by decide +kernel
theorem d_BV_init_46 : decode b_BV_init 46 = .ok (.aload_n 0, 1) := by decide +kernel
theorem d_BV_init_47 : decode b_BV_init 47 = .ok (.getfield 23, 3) := by decide +kernel
theorem d_BV_init_50 : decode b_BV_init 50 = .ok (.aload_n 0, 1) := by decide +kernel
theorem d_BV_init_51 : decode b_BV_init 51 = .ok (.getfield 32, 3) := by decide +kernel
theorem d_BV_init_54 : decode b_BV_init 54 = .ok (.invokespecial 38, 3) := by decide +kernel
theorem d_BV_init_57 : decode b_BV_init 57 = .ok (.putfield 41, 3) := by decide +kernel
theorem d_BV_init_60 : decode b_BV_init 60 = .ok (.return_, 1) := by decide +kernel
theorem d_BV_isBlock_0 : decode b_BV_isBlock 0 = .ok (.iload_n 1, 1) := by decide +kernel
theorem d_BV_isBlock_1 : decode b_BV_isBlock 1 = .ok (.ifCond .lt 29, 3) := by decide +kernel
theorem d_BV_isBlock_4 : decode b_BV_isBlock 4 = .ok (.iload_n 1, 1) := by decide +kernel
theorem d_BV_isBlock_5 : decode b_BV_isBlock 5 = .ok (.aload_n 0, 1) := by decide +kernel
theorem d_BV_isBlock_6 : decode b_BV_isBlock 6 = .ok (.getfield 23, 3) := by decide +kernel
theorem d_BV_isBlock_9 : decode b_BV_isBlock 9 = .ok (.getfield 45, 3) := by decide +kernel
theorem d_BV_isBlock_12 : decode b_BV_isBlock 12 = .ok (.if_icmp .ge 18, 3) := by decide +kernel
theorem d_BV_isBlock_15 : decode b_BV_isBlock 15 = .ok (.iload_n 1, 1) := by decide +kernel
theorem d_BV_isBlock_16 : decode b_BV_isBlock 16 = .ok (.iconst 2, 1) := by decide +kernel
theorem d_BV_isBlock_17 : decode b_BV_isBlock 17 = .ok (.if_icmp .lt 9, 3) := by decide +kernel
theorem d_BV_isBlock_20 : decode b_BV_isBlock 20 = .ok (.iload_n 1, 1) := by decide +kernel
theorem d_BV_isBlock_21 : decode b_BV_isBlock 21 = .ok (.bipush 32, 2) := by decide +kernel
theorem d_BV_isBlock_23 : decode b_BV_isBlock 23 = .ok (.if_icmp .le 7, 3) := by decide +kernel
theorem d_BV_isBlock_26 : decode b_BV_isBlock 26 = .ok (.iconst 1, 1) := by decide +kernel
theorem d_BV_isBlock_27 : decode b_BV_isBlock 27 = .ok (.goto 4, 3) := by decide +kernel
theorem d_BV_isBlock_30 : decode b_BV_isBlock 30 = .ok (.iconst 0, 1) := by decide +kernel
theorem d_BV_isBlock_31 : decode b_BV_isBlock 31 = .ok (.ireturn, 1) := by decide +kernel
theorem d_BV_begin_0 : decode b_BV_begin 0 = .ok (.aload_n 0, 1) := by decide +kernel
theorem d_BV_begin_1 : decode b_BV_begin 1 = .ok (.getfield 23, 3) := by decide +kernel
theorem d_BV_begin_4 : decode b_BV_begin 4 = .ok (.getfield 49, 3) := by decide +kernel
theorem d_BV_begin_7 : decode b_BV_begin 7 = .ok (.ifCond .ne 13, 3) := by decide +kernel
theorem d_BV_begin_10 : decode b_BV_begin 10 = .ok (.aload_n 0, 1) := by decide +kernel
theorem d_BV_begin_11 : decode b_BV_begin 11 = .ok (.getfield 41, 3) := by decide +kernel
theorem d_BV_begin_14 : decode b_BV_begin 14 = .ok (.getfield 53, 3) := by decide +kernel
theorem d_BV_begin_17 : decode b_BV_begin 17 = .ok (.ifCond .eq 5, 3) := by decide +kernel
theorem d_BV_begin_20 : decode b_BV_begin 20 = .ok (.iconst 0, 1) := by decide +kernel
theorem d_BV_begin_21 : decode b_BV_begin 21 = .ok (.ireturn, 1) := by decide +kernel
theorem d_BV_begin_22 : decode b_BV_begin 22 = .ok (.aload_n 0, 1) := by decide +kernel
theorem d_BV_begin_23 : decode b_BV_begin 23 = .ok (.getfield 41, 3) := by decide +kernel
theorem d_BV_begin_26 : decode b_BV_begin 26 = .ok (.invokevirtual 56, 3) := by decide +kernel
theorem d_BV_begin_29 : decode b_BV_begin 29 = .ok (.iconst 1, 1) := by decide +kernel
theorem d_BV_begin_30 : decode b_BV_begin 30 = .ok (.ireturn, 1) := by decide +kernel
theorem d_BV_end_0 : decode b_BV_end 0 = .ok (.aload_n 0, 1) := by decide +kernel
theorem d_BV_end_1 : decode b_BV_end 1 = .ok (.getfield 23, 3) := by decide +kernel
theorem d_BV_end_4 : decode b_BV_end 4 = .ok (.getfield 49, 3) := by decide +kernel
theorem d_BV_end_7 : decode b_BV_end 7 = .ok (.ifCond .ne 13, 3) := by decide +kernel
theorem d_BV_end_10 : decode b_BV_end 10 = .ok (.aload_n 0, 1) := by decide +kernel
theorem d_BV_end_11 : decode b_BV_end 11 = .ok (.getfield 41, 3) := by decide +kernel
theorem d_BV_end_14 : decode b_BV_end 14 = .ok (.getfield 53, 3) := by decide +kernel
theorem d_BV_end_17 : decode b_BV_end 17 = .ok (.ifCond .ne 5, 3) := by decide +kernel
theorem d_BV_end_20 : decode b_BV_end 20 = .ok (.iconst (-1), 1) := by decide +kernel
theorem d_BV_end_21 : decode b_BV_end 21 = .ok (.ireturn, 1) := by decide +kernel
theorem d_BV_end_22 : decode b_BV_end 22 = .ok (.aload_n 0, 1) := by decide +kernel
theorem d_BV_end_23 : decode b_BV_end 23 = .ok (.getfield 41, 3) := by decide +kernel
theorem d_BV_end_26 : decode b_BV_end 26 = .ok (.invokevirtual 59, 3) := by decide +kernel
theorem d_BV_end_29 : decode b_BV_end 29 = .ok (.aload_n 0, 1) := by decide +kernel
theorem d_BV_end_30 : decode b_BV_end 30 = .ok (.getfield 23, 3) := by decide +kernel
theorem d_BV_end_33 : decode b_BV_end 33 = .ok (.getfield 49, 3) := by decide +kernel
theorem d_BV_end_36 : decode b_BV_end 36 = .ok (.ifCond .eq 7, 3) := by decide +kernel
theorem d_BV_end_39 : decode b_BV_end 39 = .ok (.iconst (-1), 1) := by decide +kernel
theorem d_BV_end_40 : decode b_BV_end 40 = .ok (.goto 10, 3) := by decide +kernel
theorem d_BV_end_43 : decode b_BV_end 43 = .ok (.aload_n 0, 1) := by decide +kernel
theorem d_BV_end_44 : decode b_BV_end 44 = .ok (.getfield 41, 3) := by decide +kernel
theorem d_BV_end_47 : decode b_BV_end 47 = .ok (.getfield 62, 3) := by decide +kernel
theorem d_BV_end_50 : decode b_BV_end 50 = .ok (.ireturn, 1) := by decide +kernel
theorem d_BV_flush_0 : decode b_BV_flush 0 = .ok (.aload_n 0, 1) := by decide +kernel
theorem d_BV_flush_1 : decode b_BV_flush 1 = .ok (.getfield 23, 3) := by decide +kernel
theorem d_BV_flush_4 : decode b_BV_flush 4 = .ok (.getfield 49, 3) := by decide +kernel
theorem d_BV_flush_7 : decode b_BV_flush 7 = .ok (.ifCond .ne 13, 3) := by decide +kernel
theorem d_BV_flush_10 : decode b_BV_flush 10 = .ok (.aload_n 0, 1) := by decide +kernel
theorem d_BV_flush_11 : decode b_BV_flush 11 = .ok (.getfield 41, 3) := by decide +kernel
theorem d_BV_flush_14 : decode b_BV_flush 14 = .ok (.getfield 53, 3) := by decide +kernel
theorem d_BV_flush_17 : decode b_BV_flush 17 = .ok (.ifCond .eq 5, 3) := by decide +kernel
theorem d_BV_flush_20 : decode b_BV_flush 20 = .ok (.iconst (-1), 1) := by decide +kernel
theorem d_BV_flush_21 : decode b_BV_flush 21 = .ok (.ireturn, 1) := by decide +kernel
theorem d_BV_flush_22 : decode b_BV_flush 22 = .ok (.aload_n 0, 1) := by decide +kernel
theorem d_BV_flush_23 : decode b_BV_flush 23 = .ok (.getfield 41, 3) := by decide +kernel
theorem d_BV_flush_26 : decode b_BV_flush 26 = .ok (.getfield 62, 3) := by decide +kernel
theorem d_BV_flush_29 : decode b_BV_flush 29 = .ok (.istore_n 1, 1) := by decide +kernel
theorem d_BV_flush_30 : decode b_BV_flush 30 = .ok (.aload_n 0, 1) := by decide +kernel
theorem d_BV_flush_31 : decode b_BV_flush 31 = .ok (.getfield 41, 3) := by decide +kernel
theorem d_BV_flush_34 : decode b_BV_flush 34 = .ok (.invokevirtual 65, 3) := by decide +kernel
theorem d_BV_flush_37 : decode b_BV_flush 37 = .ok (.aload_n 0, 1) := by decide +kernel
theorem d_BV_flush_38 : decode b_BV_flush 38 = .ok (.getfield 23, 3) := by decide +kernel
theorem d_BV_flush_41 : decode b_BV_flush 41 = .ok (.getfield 49, 3) := by decide +kernel
theorem d_BV_flush_44 : decode b_BV_flush 44 = .ok (.ifCond .eq 7, 3) := by decide +kernel
theorem d_BV_flush_47 : decode b_BV_flush 47 = .ok (.iconst (-1), 1) := by decide +kernel
theorem d_BV_flush_48 : decode b_BV_flush 48 = .ok (.goto 4, 3) := by decide +kernel
theorem d_BV_flush_51 : decode b_BV_flush 51 = .ok (.iload_n 1, 1) := by decide +kernel
theorem d_BV_flush_52 : decode b_BV_flush 52 = .ok (.ireturn, 1) := by decide +kernel
theorem d_BV_get_0 : decode b_BV_get 0 = .ok (.aload_n 0, 1) := by decide +kernel
theorem d_BV_get_1 : decode b_BV_get 1 = .ok (.getfield 23, 3) := by decide +kernel
theorem d_BV_get_4 : decode b_BV_get 4 = .ok (.getfield 49, 3) := by decide +kernel
theorem d_BV_get_7 : decode b_BV_get 7 = .ok (.ifCond .ne 22, 3) := by decide +kernel
theorem d_BV_get_10 : decode b_BV_get 10 = .ok (.aload_n 0, 1) := by decide +kernel
theorem d_BV_get_11 : decode b_BV_get 11 = .ok (.iload_n 1, 1) := by decide +kernel
theorem d_BV_get_12 : decode b_BV_get 12 = .ok (.invokevirtual 68, 3) := by decide +kernel
theorem d_BV_get_15 : decode b_BV_get 15 = .ok (.ifCond .eq 14, 3) := by decide +kernel
theorem d_BV_get_18 : decode b_BV_get 18 = .ok (.iload_n 2, 1) := by decide +kernel
theorem d_BV_get_19 : decode b_BV_get 19 = .ok (.ifCond .lt 10, 3) := by decide +kernel
theorem d_BV_get_22 : decode b_BV_get 22 = .ok (.iload_n 2, 1) := by decide +kernel
theorem d_BV_get_23 : decode b_BV_get 23 = .ok (.sipush 1024, 3) := by decide +kernel
theorem d_BV_get_26 : decode b_BV_get 26 = .ok (.if_icmp .lt 7, 3) := by decide +kernel
theorem d_BV_get_29 : decode b_BV_get 29 = .ok (.iconst (-1), 1) := by decide +kernel
theorem d_BV_get_30 : decode b_BV_get 30 = .ok (.goto 17, 3) := by decide +kernel
theorem d_BV_get_33 : decode b_BV_get 33 = .ok (.aload_n 0, 1) := by decide +kernel
theorem d_BV_get_34 : decode b_BV_get 34 = .ok (.getfield 41, 3) := by decide +kernel
theorem d_BV_get_37 : decode b_BV_get 37 = .ok (.iload_n 1, 1) := by decide +kernel
theorem d_BV_get_38 : decode b_BV_get 38 = .ok (.invokevirtual 72, 3) := by decide +kernel
theorem d_BV_get_41 : decode b_BV_get 41 = .ok (.iload_n 2, 1) := by decide +kernel
theorem d_BV_get_42 : decode b_BV_get 42 = .ok (.baload, 1) := by decide +kernel
theorem d_BV_get_43 : decode b_BV_get 43 = .ok (.sipush 255, 3) := by decide +kernel
theorem d_BV_get_46 : decode b_BV_get 46 = .ok (.iand, 1) := by decide +kernel
theorem d_BV_get_47 : decode b_BV_get 47 = .ok (.ireturn, 1) := by decide +kernel
theorem d_BV_fill_0 : decode b_BV_fill 0 = .ok (.aload_n 0, 1) := by decide +kernel
theorem d_BV_fill_1 : decode b_BV_fill 1 = .ok (.getfield 23, 3) := by decide +kernel
theorem d_BV_fill_4 : decode b_BV_fill 4 = .ok (.getfield 49, 3) := by decide +kernel
theorem d_BV_fill_7 : decode b_BV_fill 7 = .ok (.ifCond .ne 47, 3) := by decide +kernel
theorem d_BV_fill_10 : decode b_BV_fill 10 = .ok (.aload_n 0, 1) := by decide +kernel
theorem d_BV_fill_11 : decode b_BV_fill 11 = .ok (.iload_n 1, 1) := by decide +kernel
theorem d_BV_fill_12 : decode b_BV_fill 12 = .ok (.invokevirtual 68, 3) := by decide +kernel
theorem d_BV_fill_15 : decode b_BV_fill 15 = .ok (.ifCond .eq 39, 3) := by decide +kernel
theorem d_BV_fill_18 : decode b_BV_fill 18 = .ok (.aload_n 0, 1) := by decide +kernel
theorem d_BV_fill_19 : decode b_BV_fill 19 = .ok (.getfield 41, 3) := by decide +kernel
theorem d_BV_fill_22 : decode b_BV_fill 22 = .ok (.iload_n 1, 1) := by decide +kernel
theorem d_BV_fill_23 : decode b_BV_fill 23 = .ok (.invokevirtual 76, 3) := by decide +kernel
theorem d_BV_fill_26 : decode b_BV_fill 26 = .ok (.ifCond .eq 28, 3) := by decide +kernel
theorem d_BV_fill_29 : decode b_BV_fill 29 = .ok (.iload_n 3, 1) := by decide +kernel
theorem d_BV_fill_30 : decode b_BV_fill 30 = .ok (.iconst 1, 1) := by decide +kernel
theorem d_BV_fill_31 : decode b_BV_fill 31 = .ok (.if_icmp .lt 23, 3) := by decide +kernel
theorem d_BV_fill_34 : decode b_BV_fill 34 = .ok (.iload_n 3, 1) := by decide +kernel
theorem d_BV_fill_35 : decode b_BV_fill 35 = .ok (.sipush 1024, 3) := by decide +kernel
theorem d_BV_fill_38 : decode b_BV_fill 38 = .ok (.if_icmp .gt 16, 3) := by decide +kernel
theorem d_BV_fill_41 : decode b_BV_fill 41 = .ok (.iload_n 2, 1) := by decide +kernel
theorem d_BV_fill_42 : decode b_BV_fill 42 = .ok (.ifCond .lt 12, 3) := by decide +kernel
theorem d_BV_fill_45 : decode b_BV_fill 45 = .ok (.iload_n 2, 1) := by decide +kernel
theorem d_BV_fill_46 : decode b_BV_fill 46 = .ok (.sipush 1024, 3) := by decide +kernel
theorem d_BV_fill_49 : decode b_BV_fill 49 = .ok (.iload_n 3, 1) := by decide +kernel
theorem d_BV_fill_50 : decode b_BV_fill 50 = .ok (.isub, 1) := by decide +kernel
theorem d_BV_fill_51 : decode b_BV_fill 51 = .ok (.if_icmp .le 5, 3) := by decide +kernel
theorem d_BV_fill_54 : decode b_BV_fill 54 = .ok (.iconst 0, 1) := by decide +kernel
theorem d_BV_fill_55 : decode b_BV_fill 55 = .ok (.ireturn, 1) := by decide +kernel
theorem d_BV_fill_56 : decode b_BV_fill 56 = .ok (.aload_n 0, 1) := by decide +kernel
theorem d_BV_fill_57 : decode b_BV_fill 57 = .ok (.getfield 41, 3) := by decide +kernel
theorem d_BV_fill_60 : decode b_BV_fill 60 = .ok (.iload_n 1, 1) := by decide +kernel
theorem d_BV_fill_61 : decode b_BV_fill 61 = .ok (.invokevirtual 72, 3) := by decide +kernel
theorem d_BV_fill_64 : decode b_BV_fill 64 = .ok (.astore 5, 2) := by decide +kernel
theorem d_BV_fill_66 : decode b_BV_fill 66 = .ok (.iconst 0, 1) := by decide +kernel
theorem d_BV_fill_67 : decode b_BV_fill 67 = .ok (.istore 6, 2) := by decide +kernel
theorem d_BV_fill_69 : decode b_BV_fill 69 = .ok (.iload 6, 2) := by decide +kernel
theorem d_BV_fill_71 : decode b_BV_fill 71 = .ok (.iload_n 3, 1) := by decide +kernel
theorem d_BV_fill_72 : decode b_BV_fill 72 = .ok (.if_icmp .ge 22, 3) := by decide +kernel
theorem d_BV_fill_75 : decode b_BV_fill 75 = .ok (.aload 5, 2) := by decide +kernel
theorem d_BV_fill_77 : decode b_BV_fill 77 = .ok (.iload_n 2, 1) := by decide +kernel
theorem d_BV_fill_78 : decode b_BV_fill 78 = .ok (.iload 6, 2) := by decide +kernel
theorem d_BV_fill_80 : decode b_BV_fill 80 = .ok (.iadd, 1) := by decide +kernel
theorem d_BV_fill_81 : decode b_BV_fill 81 = .ok (.iload 4, 2) := by decide +kernel
theorem d_BV_fill_83 : decode b_BV_fill 83 = .ok (.iload 6, 2) := by decide +kernel
theorem d_BV_fill_85 : decode b_BV_fill 85 = .ok (.iadd, 1) := by decide +kernel
theorem d_BV_fill_86 : decode b_BV_fill 86 = .ok (.i2b, 1) := by decide +kernel
theorem d_BV_fill_87 : decode b_BV_fill 87 = .ok (.bastore, 1) := by decide +kernel
theorem d_BV_fill_88 : decode b_BV_fill 88 = .ok (.iinc 6 1, 3) := by decide +kernel
theorem d_BV_fill_91 : decode b_BV_fill 91 = .ok (.goto (-22), 3) := by decide +kernel
theorem d_BV_fill_94 : decode b_BV_fill 94 = .ok (.aload_n 0, 1) := by decide +kernel
theorem d_BV_fill_95 : decode b_BV_fill 95 = .ok (.getfield 41, 3) := by decide +kernel
theorem d_BV_fill_98 : decode b_BV_fill 98 = .ok (.iload_n 1, 1) := by decide +kernel
theorem d_BV_fill_99 : decode b_BV_fill 99 = .ok (.invokevirtual 79, 3) := by decide +kernel
theorem d_BV_fill_102 : decode b_BV_fill 102 = .ok (.iconst 1, 1) := by decide +kernel
theorem d_BV_fill_103 : decode b_BV_fill 103 = .ok (.ireturn, 1) := by decide +kernel
theorem d_BV_cut_0 : decode b_BV_cut 0 = .ok (.aload_n 0, 1) := by decide +kernel
theorem d_BV_cut_1 : decode b_BV_cut 1 = .ok (.getfield 23, 3) := by decide +kernel
theorem d_BV_cut_4 : decode b_BV_cut 4 = .ok (.getfield 49, 3) := by decide +kernel
theorem d_BV_cut_7 : decode b_BV_cut 7 = .ok (.ifCond .eq 5, 3) := by decide +kernel
theorem d_BV_cut_10 : decode b_BV_cut 10 = .ok (.iconst 0, 1) := by decide +kernel
theorem d_BV_cut_11 : decode b_BV_cut 11 = .ok (.ireturn, 1) := by decide +kernel
theorem d_BV_cut_12 : decode b_BV_cut 12 = .ok (.aload_n 0, 1) := by decide +kernel
theorem d_BV_cut_13 : decode b_BV_cut 13 = .ok (.getfield 23, 3) := by decide +kernel
theorem d_BV_cut_16 : decode b_BV_cut 16 = .ok (.iload_n 1, 1) := by decide +kernel
theorem d_BV_cut_17 : decode b_BV_cut 17 = .ok (.ifCond .ge 7, 3) := by decide +kernel
theorem d_BV_cut_20 : decode b_BV_cut 20 = .ok (.iconst (-1), 1) := by decide +kernel
theorem d_BV_cut_21 : decode b_BV_cut 21 = .ok (.goto 4, 3) := by decide +kernel
theorem d_BV_cut_24 : decode b_BV_cut 24 = .ok (.iload_n 1, 1) := by decide +kernel
theorem d_BV_cut_25 : decode b_BV_cut 25 = .ok (.putfield 82, 3) := by decide +kernel
theorem d_BV_cut_28 : decode b_BV_cut 28 = .ok (.iconst 1, 1) := by decide +kernel
theorem d_BV_cut_29 : decode b_BV_cut 29 = .ok (.ireturn, 1) := by decide +kernel
theorem d_BV_power_0 : decode b_BV_power 0 = .ok (.aload_n 0, 1) := by decide +kernel
theorem d_BV_power_1 : decode b_BV_power 1 = .ok (.getfield 23, 3) := by decide +kernel
theorem d_BV_power_4 : decode b_BV_power 4 = .ok (.getfield 49, 3) := by decide +kernel
theorem d_BV_power_7 : decode b_BV_power 7 = .ok (.ifCond .ne 5, 3) := by decide +kernel
theorem d_BV_power_10 : decode b_BV_power 10 = .ok (.iconst (-1), 1) := by decide +kernel
theorem d_BV_power_11 : decode b_BV_power 11 = .ok (.ireturn, 1) := by decide +kernel
theorem d_BV_power_12 : decode b_BV_power 12 = .ok (.aload_n 0, 1) := by decide +kernel
theorem d_BV_power_13 : decode b_BV_power 13 = .ok (.getfield 23, 3) := by decide +kernel
theorem d_BV_power_16 : decode b_BV_power 16 = .ok (.iconst 0, 1) := by decide +kernel
theorem d_BV_power_17 : decode b_BV_power 17 = .ok (.putfield 49, 3) := by decide +kernel
theorem d_BV_power_20 : decode b_BV_power 20 = .ok (.aload_n 0, 1) := by decide +kernel
theorem d_BV_power_21 : decode b_BV_power 21 = .ok (.getfield 23, 3) := by decide +kernel
theorem d_BV_power_24 : decode b_BV_power 24 = .ok (.iload_n 1, 1) := by decide +kernel
theorem d_BV_power_25 : decode b_BV_power 25 = .ok (.ifCond .ge 7, 3) := by decide +kernel
theorem d_BV_power_28 : decode b_BV_power 28 = .ok (.iconst (-1), 1) := by decide +kernel
theorem d_BV_power_29 : decode b_BV_power 29 = .ok (.goto 4, 3) := by decide +kernel
theorem d_BV_power_32 : decode b_BV_power 32 = .ok (.iload_n 1, 1) := by decide +kernel
theorem d_BV_power_33 : decode b_BV_power 33 = .ok (.putfield 82, 3) := by decide +kernel
theorem d_BV_power_36 : decode b_BV_power 36 = .ok (.aload_n 0, 1) := by decide +kernel
theorem d_BV_power_37 : decode b_BV_power 37 = .ok (.getfield 41, 3) := by decide +kernel
theorem d_BV_power_40 : decode b_BV_power 40 = .ok (.invokevirtual 85, 3) := by decide +kernel
theorem d_BV_power_43 : decode b_BV_power 43 = .ok (.istore_n 2, 1) := by decide +kernel
theorem d_BV_power_44 : decode b_BV_power 44 = .ok (.aload_n 0, 1) := by decide +kernel
theorem d_BV_power_45 : decode b_BV_power 45 = .ok (.getfield 23, 3) := by decide +kernel
theorem d_BV_power_48 : decode b_BV_power 48 = .ok (.getfield 49, 3) := by decide +kernel
theorem d_BV_power_51 : decode b_BV_power 51 = .ok (.ifCond .eq 7, 3) := by decide +kernel
theorem d_BV_power_54 : decode b_BV_power 54 = .ok (.iconst (-1), 1) := by decide +kernel
theorem d_BV_power_55 : decode b_BV_power 55 = .ok (.goto 4, 3) := by decide +kernel
theorem d_BV_power_58 : decode b_BV_power 58 = .ok (.iload_n 2, 1) := by decide +kernel
theorem d_BV_power_59 : decode b_BV_power 59 = .ok (.ireturn, 1) := by decide +kernel
theorem d_BV_count_0 : decode b_BV_count 0 = .ok (.iload_n 1, 1) := by decide +kernel
theorem d_BV_count_1 : decode b_BV_count 1 = .ok (.tableswitch 145 0 6 #[43, 59, 67, 89, 121, 129, 137], 43) := by decide +kernel
theorem d_BV_count_44 : decode b_BV_count 44 = .ok (.aload_n 0, 1) := by decide +kernel
theorem d_BV_count_45 : decode b_BV_count 45 = .ok (.getfield 23, 3) := by decide +kernel
theorem d_BV_count_48 : decode b_BV_count 48 = .ok (.getfield 49, 3) := by decide +kernel
theorem d_BV_count_51 : decode b_BV_count 51 = .ok (.ifCond .eq 7, 3) := by decide +kernel
theorem d_BV_count_54 : decode b_BV_count 54 = .ok (.iconst 0, 1) := by decide +kernel
theorem d_BV_count_55 : decode b_BV_count 55 = .ok (.goto 4, 3) := by decide +kernel
theorem d_BV_count_58 : decode b_BV_count 58 = .ok (.iconst 1, 1) := by decide +kernel
theorem d_BV_count_59 : decode b_BV_count 59 = .ok (.ireturn, 1) := by decide +kernel
theorem d_BV_count_60 : decode b_BV_count 60 = .ok (.aload_n 0, 1) := by decide +kernel
theorem d_BV_count_61 : decode b_BV_count 61 = .ok (.getfield 23, 3) := by decide +kernel
theorem d_BV_count_64 : decode b_BV_count 64 = .ok (.getfield 45, 3) := by decide +kernel
theorem d_BV_count_67 : decode b_BV_count 67 = .ok (.ireturn, 1) := by decide +kernel
theorem d_BV_count_68 : decode b_BV_count 68 = .ok (.aload_n 0, 1) := by decide +kernel
theorem d_BV_count_69 : decode b_BV_count 69 = .ok (.getfield 23, 3) := by decide +kernel
theorem d_BV_count_72 : decode b_BV_count 72 = .ok (.getfield 49, 3) := by decide +kernel
theorem d_BV_count_75 : decode b_BV_count 75 = .ok (.ifCond .eq 7, 3) := by decide +kernel
theorem d_BV_count_78 : decode b_BV_count 78 = .ok (.iconst 0, 1) := by decide +kernel
theorem d_BV_count_79 : decode b_BV_count 79 = .ok (.goto 10, 3) := by decide +kernel
theorem d_BV_count_82 : decode b_BV_count 82 = .ok (.aload_n 0, 1) := by decide +kernel
theorem d_BV_count_83 : decode b_BV_count 83 = .ok (.getfield 41, 3) := by decide +kernel
theorem d_BV_count_86 : decode b_BV_count 86 = .ok (.getfield 62, 3) := by decide +kernel
theorem d_BV_count_89 : decode b_BV_count 89 = .ok (.ireturn, 1) := by decide +kernel
theorem d_BV_count_90 : decode b_BV_count 90 = .ok (.aload_n 0, 1) := by decide +kernel
theorem d_BV_count_91 : decode b_BV_count 91 = .ok (.getfield 23, 3) := by decide +kernel
theorem d_BV_count_94 : decode b_BV_count 94 = .ok (.getfield 49, 3) := by decide +kernel
theorem d_BV_count_97 : decode b_BV_count 97 = .ok (.ifCond .ne 13, 3) := by decide +kernel
theorem d_BV_count_100 : decode b_BV_count 100 = .ok (.aload_n 0, 1) := by decide +kernel
theorem d_BV_count_101 : decode b_BV_count 101 = .ok (.getfield 41, 3) := by decide +kernel
theorem d_BV_count_104 : decode b_BV_count 104 = .ok (.getfield 53, 3) := by decide +kernel
theorem d_BV_count_107 : decode b_BV_count 107 = .ok (.ifCond .ne 7, 3) := by decide +kernel
theorem d_BV_count_110 : decode b_BV_count 110 = .ok (.iconst (-1), 1) := by decide +kernel
theorem d_BV_count_111 : decode b_BV_count 111 = .ok (.goto 10, 3) := by decide +kernel
theorem d_BV_count_114 : decode b_BV_count 114 = .ok (.aload_n 0, 1) := by decide +kernel
theorem d_BV_count_115 : decode b_BV_count 115 = .ok (.getfield 41, 3) := by decide +kernel
theorem d_BV_count_118 : decode b_BV_count 118 = .ok (.getfield 89, 3) := by decide +kernel
theorem d_BV_count_121 : decode b_BV_count 121 = .ok (.ireturn, 1) := by decide +kernel
theorem d_BV_count_122 : decode b_BV_count 122 = .ok (.aload_n 0, 1) := by decide +kernel
theorem d_BV_count_123 : decode b_BV_count 123 = .ok (.getfield 23, 3) := by decide +kernel
theorem d_BV_count_126 : decode b_BV_count 126 = .ok (.getfield 92, 3) := by decide +kernel
theorem d_BV_count_129 : decode b_BV_count 129 = .ok (.ireturn, 1) := by decide +kernel
theorem d_BV_count_130 : decode b_BV_count 130 = .ok (.aload_n 0, 1) := by decide +kernel
theorem d_BV_count_131 : decode b_BV_count 131 = .ok (.getfield 32, 3) := by decide +kernel
theorem d_BV_count_134 : decode b_BV_count 134 = .ok (.getfield 95, 3) := by decide +kernel
theorem d_BV_count_137 : decode b_BV_count 137 = .ok (.ireturn, 1) := by decide +kernel
theorem d_BV_count_138 : decode b_BV_count 138 = .ok (.aload_n 0, 1) := by decide +kernel
theorem d_BV_count_139 : decode b_BV_count 139 = .ok (.getfield 41, 3) := by decide +kernel
theorem d_BV_count_142 : decode b_BV_count 142 = .ok (.getfield 98, 3) := by decide +kernel
theorem d_BV_count_145 : decode b_BV_count 145 = .ok (.ireturn, 1) := by decide +kernel
theorem d_BV_count_146 : decode b_BV_count 146 = .ok (.iconst (-1), 1) := by decide +kernel
theorem d_BV_count_147 : decode b_BV_count 147 = .ok (.ireturn, 1) := by decide +kernel
theorem d_BV_held_0 : decode b_BV_held 0 = .ok (.aload_n 0, 1) := by decide +kernel
theorem d_BV_held_1 : decode b_BV_held 1 = .ok (.getfield 23, 3) := by decide +kernel
theorem d_BV_held_4 : decode b_BV_held 4 = .ok (.getfield 49, 3) := by decide +kernel
theorem d_BV_held_7 : decode b_BV_held 7 = .ok (.ifCond .ne 46, 3) := by decide +kernel
theorem d_BV_held_10 : decode b_BV_held 10 = .ok (.aload_n 0, 1) := by decide +kernel
theorem d_BV_held_11 : decode b_BV_held 11 = .ok (.iload_n 1, 1) := by decide +kernel
theorem d_BV_held_12 : decode b_BV_held 12 = .ok (.invokevirtual 68, 3) := by decide +kernel
theorem d_BV_held_15 : decode b_BV_held 15 = .ok (.ifCond .eq 38, 3) := by decide +kernel
theorem d_BV_held_18 : decode b_BV_held 18 = .ok (.aload_n 0, 1) := by decide +kernel
theorem d_BV_held_19 : decode b_BV_held 19 = .ok (.getfield 32, 3) := by decide +kernel
theorem d_BV_held_22 : decode b_BV_held 22 = .ok (.iload_n 1, 1) := by decide +kernel
theorem d_BV_held_23 : decode b_BV_held 23 = .ok (.invokevirtual 101, 3) := by decide +kernel
theorem d_BV_held_26 : decode b_BV_held 26 = .ok (.iconst (-1), 1) := by decide +kernel
theorem d_BV_held_27 : decode b_BV_held 27 = .ok (.if_icmp .eq 26, 3) := by decide +kernel
theorem d_BV_held_30 : decode b_BV_held 30 = .ok (.aload_n 0, 1) := by decide +kernel
theorem d_BV_held_31 : decode b_BV_held 31 = .ok (.getfield 32, 3) := by decide +kernel
theorem d_BV_held_34 : decode b_BV_held 34 = .ok (.getfield 105, 3) := by decide +kernel
theorem d_BV_held_37 : decode b_BV_held 37 = .ok (.aload_n 0, 1) := by decide +kernel
theorem d_BV_held_38 : decode b_BV_held 38 = .ok (.getfield 32, 3) := by decide +kernel
theorem d_BV_held_41 : decode b_BV_held 41 = .ok (.iload_n 1, 1) := by decide +kernel
theorem d_BV_held_42 : decode b_BV_held 42 = .ok (.invokevirtual 101, 3) := by decide +kernel
theorem d_BV_held_45 : decode b_BV_held 45 = .ok (.baload, 1) := by decide +kernel
theorem d_BV_held_46 : decode b_BV_held 46 = .ok (.ifCond .eq 7, 3) := by decide +kernel
theorem d_BV_held_49 : decode b_BV_held 49 = .ok (.iconst 1, 1) := by decide +kernel
theorem d_BV_held_50 : decode b_BV_held 50 = .ok (.goto 4, 3) := by decide +kernel
theorem d_BV_held_53 : decode b_BV_held 53 = .ok (.iconst 0, 1) := by decide +kernel
theorem d_BV_held_54 : decode b_BV_held 54 = .ok (.ireturn, 1) := by decide +kernel
theorem d_BV_cached_0 : decode b_BV_cached 0 = .ok (.aload_n 0, 1) := by decide +kernel
theorem d_BV_cached_1 : decode b_BV_cached 1 = .ok (.getfield 23, 3) := by decide +kernel
theorem d_BV_cached_4 : decode b_BV_cached 4 = .ok (.getfield 49, 3) := by decide +kernel
theorem d_BV_cached_7 : decode b_BV_cached 7 = .ok (.ifCond .ne 27, 3) := by decide +kernel
theorem d_BV_cached_10 : decode b_BV_cached 10 = .ok (.aload_n 0, 1) := by decide +kernel
theorem d_BV_cached_11 : decode b_BV_cached 11 = .ok (.iload_n 1, 1) := by decide +kernel
theorem d_BV_cached_12 : decode b_BV_cached 12 = .ok (.invokevirtual 68, 3) := by decide +kernel
theorem d_BV_cached_15 : decode b_BV_cached 15 = .ok (.ifCond .eq 19, 3) := by decide +kernel
theorem d_BV_cached_18 : decode b_BV_cached 18 = .ok (.aload_n 0, 1) := by decide +kernel
theorem d_BV_cached_19 : decode b_BV_cached 19 = .ok (.getfield 32, 3) := by decide +kernel
theorem d_BV_cached_22 : decode b_BV_cached 22 = .ok (.iload_n 1, 1) := by decide +kernel
theorem d_BV_cached_23 : decode b_BV_cached 23 = .ok (.invokevirtual 101, 3) := by decide +kernel
theorem d_BV_cached_26 : decode b_BV_cached 26 = .ok (.iconst (-1), 1) := by decide +kernel
theorem d_BV_cached_27 : decode b_BV_cached 27 = .ok (.if_icmp .eq 7, 3) := by decide +kernel
theorem d_BV_cached_30 : decode b_BV_cached 30 = .ok (.iconst 1, 1) := by decide +kernel
theorem d_BV_cached_31 : decode b_BV_cached 31 = .ok (.goto 4, 3) := by decide +kernel
theorem d_BV_cached_34 : decode b_BV_cached 34 = .ok (.iconst 0, 1) := by decide +kernel
theorem d_BV_cached_35 : decode b_BV_cached 35 = .ok (.ireturn, 1) := by decide +kernel
end
section
theorem d_Md_init_0 : decode b_Md_init 0 = .ok (.aload_n 0, 1) := by decide +kernel
theorem d_Md_init_1 : decode b_Md_init 1 = .ok (.invokespecial 1, 3) := by decide +kernel
theorem d_Md_init_4 : decode b_Md_init 4 = .ok (.aload_n 0, 1) := by decide +kernel
theorem d_Md_init_5 : decode b_Md_init 5 = .ok (.ldc 7, 2) := by decide +kernel
theorem d_Md_init_7 : decode b_Md_init 7 = .ok (.newarray .byte, 2) := by decide +kernel
theorem d_Md_init_9 : decode b_Md_init 9 = .ok (.putfield 8, 3) := by decide +kernel
theorem d_Md_init_12 : decode b_Md_init 12 = .ok (.aload_n 0, 1) := by decide +kernel
theorem d_Md_init_13 : decode b_Md_init 13 = .ok (.ldc 7, 2) := by decide +kernel
theorem d_Md_init_15 : decode b_Md_init 15 = .ok (.newarray .byte, 2) := by decide +kernel
theorem d_Md_init_17 : decode b_Md_init 17 = .ok (.putfield 14, 3) := by decide +kernel
theorem d_Md_init_20 : decode b_Md_init 20 = .ok (.aload_n 0, 1) := by decide +kernel
theorem d_Md_init_21 : decode b_Md_init 21 = .ok (.bipush 80, 2) := by decide +kernel
theorem d_Md_init_23 : decode b_Md_init 23 = .ok (.newarray .boolean, 2) := by decide +kernel
theorem d_Md_init_25 : decode b_Md_init 25 = .ok (.putfield 17, 3) := by decide +kernel
theorem d_Md_init_28 : decode b_Md_init 28 = .ok (.aload_n 0, 1) := by decide +kernel
theorem d_Md_init_29 : decode b_Md_init 29 = .ok (.bipush 80, 2) := by decide +kernel
theorem d_Md_init_31 : decode b_Md_init 31 = .ok (.newarray .boolean, 2) := by decide +kernel
theorem d_Md_init_33 : decode b_Md_init 33 = .ok (.putfield 21, 3) := by decide +kernel
theorem d_Md_init_36 : decode b_Md_init 36 = .ok (.aload_n 0, 1) := by decide +kernel
theorem d_Md_init_37 : decode b_Md_init 37 = .ok (.bipush 80, 2) := by decide +kernel
theorem d_Md_init_39 : decode b_Md_init 39 = .ok (.newarray .int, 2) := by decide +kernel
theorem d_Md_init_41 : decode b_Md_init 41 = .ok (.putfield 24, 3) := by decide +kernel
theorem d_Md_init_44 : decode b_Md_init 44 = .ok (.aload_n 0, 1) := by decide +kernel
theorem d_Md_init_45 : decode b_Md_init 45 = .ok (.iconst 1, 1) := by decide +kernel
theorem d_Md_init_46 : decode b_Md_init 46 = .ok (.putfield 28, 3) := by decide +kernel
theorem d_Md_init_49 : decode b_Md_init 49 = .ok (.aload_n 0, 1) := by decide +kernel
theorem d_Md_init_50 : decode b_Md_init 50 = .ok (.iconst (-1), 1) := by decide +kernel
theorem d_Md_init_51 : decode b_Md_init 51 = .ok (.putfield 32, 3) := by decide +kernel
theorem d_Md_init_54 : decode b_Md_init 54 = .ok (.aload_n 0, 1) := by decide +kernel
theorem d_Md_init_55 : decode b_Md_init 55 = .ok (.iconst (-1), 1) := by decide +kernel
theorem d_Md_init_56 : decode b_Md_init 56 = .ok (.putfield 36, 3) := by decide +kernel
theorem d_Md_init_59 : decode b_Md_init 59 = .ok (.aload_n 0, 1) := by decide +kernel
theorem d_Md_init_60 : decode b_Md_init 60 = .ok (.iload_n 1, 1) := by decide +kernel
theorem d_Md_init_61 : decode b_Md_init 61 = .ok (.bipush 40, 2) := by decide +kernel
theorem d_Md_init_63 : decode b_Md_init 63 = .ok (.if_icmp .ge 8, 3) := by decide +kernel
theorem d_Md_init_66 : decode b_Md_init 66 = .ok (.bipush 40, 2) := by decide +kernel
theorem d_Md_init_68 : decode b_Md_init 68 = .ok (.goto 15, 3) := by decide +kernel
theorem d_Md_init_71 : decode b_Md_init 71 = .ok (.iload_n 1, 1) := by decide +kernel
theorem d_Md_init_72 : decode b_Md_init 72 = .ok (.bipush 80, 2) := by decide +kernel
theorem d_Md_init_74 : decode b_Md_init 74 = .ok (.if_icmp .le 8, 3) := by decide +kernel
theorem d_Md_init_77 : decode b_Md_init 77 = .ok (.bipush 80, 2) := by decide +kernel
theorem d_Md_init_79 : decode b_Md_init 79 = .ok (.goto 4, 3) := by decide +kernel
theorem d_Md_init_82 : decode b_Md_init 82 = .ok (.iload_n 1, 1) := by decide +kernel
theorem d_Md_init_83 : decode b_Md_init 83 = .ok (.putfield 39, 3) := by decide +kernel
theorem d_Md_init_86 : decode b_Md_init 86 = .ok (.return_, 1) := by decide +kernel
theorem d_Md_isBlock_0 : decode b_Md_isBlock 0 = .ok (.iload_n 1, 1) := by decide +kernel
theorem d_Md_isBlock_1 : decode b_Md_isBlock 1 = .ok (.ifCond .lt 26, 3) := by decide +kernel
theorem d_Md_isBlock_4 : decode b_Md_isBlock 4 = .ok (.iload_n 1, 1) := by decide +kernel
theorem d_Md_isBlock_5 : decode b_Md_isBlock 5 = .ok (.aload_n 0, 1) := by decide +kernel
theorem d_Md_isBlock_6 : decode b_Md_isBlock 6 = .ok (.getfield 39, 3) := by decide +kernel
theorem d_Md_isBlock_9 : decode b_Md_isBlock 9 = .ok (.if_icmp .ge 18, 3) := by decide +kernel
theorem d_Md_isBlock_12 : decode b_Md_isBlock 12 = .ok (.iload_n 1, 1) := by decide +kernel
theorem d_Md_isBlock_13 : decode b_Md_isBlock 13 = .ok (.iconst 2, 1) := by decide +kernel
theorem d_Md_isBlock_14 : decode b_Md_isBlock 14 = .ok (.if_icmp .lt 9, 3) := by decide +kernel
theorem d_Md_isBlock_17 : decode b_Md_isBlock 17 = .ok (.iload_n 1, 1) := by decide +kernel
theorem d_Md_isBlock_18 : decode b_Md_isBlock 18 = .ok (.bipush 32, 2) := by decide +kernel
theorem d_Md_isBlock_20 : decode b_Md_isBlock 20 = .ok (.if_icmp .le 7, 3) := by decide +kernel
theorem d_Md_isBlock_23 : decode b_Md_isBlock 23 = .ok (.iconst 1, 1) := by decide +kernel
theorem d_Md_isBlock_24 : decode b_Md_isBlock 24 = .ok (.goto 4, 3) := by decide +kernel
theorem d_Md_isBlock_27 : decode b_Md_isBlock 27 = .ok (.iconst 0, 1) := by decide +kernel
theorem d_Md_isBlock_28 : decode b_Md_isBlock 28 = .ok (.ireturn, 1) := by decide +kernel
theorem d_Md_many_0 : decode b_Md_many 0 = .ok (.iconst 0, 1) := by decide +kernel
theorem d_Md_many_1 : decode b_Md_many 1 = .ok (.istore_n 1, 1) := by decide +kernel
theorem d_Md_many_2 : decode b_Md_many 2 = .ok (.iconst 0, 1) := by decide +kernel
theorem d_Md_many_3 : decode b_Md_many 3 = .ok (.istore_n 2, 1) := by decide +kernel
theorem d_Md_many_4 : decode b_Md_many 4 = .ok (.iload_n 2, 1) := by decide +kernel
theorem d_Md_many_5 : decode b_Md_many 5 = .ok (.bipush 80, 2) := by decide +kernel
theorem d_Md_many_7 : decode b_Md_many 7 = .ok (.if_icmp .ge 23, 3) := by decide +kernel
theorem d_Md_many_10 : decode b_Md_many 10 = .ok (.iload_n 1, 1) := by decide +kernel
theorem d_Md_many_11 : decode b_Md_many 11 = .ok (.aload_n 0, 1) := by decide +kernel
theorem d_Md_many_12 : decode b_Md_many 12 = .ok (.iload_n 2, 1) := by decide +kernel
theorem d_Md_many_13 : decode b_Md_many 13 = .ok (.baload, 1) := by decide +kernel
theorem d_Md_many_14 : decode b_Md_many 14 = .ok (.ifCond .eq 7, 3) := by decide +kernel
theorem d_Md_many_17 : decode b_Md_many 17 = .ok (.iconst 1, 1) := by decide +kernel
theorem d_Md_many_18 : decode b_Md_many 18 = .ok (.goto 4, 3) := by decide +kernel
theorem d_Md_many_21 : decode b_Md_many 21 = .ok (.iconst 0, 1) := by decide +kernel
theorem d_Md_many_22 : decode b_Md_many 22 = .ok (.iadd, 1) := by decide +kernel
theorem d_Md_many_23 : decode b_Md_many 23 = .ok (.istore_n 1, 1) := by decide +kernel
theorem d_Md_many_24 : decode b_Md_many 24 = .ok (.iinc 2 1, 3) := by decide +kernel
theorem d_Md_many_27 : decode b_Md_many 27 = .ok (.goto (-23), 3) := by decide +kernel
theorem d_Md_many_30 : decode b_Md_many 30 = .ok (.iload_n 1, 1) := by decide +kernel
theorem d_Md_many_31 : decode b_Md_many 31 = .ok (.ireturn, 1) := by decide +kernel
theorem d_Md_begin_0 : decode b_Md_begin 0 = .ok (.aload_n 0, 1) := by decide +kernel
theorem d_Md_begin_1 : decode b_Md_begin 1 = .ok (.iconst 0, 1) := by decide +kernel
theorem d_Md_begin_2 : decode b_Md_begin 2 = .ok (.putfield 42, 3) := by decide +kernel
theorem d_Md_begin_5 : decode b_Md_begin 5 = .ok (.aload_n 0, 1) := by decide +kernel
theorem d_Md_begin_6 : decode b_Md_begin 6 = .ok (.getfield 28, 3) := by decide +kernel
theorem d_Md_begin_9 : decode b_Md_begin 9 = .ok (.ifCond .eq 10, 3) := by decide +kernel
theorem d_Md_begin_12 : decode b_Md_begin 12 = .ok (.aload_n 0, 1) := by decide +kernel
theorem d_Md_begin_13 : decode b_Md_begin 13 = .ok (.getfield 45, 3) := by decide +kernel
theorem d_Md_begin_16 : decode b_Md_begin 16 = .ok (.ifCond .eq 5, 3) := by decide +kernel
theorem d_Md_begin_19 : decode b_Md_begin 19 = .ok (.iconst 0, 1) := by decide +kernel
theorem d_Md_begin_20 : decode b_Md_begin 20 = .ok (.ireturn, 1) := by decide +kernel
theorem d_Md_begin_21 : decode b_Md_begin 21 = .ok (.aload_n 0, 1) := by decide +kernel
theorem d_Md_begin_22 : decode b_Md_begin 22 = .ok (.iconst 1, 1) := by decide +kernel
theorem d_Md_begin_23 : decode b_Md_begin 23 = .ok (.putfield 45, 3) := by decide +kernel
theorem d_Md_begin_26 : decode b_Md_begin 26 = .ok (.iconst 0, 1) := by decide +kernel
theorem d_Md_begin_27 : decode b_Md_begin 27 = .ok (.istore_n 1, 1) := by decide +kernel
theorem d_Md_begin_28 : decode b_Md_begin 28 = .ok (.iload_n 1, 1) := by decide +kernel
theorem d_Md_begin_29 : decode b_Md_begin 29 = .ok (.bipush 80, 2) := by decide +kernel
theorem d_Md_begin_31 : decode b_Md_begin 31 = .ok (.if_icmp .ge 16, 3) := by decide +kernel
theorem d_Md_begin_34 : decode b_Md_begin 34 = .ok (.aload_n 0, 1) := by decide +kernel
theorem d_Md_begin_35 : decode b_Md_begin 35 = .ok (.getfield 21, 3) := by decide +kernel
theorem d_Md_begin_38 : decode b_Md_begin 38 = .ok (.iload_n 1, 1) := by decide +kernel
theorem d_Md_begin_39 : decode b_Md_begin 39 = .ok (.iconst 0, 1) := by decide +kernel
theorem d_Md_begin_40 : decode b_Md_begin 40 = .ok (.bastore, 1) := by decide +kernel
theorem d_Md_begin_41 : decode b_Md_begin 41 = .ok (.iinc 1 1, 3) := by decide +kernel
theorem d_Md_begin_44 : decode b_Md_begin 44 = .ok (.goto (-16), 3) := by decide +kernel
theorem d_Md_begin_47 : decode b_Md_begin 47 = .ok (.iconst 1, 1) := by decide +kernel
theorem d_Md_begin_48 : decode b_Md_begin 48 = .ok (.ireturn, 1) := by decide +kernel
theorem d_Md_written_0 : decode b_Md_written 0 = .ok (.aload_n 0, 1) := by decide +kernel
theorem d_Md_written_1 : decode b_Md_written 1 = .ok (.getfield 32, 3) := by decide +kernel
theorem d_Md_written_4 : decode b_Md_written 4 = .ok (.ifCond .lt 11, 3) := by decide +kernel
theorem d_Md_written_7 : decode b_Md_written 7 = .ok (.aload_n 0, 1) := by decide +kernel
theorem d_Md_written_8 : decode b_Md_written 8 = .ok (.getfield 32, 3) := by decide +kernel
theorem d_Md_written_11 : decode b_Md_written 11 = .ok (.iload_n 1, 1) := by decide +kernel
theorem d_Md_written_12 : decode b_Md_written 12 = .ok (.if_icmp .lt 39, 3) := by decide +kernel
theorem d_Md_written_15 : decode b_Md_written 15 = .ok (.aload_n 0, 1) := by decide +kernel
theorem d_Md_written_16 : decode b_Md_written 16 = .ok (.dup, 1) := by decide +kernel
theorem d_Md_written_17 : decode b_Md_written 17 = .ok (.getfield 48, 3) := by decide +kernel
theorem d_Md_written_20 : decode b_Md_written 20 = .ok (.iload_n 1, 1) := by decide +kernel
theorem d_Md_written_21 : decode b_Md_written 21 = .ok (.iadd, 1) := by decide +kernel
theorem d_Md_written_22 : decode b_Md_written 22 = .ok (.putfield 48, 3) := by decide +kernel
theorem d_Md_written_25 : decode b_Md_written 25 = .ok (.aload_n 0, 1) := by decide +kernel
theorem d_Md_written_26 : decode b_Md_written 26 = .ok (.aload_n 0, 1) := by decide +kernel
theorem d_Md_written_27 : decode b_Md_written 27 = .ok (.getfield 32, 3) := by decide +kernel
theorem d_Md_written_30 : decode b_Md_written 30 = .ok (.ifCond .ge 10, 3) := by decide +kernel
theorem d_Md_written_33 : decode b_Md_written 33 = .ok (.aload_n 0, 1) := by decide +kernel
theorem d_Md_written_34 : decode b_Md_written 34 = .ok (.getfield 32, 3) := by decide +kernel
theorem d_Md_written_37 : decode b_Md_written 37 = .ok (.goto 9, 3) := by decide +kernel
theorem d_Md_written_40 : decode b_Md_written 40 = .ok (.aload_n 0, 1) := by decide +kernel
theorem d_Md_written_41 : decode b_Md_written 41 = .ok (.getfield 32, 3) := by decide +kernel
theorem d_Md_written_44 : decode b_Md_written 44 = .ok (.iload_n 1, 1) := by decide +kernel
theorem d_Md_written_45 : decode b_Md_written 45 = .ok (.isub, 1) := by decide +kernel
theorem d_Md_written_46 : decode b_Md_written 46 = .ok (.putfield 32, 3) := by decide +kernel
theorem d_Md_written_49 : decode b_Md_written 49 = .ok (.iconst 1, 1) := by decide +kernel
theorem d_Md_written_50 : decode b_Md_written 50 = .ok (.ireturn, 1) := by decide +kernel
theorem d_Md_written_51 : decode b_Md_written 51 = .ok (.aload_n 0, 1) := by decide +kernel
theorem d_Md_written_52 : decode b_Md_written 52 = .ok (.dup, 1) := by decide +kernel
theorem d_Md_written_53 : decode b_Md_written 53 = .ok (.getfield 48, 3) := by decide +kernel
theorem d_Md_written_56 : decode b_Md_written 56 = .ok (.aload_n 0, 1) := by decide +kernel
theorem d_Md_written_57 : decode b_Md_written 57 = .ok (.getfield 32, 3) := by decide +kernel
theorem d_Md_written_60 : decode b_Md_written 60 = .ok (.iadd, 1) := by decide +kernel
theorem d_Md_written_61 : decode b_Md_written 61 = .ok (.putfield 48, 3) := by decide +kernel
theorem d_Md_written_64 : decode b_Md_written 64 = .ok (.aload_n 0, 1) := by decide +kernel
theorem d_Md_written_65 : decode b_Md_written 65 = .ok (.iconst (-1), 1) := by decide +kernel
theorem d_Md_written_66 : decode b_Md_written 66 = .ok (.putfield 32, 3) := by decide +kernel
theorem d_Md_written_69 : decode b_Md_written 69 = .ok (.aload_n 0, 1) := by decide +kernel
theorem d_Md_written_70 : decode b_Md_written 70 = .ok (.iconst 0, 1) := by decide +kernel
theorem d_Md_written_71 : decode b_Md_written 71 = .ok (.putfield 28, 3) := by decide +kernel
theorem d_Md_written_74 : decode b_Md_written 74 = .ok (.iconst 0, 1) := by decide +kernel
theorem d_Md_written_75 : decode b_Md_written 75 = .ok (.ireturn, 1) := by decide +kernel
theorem d_Md_commit_0 : decode b_Md_commit 0 = .ok (.aload_n 0, 1) := by decide +kernel
theorem d_Md_commit_1 : decode b_Md_commit 1 = .ok (.getfield 17, 3) := by decide +kernel
theorem d_Md_commit_4 : decode b_Md_commit 4 = .ok (.invokestatic 51, 3) := by decide +kernel
theorem d_Md_commit_7 : decode b_Md_commit 7 = .ok (.istore_n 1, 1) := by decide +kernel
theorem d_Md_commit_8 : decode b_Md_commit 8 = .ok (.aload_n 0, 1) := by decide +kernel
theorem d_Md_commit_9 : decode b_Md_commit 9 = .ok (.iload_n 1, 1) := by decide +kernel
theorem d_Md_commit_10 : decode b_Md_commit 10 = .ok (.iconst 1, 1) := by decide +kernel
theorem d_Md_commit_11 : decode b_Md_commit 11 = .ok (.iadd, 1) := by decide +kernel
theorem d_Md_commit_12 : decode b_Md_commit 12 = .ok (.invokevirtual 55, 3) := by decide +kernel
theorem d_Md_commit_15 : decode b_Md_commit 15 = .ok (.ifCond .ne 5, 3) := by decide +kernel
theorem d_Md_commit_18 : decode b_Md_commit 18 = .ok (.iconst 0, 1) := by decide +kernel
theorem d_Md_commit_19 : decode b_Md_commit 19 = .ok (.ireturn, 1) := by decide +kernel
theorem d_Md_commit_20 : decode b_Md_commit 20 = .ok (.aload_n 0, 1) := by decide +kernel
theorem d_Md_commit_21 : decode b_Md_commit 21 = .ok (.dup, 1) := by decide +kernel
theorem d_Md_commit_22 : decode b_Md_commit 22 = .ok (.getfield 59, 3) := by decide +kernel
theorem d_Md_commit_25 : decode b_Md_commit 25 = .ok (.iconst 1, 1) := by decide +kernel
theorem d_Md_commit_26 : decode b_Md_commit 26 = .ok (.iadd, 1) := by decide +kernel
theorem d_Md_commit_27 : decode b_Md_commit 27 = .ok (.putfield 59, 3) := by decide +kernel
theorem d_Md_commit_30 : decode b_Md_commit 30 = .ok (.iconst 0, 1) := by decide +kernel
theorem d_Md_commit_31 : decode b_Md_commit 31 = .ok (.istore_n 2, 1) := by decide +kernel
theorem d_Md_commit_32 : decode b_Md_commit 32 = .ok (.iload_n 2, 1) := by decide +kernel
theorem d_Md_commit_33 : decode b_Md_commit 33 = .ok (.aload_n 0, 1) := by decide +kernel
theorem d_Md_commit_34 : decode b_Md_commit 34 = .ok (.getfield 39, 3) := by decide +kernel
theorem d_Md_commit_37 : decode b_Md_commit 37 = .ok (.if_icmp .ge 62, 3) := by decide +kernel
theorem d_Md_commit_40 : decode b_Md_commit 40 = .ok (.sipush 1024, 3) := by decide +kernel
theorem d_Md_commit_43 : decode b_Md_commit 43 = .ok (.iload_n 2, 1) := by decide +kernel
theorem d_Md_commit_44 : decode b_Md_commit 44 = .ok (.imul, 1) := by decide +kernel
theorem d_Md_commit_45 : decode b_Md_commit 45 = .ok (.istore_n 3, 1) := by decide +kernel
theorem d_Md_commit_46 : decode b_Md_commit 46 = .ok (.iload_n 3, 1) := by decide +kernel
theorem d_Md_commit_47 : decode b_Md_commit 47 = .ok (.sipush 1024, 3) := by decide +kernel
theorem d_Md_commit_50 : decode b_Md_commit 50 = .ok (.iload_n 2, 1) := by decide +kernel
theorem d_Md_commit_51 : decode b_Md_commit 51 = .ok (.imul, 1) := by decide +kernel
theorem d_Md_commit_52 : decode b_Md_commit 52 = .ok (.sipush 1024, 3) := by decide +kernel
theorem d_Md_commit_55 : decode b_Md_commit 55 = .ok (.iadd, 1) := by decide +kernel
theorem d_Md_commit_56 : decode b_Md_commit 56 = .ok (.if_icmp .ge 30, 3) := by decide +kernel
theorem d_Md_commit_59 : decode b_Md_commit 59 = .ok (.aload_n 0, 1) := by decide +kernel
theorem d_Md_commit_60 : decode b_Md_commit 60 = .ok (.getfield 17, 3) := by decide +kernel
theorem d_Md_commit_63 : decode b_Md_commit 63 = .ok (.iload_n 2, 1) := by decide +kernel
theorem d_Md_commit_64 : decode b_Md_commit 64 = .ok (.baload, 1) := by decide +kernel
theorem d_Md_commit_65 : decode b_Md_commit 65 = .ok (.ifCond .eq 21, 3) := by decide +kernel
theorem d_Md_commit_68 : decode b_Md_commit 68 = .ok (.aload_n 0, 1) := by decide +kernel
theorem d_Md_commit_69 : decode b_Md_commit 69 = .ok (.getfield 8, 3) := by decide +kernel
theorem d_Md_commit_72 : decode b_Md_commit 72 = .ok (.iload_n 3, 1) := by decide +kernel
theorem d_Md_commit_73 : decode b_Md_commit 73 = .ok (.aload_n 0, 1) := by decide +kernel
theorem d_Md_commit_74 : decode b_Md_commit 74 = .ok (.getfield 14, 3) := by decide +kernel
theorem d_Md_commit_77 : decode b_Md_commit 77 = .ok (.iload_n 3, 1) := by decide +kernel
theorem d_Md_commit_78 : decode b_Md_commit 78 = .ok (.baload, 1) := by decide +kernel
theorem d_Md_commit_79 : decode b_Md_commit 79 = .ok (.bastore, 1) := by decide +kernel
theorem d_Md_commit_80 : decode b_Md_commit 80 = .ok (.iinc 3 1, 3) := by decide +kernel
theorem d_Md_commit_83 : decode b_Md_commit 83 = .ok (.goto (-37), 3) := by decide +kernel
theorem d_Md_commit_86 : decode b_Md_commit 86 = .ok (.aload_n 0, 1) := by decide +kernel
theorem d_Md_commit_87 : decode b_Md_commit 87 = .ok (.getfield 17, 3) := by decide +kernel
theorem d_Md_commit_90 : decode b_Md_commit 90 = .ok (.iload_n 2, 1) := by decide +kernel
theorem d_Md_commit_91 : decode b_Md_commit 91 = .ok (.iconst 0, 1) := by decide +kernel
theorem d_Md_commit_92 : decode b_Md_commit 92 = .ok (.bastore, 1) := by decide +kernel
theorem d_Md_commit_93 : decode b_Md_commit 93 = .ok (.iinc 2 1, 3) := by decide +kernel
theorem d_Md_commit_96 : decode b_Md_commit 96 = .ok (.goto (-64), 3) := by decide +kernel
theorem d_Md_commit_99 : decode b_Md_commit 99 = .ok (.aload_n 0, 1) := by decide +kernel
theorem d_Md_commit_100 : decode b_Md_commit 100 = .ok (.iload_n 1, 1) := by decide +kernel
theorem d_Md_commit_101 : decode b_Md_commit 101 = .ok (.putfield 36, 3) := by decide +kernel
theorem d_Md_commit_104 : decode b_Md_commit 104 = .ok (.aload_n 0, 1) := by decide +kernel
theorem d_Md_commit_105 : decode b_Md_commit 105 = .ok (.invokevirtual 62, 3) := by decide +kernel
theorem d_Md_commit_108 : decode b_Md_commit 108 = .ok (.ireturn, 1) := by decide +kernel
theorem d_Md_ended_0 : decode b_Md_ended 0 = .ok (.aload_n 0, 1) := by decide +kernel
theorem d_Md_ended_1 : decode b_Md_ended 1 = .ok (.aload_n 0, 1) := by decide +kernel
theorem d_Md_ended_2 : decode b_Md_ended 2 = .ok (.getfield 36, 3) := by decide +kernel
theorem d_Md_ended_5 : decode b_Md_ended 5 = .ok (.iconst 1, 1) := by decide +kernel
theorem d_Md_ended_6 : decode b_Md_ended 6 = .ok (.iadd, 1) := by decide +kernel
theorem d_Md_ended_7 : decode b_Md_ended 7 = .ok (.invokevirtual 55, 3) := by decide +kernel
theorem d_Md_ended_10 : decode b_Md_ended 10 = .ok (.istore_n 1, 1) := by decide +kernel
theorem d_Md_ended_11 : decode b_Md_ended 11 = .ok (.aload_n 0, 1) := by decide +kernel
theorem d_Md_ended_12 : decode b_Md_ended 12 = .ok (.iload_n 1, 1) := by decide +kernel
theorem d_Md_ended_13 : decode b_Md_ended 13 = .ok (.ifCond .eq 7, 3) := by decide +kernel
theorem d_Md_ended_16 : decode b_Md_ended 16 = .ok (.iconst (-1), 1) := by decide +kernel
theorem d_Md_ended_17 : decode b_Md_ended 17 = .ok (.goto 7, 3) := by decide +kernel
theorem d_Md_ended_20 : decode b_Md_ended 20 = .ok (.aload_n 0, 1) := by decide +kernel
theorem d_Md_ended_21 : decode b_Md_ended 21 = .ok (.getfield 36, 3) := by decide +kernel
theorem d_Md_ended_24 : decode b_Md_ended 24 = .ok (.putfield 36, 3) := by decide +kernel
theorem d_Md_ended_27 : decode b_Md_ended 27 = .ok (.iload_n 1, 1) := by decide +kernel
theorem d_Md_ended_28 : decode b_Md_ended 28 = .ok (.ireturn, 1) := by decide +kernel
theorem d_Md_end_0 : decode b_Md_end 0 = .ok (.aload_n 0, 1) := by decide +kernel
theorem d_Md_end_1 : decode b_Md_end 1 = .ok (.iconst 0, 1) := by decide +kernel
theorem d_Md_end_2 : decode b_Md_end 2 = .ok (.putfield 42, 3) := by decide +kernel
theorem d_Md_end_5 : decode b_Md_end 5 = .ok (.aload_n 0, 1) := by decide +kernel
theorem d_Md_end_6 : decode b_Md_end 6 = .ok (.getfield 28, 3) := by decide +kernel
theorem d_Md_end_9 : decode b_Md_end 9 = .ok (.ifCond .eq 10, 3) := by decide +kernel
theorem d_Md_end_12 : decode b_Md_end 12 = .ok (.aload_n 0, 1) := by decide +kernel
theorem d_Md_end_13 : decode b_Md_end 13 = .ok (.getfield 45, 3) := by decide +kernel
theorem d_Md_end_16 : decode b_Md_end 16 = .ok (.ifCond .ne 5, 3) := by decide +kernel
theorem d_Md_end_19 : decode b_Md_end 19 = .ok (.iconst (-1), 1) := by decide +kernel
theorem d_Md_end_20 : decode b_Md_end 20 = .ok (.ireturn, 1) := by decide +kernel
theorem d_Md_end_21 : decode b_Md_end 21 = .ok (.aload_n 0, 1) := by decide +kernel
theorem d_Md_end_22 : decode b_Md_end 22 = .ok (.iconst 0, 1) := by decide +kernel
theorem d_Md_end_23 : decode b_Md_end 23 = .ok (.putfield 45, 3) := by decide +kernel
theorem d_Md_end_26 : decode b_Md_end 26 = .ok (.aload_n 0, 1) := by decide +kernel
theorem d_Md_end_27 : decode b_Md_end 27 = .ok (.getfield 17, 3) := by decide +kernel
theorem d_Md_end_30 : decode b_Md_end 30 = .ok (.invokestatic 51, 3) := by decide +kernel
theorem d_Md_end_33 : decode b_Md_end 33 = .ok (.istore_n 1, 1) := by decide +kernel
theorem d_Md_end_34 : decode b_Md_end 34 = .ok (.iload_n 1, 1) := by decide +kernel
theorem d_Md_end_35 : decode b_Md_end 35 = .ok (.bipush 20, 2) := by decide +kernel
theorem d_Md_end_37 : decode b_Md_end 37 = .ok (.if_icmp .gt 5, 3) := by decide +kernel
theorem d_Md_end_40 : decode b_Md_end 40 = .ok (.iload_n 1, 1) := by decide +kernel
theorem d_Md_end_41 : decode b_Md_end 41 = .ok (.ireturn, 1) := by decide +kernel
theorem d_Md_end_42 : decode b_Md_end 42 = .ok (.aload_n 0, 1) := by decide +kernel
theorem d_Md_end_43 : decode b_Md_end 43 = .ok (.invokevirtual 66, 3) := by decide +kernel
theorem d_Md_end_46 : decode b_Md_end 46 = .ok (.ifCond .eq 7, 3) := by decide +kernel
theorem d_Md_end_49 : decode b_Md_end 49 = .ok (.iconst 0, 1) := by decide +kernel
theorem d_Md_end_50 : decode b_Md_end 50 = .ok (.goto 4, 3) := by decide +kernel
theorem d_Md_end_53 : decode b_Md_end 53 = .ok (.iconst (-1), 1) := by decide +kernel
theorem d_Md_end_54 : decode b_Md_end 54 = .ok (.ireturn, 1) := by decide +kernel
theorem d_Md_flush_0 : decode b_Md_flush 0 = .ok (.aload_n 0, 1) := by decide +kernel
theorem d_Md_flush_1 : decode b_Md_flush 1 = .ok (.iconst 0, 1) := by decide +kernel
theorem d_Md_flush_2 : decode b_Md_flush 2 = .ok (.putfield 42, 3) := by decide +kernel
theorem d_Md_flush_5 : decode b_Md_flush 5 = .ok (.aload_n 0, 1) := by decide +kernel
theorem d_Md_flush_6 : decode b_Md_flush 6 = .ok (.getfield 28, 3) := by decide +kernel
theorem d_Md_flush_9 : decode b_Md_flush 9 = .ok (.ifCond .eq 10, 3) := by decide +kernel
theorem d_Md_flush_12 : decode b_Md_flush 12 = .ok (.aload_n 0, 1) := by decide +kernel
theorem d_Md_flush_13 : decode b_Md_flush 13 = .ok (.getfield 45, 3) := by decide +kernel
theorem d_Md_flush_16 : decode b_Md_flush 16 = .ok (.ifCond .eq 5, 3) := by decide +kernel
theorem d_Md_flush_19 : decode b_Md_flush 19 = .ok (.iconst (-1), 1) := by decide +kernel
theorem d_Md_flush_20 : decode b_Md_flush 20 = .ok (.ireturn, 1) := by decide +kernel
theorem d_Md_flush_21 : decode b_Md_flush 21 = .ok (.aload_n 0, 1) := by decide +kernel
theorem d_Md_flush_22 : decode b_Md_flush 22 = .ok (.getfield 17, 3) := by decide +kernel
theorem d_Md_flush_25 : decode b_Md_flush 25 = .ok (.invokestatic 51, 3) := by decide +kernel
theorem d_Md_flush_28 : decode b_Md_flush 28 = .ok (.istore_n 1, 1) := by decide +kernel
theorem d_Md_flush_29 : decode b_Md_flush 29 = .ok (.iload_n 1, 1) := by decide +kernel
theorem d_Md_flush_30 : decode b_Md_flush 30 = .ok (.ifCond .eq 10, 3) := by decide +kernel
theorem d_Md_flush_33 : decode b_Md_flush 33 = .ok (.aload_n 0, 1) := by decide +kernel
theorem d_Md_flush_34 : decode b_Md_flush 34 = .ok (.invokevirtual 66, 3) := by decide +kernel
theorem d_Md_flush_37 : decode b_Md_flush 37 = .ok (.ifCond .eq 7, 3) := by decide +kernel
theorem d_Md_flush_40 : decode b_Md_flush 40 = .ok (.iload_n 1, 1) := by decide +kernel
theorem d_Md_flush_41 : decode b_Md_flush 41 = .ok (.goto 4, 3) := by decide +kernel
theorem d_Md_flush_44 : decode b_Md_flush 44 = .ok (.iconst (-1), 1) := by decide +kernel
theorem d_Md_flush_45 : decode b_Md_flush 45 = .ok (.ireturn, 1) := by decide +kernel
theorem d_Md_look_0 : decode b_Md_look 0 = .ok (.aload_n 0, 1) := by decide +kernel
theorem d_Md_look_1 : decode b_Md_look 1 = .ok (.getfield 24, 3) := by decide +kernel
theorem d_Md_look_4 : decode b_Md_look 4 = .ok (.iload_n 1, 1) := by decide +kernel
theorem d_Md_look_5 : decode b_Md_look 5 = .ok (.iaload, 1) := by decide +kernel
theorem d_Md_look_6 : decode b_Md_look 6 = .ok (.ifCond .ne 109, 3) := by decide +kernel
theorem d_Md_look_9 : decode b_Md_look 9 = .ok (.aload_n 0, 1) := by decide +kernel
theorem d_Md_look_10 : decode b_Md_look 10 = .ok (.dup, 1) := by decide +kernel
theorem d_Md_look_11 : decode b_Md_look 11 = .ok (.getfield 69, 3) := by decide +kernel
theorem d_Md_look_14 : decode b_Md_look 14 = .ok (.iconst 1, 1) := by decide +kernel
theorem d_Md_look_15 : decode b_Md_look 15 = .ok (.iadd, 1) := by decide +kernel
theorem d_Md_look_16 : decode b_Md_look 16 = .ok (.putfield 69, 3) := by decide +kernel
theorem d_Md_look_19 : decode b_Md_look 19 = .ok (.iconst 0, 1) := by decide +kernel
theorem d_Md_look_20 : decode b_Md_look 20 = .ok (.istore_n 2, 1) := by decide +kernel
theorem d_Md_look_21 : decode b_Md_look 21 = .ok (.iconst (-1), 1) := by decide +kernel
theorem d_Md_look_22 : decode b_Md_look 22 = .ok (.istore_n 3, 1) := by decide +kernel
theorem d_Md_look_23 : decode b_Md_look 23 = .ok (.iconst 0, 1) := by decide +kernel
theorem d_Md_look_24 : decode b_Md_look 24 = .ok (.istore 4, 2) := by decide +kernel
theorem d_Md_look_26 : decode b_Md_look 26 = .ok (.iload 4, 2) := by decide +kernel
theorem d_Md_look_28 : decode b_Md_look 28 = .ok (.aload_n 0, 1) := by decide +kernel
theorem d_Md_look_29 : decode b_Md_look 29 = .ok (.getfield 39, 3) := by decide +kernel
theorem d_Md_look_32 : decode b_Md_look 32 = .ok (.if_icmp .ge 70, 3) := by decide +kernel
theorem d_Md_look_35 : decode b_Md_look 35 = .ok (.iload_n 2, 1) := by decide +kernel
theorem d_Md_look_36 : decode b_Md_look 36 = .ok (.aload_n 0, 1) := by decide +kernel
theorem d_Md_look_37 : decode b_Md_look 37 = .ok (.getfield 24, 3) := by decide +kernel
theorem d_Md_look_40 : decode b_Md_look 40 = .ok (.iload 4, 2) := by decide +kernel
theorem d_Md_look_42 : decode b_Md_look 42 = .ok (.iaload, 1) := by decide +kernel
theorem d_Md_look_43 : decode b_Md_look 43 = .ok (.ifCond .le 7, 3) := by decide +kernel
theorem d_Md_look_46 : decode b_Md_look 46 = .ok (.iconst 1, 1) := by decide +kernel
theorem d_Md_look_47 : decode b_Md_look 47 = .ok (.goto 4, 3) := by decide +kernel
theorem d_Md_look_50 : decode b_Md_look 50 = .ok (.iconst 0, 1) := by decide +kernel
theorem d_Md_look_51 : decode b_Md_look 51 = .ok (.iadd, 1) := by decide +kernel
theorem d_Md_look_52 : decode b_Md_look 52 = .ok (.istore_n 2, 1) := by decide +kernel
theorem d_Md_look_53 : decode b_Md_look 53 = .ok (.aload_n 0, 1) := by decide +kernel
theorem d_Md_look_54 : decode b_Md_look 54 = .ok (.getfield 24, 3) := by decide +kernel
theorem d_Md_look_57 : decode b_Md_look 57 = .ok (.iload 4, 2) := by decide +kernel
theorem d_Md_look_59 : decode b_Md_look 59 = .ok (.iaload, 1) := by decide +kernel
theorem d_Md_look_60 : decode b_Md_look 60 = .ok (.ifCond .le 36, 3) := by decide +kernel
theorem d_Md_look_63 : decode b_Md_look 63 = .ok (.aload_n 0, 1) := by decide +kernel
theorem d_Md_look_64 : decode b_Md_look 64 = .ok (.getfield 17, 3) := by decide +kernel
theorem d_Md_look_67 : decode b_Md_look 67 = .ok (.iload 4, 2) := by decide +kernel
theorem d_Md_look_69 : decode b_Md_look 69 = .ok (.baload, 1) := by decide +kernel
theorem d_Md_look_70 : decode b_Md_look 70 = .ok (.ifCond .ne 26, 3) := by decide +kernel
theorem d_Md_look_73 : decode b_Md_look 73 = .ok (.iload_n 3, 1) := by decide +kernel
theorem d_Md_look_74 : decode b_Md_look 74 = .ok (.ifCond .lt 19, 3) := by decide +kernel
theorem d_Md_look_77 : decode b_Md_look 77 = .ok (.aload_n 0, 1) := by decide +kernel
theorem d_Md_look_78 : decode b_Md_look 78 = .ok (.getfield 24, 3) := by decide +kernel
theorem d_Md_look_81 : decode b_Md_look 81 = .ok (.iload 4, 2) := by decide +kernel
theorem d_Md_look_83 : decode b_Md_look 83 = .ok (.iaload, 1) := by decide +kernel
theorem d_Md_look_84 : decode b_Md_look 84 = .ok (.aload_n 0, 1) := by decide +kernel
theorem d_Md_look_85 : decode b_Md_look 85 = .ok (.getfield 24, 3) := by decide +kernel
theorem d_Md_look_88 : decode b_Md_look 88 = .ok (.iload_n 3, 1) := by decide +kernel
theorem d_Md_look_89 : decode b_Md_look 89 = .ok (.iaload, 1) := by decide +kernel
theorem d_Md_look_90 : decode b_Md_look 90 = .ok (.if_icmp .ge 6, 3) := by decide +kernel
theorem d_Md_look_93 : decode b_Md_look 93 = .ok (.iload 4, 2) := by decide +kernel
theorem d_Md_look_95 : decode b_Md_look 95 = .ok (.istore_n 3, 1) := by decide +kernel
theorem d_Md_look_96 : decode b_Md_look 96 = .ok (.iinc 4 1, 3) := by decide +kernel
theorem d_Md_look_99 : decode b_Md_look 99 = .ok (.goto (-73), 3) := by decide +kernel
theorem d_Md_look_102 : decode b_Md_look 102 = .ok (.iload_n 2, 1) := by decide +kernel
theorem d_Md_look_103 : decode b_Md_look 103 = .ok (.bipush 34, 2) := by decide +kernel
theorem d_Md_look_105 : decode b_Md_look 105 = .ok (.if_icmp .ne 10, 3) := by decide +kernel
theorem d_Md_look_108 : decode b_Md_look 108 = .ok (.aload_n 0, 1) := by decide +kernel
theorem d_Md_look_109 : decode b_Md_look 109 = .ok (.getfield 24, 3) := by decide +kernel
theorem d_Md_look_112 : decode b_Md_look 112 = .ok (.iload_n 3, 1) := by decide +kernel
theorem d_Md_look_113 : decode b_Md_look 113 = .ok (.iconst 0, 1) := by decide +kernel
theorem d_Md_look_114 : decode b_Md_look 114 = .ok (.iastore, 1) := by decide +kernel
theorem d_Md_look_115 : decode b_Md_look 115 = .ok (.aload_n 0, 1) := by decide +kernel
theorem d_Md_look_116 : decode b_Md_look 116 = .ok (.dup, 1) := by decide +kernel
theorem d_Md_look_117 : decode b_Md_look 117 = .ok (.getfield 72, 3) := by decide +kernel
theorem d_Md_look_120 : decode b_Md_look 120 = .ok (.iconst 1, 1) := by decide +kernel
theorem d_Md_look_121 : decode b_Md_look 121 = .ok (.iadd, 1) := by decide +kernel
theorem d_Md_look_122 : decode b_Md_look 122 = .ok (.putfield 72, 3) := by decide +kernel
theorem d_Md_look_125 : decode b_Md_look 125 = .ok (.aload_n 0, 1) := by decide +kernel
theorem d_Md_look_126 : decode b_Md_look 126 = .ok (.getfield 24, 3) := by decide +kernel
theorem d_Md_look_129 : decode b_Md_look 129 = .ok (.iload_n 1, 1) := by decide +kernel
theorem d_Md_look_130 : decode b_Md_look 130 = .ok (.aload_n 0, 1) := by decide +kernel
theorem d_Md_look_131 : decode b_Md_look 131 = .ok (.getfield 72, 3) := by decide +kernel
theorem d_Md_look_134 : decode b_Md_look 134 = .ok (.iastore, 1) := by decide +kernel
theorem d_Md_look_135 : decode b_Md_look 135 = .ok (.return_, 1) := by decide +kernel
theorem d_Md_get_0 : decode b_Md_get 0 = .ok (.aload_n 0, 1) := by decide +kernel
theorem d_Md_get_1 : decode b_Md_get 1 = .ok (.iconst 0, 1) := by decide +kernel
theorem d_Md_get_2 : decode b_Md_get 2 = .ok (.putfield 42, 3) := by decide +kernel
theorem d_Md_get_5 : decode b_Md_get 5 = .ok (.aload_n 0, 1) := by decide +kernel
theorem d_Md_get_6 : decode b_Md_get 6 = .ok (.getfield 28, 3) := by decide +kernel
theorem d_Md_get_9 : decode b_Md_get 9 = .ok (.ifCond .eq 22, 3) := by decide +kernel
theorem d_Md_get_12 : decode b_Md_get 12 = .ok (.aload_n 0, 1) := by decide +kernel
theorem d_Md_get_13 : decode b_Md_get 13 = .ok (.iload_n 1, 1) := by decide +kernel
theorem d_Md_get_14 : decode b_Md_get 14 = .ok (.invokevirtual 75, 3) := by decide +kernel
theorem d_Md_get_17 : decode b_Md_get 17 = .ok (.ifCond .eq 14, 3) := by decide +kernel
theorem d_Md_get_20 : decode b_Md_get 20 = .ok (.iload_n 2, 1) := by decide +kernel
theorem d_Md_get_21 : decode b_Md_get 21 = .ok (.ifCond .lt 10, 3) := by decide +kernel
theorem d_Md_get_24 : decode b_Md_get 24 = .ok (.iload_n 2, 1) := by decide +kernel
theorem d_Md_get_25 : decode b_Md_get 25 = .ok (.sipush 1023, 3) := by decide +kernel
theorem d_Md_get_28 : decode b_Md_get 28 = .ok (.if_icmp .le 5, 3) := by decide +kernel
theorem d_Md_get_31 : decode b_Md_get 31 = .ok (.iconst (-1), 1) := by decide +kernel
theorem d_Md_get_32 : decode b_Md_get 32 = .ok (.ireturn, 1) := by decide +kernel
theorem d_Md_get_33 : decode b_Md_get 33 = .ok (.aload_n 0, 1) := by decide +kernel
theorem d_Md_get_34 : decode b_Md_get 34 = .ok (.iload_n 1, 1) := by decide +kernel
theorem d_Md_get_35 : decode b_Md_get 35 = .ok (.invokevirtual 78, 3) := by decide +kernel
theorem d_Md_get_38 : decode b_Md_get 38 = .ok (.aload_n 0, 1) := by decide +kernel
theorem d_Md_get_39 : decode b_Md_get 39 = .ok (.getfield 14, 3) := by decide +kernel
theorem d_Md_get_42 : decode b_Md_get 42 = .ok (.sipush 1024, 3) := by decide +kernel
theorem d_Md_get_45 : decode b_Md_get 45 = .ok (.iload_n 1, 1) := by decide +kernel
theorem d_Md_get_46 : decode b_Md_get 46 = .ok (.imul, 1) := by decide +kernel
theorem d_Md_get_47 : decode b_Md_get 47 = .ok (.iload_n 2, 1) := by decide +kernel
theorem d_Md_get_48 : decode b_Md_get 48 = .ok (.iadd, 1) := by decide +kernel
theorem d_Md_get_49 : decode b_Md_get 49 = .ok (.baload, 1) := by decide +kernel
theorem d_Md_get_50 : decode b_Md_get 50 = .ok (.sipush 255, 3) := by decide +kernel
theorem d_Md_get_53 : decode b_Md_get 53 = .ok (.iand, 1) := by decide +kernel
theorem d_Md_get_54 : decode b_Md_get 54 = .ok (.ireturn, 1) := by decide +kernel
theorem d_Md_fill_0 : decode b_Md_fill 0 = .ok (.aload_n 0, 1) := by decide +kernel
theorem d_Md_fill_1 : decode b_Md_fill 1 = .ok (.iconst 0, 1) := by decide +kernel
theorem d_Md_fill_2 : decode b_Md_fill 2 = .ok (.putfield 42, 3) := by decide +kernel
theorem d_Md_fill_5 : decode b_Md_fill 5 = .ok (.aload_n 0, 1) := by decide +kernel
theorem d_Md_fill_6 : decode b_Md_fill 6 = .ok (.getfield 28, 3) := by decide +kernel
theorem d_Md_fill_9 : decode b_Md_fill 9 = .ok (.ifCond .eq 64, 3) := by decide +kernel
theorem d_Md_fill_12 : decode b_Md_fill 12 = .ok (.aload_n 0, 1) := by decide +kernel
theorem d_Md_fill_13 : decode b_Md_fill 13 = .ok (.getfield 45, 3) := by decide +kernel
theorem d_Md_fill_16 : decode b_Md_fill 16 = .ok (.ifCond .eq 57, 3) := by decide +kernel
theorem d_Md_fill_19 : decode b_Md_fill 19 = .ok (.aload_n 0, 1) := by decide +kernel
theorem d_Md_fill_20 : decode b_Md_fill 20 = .ok (.iload_n 1, 1) := by decide +kernel
theorem d_Md_fill_21 : decode b_Md_fill 21 = .ok (.invokevirtual 75, 3) := by decide +kernel
theorem d_Md_fill_24 : decode b_Md_fill 24 = .ok (.ifCond .eq 49, 3) := by decide +kernel
theorem d_Md_fill_27 : decode b_Md_fill 27 = .ok (.iload_n 3, 1) := by decide +kernel
theorem d_Md_fill_28 : decode b_Md_fill 28 = .ok (.iconst 1, 1) := by decide +kernel
theorem d_Md_fill_29 : decode b_Md_fill 29 = .ok (.if_icmp .lt 44, 3) := by decide +kernel
theorem d_Md_fill_32 : decode b_Md_fill 32 = .ok (.iload_n 3, 1) := by decide +kernel
theorem d_Md_fill_33 : decode b_Md_fill 33 = .ok (.sipush 1024, 3) := by decide +kernel
theorem d_Md_fill_36 : decode b_Md_fill 36 = .ok (.if_icmp .gt 37, 3) := by decide +kernel
theorem d_Md_fill_39 : decode b_Md_fill 39 = .ok (.iload_n 2, 1) := by decide +kernel
theorem d_Md_fill_40 : decode b_Md_fill 40 = .ok (.ifCond .lt 33, 3) := by decide +kernel
theorem d_Md_fill_43 : decode b_Md_fill 43 = .ok (.iload_n 2, 1) := by decide +kernel
theorem d_Md_fill_44 : decode b_Md_fill 44 = .ok (.sipush 1024, 3) := by decide +kernel
theorem d_Md_fill_47 : decode b_Md_fill 47 = .ok (.iload_n 3, 1) := by decide +kernel
theorem d_Md_fill_48 : decode b_Md_fill 48 = .ok (.isub, 1) := by decide +kernel
theorem d_Md_fill_49 : decode b_Md_fill 49 = .ok (.if_icmp .gt 24, 3) := by decide +kernel
theorem d_Md_fill_52 : decode b_Md_fill 52 = .ok (.aload_n 0, 1) := by decide +kernel
theorem d_Md_fill_53 : decode b_Md_fill 53 = .ok (.getfield 21, 3) := by decide +kernel
theorem d_Md_fill_56 : decode b_Md_fill 56 = .ok (.iload_n 1, 1) := by decide +kernel
theorem d_Md_fill_57 : decode b_Md_fill 57 = .ok (.baload, 1) := by decide +kernel
theorem d_Md_fill_58 : decode b_Md_fill 58 = .ok (.ifCond .ne 17, 3) := by decide +kernel
theorem d_Md_fill_61 : decode b_Md_fill 61 = .ok (.aload_n 0, 1) := by decide +kernel
theorem d_Md_fill_62 : decode b_Md_fill 62 = .ok (.getfield 21, 3) := by decide +kernel
theorem d_Md_fill_65 : decode b_Md_fill 65 = .ok (.invokestatic 51, 3) := by decide +kernel
theorem d_Md_fill_68 : decode b_Md_fill 68 = .ok (.bipush 10, 2) := by decide +kernel
theorem d_Md_fill_70 : decode b_Md_fill 70 = .ok (.if_icmp .ne 5, 3) := by decide +kernel
theorem d_Md_fill_73 : decode b_Md_fill 73 = .ok (.iconst 0, 1) := by decide +kernel
theorem d_Md_fill_74 : decode b_Md_fill 74 = .ok (.ireturn, 1) := by decide +kernel
theorem d_Md_fill_75 : decode b_Md_fill 75 = .ok (.aload_n 0, 1) := by decide +kernel
theorem d_Md_fill_76 : decode b_Md_fill 76 = .ok (.iload_n 1, 1) := by decide +kernel
theorem d_Md_fill_77 : decode b_Md_fill 77 = .ok (.invokevirtual 78, 3) := by decide +kernel
theorem d_Md_fill_80 : decode b_Md_fill 80 = .ok (.aload_n 0, 1) := by decide +kernel
theorem d_Md_fill_81 : decode b_Md_fill 81 = .ok (.getfield 21, 3) := by decide +kernel
theorem d_Md_fill_84 : decode b_Md_fill 84 = .ok (.iload_n 1, 1) := by decide +kernel
theorem d_Md_fill_85 : decode b_Md_fill 85 = .ok (.iconst 1, 1) := by decide +kernel
theorem d_Md_fill_86 : decode b_Md_fill 86 = .ok (.bastore, 1) := by decide +kernel
theorem d_Md_fill_87 : decode b_Md_fill 87 = .ok (.aload_n 0, 1) := by decide +kernel
theorem d_Md_fill_88 : decode b_Md_fill 88 = .ok (.getfield 17, 3) := by decide +kernel
theorem d_Md_fill_91 : decode b_Md_fill 91 = .ok (.iload_n 1, 1) := by decide +kernel
theorem d_Md_fill_92 : decode b_Md_fill 92 = .ok (.iconst 1, 1) := by decide +kernel
theorem d_Md_fill_93 : decode b_Md_fill 93 = .ok (.bastore, 1) := by decide +kernel
theorem d_Md_fill_94 : decode b_Md_fill 94 = .ok (.iconst 0, 1) := by decide +kernel
theorem d_Md_fill_95 : decode b_Md_fill 95 = .ok (.istore 5, 2) := by decide +kernel
theorem d_Md_fill_97 : decode b_Md_fill 97 = .ok (.iload 5, 2) := by decide +kernel
theorem d_Md_fill_99 : decode b_Md_fill 99 = .ok (.iload_n 3, 1) := by decide +kernel
theorem d_Md_fill_100 : decode b_Md_fill 100 = .ok (.if_icmp .ge 30, 3) := by decide +kernel
theorem d_Md_fill_103 : decode b_Md_fill 103 = .ok (.aload_n 0, 1) := by decide +kernel
theorem d_Md_fill_104 : decode b_Md_fill 104 = .ok (.getfield 14, 3) := by decide +kernel
theorem d_Md_fill_107 : decode b_Md_fill 107 = .ok (.sipush 1024, 3) := by decide +kernel
theorem d_Md_fill_110 : decode b_Md_fill 110 = .ok (.iload_n 1, 1) := by decide +kernel
theorem d_Md_fill_111 : decode b_Md_fill 111 = .ok (.imul, 1) := by decide +kernel
theorem d_Md_fill_112 : decode b_Md_fill 112 = .ok (.iload_n 2, 1) := by decide +kernel
theorem d_Md_fill_113 : decode b_Md_fill 113 = .ok (.iadd, 1) := by decide +kernel
theorem d_Md_fill_114 : decode b_Md_fill 114 = .ok (.iload 5, 2) := by decide +kernel
theorem d_Md_fill_116 : decode b_Md_fill 116 = .ok (.iadd, 1) := by decide +kernel
theorem d_Md_fill_117 : decode b_Md_fill 117 = .ok (.iload 4, 2) := by decide +kernel
theorem d_Md_fill_119 : decode b_Md_fill 119 = .ok (.iload 5, 2) := by decide +kernel
theorem d_Md_fill_121 : decode b_Md_fill 121 = .ok (.iadd, 1) := by decide +kernel
theorem d_Md_fill_122 : decode b_Md_fill 122 = .ok (.i2b, 1) := by decide +kernel
theorem d_Md_fill_123 : decode b_Md_fill 123 = .ok (.bastore, 1) := by decide +kernel
theorem d_Md_fill_124 : decode b_Md_fill 124 = .ok (.iinc 5 1, 3) := by decide +kernel
theorem d_Md_fill_127 : decode b_Md_fill 127 = .ok (.goto (-30), 3) := by decide +kernel
theorem d_Md_fill_130 : decode b_Md_fill 130 = .ok (.iconst 1, 1) := by decide +kernel
theorem d_Md_fill_131 : decode b_Md_fill 131 = .ok (.ireturn, 1) := by decide +kernel
theorem d_Md_cut_0 : decode b_Md_cut 0 = .ok (.aload_n 0, 1) := by decide +kernel
theorem d_Md_cut_1 : decode b_Md_cut 1 = .ok (.iconst 0, 1) := by decide +kernel
theorem d_Md_cut_2 : decode b_Md_cut 2 = .ok (.putfield 42, 3) := by decide +kernel
theorem d_Md_cut_5 : decode b_Md_cut 5 = .ok (.aload_n 0, 1) := by decide +kernel
theorem d_Md_cut_6 : decode b_Md_cut 6 = .ok (.getfield 28, 3) := by decide +kernel
theorem d_Md_cut_9 : decode b_Md_cut 9 = .ok (.ifCond .ne 5, 3) := by decide +kernel
theorem d_Md_cut_12 : decode b_Md_cut 12 = .ok (.iconst 0, 1) := by decide +kernel
theorem d_Md_cut_13 : decode b_Md_cut 13 = .ok (.ireturn, 1) := by decide +kernel
theorem d_Md_cut_14 : decode b_Md_cut 14 = .ok (.aload_n 0, 1) := by decide +kernel
theorem d_Md_cut_15 : decode b_Md_cut 15 = .ok (.iload_n 1, 1) := by decide +kernel
theorem d_Md_cut_16 : decode b_Md_cut 16 = .ok (.ifCond .ge 7, 3) := by decide +kernel
theorem d_Md_cut_19 : decode b_Md_cut 19 = .ok (.iconst (-1), 1) := by decide +kernel
theorem d_Md_cut_20 : decode b_Md_cut 20 = .ok (.goto 4, 3) := by decide +kernel
theorem d_Md_cut_23 : decode b_Md_cut 23 = .ok (.iload_n 1, 1) := by decide +kernel
theorem d_Md_cut_24 : decode b_Md_cut 24 = .ok (.putfield 32, 3) := by decide +kernel
theorem d_Md_cut_27 : decode b_Md_cut 27 = .ok (.iconst 1, 1) := by decide +kernel
theorem d_Md_cut_28 : decode b_Md_cut 28 = .ok (.ireturn, 1) := by decide +kernel
theorem d_Md_power_0 : decode b_Md_power 0 = .ok (.aload_n 0, 1) := by decide +kernel
theorem d_Md_power_1 : decode b_Md_power 1 = .ok (.iconst 0, 1) := by decide +kernel
theorem d_Md_power_2 : decode b_Md_power 2 = .ok (.putfield 42, 3) := by decide +kernel
theorem d_Md_power_5 : decode b_Md_power 5 = .ok (.aload_n 0, 1) := by decide +kernel
theorem d_Md_power_6 : decode b_Md_power 6 = .ok (.getfield 28, 3) := by decide +kernel
theorem d_Md_power_9 : decode b_Md_power 9 = .ok (.ifCond .eq 5, 3) := by decide +kernel
theorem d_Md_power_12 : decode b_Md_power 12 = .ok (.iconst (-1), 1) := by decide +kernel
theorem d_Md_power_13 : decode b_Md_power 13 = .ok (.ireturn, 1) := by decide +kernel
theorem d_Md_power_14 : decode b_Md_power 14 = .ok (.aload_n 0, 1) := by decide +kernel
theorem d_Md_power_15 : decode b_Md_power 15 = .ok (.iconst 1, 1) := by decide +kernel
theorem d_Md_power_16 : decode b_Md_power 16 = .ok (.putfield 28, 3) := by decide +kernel
theorem d_Md_power_19 : decode b_Md_power 19 = .ok (.aload_n 0, 1) := by decide +kernel
theorem d_Md_power_20 : decode b_Md_power 20 = .ok (.iconst 0, 1) := by decide +kernel
theorem d_Md_power_21 : decode b_Md_power 21 = .ok (.putfield 45, 3) := by decide +kernel
theorem d_Md_power_24 : decode b_Md_power 24 = .ok (.aload_n 0, 1) := by decide +kernel
theorem d_Md_power_25 : decode b_Md_power 25 = .ok (.iload_n 1, 1) := by decide +kernel
theorem d_Md_power_26 : decode b_Md_power 26 = .ok (.ifCond .ge 7, 3) := by decide +kernel
theorem d_Md_power_29 : decode b_Md_power 29 = .ok (.iconst (-1), 1) := by decide +kernel
theorem d_Md_power_30 : decode b_Md_power 30 = .ok (.goto 4, 3) := by decide +kernel
theorem d_Md_power_33 : decode b_Md_power 33 = .ok (.iload_n 1, 1) := by decide +kernel
theorem d_Md_power_34 : decode b_Md_power 34 = .ok (.putfield 32, 3) := by decide +kernel
theorem d_Md_power_37 : decode b_Md_power 37 = .ok (.iconst 0, 1) := by decide +kernel
theorem d_Md_power_38 : decode b_Md_power 38 = .ok (.istore_n 2, 1) := by decide +kernel
theorem d_Md_power_39 : decode b_Md_power 39 = .ok (.iload_n 2, 1) := by decide +kernel
theorem d_Md_power_40 : decode b_Md_power 40 = .ok (.ldc 7, 2) := by decide +kernel
theorem d_Md_power_42 : decode b_Md_power 42 = .ok (.if_icmp .ge 21, 3) := by decide +kernel
theorem d_Md_power_45 : decode b_Md_power 45 = .ok (.aload_n 0, 1) := by decide +kernel
theorem d_Md_power_46 : decode b_Md_power 46 = .ok (.getfield 14, 3) := by decide +kernel
theorem d_Md_power_49 : decode b_Md_power 49 = .ok (.iload_n 2, 1) := by decide +kernel
theorem d_Md_power_50 : decode b_Md_power 50 = .ok (.aload_n 0, 1) := by decide +kernel
theorem d_Md_power_51 : decode b_Md_power 51 = .ok (.getfield 8, 3) := by decide +kernel
theorem d_Md_power_54 : decode b_Md_power 54 = .ok (.iload_n 2, 1) := by decide +kernel
theorem d_Md_power_55 : decode b_Md_power 55 = .ok (.baload, 1) := by decide +kernel
theorem d_Md_power_56 : decode b_Md_power 56 = .ok (.bastore, 1) := by decide +kernel
theorem d_Md_power_57 : decode b_Md_power 57 = .ok (.iinc 2 1, 3) := by decide +kernel
theorem d_Md_power_60 : decode b_Md_power 60 = .ok (.goto (-21), 3) := by decide +kernel
theorem d_Md_power_63 : decode b_Md_power 63 = .ok (.iconst 0, 1) := by decide +kernel
theorem d_Md_power_64 : decode b_Md_power 64 = .ok (.istore_n 2, 1) := by decide +kernel
theorem d_Md_power_65 : decode b_Md_power 65 = .ok (.iload_n 2, 1) := by decide +kernel
theorem d_Md_power_66 : decode b_Md_power 66 = .ok (.bipush 80, 2) := by decide +kernel
theorem d_Md_power_68 : decode b_Md_power 68 = .ok (.if_icmp .ge 23, 3) := by decide +kernel
theorem d_Md_power_71 : decode b_Md_power 71 = .ok (.aload_n 0, 1) := by decide +kernel
theorem d_Md_power_72 : decode b_Md_power 72 = .ok (.getfield 17, 3) := by decide +kernel
theorem d_Md_power_75 : decode b_Md_power 75 = .ok (.iload_n 2, 1) := by decide +kernel
theorem d_Md_power_76 : decode b_Md_power 76 = .ok (.iconst 0, 1) := by decide +kernel
theorem d_Md_power_77 : decode b_Md_power 77 = .ok (.bastore, 1) := by decide +kernel
theorem d_Md_power_78 : decode b_Md_power 78 = .ok (.aload_n 0, 1) := by decide +kernel
theorem d_Md_power_79 : decode b_Md_power 79 = .ok (.getfield 24, 3) := by decide +kernel
theorem d_Md_power_82 : decode b_Md_power 82 = .ok (.iload_n 2, 1) := by decide +kernel
theorem d_Md_power_83 : decode b_Md_power 83 = .ok (.iconst 0, 1) := by decide +kernel
theorem d_Md_power_84 : decode b_Md_power 84 = .ok (.iastore, 1) := by decide +kernel
theorem d_Md_power_85 : decode b_Md_power 85 = .ok (.iinc 2 1, 3) := by decide +kernel
theorem d_Md_power_88 : decode b_Md_power 88 = .ok (.goto (-23), 3) := by decide +kernel
theorem d_Md_power_91 : decode b_Md_power 91 = .ok (.aload_n 0, 1) := by decide +kernel
theorem d_Md_power_92 : decode b_Md_power 92 = .ok (.getfield 36, 3) := by decide +kernel
theorem d_Md_power_95 : decode b_Md_power 95 = .ok (.istore_n 2, 1) := by decide +kernel
theorem d_Md_power_96 : decode b_Md_power 96 = .ok (.iload_n 2, 1) := by decide +kernel
theorem d_Md_power_97 : decode b_Md_power 97 = .ok (.ifCond .ge 5, 3) := by decide +kernel
theorem d_Md_power_100 : decode b_Md_power 100 = .ok (.iconst 0, 1) := by decide +kernel
theorem d_Md_power_101 : decode b_Md_power 101 = .ok (.ireturn, 1) := by decide +kernel
theorem d_Md_power_102 : decode b_Md_power 102 = .ok (.aload_n 0, 1) := by decide +kernel
theorem d_Md_power_103 : decode b_Md_power 103 = .ok (.invokevirtual 62, 3) := by decide +kernel
theorem d_Md_power_106 : decode b_Md_power 106 = .ok (.ifCond .eq 7, 3) := by decide +kernel
theorem d_Md_power_109 : decode b_Md_power 109 = .ok (.iload_n 2, 1) := by decide +kernel
theorem d_Md_power_110 : decode b_Md_power 110 = .ok (.goto 4, 3) := by decide +kernel
theorem d_Md_power_113 : decode b_Md_power 113 = .ok (.iconst (-1), 1) := by decide +kernel
theorem d_Md_power_114 : decode b_Md_power 114 = .ok (.ireturn, 1) := by decide +kernel
theorem d_Md_count_0 : decode b_Md_count 0 = .ok (.aload_n 0, 1) := by decide +kernel
theorem d_Md_count_1 : decode b_Md_count 1 = .ok (.iconst 0, 1) := by decide +kernel
theorem d_Md_count_2 : decode b_Md_count 2 = .ok (.putfield 42, 3) := by decide +kernel
theorem d_Md_count_5 : decode b_Md_count 5 = .ok (.iload_n 1, 1) := by decide +kernel
theorem d_Md_count_6 : decode b_Md_count 6 = .ok (.tableswitch 120 0 6 #[42, 55, 60, 79, 105, 110, 115], 42) := by decide +kernel
theorem d_Md_count_48 : decode b_Md_count 48 = .ok (.aload_n 0, 1) := by decide +kernel
theorem d_Md_count_49 : decode b_Md_count 49 = .ok (.getfield 28, 3) := by decide +kernel
theorem d_Md_count_52 : decode b_Md_count 52 = .ok (.ifCond .eq 7, 3) := by decide +kernel
theorem d_Md_count_55 : decode b_Md_count 55 = .ok (.iconst 1, 1) := by decide +kernel
theorem d_Md_count_56 : decode b_Md_count 56 = .ok (.goto 4, 3) := by decide +kernel
theorem d_Md_count_59 : decode b_Md_count 59 = .ok (.iconst 0, 1) := by decide +kernel
theorem d_Md_count_60 : decode b_Md_count 60 = .ok (.ireturn, 1) := by decide +kernel
theorem d_Md_count_61 : decode b_Md_count 61 = .ok (.aload_n 0, 1) := by decide +kernel
theorem d_Md_count_62 : decode b_Md_count 62 = .ok (.getfield 39, 3) := by decide +kernel
theorem d_Md_count_65 : decode b_Md_count 65 = .ok (.ireturn, 1) := by decide +kernel
theorem d_Md_count_66 : decode b_Md_count 66 = .ok (.aload_n 0, 1) := by decide +kernel
theorem d_Md_count_67 : decode b_Md_count 67 = .ok (.getfield 28, 3) := by decide +kernel
theorem d_Md_count_70 : decode b_Md_count 70 = .ok (.ifCond .eq 13, 3) := by decide +kernel
theorem d_Md_count_73 : decode b_Md_count 73 = .ok (.aload_n 0, 1) := by decide +kernel
theorem d_Md_count_74 : decode b_Md_count 74 = .ok (.getfield 17, 3) := by decide +kernel
theorem d_Md_count_77 : decode b_Md_count 77 = .ok (.invokestatic 51, 3) := by decide +kernel
theorem d_Md_count_80 : decode b_Md_count 80 = .ok (.goto 4, 3) := by decide +kernel
theorem d_Md_count_83 : decode b_Md_count 83 = .ok (.iconst 0, 1) := by decide +kernel
theorem d_Md_count_84 : decode b_Md_count 84 = .ok (.ireturn, 1) := by decide +kernel
theorem d_Md_count_85 : decode b_Md_count 85 = .ok (.aload_n 0, 1) := by decide +kernel
theorem d_Md_count_86 : decode b_Md_count 86 = .ok (.getfield 28, 3) := by decide +kernel
theorem d_Md_count_89 : decode b_Md_count 89 = .ok (.ifCond .eq 20, 3) := by decide +kernel
theorem d_Md_count_92 : decode b_Md_count 92 = .ok (.aload_n 0, 1) := by decide +kernel
theorem d_Md_count_93 : decode b_Md_count 93 = .ok (.getfield 45, 3) := by decide +kernel
theorem d_Md_count_96 : decode b_Md_count 96 = .ok (.ifCond .eq 13, 3) := by decide +kernel
theorem d_Md_count_99 : decode b_Md_count 99 = .ok (.aload_n 0, 1) := by decide +kernel
theorem d_Md_count_100 : decode b_Md_count 100 = .ok (.getfield 21, 3) := by decide +kernel
theorem d_Md_count_103 : decode b_Md_count 103 = .ok (.invokestatic 51, 3) := by decide +kernel
theorem d_Md_count_106 : decode b_Md_count 106 = .ok (.goto 4, 3) := by decide +kernel
theorem d_Md_count_109 : decode b_Md_count 109 = .ok (.iconst (-1), 1) := by decide +kernel
theorem d_Md_count_110 : decode b_Md_count 110 = .ok (.ireturn, 1) := by decide +kernel
theorem d_Md_count_111 : decode b_Md_count 111 = .ok (.aload_n 0, 1) := by decide +kernel
theorem d_Md_count_112 : decode b_Md_count 112 = .ok (.getfield 48, 3) := by decide +kernel
theorem d_Md_count_115 : decode b_Md_count 115 = .ok (.ireturn, 1) := by decide +kernel
theorem d_Md_count_116 : decode b_Md_count 116 = .ok (.aload_n 0, 1) := by decide +kernel
theorem d_Md_count_117 : decode b_Md_count 117 = .ok (.getfield 69, 3) := by decide +kernel
theorem d_Md_count_120 : decode b_Md_count 120 = .ok (.ireturn, 1) := by decide +kernel
theorem d_Md_count_121 : decode b_Md_count 121 = .ok (.aload_n 0, 1) := by decide +kernel
theorem d_Md_count_122 : decode b_Md_count 122 = .ok (.getfield 59, 3) := by decide +kernel
theorem d_Md_count_125 : decode b_Md_count 125 = .ok (.ireturn, 1) := by decide +kernel
theorem d_Md_count_126 : decode b_Md_count 126 = .ok (.iconst (-1), 1) := by decide +kernel
theorem d_Md_count_127 : decode b_Md_count 127 = .ok (.ireturn, 1) := by decide +kernel
theorem d_Md_held_0 : decode b_Md_held 0 = .ok (.aload_n 0, 1) := by decide +kernel
theorem d_Md_held_1 : decode b_Md_held 1 = .ok (.iconst 0, 1) := by decide +kernel
theorem d_Md_held_2 : decode b_Md_held 2 = .ok (.putfield 42, 3) := by decide +kernel
theorem d_Md_held_5 : decode b_Md_held 5 = .ok (.aload_n 0, 1) := by decide +kernel
theorem d_Md_held_6 : decode b_Md_held 6 = .ok (.getfield 28, 3) := by decide +kernel
theorem d_Md_held_9 : decode b_Md_held 9 = .ok (.ifCond .eq 24, 3) := by decide +kernel
theorem d_Md_held_12 : decode b_Md_held 12 = .ok (.aload_n 0, 1) := by decide +kernel
theorem d_Md_held_13 : decode b_Md_held 13 = .ok (.iload_n 1, 1) := by decide +kernel
theorem d_Md_held_14 : decode b_Md_held 14 = .ok (.invokevirtual 75, 3) := by decide +kernel
theorem d_Md_held_17 : decode b_Md_held 17 = .ok (.ifCond .eq 16, 3) := by decide +kernel
theorem d_Md_held_20 : decode b_Md_held 20 = .ok (.aload_n 0, 1) := by decide +kernel
theorem d_Md_held_21 : decode b_Md_held 21 = .ok (.getfield 17, 3) := by decide +kernel
theorem d_Md_held_24 : decode b_Md_held 24 = .ok (.iload_n 1, 1) := by decide +kernel
theorem d_Md_held_25 : decode b_Md_held 25 = .ok (.baload, 1) := by decide +kernel
theorem d_Md_held_26 : decode b_Md_held 26 = .ok (.ifCond .eq 7, 3) := by decide +kernel
theorem d_Md_held_29 : decode b_Md_held 29 = .ok (.iconst 1, 1) := by decide +kernel
theorem d_Md_held_30 : decode b_Md_held 30 = .ok (.goto 4, 3) := by decide +kernel
theorem d_Md_held_33 : decode b_Md_held 33 = .ok (.iconst 0, 1) := by decide +kernel
theorem d_Md_held_34 : decode b_Md_held 34 = .ok (.ireturn, 1) := by decide +kernel
theorem d_Md_cached_0 : decode b_Md_cached 0 = .ok (.aload_n 0, 1) := by decide +kernel
theorem d_Md_cached_1 : decode b_Md_cached 1 = .ok (.iconst 0, 1) := by decide +kernel
theorem d_Md_cached_2 : decode b_Md_cached 2 = .ok (.putfield 42, 3) := by decide +kernel
theorem d_Md_cached_5 : decode b_Md_cached 5 = .ok (.aload_n 0, 1) := by decide +kernel
theorem d_Md_cached_6 : decode b_Md_cached 6 = .ok (.getfield 28, 3) := by decide +kernel
theorem d_Md_cached_9 : decode b_Md_cached 9 = .ok (.ifCond .eq 24, 3) := by decide +kernel
theorem d_Md_cached_12 : decode b_Md_cached 12 = .ok (.aload_n 0, 1) := by decide +kernel
theorem d_Md_cached_13 : decode b_Md_cached 13 = .ok (.iload_n 1, 1) := by decide +kernel
theorem d_Md_cached_14 : decode b_Md_cached 14 = .ok (.invokevirtual 75, 3) := by decide +kernel
theorem d_Md_cached_17 : decode b_Md_cached 17 = .ok (.ifCond .eq 16, 3) := by decide +kernel
theorem d_Md_cached_20 : decode b_Md_cached 20 = .ok (.aload_n 0, 1) := by decide +kernel
theorem d_Md_cached_21 : decode b_Md_cached 21 = .ok (.getfield 24, 3) := by decide +kernel
theorem d_Md_cached_24 : decode b_Md_cached 24 = .ok (.iload_n 1, 1) := by decide +kernel
theorem d_Md_cached_25 : decode b_Md_cached 25 = .ok (.iaload, 1) := by decide +kernel
theorem d_Md_cached_26 : decode b_Md_cached 26 = .ok (.ifCond .le 7, 3) := by decide +kernel
theorem d_Md_cached_29 : decode b_Md_cached 29 = .ok (.iconst 1, 1) := by decide +kernel
theorem d_Md_cached_30 : decode b_Md_cached 30 = .ok (.goto 4, 3) := by decide +kernel
theorem d_Md_cached_33 : decode b_Md_cached 33 = .ok (.iconst 0, 1) := by decide +kernel
theorem d_Md_cached_34 : decode b_Md_cached 34 = .ok (.ireturn, 1) := by decide +kernel
end
section
theorem d_law_cell_0 : decode b_law_cell 0 = .ok (.iload_n 1, 1) := by decide +kernel
theorem d_law_cell_1 : decode b_law_cell 1 = .ok (.aload_n 0, 1) := by decide +kernel
theorem d_law_cell_2 : decode b_law_cell 2 = .ok (.arraylength, 1) := by decide +kernel
theorem d_law_cell_3 : decode b_law_cell 3 = .ok (.if_icmp .ge 9, 3) := by decide +kernel
theorem d_law_cell_6 : decode b_law_cell 6 = .ok (.aload_n 0, 1) := by decide +kernel
theorem d_law_cell_7 : decode b_law_cell 7 = .ok (.iload_n 1, 1) := by decide +kernel
theorem d_law_cell_8 : decode b_law_cell 8 = .ok (.iaload, 1) := by decide +kernel
theorem d_law_cell_9 : decode b_law_cell 9 = .ok (.goto 4, 3) := by decide +kernel
theorem d_law_cell_12 : decode b_law_cell 12 = .ok (.iconst 0, 1) := by decide +kernel
theorem d_law_cell_13 : decode b_law_cell 13 = .ok (.ireturn, 1) := by decide +kernel
theorem d_law_0 : decode code 0 = .ok (.new 7, 3) := by decide +kernel
theorem d_law_3 : decode code 3 = .ok (.dup, 1) := by decide +kernel
theorem d_law_4 : decode code 4 = .ok (.aload_n 0, 1) := by decide +kernel
theorem d_law_5 : decode code 5 = .ok (.iconst 0, 1) := by decide +kernel
theorem d_law_6 : decode code 6 = .ok (.invokestatic 9, 3) := by decide +kernel
theorem d_law_9 : decode code 9 = .ok (.invokespecial 15, 3) := by decide +kernel
theorem d_law_12 : decode code 12 = .ok (.astore_n 1, 1) := by decide +kernel
theorem d_law_13 : decode code 13 = .ok (.new 18, 3) := by decide +kernel
theorem d_law_16 : decode code 16 = .ok (.dup, 1) := by decide +kernel
theorem d_law_17 : decode code 17 = .ok (.aload_n 0, 1) := by decide +kernel
theorem d_law_18 : decode code 18 = .ok (.iconst 0, 1) := by decide +kernel
theorem d_law_19 : decode code 19 = .ok (.invokestatic 9, 3) := by decide +kernel
theorem d_law_22 : decode code 22 = .ok (.invokespecial 20, 3) := by decide +kernel
theorem d_law_25 : decode code 25 = .ok (.astore_n 2, 1) := by decide +kernel
theorem d_law_26 : decode code 26 = .ok (.iconst 1, 1) := by decide +kernel
theorem d_law_27 : decode code 27 = .ok (.istore_n 3, 1) := by decide +kernel
theorem d_law_28 : decode code 28 = .ok (.iload_n 3, 1) := by decide +kernel
theorem d_law_29 : decode code 29 = .ok (.aload_n 0, 1) := by decide +kernel
theorem d_law_30 : decode code 30 = .ok (.arraylength, 1) := by decide +kernel
theorem d_law_31 : decode code 31 = .ok (.iconst 5, 1) := by decide +kernel
theorem d_law_32 : decode code 32 = .ok (.isub, 1) := by decide +kernel
theorem d_law_33 : decode code 33 = .ok (.if_icmp .gt 309, 3) := by decide +kernel
theorem d_law_36 : decode code 36 = .ok (.aload_n 0, 1) := by decide +kernel
theorem d_law_37 : decode code 37 = .ok (.iload_n 3, 1) := by decide +kernel
theorem d_law_38 : decode code 38 = .ok (.iaload, 1) := by decide +kernel
theorem d_law_39 : decode code 39 = .ok (.bipush 15, 2) := by decide +kernel
theorem d_law_41 : decode code 41 = .ok (.iand, 1) := by decide +kernel
theorem d_law_42 : decode code 42 = .ok (.tableswitch 294 0 9 #[54, 67, 80, 93, 126, 179, 202, 225, 248, 271], 54) := by decide +kernel
theorem d_law_96 : decode code 96 = .ok (.aload_n 1, 1) := by decide +kernel
theorem d_law_97 : decode code 97 = .ok (.invokevirtual 21, 3) := by decide +kernel
theorem d_law_100 : decode code 100 = .ok (.aload_n 2, 1) := by decide +kernel
theorem d_law_101 : decode code 101 = .ok (.invokevirtual 25, 3) := by decide +kernel
theorem d_law_104 : decode code 104 = .ok (.if_icmp .eq 232, 3) := by decide +kernel
theorem d_law_107 : decode code 107 = .ok (.iconst 0, 1) := by decide +kernel
theorem d_law_108 : decode code 108 = .ok (.ireturn, 1) := by decide +kernel
theorem d_law_109 : decode code 109 = .ok (.aload_n 1, 1) := by decide +kernel
theorem d_law_110 : decode code 110 = .ok (.invokevirtual 26, 3) := by decide +kernel
theorem d_law_113 : decode code 113 = .ok (.aload_n 2, 1) := by decide +kernel
theorem d_law_114 : decode code 114 = .ok (.invokevirtual 30, 3) := by decide +kernel
theorem d_law_117 : decode code 117 = .ok (.if_icmp .eq 219, 3) := by decide +kernel
theorem d_law_120 : decode code 120 = .ok (.iconst 0, 1) := by decide +kernel
theorem d_law_121 : decode code 121 = .ok (.ireturn, 1) := by decide +kernel
theorem d_law_122 : decode code 122 = .ok (.aload_n 1, 1) := by decide +kernel
theorem d_law_123 : decode code 123 = .ok (.invokevirtual 31, 3) := by decide +kernel
theorem d_law_126 : decode code 126 = .ok (.aload_n 2, 1) := by decide +kernel
theorem d_law_127 : decode code 127 = .ok (.invokevirtual 34, 3) := by decide +kernel
theorem d_law_130 : decode code 130 = .ok (.if_icmp .eq 206, 3) := by decide +kernel
theorem d_law_133 : decode code 133 = .ok (.iconst 0, 1) := by decide +kernel
theorem d_law_134 : decode code 134 = .ok (.ireturn, 1) := by decide +kernel
theorem d_law_135 : decode code 135 = .ok (.aload_n 1, 1) := by decide +kernel
theorem d_law_136 : decode code 136 = .ok (.aload_n 0, 1) := by decide +kernel
theorem d_law_137 : decode code 137 = .ok (.iload_n 3, 1) := by decide +kernel
theorem d_law_138 : decode code 138 = .ok (.iconst 1, 1) := by decide +kernel
theorem d_law_139 : decode code 139 = .ok (.iadd, 1) := by decide +kernel
theorem d_law_140 : decode code 140 = .ok (.iaload, 1) := by decide +kernel
theorem d_law_141 : decode code 141 = .ok (.aload_n 0, 1) := by decide +kernel
theorem d_law_142 : decode code 142 = .ok (.iload_n 3, 1) := by decide +kernel
theorem d_law_143 : decode code 143 = .ok (.iconst 2, 1) := by decide +kernel
theorem d_law_144 : decode code 144 = .ok (.iadd, 1) := by decide +kernel
theorem d_law_145 : decode code 145 = .ok (.iaload, 1) := by decide +kernel
theorem d_law_146 : decode code 146 = .ok (.invokevirtual 35, 3) := by decide +kernel
theorem d_law_149 : decode code 149 = .ok (.aload_n 2, 1) := by decide +kernel
theorem d_law_150 : decode code 150 = .ok (.aload_n 0, 1) := by decide +kernel
theorem d_law_151 : decode code 151 = .ok (.iload_n 3, 1) := by decide +kernel
theorem d_law_152 : decode code 152 = .ok (.iconst 1, 1) := by decide +kernel
theorem d_law_153 : decode code 153 = .ok (.iadd, 1) := by decide +kernel
theorem d_law_154 : decode code 154 = .ok (.iaload, 1) := by decide +kernel
theorem d_law_155 : decode code 155 = .ok (.aload_n 0, 1) := by decide +kernel
theorem d_law_156 : decode code 156 = .ok (.iload_n 3, 1) := by decide +kernel
theorem d_law_157 : decode code 157 = .ok (.iconst 2, 1) := by decide +kernel
theorem d_law_158 : decode code 158 = .ok (.iadd, 1) := by decide +kernel
theorem d_law_159 : decode code 159 = .ok (.iaload, 1) := by decide +kernel
theorem d_law_160 : decode code 160 = .ok (.invokevirtual 39, 3) := by decide +kernel
theorem d_law_163 : decode code 163 = .ok (.if_icmp .eq 173, 3) := by decide +kernel
theorem d_law_166 : decode code 166 = .ok (.iconst 0, 1) := by decide +kernel
theorem d_law_167 : decode code 167 = .ok (.ireturn, 1) := by decide +kernel
theorem d_law_168 : decode code 168 = .ok (.aload_n 1, 1) := by decide +kernel
theorem d_law_169 : decode code 169 = .ok (.aload_n 0, 1) := by decide +kernel
theorem d_law_170 : decode code 170 = .ok (.iload_n 3, 1) := by decide +kernel
theorem d_law_171 : decode code 171 = .ok (.iconst 1, 1) := by decide +kernel
theorem d_law_172 : decode code 172 = .ok (.iadd, 1) := by decide +kernel
theorem d_law_173 : decode code 173 = .ok (.iaload, 1) := by decide +kernel
theorem d_law_174 : decode code 174 = .ok (.aload_n 0, 1) := by decide +kernel
theorem d_law_175 : decode code 175 = .ok (.iload_n 3, 1) := by decide +kernel
theorem d_law_176 : decode code 176 = .ok (.iconst 2, 1) := by decide +kernel
theorem d_law_177 : decode code 177 = .ok (.iadd, 1) := by decide +kernel
theorem d_law_178 : decode code 178 = .ok (.iaload, 1) := by decide +kernel
theorem d_law_179 : decode code 179 = .ok (.aload_n 0, 1) := by decide +kernel
theorem d_law_180 : decode code 180 = .ok (.iload_n 3, 1) := by decide +kernel
theorem d_law_181 : decode code 181 = .ok (.iconst 3, 1) := by decide +kernel
theorem d_law_182 : decode code 182 = .ok (.iadd, 1) := by decide +kernel
theorem d_law_183 : decode code 183 = .ok (.iaload, 1) := by decide +kernel
theorem d_law_184 : decode code 184 = .ok (.aload_n 0, 1) := by decide +kernel
theorem d_law_185 : decode code 185 = .ok (.iload_n 3, 1) := by decide +kernel
theorem d_law_186 : decode code 186 = .ok (.iconst 4, 1) := by decide +kernel
theorem d_law_187 : decode code 187 = .ok (.iadd, 1) := by decide +kernel
theorem d_law_188 : decode code 188 = .ok (.iaload, 1) := by decide +kernel
theorem d_law_189 : decode code 189 = .ok (.invokevirtual 40, 3) := by decide +kernel
theorem d_law_192 : decode code 192 = .ok (.aload_n 2, 1) := by decide +kernel
theorem d_law_193 : decode code 193 = .ok (.aload_n 0, 1) := by decide +kernel
theorem d_law_194 : decode code 194 = .ok (.iload_n 3, 1) := by decide +kernel
theorem d_law_195 : decode code 195 = .ok (.iconst 1, 1) := by decide +kernel
theorem d_law_196 : decode code 196 = .ok (.iadd, 1) := by decide +kernel
theorem d_law_197 : decode code 197 = .ok (.iaload, 1) := by decide +kernel
theorem d_law_198 : decode code 198 = .ok (.aload_n 0, 1) := by decide +kernel
theorem d_law_199 : decode code 199 = .ok (.iload_n 3, 1) := by decide +kernel
theorem d_law_200 : decode code 200 = .ok (.iconst 2, 1) := by decide +kernel
theorem d_law_201 : decode code 201 = .ok (.iadd, 1) := by decide +kernel
theorem d_law_202 : decode code 202 = .ok (.iaload, 1) := by decide +kernel
theorem d_law_203 : decode code 203 = .ok (.aload_n 0, 1) := by decide +kernel
theorem d_law_204 : decode code 204 = .ok (.iload_n 3, 1) := by decide +kernel
theorem d_law_205 : decode code 205 = .ok (.iconst 3, 1) := by decide +kernel
theorem d_law_206 : decode code 206 = .ok (.iadd, 1) := by decide +kernel
theorem d_law_207 : decode code 207 = .ok (.iaload, 1) := by decide +kernel
theorem d_law_208 : decode code 208 = .ok (.aload_n 0, 1) := by decide +kernel
theorem d_law_209 : decode code 209 = .ok (.iload_n 3, 1) := by decide +kernel
theorem d_law_210 : decode code 210 = .ok (.iconst 4, 1) := by decide +kernel
theorem d_law_211 : decode code 211 = .ok (.iadd, 1) := by decide +kernel
theorem d_law_212 : decode code 212 = .ok (.iaload, 1) := by decide +kernel
theorem d_law_213 : decode code 213 = .ok (.invokevirtual 44, 3) := by decide +kernel
theorem d_law_216 : decode code 216 = .ok (.if_icmp .eq 120, 3) := by decide +kernel
theorem d_law_219 : decode code 219 = .ok (.iconst 0, 1) := by decide +kernel
theorem d_law_220 : decode code 220 = .ok (.ireturn, 1) := by decide +kernel
theorem d_law_221 : decode code 221 = .ok (.aload_n 1, 1) := by decide +kernel
theorem d_law_222 : decode code 222 = .ok (.aload_n 0, 1) := by decide +kernel
theorem d_law_223 : decode code 223 = .ok (.iload_n 3, 1) := by decide +kernel
theorem d_law_224 : decode code 224 = .ok (.iconst 1, 1) := by decide +kernel
theorem d_law_225 : decode code 225 = .ok (.iadd, 1) := by decide +kernel
theorem d_law_226 : decode code 226 = .ok (.iaload, 1) := by decide +kernel
theorem d_law_227 : decode code 227 = .ok (.invokevirtual 45, 3) := by decide +kernel
theorem d_law_230 : decode code 230 = .ok (.aload_n 2, 1) := by decide +kernel
theorem d_law_231 : decode code 231 = .ok (.aload_n 0, 1) := by decide +kernel
theorem d_law_232 : decode code 232 = .ok (.iload_n 3, 1) := by decide +kernel
theorem d_law_233 : decode code 233 = .ok (.iconst 1, 1) := by decide +kernel
theorem d_law_234 : decode code 234 = .ok (.iadd, 1) := by decide +kernel
theorem d_law_235 : decode code 235 = .ok (.iaload, 1) := by decide +kernel
theorem d_law_236 : decode code 236 = .ok (.invokevirtual 49, 3) := by decide +kernel
theorem d_law_239 : decode code 239 = .ok (.if_icmp .eq 97, 3) := by decide +kernel
theorem d_law_242 : decode code 242 = .ok (.iconst 0, 1) := by decide +kernel
theorem d_law_243 : decode code 243 = .ok (.ireturn, 1) := by decide +kernel
theorem d_law_244 : decode code 244 = .ok (.aload_n 1, 1) := by decide +kernel
theorem d_law_245 : decode code 245 = .ok (.aload_n 0, 1) := by decide +kernel
theorem d_law_246 : decode code 246 = .ok (.iload_n 3, 1) := by decide +kernel
theorem d_law_247 : decode code 247 = .ok (.iconst 1, 1) := by decide +kernel
theorem d_law_248 : decode code 248 = .ok (.iadd, 1) := by decide +kernel
theorem d_law_249 : decode code 249 = .ok (.iaload, 1) := by decide +kernel
theorem d_law_250 : decode code 250 = .ok (.invokevirtual 50, 3) := by decide +kernel
theorem d_law_253 : decode code 253 = .ok (.aload_n 2, 1) := by decide +kernel
theorem d_law_254 : decode code 254 = .ok (.aload_n 0, 1) := by decide +kernel
theorem d_law_255 : decode code 255 = .ok (.iload_n 3, 1) := by decide +kernel
theorem d_law_256 : decode code 256 = .ok (.iconst 1, 1) := by decide +kernel
theorem d_law_257 : decode code 257 = .ok (.iadd, 1) := by decide +kernel
theorem d_law_258 : decode code 258 = .ok (.iaload, 1) := by decide +kernel
theorem d_law_259 : decode code 259 = .ok (.invokevirtual 54, 3) := by decide +kernel
theorem d_law_262 : decode code 262 = .ok (.if_icmp .eq 74, 3) := by decide +kernel
theorem d_law_265 : decode code 265 = .ok (.iconst 0, 1) := by decide +kernel
theorem d_law_266 : decode code 266 = .ok (.ireturn, 1) := by decide +kernel
theorem d_law_267 : decode code 267 = .ok (.aload_n 1, 1) := by decide +kernel
theorem d_law_268 : decode code 268 = .ok (.aload_n 0, 1) := by decide +kernel
theorem d_law_269 : decode code 269 = .ok (.iload_n 3, 1) := by decide +kernel
theorem d_law_270 : decode code 270 = .ok (.iconst 1, 1) := by decide +kernel
theorem d_law_271 : decode code 271 = .ok (.iadd, 1) := by decide +kernel
theorem d_law_272 : decode code 272 = .ok (.iaload, 1) := by decide +kernel
theorem d_law_273 : decode code 273 = .ok (.invokevirtual 55, 3) := by decide +kernel
theorem d_law_276 : decode code 276 = .ok (.aload_n 2, 1) := by decide +kernel
theorem d_law_277 : decode code 277 = .ok (.aload_n 0, 1) := by decide +kernel
theorem d_law_278 : decode code 278 = .ok (.iload_n 3, 1) := by decide +kernel
theorem d_law_279 : decode code 279 = .ok (.iconst 1, 1) := by decide +kernel
theorem d_law_280 : decode code 280 = .ok (.iadd, 1) := by decide +kernel
theorem d_law_281 : decode code 281 = .ok (.iaload, 1) := by decide +kernel
theorem d_law_282 : decode code 282 = .ok (.invokevirtual 58, 3) := by decide +kernel
theorem d_law_285 : decode code 285 = .ok (.if_icmp .eq 51, 3) := by decide +kernel
theorem d_law_288 : decode code 288 = .ok (.iconst 0, 1) := by decide +kernel
theorem d_law_289 : decode code 289 = .ok (.ireturn, 1) := by decide +kernel
theorem d_law_290 : decode code 290 = .ok (.aload_n 1, 1) := by decide +kernel
theorem d_law_291 : decode code 291 = .ok (.aload_n 0, 1) := by decide +kernel
theorem d_law_292 : decode code 292 = .ok (.iload_n 3, 1) := by decide +kernel
theorem d_law_293 : decode code 293 = .ok (.iconst 1, 1) := by decide +kernel
theorem d_law_294 : decode code 294 = .ok (.iadd, 1) := by decide +kernel
theorem d_law_295 : decode code 295 = .ok (.iaload, 1) := by decide +kernel
theorem d_law_296 : decode code 296 = .ok (.invokevirtual 59, 3) := by decide +kernel
theorem d_law_299 : decode code 299 = .ok (.aload_n 2, 1) := by decide +kernel
theorem d_law_300 : decode code 300 = .ok (.aload_n 0, 1) := by decide +kernel
theorem d_law_301 : decode code 301 = .ok (.iload_n 3, 1) := by decide +kernel
theorem d_law_302 : decode code 302 = .ok (.iconst 1, 1) := by decide +kernel
theorem d_law_303 : decode code 303 = .ok (.iadd, 1) := by decide +kernel
theorem d_law_304 : decode code 304 = .ok (.iaload, 1) := by decide +kernel
theorem d_law_305 : decode code 305 = .ok (.invokevirtual 62, 3) := by decide +kernel
theorem d_law_308 : decode code 308 = .ok (.if_icmp .eq 28, 3) := by decide +kernel
theorem d_law_311 : decode code 311 = .ok (.iconst 0, 1) := by decide +kernel
theorem d_law_312 : decode code 312 = .ok (.ireturn, 1) := by decide +kernel
theorem d_law_313 : decode code 313 = .ok (.aload_n 1, 1) := by decide +kernel
theorem d_law_314 : decode code 314 = .ok (.aload_n 0, 1) := by decide +kernel
theorem d_law_315 : decode code 315 = .ok (.iload_n 3, 1) := by decide +kernel
theorem d_law_316 : decode code 316 = .ok (.iconst 1, 1) := by decide +kernel
theorem d_law_317 : decode code 317 = .ok (.iadd, 1) := by decide +kernel
theorem d_law_318 : decode code 318 = .ok (.iaload, 1) := by decide +kernel
theorem d_law_319 : decode code 319 = .ok (.invokevirtual 63, 3) := by decide +kernel
theorem d_law_322 : decode code 322 = .ok (.aload_n 2, 1) := by decide +kernel
theorem d_law_323 : decode code 323 = .ok (.aload_n 0, 1) := by decide +kernel
theorem d_law_324 : decode code 324 = .ok (.iload_n 3, 1) := by decide +kernel
theorem d_law_325 : decode code 325 = .ok (.iconst 1, 1) := by decide +kernel
theorem d_law_326 : decode code 326 = .ok (.iadd, 1) := by decide +kernel
theorem d_law_327 : decode code 327 = .ok (.iaload, 1) := by decide +kernel
theorem d_law_328 : decode code 328 = .ok (.invokevirtual 66, 3) := by decide +kernel
theorem d_law_331 : decode code 331 = .ok (.if_icmp .eq 5, 3) := by decide +kernel
theorem d_law_334 : decode code 334 = .ok (.iconst 0, 1) := by decide +kernel
theorem d_law_335 : decode code 335 = .ok (.ireturn, 1) := by decide +kernel
theorem d_law_336 : decode code 336 = .ok (.iinc 3 5, 3) := by decide +kernel
theorem d_law_339 : decode code 339 = .ok (.goto (-311), 3) := by decide +kernel
theorem d_law_342 : decode code 342 = .ok (.iconst 1, 1) := by decide +kernel
theorem d_law_343 : decode code 343 = .ok (.ireturn, 1) := by decide +kernel
end
section
/-! THE FRAME: a system's cells by an index; its state is a function of two numbers (cell, place); rows for its fields, arrays and calls -/
abbrev Sg : Type := Nat → Nat → Int32
abbrev Sy : Type := Nat × (Nat → Nat) × (Sg → Nat → va_E)
abbrev Gx : Type := va_G × (ClassId × ClassId × ClassId × ClassId)
def bt (x : Int32) : Int32 := x.toInt8.toInt32
def set1 (σ : Sg) (i k : Nat) (v : Int32) : Sg := va_up σ i (upd (σ i) k v)
def wx (Y : Sy) (σ : Sg) : va_W := (List.range Y.1).map fun i => (Y.2.1 i, Y.2.2 σ i)
def okY (Y : Sy) : Prop := ∀ (σ σ' : Sg) (j : Nat), σ j = σ' j → Y.2.2 σ j = Y.2.2 σ' j
theorem wx_at {Y : Sy} {σ : Sg} {i : Nat} (h : i < Y.1) : (wx Y σ)[i]? = some (Y.2.1 i, Y.2.2 σ i) := by
  simp [wx, h]
theorem wx_len {Y : Sy} {σ : Sg} : (wx Y σ).length = Y.1 := by simp [wx]
theorem wx_inv {Y : Sy} {σ : Sg} {i : Nat} {q : Nat × va_E} (h : (wx Y σ)[i]? = some q) : i < Y.1 ∧ q = (Y.2.1 i, Y.2.2 σ i) := by
  have h1 : i < Y.1 := by
    have := (List.getElem?_eq_some_iff.mp h).1
    rwa [wx_len] at this
  rw [wx_at h1] at h
  exact ⟨h1, (Option.some.inj h).symm⟩
theorem wx_set {Y : Sy} (hY : okY Y) {σ : Sg} {i : Nat} (h : i < Y.1) {g : Nat → Int32} {e : va_E} (he : Y.2.2 (va_up σ i g) i = e) : (wx Y σ).set i (Y.2.1 i, e) = wx Y (va_up σ i g) := by
  apply List.ext_getElem?
  intro j
  by_cases hj : j = i
  · subst hj
    rw [List.getElem?_set_self (by rw [wx_len]; exact h), wx_at h, he]
  · rw [List.getElem?_set_ne (Ne.symm hj)]
    by_cases hl : j < Y.1
    · rw [wx_at hl, wx_at hl, hY σ (va_up σ i g) j (va_up_ne σ g hj).symm]
    · rw [List.getElem?_eq_none (by rw [wx_len]; omega), List.getElem?_eq_none (by rw [wx_len]; omega)]
theorem wx_D {Y : Sy} {A : Nat → Prop} {σ : Sg} (σ' : Sg) (h : va_D A (wx Y σ)) : va_D A (wx Y σ') := by
  refine ⟨fun i j x y hx hy e => ?_, fun k q hk => ?_⟩
  · obtain ⟨h1, rfl⟩ := wx_inv hx
    obtain ⟨h2, rfl⟩ := wx_inv hy
    exact h.1 i j _ _ (wx_at h1) (wx_at h2) e
  · obtain ⟨h1, rfl⟩ := wx_inv hk
    exact h.2 k (Y.2.1 k, Y.2.2 σ k) (wx_at h1)
def tysG (G : Gx) : List (ClassId × FieldType) := [(G.2.1, .byte), (G.2.2.1, .int), (G.2.2.2.1, .boolean), (G.2.2.2.2, .array .byte)]
def Nst (U : State) : Prop := ∀ (a : String) (i : Nat) (b n d h : String), Cond.fieldLinkNest a i b n d h ∈ tables_1 → va_Nw (.fieldLinkNest a i b n d h) U
def Kx (G : Gx) (U : State) : Prop := va_K G.1 classes (tysG G) U ∧ Nst U
theorem Kx.warm {G : Gx} {s U : State} (hW : s.WarmedH U.vm) (h : Kx G s) : Kx G U := ⟨va_K.moved hW.alike h.1, fun a i b n d hh hm => va_Nw.warmF hW (h.2 a i b n d hh hm)⟩
theorem Kx.same {G : Gx} {u U : State} (e : u.vm = U.vm) (h : Kx G u) : Kx G U := ⟨va_K.moved (e ▸ Vm.Alike.refl u.vm) h.1, fun a i b n d hh hm => va_Nw.same rfl e (h.2 a i b n d hh hm)⟩
def Cx (G : Gx) (p : Program) (s : State) (m : MethodId) (args : Array Value) (meth : Method) (c : Code) (own : String) (cc : ByteArray) (nL : Nat) (ret : Option FieldType) : Prop :=
  p.tables.exec = Jvm.exec ∧ c.code = cc ∧ (∀ w ∈ gt, w.before args s = true) ∧ s.vm.findClass own = some m.cls ∧ Kx G s ∧ c.maxLocals = nL ∧ meth.sig.returnType = ret ∧ meth.locks = false
def Hp (G : Gx) (Y : Sy) (A : Nat → Prop) (H0 : Heap) (σ : Sg) (H : Heap) (locs : List Loc) : Prop := va_P G.1 classes (wx Y σ) H ∧ va_D A (wx Y σ) ∧ va_S A H0 H locs
def FX (Cn : String) (T : u_T) (N : Nat) (ty0 : Nat → FieldType) : Prop := (∀ w ∈ u_ws Cn T N, w ∈ gt) ∧ (∀ k, k < N → parseFieldDescriptor (T k).2.2.1 = some (ty0 k)) ∧ (∀ a, a < N → ∀ b, b < N → a ≠ b → (T a).2.1 ≠ (T b).2.1)
theorem fx_BV : FX R_BV F_BV 3 t_BV := ⟨in_BV, t_BV_ok, n_BV⟩
theorem fx_Pl : FX R_Pl F_Pl 5 t_Pl := ⟨in_Pl, t_Pl_ok, n_Pl⟩
theorem fx_Ca : FX R_Ca F_Ca 7 t_Ca := ⟨in_Ca, t_Ca_ok, n_Ca⟩
theorem fx_Lg : FX R_Lg F_Lg 10 t_Lg := ⟨in_Lg, t_Lg_ok, n_Lg⟩
theorem fx_Md : FX R_Md F_Md 15 t_Md := ⟨in_Md, t_Md_ok, n_Md⟩
/-- reading a local by its number -/
theorem lk {ls : Array Slot} {nL : Nat} {l : List (Nat × Value)} (h : lv_has ls nL l) {i : Nat} {v : Value} (hk : l.lookup i = some v) : ls[i]? = some (.val v) := by
  refine h.2.2 (i, v) ?_
  clear h
  induction l with
  | nil => cases hk
  | cons q t ih =>
    obtain ⟨j, w⟩ := q
    rw [List.lookup_cons] at hk
    by_cases hj : i = j
    · subst hj
      simp at hk
      subst hk
      exact List.mem_cons_self
    · have : (i == j) = false := by simpa using hj
      rw [this] at hk
      exact List.mem_cons_of_mem _ (ih hk)
/-- the locals by another list -/
theorem lv_re {ls : Array Slot} {nL : Nat} {l : List (Nat × Value)} (h : lv_has ls nL l) (l' : List (Nat × Value)) (hh : l'.map (fun q => l.lookup q.1) = l'.map (fun q => some q.2)) : lv_has ls nL l' := by
  refine ⟨h.1, h.2.1, fun q hq => ?_⟩
  have h1 : l.lookup q.1 = some q.2 := by
    clear h
    induction l' with
    | nil => cases hq
    | cons a t ih =>
      simp only [List.map_cons, List.cons.injEq] at hh
      rcases List.mem_cons.mp hq with e | e
      · subst e; exact hh.1
      · exact ih hh.2 e
  exact lk h h1
def Aof (Y : Sy) : Nat → Prop := fun q => ∃ i, i < Y.1 ∧ q = Y.2.1 i
def rk (k : Nat) : Room := { frames := k, cells := 0, slots := 0, locals := 30 * k }
def Pre (G : Gx) (Y : Sy) (σ : Sg) (U : State) : Prop := va_P G.1 classes (wx Y σ) U.heap ∧ Kx G U ∧ va_D (Aof Y) (wx Y σ)
def wsm (y : MethodName) (b : ByteArray) (n : Nat) (ret : Option FieldType) : List Cond := Cond.code y b n ret :: gt
abbrev QI (G : Gx) (Y : Sy) (rv : Int32) (σ' : Sg) : Array Value → State → Outcome → State → Prop := va_Qi (S := Sg) (fun r u => r = rv ∧ u = σ') (fun u t => va_P G.1 classes (wx Y u) t.heap) (Aof Y)
abbrev QV (G : Gx) (Y : Sy) (σ' : Sg) : Array Value → State → Outcome → State → Prop := va_Qv (S := Sg) (fun u => u = σ') (fun u t => va_P G.1 classes (wx Y u) t.heap) (Aof Y)
abbrev QR (G : Gx) (Y : Sy) (rv : Nat) (σ' : Sg) : Array Value → State → Outcome → State → Prop := va_Qr (S := Sg) (fun u => u = σ') (fun u a t => a = rv ∧ va_P G.1 classes (wx Y u) t.heap) (Aof Y)
/-- a contract: an int answer (a boolean too), the state behind it -/
def MI (l : Launch) (G : Gx) (Y : Sy) (y : MethodName) (b : ByteArray) (nL : Nat) (ret : Option FieldType) (k : Nat) (σ : Sg) (as : List Value) (rv : Int32) (σ' : Sg) : Prop := Met l y (wsm y b nL ret) (rk k) (va_Pc as (Pre G Y σ)) (QI G Y rv σ') 0 0 (Aof Y)
def MV (l : Launch) (G : Gx) (Y : Sy) (y : MethodName) (b : ByteArray) (nL : Nat) (ret : Option FieldType) (k : Nat) (σ : Sg) (as : List Value) (σ' : Sg) : Prop := Met l y (wsm y b nL ret) (rk k) (va_Pc as (Pre G Y σ)) (QV G Y σ') 0 0 (Aof Y)
def MR (l : Launch) (G : Gx) (Y : Sy) (y : MethodName) (b : ByteArray) (nL : Nat) (ret : Option FieldType) (k : Nat) (σ : Sg) (as : List Value) (rv : Nat) (σ' : Sg) : Prop := Met l y (wsm y b nL ret) (rk k) (va_Pc as (Pre G Y σ)) (QR G Y rv σ') 0 0 (Aof Y)
theorem go {l : Launch} {G : Gx} {Y : Sy} {y : MethodName} {cc : ByteArray} {nL : Nat} {ret : Option FieldType} {k : Nat} {σ : Sg} {as : List Value} {Qc : Array Value → State → Outcome → State → Prop} {free : Addr → Prop} (hy : plainName y.cls = true) (hn : (lg_sl as).length ≤ nL)
    (body : ∀ (p : Program) (e : Env) (s : State) (m : MethodId) (below : List Frame) (meth : Method) (c : Code) (ls : Array Slot), Cx G p s m as.toArray meth c y.cls cc nL ret → Hp G Y (Aof Y) s.heap σ s.heap [] → lv_has ls nL (lv_args 0 as) → W p l e (rk k) s m as.toArray below meth c s.heap [] 0 0 (MQ below Qc as.toArray s 0 0 free) (F0 m 0 ls [])) :
    Met l y (wsm y cc nL ret) (rk k) (va_Pc as (Pre G Y σ)) Qc 0 0 free := by
  refine Met.ofW (cc := cc) (maxL := nL) (ret := ret) hy rfl ?_
  intro p e s m args below meth c s₁ B hml hv
  obtain ⟨rfl, hP, hK, hD⟩ := hv
  have hts := atoms_spec (ws := wsm y cc nL ret) B.pre
  have hl := lv_entry as (n := nL) hn
  rw [lg_entry_eq]
  exact body p e s m below meth c _ ⟨B.exec, B.bytes, fun w hw => hts w (List.mem_cons_of_mem _ hw), findClass_of_methodNamed B.named, hK, hml, B.returns, B.notSynchronized⟩ ⟨hP, hD, va_S.rf⟩ hl
theorem Pre.blind {G : Gx} {Y : Sy} {σ : Sg} {as : List Value} : FrameBlind (va_Pc as (Pre G Y σ)) := fun a U g mk q => ⟨q.1, q.2.1, Kx.same (u := U) (U := U.calling g mk a) rfl q.2.2.1, q.2.2.2⟩
section RW
variable {p : Program} {l : Launch} {e : Env} {R : Room} {s : State} {m : MethodId} {args : Array Value} {below : List Frame} {meth : Method} {c : Code} {H : Heap} {locs : List Loc} {cells slots : Nat} {Q : State → Prop}
variable {cc : ByteArray} {pc nL : Nat} {ls : Array Slot} {rest : List Value} {G : Gx} {Y : Sy} {A : Nat → Prop} {H0 : Heap} {σ : Sg} {own : String} {ret : Option FieldType}
theorem x_get (C : Cx G p s m args meth c own cc nL ret) (h : Hp G Y A H0 σ H locs) {Cn : String} {T : u_T} {N ci idx : Nat} {ty0 : Nat → FieldType} (fx : FX Cn T N ty0) (i : Nat) (hi : i < Y.1) {fs : List Value} (he : Y.2.2 σ i = .inr (ci, fs)) (hc : classes[ci]? = some (Cn, T, N)) (k : Nat) (hk : k < N) (hd : (T k).1 = Cn) (hlink : Cond.fieldLink own idx Cn (T k).2.1 (T k).2.2.1 ∈ gt) {v : Value} (hv : fs[k]? = some v) (hdg : decode cc pc = .ok (.getfield idx, 3))
    (kk : W p l e R s m args below meth c H locs cells slots Q (F0 m (pc + 3) ls (v :: rest))) : W p l e R s m args below meth c H locs cells slots Q (F0 m pc ls (.ref (Y.2.1 i) :: rest)) :=
  va_get (ref := Cn) C.1 C.2.1 C.2.2.1 fx.1 C.2.2.2.1 C.2.2.2.2.1.1 h.1 i (by rw [wx_at hi, he]) hc k hk (C.2.2.1 _ hlink) (fun x hx => by rw [hd] at hx; exact hx) hv hdg kk
theorem x_getN (C : Cx G p s m args meth c own cc nL ret) (h : Hp G Y A H0 σ H locs) {Cn host : String} {T : u_T} {N ci idx : Nat} {ty0 : Nat → FieldType} (fx : FX Cn T N ty0) (i : Nat) (hi : i < Y.1) {fs : List Value} (he : Y.2.2 σ i = .inr (ci, fs)) (hc : classes[ci]? = some (Cn, T, N)) (k : Nat) (hk : k < N) (hd : (T k).1 = Cn) (hlink : Cond.fieldLinkNest own idx Cn (T k).2.1 (T k).2.2.1 host ∈ tables_1) {v : Value} (hv : fs[k]? = some v) (hdg : decode cc pc = .ok (.getfield idx, 3))
    (kk : W p l e R s m args below meth c H locs cells slots Q (F0 m (pc + 3) ls (v :: rest))) : W p l e R s m args below meth c H locs cells slots Q (F0 m pc ls (.ref (Y.2.1 i) :: rest)) :=
  va_getN (ref := Cn) (host := host) C.1 C.2.1 C.2.2.1 fx.1 C.2.2.2.1 C.2.2.2.2.1.1 h.1 i (by rw [wx_at hi, he]) hc k hk (va_Nw.use rfl (C.2.2.2.2.1.2 _ _ _ _ _ _ hlink)) (fun x hx => by rw [hd] at hx; exact hx) hv hdg kk
theorem x_put (C : Cx G p s m args meth c own cc nL ret) (h : Hp G Y A H0 σ H locs) (hY : okY Y) {Cn : String} {T : u_T} {N ci idx : Nat} {ty0 : Nat → FieldType} (fx : FX Cn T N ty0) (i : Nat) (hi : i < Y.1) {fs : List Value} (he : Y.2.2 σ i = .inr (ci, fs)) (hc : classes[ci]? = some (Cn, T, N)) (k : Nat) (hk : k < N) (hd : (T k).1 = Cn) (hlink : Cond.fieldLink own idx Cn (T k).2.1 (T k).2.2.1 ∈ gt) {x : Int32} (he' : Y.2.2 (set1 σ i k x) i = .inr (ci, fs.set k (.int x))) (hfin : (T k).2.2.2 = false) (hn : narrow (ty0 k) (.int x) = .int x) (hfit : fits (ty0 k) (.int x) = true) (hl : k < fs.length) (hdg : decode cc pc = .ok (.putfield idx, 3))
    (kk : ∀ (H : Heap) (locs : List Loc), Hp G Y A H0 (set1 σ i k x) H locs → W p l e R s m args below meth c H locs cells slots Q (F0 m (pc + 3) ls rest)) : W p l e R s m args below meth c H locs cells slots Q (F0 m pc ls (.int x :: .ref (Y.2.1 i) :: rest)) := by
  refine va_put (ref := Cn) (ty := ty0 k) C.1 C.2.1 C.2.2.1 fx.1 ty0 fx.2.1 fx.2.2 C.2.2.2.1 C.2.2.2.2.1.1 h.1 h.2.1 h.2.2 i (by rw [wx_at hi, he]) hc k hk (C.2.2.1 _ hlink) (fun x hx => by rw [hd] at hx; exact hx) hfin (fx.2.1 k hk) hn hfit hl hdg (fun H1 locs1 hP hD hS => ?_)
  have e : (wx Y σ).set i (Y.2.1 i, .inr (ci, fs.set k (.int x))) = wx Y (set1 σ i k x) := wx_set hY hi he'
  rw [e] at hP hD
  exact kk H1 locs1 ⟨hP, hD, hS⟩
theorem x_putN (C : Cx G p s m args meth c own cc nL ret) (h : Hp G Y A H0 σ H locs) (hY : okY Y) {Cn host : String} {T : u_T} {N ci idx : Nat} {ty0 : Nat → FieldType} (fx : FX Cn T N ty0) (i : Nat) (hi : i < Y.1) {fs : List Value} (he : Y.2.2 σ i = .inr (ci, fs)) (hc : classes[ci]? = some (Cn, T, N)) (k : Nat) (hk : k < N) (hd : (T k).1 = Cn) (hlink : Cond.fieldLinkNest own idx Cn (T k).2.1 (T k).2.2.1 host ∈ tables_1) {x : Int32} (he' : Y.2.2 (set1 σ i k x) i = .inr (ci, fs.set k (.int x))) (hfin : (T k).2.2.2 = false) (hn : narrow (ty0 k) (.int x) = .int x) (hfit : fits (ty0 k) (.int x) = true) (hl : k < fs.length) (hdg : decode cc pc = .ok (.putfield idx, 3))
    (kk : ∀ (H : Heap) (locs : List Loc), Hp G Y A H0 (set1 σ i k x) H locs → W p l e R s m args below meth c H locs cells slots Q (F0 m (pc + 3) ls rest)) : W p l e R s m args below meth c H locs cells slots Q (F0 m pc ls (.int x :: .ref (Y.2.1 i) :: rest)) := by
  refine va_putN (ref := Cn) (host := host) (ty := ty0 k) C.1 C.2.1 C.2.2.1 fx.1 ty0 fx.2.1 fx.2.2 C.2.2.2.1 C.2.2.2.2.1.1 h.1 h.2.1 h.2.2 i (by rw [wx_at hi, he]) hc k hk (va_Nw.use rfl (C.2.2.2.2.1.2 _ _ _ _ _ _ hlink)) (fun x hx => by rw [hd] at hx; exact hx) hfin (fx.2.1 k hk) hn hfit hl hdg (fun H1 locs1 hP hD hS => ?_)
  have e : (wx Y σ).set i (Y.2.1 i, .inr (ci, fs.set k (.int x))) = wx Y (set1 σ i k x) := wx_set hY hi he'
  rw [e] at hP hD
  exact kk H1 locs1 ⟨hP, hD, hS⟩
-- arrays: an index that is in, as an int
theorem in_clamp {x : Int32} {n : Nat} (h : vp_in x n) : x.toNatClampNeg < n := Nat.not_le.mp fun q => h (Or.inr q)
theorem x_iald (C : Cx G p s m args meth c own cc nL ret) (h : Hp G Y A H0 σ H locs) (i : Nat) (hi : i < Y.1) {n : Nat} {f : Nat → Int32} (he : Y.2.2 σ i = .inl (G.2.2.1, n, .inl f)) {x : Int32} (hin : vp_in x n) (hdg : decode cc pc = .ok (.iaload, 1))
    (kk : W p l e R s m args below meth c H locs cells slots Q (F0 m (pc + 1) ls (.int (f x.toNatClampNeg) :: rest))) : W p l e R s m args below meth c H locs cells slots Q (F0 m pc ls (.int x :: .ref (Y.2.1 i) :: rest)) :=
  va_iald C.1 C.2.1 C.2.2.2.2.1.1 h.1 i 1 (by rw [wx_at hi, he]) rfl hin hdg kk
theorem x_zald (C : Cx G p s m args meth c own cc nL ret) (h : Hp G Y A H0 σ H locs) (i : Nat) (hi : i < Y.1) {n : Nat} {f : Nat → Int32} (he : Y.2.2 σ i = .inl (G.2.2.2.1, n, .inl f)) {x : Int32} (hin : vp_in x n) (hdg : decode cc pc = .ok (.baload, 1))
    (kk : W p l e R s m args below meth c H locs cells slots Q (F0 m (pc + 1) ls (.int (f x.toNatClampNeg) :: rest))) : W p l e R s m args below meth c H locs cells slots Q (F0 m pc ls (.int x :: .ref (Y.2.1 i) :: rest)) :=
  va_zald C.1 C.2.1 C.2.2.2.2.1.1 h.1 i 2 (by rw [wx_at hi, he]) rfl hin hdg kk
theorem x_bald (C : Cx G p s m args meth c own cc nL ret) (h : Hp G Y A H0 σ H locs) (i : Nat) (hi : i < Y.1) {n : Nat} {f : Nat → Int32} (he : Y.2.2 σ i = .inl (G.2.1, n, .inl f)) {x : Int32} (hin : vp_in x n) (hdg : decode cc pc = .ok (.baload, 1))
    (kk : W p l e R s m args below meth c H locs cells slots Q (F0 m (pc + 1) ls (.int (f x.toNatClampNeg) :: rest))) : W p l e R s m args below meth c H locs cells slots Q (F0 m pc ls (.int x :: .ref (Y.2.1 i) :: rest)) :=
  va_bald C.1 C.2.1 C.2.2.2.2.1.1 h.1 i 0 (by rw [wx_at hi, he]) rfl hin hdg kk
theorem x_aald (C : Cx G p s m args meth c own cc nL ret) (h : Hp G Y A H0 σ H locs) (i : Nat) (hi : i < Y.1) {n : Nat} {f : Nat → Option Nat} (he : Y.2.2 σ i = .inl (G.2.2.2.2, n, .inr (.inr (.inr (.inr f))))) {x : Int32} (hin : vp_in x n) (hdg : decode cc pc = .ok (.aaload, 1))
    (kk : W p l e R s m args below meth c H locs cells slots Q (F0 m (pc + 1) ls (va_rf (f x.toNatClampNeg) :: rest))) : W p l e R s m args below meth c H locs cells slots Q (F0 m pc ls (.int x :: .ref (Y.2.1 i) :: rest)) := by
  have ha : (wx Y σ)[i]? = some (Y.2.1 i, .inl (G.2.2.2.2, n, .inr (.inr (.inr (.inr f))))) := by rw [wx_at hi, he]
  have ht : (tysG G)[3]? = some (G.2.2.2.2, .array .byte) := rfl
  exact W.aald (v := va_rf (f x.toNatClampNeg)) (ty := .array .byte) C.1 C.2.1 (h.1 i _ ha) ((C.2.2.2.2.1.1.2 3 _ ht).1 n (fun j => va_rf (f j))) rfl (fun q => by cases q) (by show ¬ (x < 0 ∨ (arrV _ _ _).slots.size ≤ _); rw [arrV_size]; exact hin) (by show (arrV _ _ _).slots[_]? = _; rw [arrV_read _ _ (in_clamp hin)]) rfl rfl hdg kk
theorem x_alen (C : Cx G p s m args meth c own cc nL ret) (h : Hp G Y A H0 σ H locs) (i : Nat) (hi : i < Y.1) {cA : ClassId} {x : vp_A} (he : Y.2.2 σ i = .inl (cA, x)) (t0 : Nat) {ty : FieldType} (ht : (tysG G)[t0]? = some (cA, ty)) {v : Int32} (hv : Int32.ofNat x.1 = v) (hdg : decode cc pc = .ok (.arraylength, 1))
    (kk : W p l e R s m args below meth c H locs cells slots Q (F0 m (pc + 1) ls (.int v :: rest))) : W p l e R s m args below meth c H locs cells slots Q (F0 m pc ls (.ref (Y.2.1 i) :: rest)) :=
  va_alen C.1 C.2.1 C.2.2.2.2.1.1 h.1 i t0 (by rw [wx_at hi, he]) ht hv hdg kk
theorem x_iast (C : Cx G p s m args meth c own cc nL ret) (h : Hp G Y A H0 σ H locs) (hY : okY Y) (i : Nat) (hi : i < Y.1) {n : Nat} {f : Nat → Int32} (he : Y.2.2 σ i = .inl (G.2.2.1, n, .inl f)) {x v : Int32} (he' : Y.2.2 (set1 σ i x.toNatClampNeg v) i = .inl (G.2.2.1, n, .inl (upd f x.toNatClampNeg v))) (hin : vp_in x n) (hdg : decode cc pc = .ok (.iastore, 1))
    (kk : ∀ (H : Heap) (locs : List Loc), Hp G Y A H0 (set1 σ i x.toNatClampNeg v) H locs → W p l e R s m args below meth c H locs cells slots Q (F0 m (pc + 1) ls rest)) : W p l e R s m args below meth c H locs cells slots Q (F0 m pc ls (.int v :: .int x :: .ref (Y.2.1 i) :: rest)) := by
  refine va_iast C.1 C.2.1 C.2.2.2.2.1.1 h.1 h.2.1 h.2.2 i 1 (by rw [wx_at hi, he]) rfl hin hdg (fun H1 locs1 hP hD hS => ?_)
  have e : (wx Y σ).set i (Y.2.1 i, .inl (G.2.2.1, n, .inl (upd f x.toNatClampNeg v))) = wx Y (set1 σ i x.toNatClampNeg v) := wx_set hY hi he'
  rw [e] at hP hD
  exact kk H1 locs1 ⟨hP, hD, hS⟩
theorem x_zast (C : Cx G p s m args meth c own cc nL ret) (h : Hp G Y A H0 σ H locs) (hY : okY Y) (i : Nat) (hi : i < Y.1) {n : Nat} {f : Nat → Int32} (he : Y.2.2 σ i = .inl (G.2.2.2.1, n, .inl f)) {x v : Int32} (he' : Y.2.2 (set1 σ i x.toNatClampNeg v) i = .inl (G.2.2.2.1, n, .inl (upd f x.toNatClampNeg v))) (hv : vp_nar .boolean v = v) (hin : vp_in x n) (hdg : decode cc pc = .ok (.bastore, 1))
    (kk : ∀ (H : Heap) (locs : List Loc), Hp G Y A H0 (set1 σ i x.toNatClampNeg v) H locs → W p l e R s m args below meth c H locs cells slots Q (F0 m (pc + 1) ls rest)) : W p l e R s m args below meth c H locs cells slots Q (F0 m pc ls (.int v :: .int x :: .ref (Y.2.1 i) :: rest)) := by
  refine va_zast C.1 C.2.1 C.2.2.2.2.1.1 h.1 h.2.1 h.2.2 i 2 (by rw [wx_at hi, he]) rfl hin hdg (fun H1 locs1 hP hD hS => ?_)
  rw [hv] at hP hD
  have e : (wx Y σ).set i (Y.2.1 i, .inl (G.2.2.2.1, n, .inl (upd f x.toNatClampNeg v))) = wx Y (set1 σ i x.toNatClampNeg v) := wx_set hY hi he'
  rw [e] at hP hD
  exact kk H1 locs1 ⟨hP, hD, hS⟩
theorem bt_upd (f : Nat → Int32) (k : Nat) (v : Int32) : (fun j => bt (upd f k v j)) = upd (fun j => bt (f j)) k (vp_nar .byte v) := by
  funext j
  by_cases h : j = k
  · subst h; simp [upd, bt, vp_nar_byte]
  · simp [upd, h]
theorem bt_bt (x : Int32) : bt (bt x) = bt x := by
  have h := pk_vb x
  rw [vp_nar_byte] at h
  exact h
theorem x_bast (C : Cx G p s m args meth c own cc nL ret) (h : Hp G Y A H0 σ H locs) (hY : okY Y) (i : Nat) (hi : i < Y.1) {n : Nat} (he : ∀ σ : Sg, Y.2.2 σ i = .inl (G.2.1, n, .inl (fun j => bt (σ i j)))) {x v : Int32} (hin : vp_in x n) (hdg : decode cc pc = .ok (.bastore, 1))
    (kk : ∀ (H : Heap) (locs : List Loc), Hp G Y A H0 (set1 σ i x.toNatClampNeg v) H locs → W p l e R s m args below meth c H locs cells slots Q (F0 m (pc + 1) ls rest)) : W p l e R s m args below meth c H locs cells slots Q (F0 m pc ls (.int v :: .int x :: .ref (Y.2.1 i) :: rest)) := by
  refine va_bast C.1 C.2.1 C.2.2.2.2.1.1 h.1 h.2.1 h.2.2 i 0 (by rw [wx_at hi, he σ]) rfl hin hdg (fun H1 locs1 hP hD hS => ?_)
  have e : (wx Y σ).set i (Y.2.1 i, .inl (G.2.1, n, .inl (upd (fun j => bt (σ i j)) x.toNatClampNeg (vp_nar .byte v)))) = wx Y (set1 σ i x.toNatClampNeg v) := wx_set hY hi (by
    rw [he, ← bt_upd, va_up_self])
  rw [e] at hP hD
  exact kk H1 locs1 ⟨hP, hD, hS⟩
theorem bt_fits (x : Int32) : fits .byte (.int (bt x)) = true := pk_fb x
theorem bt_cpy (f g : Nat → Int32) (a b n : Nat) : (fun j => bt (va_cpy f g a b n j)) = va_cpy (fun j => bt (f j)) (fun j => bt (g j)) a b n := by
  funext j
  unfold va_cpy
  split <;> rfl
theorem x_copy (C : Cx G p s m args meth c R_Pl cc nL ret) (hl : ls.size = nL) (h : Hp G Y A H0 σ H locs) (hY : okY Y) (i0 i1 : Nat) (hi0 : i0 < Y.1) (hi1 : i1 < Y.1) {n0 n1 : Nat} (he0 : ∀ σ : Sg, Y.2.2 σ i0 = .inl (G.2.1, n0, .inl (fun j => bt (σ i0 j)))) (he1 : ∀ σ : Sg, Y.2.2 σ i1 = .inl (G.2.1, n1, .inl (fun j => bt (σ i1 j))))
    (sp dp n : Nat) (hs : sp < 2 ^ 31) (hd : dp < 2 ^ 31) (hn : n < 2 ^ 31) (h0 : sp + n ≤ n0) (h1 : dp + n ≤ n1) (hframes : 1 ≤ R.frames) (hlocals : (rest.map fun v => v.category).sum + (nativeFrameWords "java/lang/System" "arraycopy" 5 + 11) ≤ R.locals) (hdg : decode cc pc = .ok (.invokestatic 22, 3))
    (kk : ∀ (H : Heap) (locs : List Loc), Hp G Y A H0 (va_up σ i1 (va_cpy (σ i0) (σ i1) sp dp n)) H locs → W p l e R s m args below meth c H locs cells slots Q (F0 m (pc + 3) ls rest)) : W p l e R s m args below meth c H locs cells slots Q (F0 m pc ls (.int (nI n) :: .int (nI dp) :: .ref (Y.2.1 i1) :: .int (nI sp) :: .ref (Y.2.1 i0) :: rest)) := by
  refine va_copyi (ty := .byte) (f := fun j => bt (σ i0 j)) (g := fun j => bt (σ i1 j)) C.1 C.2.1 (C.2.2.2.2.2.1.trans hl.symm) C.2.2.2.1 (C.2.2.1 _ k_170) (C.2.2.1 _ k_172) (C.2.2.1 _ k_171) (C.2.2.1 _ k_7) C.2.2.2.2.1.1 h.1 h.2.1 h.2.2 i0 i1 0 0 (by rw [wx_at hi0, he0 σ]) (by rw [wx_at hi1, he1 σ]) rfl rfl rfl (nI_pos hs) (nI_pos hd) (nI_pos hn) (by rw [nI_clamp hs, nI_clamp hn]; exact h0) (by rw [nI_clamp hd, nI_clamp hn]; exact h1) (fun i _ => bt_fits (σ i0 _)) hframes hlocals hdg (fun H1 locs1 hP hD hS => ?_)
  rw [nI_clamp hs, nI_clamp hd, nI_clamp hn] at hP hD
  have e : (wx Y σ).set i1 (Y.2.1 i1, .inl (G.2.1, n1, .inl (va_cpy (fun j => bt (σ i0 j)) (fun j => bt (σ i1 j)) sp dp n))) = wx Y (va_up σ i1 (va_cpy (σ i0) (σ i1) sp dp n)) := wx_set hY hi1 (by
    rw [he1, ← bt_cpy, va_up_self])
  rw [e] at hP hD
  exact kk H1 locs1 ⟨hP, hD, hS⟩
end RW
end
section
/-! returns and calls of the frame -/
/-- what a call needs of the words -/
def CB (own : String) (idx : Nat) (y : MethodName) (b : ByteArray) (nL : Nat) (ret : Option FieldType) (n : Nat) : Prop :=
  Cond.methodLink own idx y ∈ gt ∧ Cond.initialized y.cls ∈ gt ∧ Cond.code y b nL ret ∈ gt ∧ (y.cls ≠ "java/lang/invoke/MethodHandle" ∧ y.cls ≠ "java/lang/invoke/VarHandle") ∧ (parseMethodDescriptor y.desc).map (fun d => d.parameters.length) = some n
def CW (own : String) (idx : Nat) (y : MethodName) (b : ByteArray) (nL : Nat) (ret : Option FieldType) (n : Nat) : Prop := CB own idx y b nL ret n ∧ Cond.instanceMethod y ∈ gt ∧ Cond.selects y.cls y y ∈ gt
def CS (own : String) (idx : Nat) (y : MethodName) (b : ByteArray) (nL : Nat) (ret : Option FieldType) (n : Nat) : Prop := CB own idx y b nL ret n ∧ Cond.static y ∈ gt
theorem gt_in {y : MethodName} {b : ByteArray} {nL : Nat} {ret : Option FieldType} (hc : Cond.code y b nL ret ∈ gt) : GoodIn gt (wsm y b nL ret) := by
  intro w hw
  have h : w ∈ gt := by
    rcases List.mem_cons.mp hw with e | e
    · rw [e]; exact hc
    · exact e
  exact ⟨h, good_of_word (gt_good h)⟩
theorem cb_of {R : Room} {s : State} {args : Array Value} {own : String} {idx : Nat} {y : MethodName} {b : ByteArray} {nL : Nat} {ret : Option FieldType} {n : Nat} {rm : Room} {mc ms : Nat} (hts : ∀ w ∈ gt, w.before args s = true) (h : CB own idx y b nL ret n) (hrc : rm.cells = mc) (hrs : rm.slots = ms) (hR : rm.frames + 1 ≤ R.frames ∧ 8 + (nL + 11) + rm.locals ≤ R.locals) : CallB R s args own idx y b nL ret (wsm y b nL ret) rm mc ms n :=
  callB_of n hts (gt_in h.2.2.1) rfl hrc hrs (hts _ h.2.1) (hts _ h.1) ⟨h.2.2.2.1.1, h.2.2.2.1.2, h.2.2.2.2⟩ hR
section RC
variable {p : Program} {l : Launch} {e : Env} {R : Room} {s : State} {m : MethodId} {args : Array Value} {below : List Frame} {meth : Method} {c : Code} {H : Heap} {locs : List Loc} {cells slots : Nat} {Q : State → Prop}
variable {cc : ByteArray} {pc nL : Nat} {ls : Array Slot} {rest st : List Value} {G : Gx} {Y : Sy} {A : Nat → Prop} {H0 : Heap} {σ σ' σ1 : Sg} {own : String} {ret : Option FieldType}
theorem x_iret (C : Cx G p s m args meth c own cc nL (some .int)) (h : Hp G Y (Aof Y) s.heap σ1 H locs) {v rv : Int32} (hdg : decode cc pc = .ok (.ireturn, 1)) (hv : v = rv) (hs : σ1 = σ') :
    W p l e R s m args below meth c H locs 0 0 (MQ below (QI G Y rv σ') args s 0 0 (Aof Y)) (F0 m pc ls [.int v]) := by
  subst hs
  exact W.iret C.1 C.2.1 C.2.2.2.2.2.2.1 (fun t ht hW => ⟨⟨v, σ1, rfl, ⟨hv, rfl⟩, by subst ht; exact h.1⟩, h.2.2.F ht⟩) h.2.2.2.2 hdg (hlocks := C.2.2.2.2.2.2.2)
theorem x_zret (C : Cx G p s m args meth c own cc nL (some .boolean)) (h : Hp G Y (Aof Y) s.heap σ1 H locs) {v rv : Int32} (hdg : decode cc pc = .ok (.ireturn, 1)) (hn : narrow .boolean (.int v) = .int v) (hv : v = rv) (hs : σ1 = σ') :
    W p l e R s m args below meth c H locs 0 0 (MQ below (QI G Y rv σ') args s 0 0 (Aof Y)) (F0 m pc ls [.int v]) := by
  subst hs
  exact W.zret C.1 C.2.1 C.2.2.2.2.2.2.1 hn (fun t ht hW => ⟨⟨v, σ1, rfl, ⟨hv, rfl⟩, by subst ht; exact h.1⟩, h.2.2.F ht⟩) h.2.2.2.2 hdg (hlocks := C.2.2.2.2.2.2.2)
theorem x_vret (C : Cx G p s m args meth c own cc nL none) (h : Hp G Y (Aof Y) s.heap σ1 H locs) (hdg : decode cc pc = .ok (.return_, 1)) (hs : σ1 = σ') :
    W p l e R s m args below meth c H locs 0 0 (MQ below (QV G Y σ') args s 0 0 (Aof Y)) (F0 m pc ls []) := by
  subst hs
  exact W.vret C.1 C.2.1 C.2.2.2.2.2.2.1 (fun t ht hW => ⟨⟨σ1, rfl, rfl, by subst ht; exact h.1⟩, h.2.2.F ht⟩) h.2.2.2.2 hdg (hlocks := C.2.2.2.2.2.2.2)
theorem x_aret (C : Cx G p s m args meth c own cc nL (some (.array .byte))) (h : Hp G Y (Aof Y) s.heap σ1 H locs) {v rv : Nat} (hdg : decode cc pc = .ok (.areturn, 1)) (hv : v = rv) (hs : σ1 = σ') :
    W p l e R s m args below meth c H locs 0 0 (MQ below (QR G Y rv σ') args s 0 0 (Aof Y)) (F0 m pc ls [.ref v]) := by
  subst hs
  exact W.aret (rt := .array .byte) C.1 C.2.1 C.2.2.2.2.2.2.1 (Or.inr ⟨_, rfl⟩) (Or.inr ⟨v, rfl⟩) (fun t ht hW => ⟨⟨σ1, v, rfl, rfl, hv, by subst ht; exact h.1⟩, h.2.2.F ht⟩) h.2.2.2.2 hdg (hlocks := C.2.2.2.2.2.2.2)
theorem eqW {g g2 : JFrame} (h : g = g2) (k : W p l e R s m args below meth c H locs cells slots Q g2) : W p l e R s m args below meth c H locs cells slots Q g := h ▸ k
/-- the number on top by another name -/
theorem top {x y : Int32} (h : x = y) (k : W p l e R s m args below meth c H locs cells slots Q (F0 m pc ls (.int y :: rest))) : W p l e R s m args below meth c H locs cells slots Q (F0 m pc ls (.int x :: rest)) := h ▸ k
theorem top2 {x y : Int32} {v : Value} (h : x = y) (k : W p l e R s m args below meth c H locs cells slots Q (F0 m pc ls (v :: .int y :: rest))) : W p l e R s m args below meth c H locs cells slots Q (F0 m pc ls (v :: .int x :: rest)) := h ▸ k
theorem preV {as : List Value} (K : Kx G s) (hP : va_P G.1 classes (wx Y σ) H) (hD : va_D A (wx Y σ)) : ∀ U : State, U.heap = H → s.WarmedH U.vm → va_Pc as (Pre G Y σ) as.toArray U := fun U hU hW => ⟨rfl, by rw [hU]; exact hP, K.warm hW, ⟨hD.1, fun k q hk => by obtain ⟨h1, rfl⟩ := wx_inv hk; exact ⟨k, h1, rfl⟩⟩⟩
theorem recvY {q ci : Nat} {r : vw_C} {fs : List Value} (K : Kx G s) (hP : va_P G.1 classes (wx Y σ) H) (hq : q < Y.1) (he : Y.2.2 σ q = .inr (ci, fs)) (hc : classes[ci]? = some r) : ∃ cell : Cell, H[Y.2.1 q]? = some cell ∧ cell.vm.isStatics = false ∧ s.vm.findClass r.1 = some cell.cls := va_recv K.1 hP (q0 := q) hc (by rw [wx_at hq, he])
/-- calls, as the law makes them: what the callee's system is behind them, and that nothing else changed -/
theorem y_callVi (S : p.tables.exec = Jvm.exec ∧ c.code = cc ∧ c.maxLocals = nL ∧ s.vm.findClass own = some m.cls ∧ ∀ w ∈ gt, w.before args s = true) (K : Kx G s) (hP : va_P G.1 classes (wx Y σ) H) (hD : va_D A (wx Y σ)) (hS : va_S A H0 H locs) (hl : ls.size = nL) {y : MethodName} {b' : ByteArray} {nL' j idx n ci q : Nat} {ret' : Option FieldType} {as : List Value} {rv : Int32} {r : vw_C} {fs : List Value} (hM : MI l G Y y b' nL' ret' j σ (.ref (Y.2.1 q) :: as) rv σ') (hq : q < Y.1) (he : Y.2.2 σ q = .inr (ci, fs)) (hc : classes[ci]? = some r) (hr : r.1 = y.cls) (hw : CW own idx y b' nL' ret' n) (hn : as.length = n) (hst : st = as.reverse ++ .ref (Y.2.1 q) :: rest) (hrest : (rest.map fun v => v.category).sum ≤ 8) (hR : j + 1 ≤ R.frames ∧ 8 + (nL' + 11) + 30 * j ≤ R.locals) (hf : cells ≤ R.cells ∧ slots ≤ R.slots) (hdg : decode cc pc = .ok (.invokevirtual idx, 3))
    (kk : ∀ (H1 : Heap) (locs1 : List Loc), va_P G.1 classes (wx Y σ') H1 → H.size ≤ H1.size → (∀ q : Nat, q < H.size → ¬ Aof Y q → H1[q]? = H[q]?) → va_S A H0 H1 locs1 → W p l e R s m args below meth c H1 locs1 cells slots Q (F0 m (pc + 3) ls (.int rv :: rest))) : W p l e R s m args below meth c H locs cells slots Q (F0 m pc ls st) := by
  have hA : ∀ q, Aof Y q → A q := fun q h => by
    obtain ⟨i, h1, rfl⟩ := h
    exact hD.2 i _ (wx_at h1)
  refine va_calli (va_runV (As := as) (rest := rest) (b := Y.2.1 q) (C := y.cls) S hM ⟨cb_of S.2.2.2.2 hw.1 rfl rfl hR, S.2.2.2.2 _ hw.2.1, S.2.2.2.2 _ hw.2.2⟩ ⟨Pre.blind, by rw [← hr]; exact recvY K hP hq he hc, preV K hP hD⟩ rfl hn hl hst (lv_room hrest) hdg hf) hS (fun q _ h => hA q h) hA (fun r u t H1 locs1 ht hvm hw hB hz hk hS => ?_)
  obtain ⟨rfl, rfl⟩ := hw
  rw [ht] at hB
  exact kk H1 locs1 hB hz hk hS
theorem y_callVv (S : p.tables.exec = Jvm.exec ∧ c.code = cc ∧ c.maxLocals = nL ∧ s.vm.findClass own = some m.cls ∧ ∀ w ∈ gt, w.before args s = true) (K : Kx G s) (hP : va_P G.1 classes (wx Y σ) H) (hD : va_D A (wx Y σ)) (hS : va_S A H0 H locs) (hl : ls.size = nL) {y : MethodName} {b' : ByteArray} {nL' j idx n ci q : Nat} {ret' : Option FieldType} {as : List Value} {r : vw_C} {fs : List Value} (hM : MV l G Y y b' nL' ret' j σ (.ref (Y.2.1 q) :: as) σ') (hq : q < Y.1) (he : Y.2.2 σ q = .inr (ci, fs)) (hc : classes[ci]? = some r) (hr : r.1 = y.cls) (hw : CW own idx y b' nL' ret' n) (hn : as.length = n) (hst : st = as.reverse ++ .ref (Y.2.1 q) :: rest) (hrest : (rest.map fun v => v.category).sum ≤ 8) (hR : j + 1 ≤ R.frames ∧ 8 + (nL' + 11) + 30 * j ≤ R.locals) (hf : cells ≤ R.cells ∧ slots ≤ R.slots) (hdg : decode cc pc = .ok (.invokevirtual idx, 3))
    (kk : ∀ (H1 : Heap) (locs1 : List Loc), va_P G.1 classes (wx Y σ') H1 → H.size ≤ H1.size → (∀ q : Nat, q < H.size → ¬ Aof Y q → H1[q]? = H[q]?) → va_S A H0 H1 locs1 → W p l e R s m args below meth c H1 locs1 cells slots Q (F0 m (pc + 3) ls rest)) : W p l e R s m args below meth c H locs cells slots Q (F0 m pc ls st) := by
  have hA : ∀ q, Aof Y q → A q := fun q h => by
    obtain ⟨i, h1, rfl⟩ := h
    exact hD.2 i _ (wx_at h1)
  refine va_callv (va_runV (As := as) (rest := rest) (b := Y.2.1 q) (C := y.cls) S hM ⟨cb_of S.2.2.2.2 hw.1 rfl rfl hR, S.2.2.2.2 _ hw.2.1, S.2.2.2.2 _ hw.2.2⟩ ⟨Pre.blind, by rw [← hr]; exact recvY K hP hq he hc, preV K hP hD⟩ rfl hn hl hst (lv_room hrest) hdg hf) hS (fun q _ h => hA q h) hA (fun u t H1 locs1 ht hvm hw hB hz hk hS => ?_)
  obtain rfl := hw
  rw [ht] at hB
  exact kk H1 locs1 hB hz hk hS
theorem y_callVr (S : p.tables.exec = Jvm.exec ∧ c.code = cc ∧ c.maxLocals = nL ∧ s.vm.findClass own = some m.cls ∧ ∀ w ∈ gt, w.before args s = true) (K : Kx G s) (hP : va_P G.1 classes (wx Y σ) H) (hD : va_D A (wx Y σ)) (hS : va_S A H0 H locs) (hl : ls.size = nL) {y : MethodName} {b' : ByteArray} {nL' j idx n ci q : Nat} {ret' : Option FieldType} {as : List Value} {rv : Nat} {r : vw_C} {fs : List Value} (hM : MR l G Y y b' nL' ret' j σ (.ref (Y.2.1 q) :: as) rv σ') (hq : q < Y.1) (he : Y.2.2 σ q = .inr (ci, fs)) (hc : classes[ci]? = some r) (hr : r.1 = y.cls) (hw : CW own idx y b' nL' ret' n) (hn : as.length = n) (hst : st = as.reverse ++ .ref (Y.2.1 q) :: rest) (hrest : (rest.map fun v => v.category).sum ≤ 8) (hR : j + 1 ≤ R.frames ∧ 8 + (nL' + 11) + 30 * j ≤ R.locals) (hf : cells ≤ R.cells ∧ slots ≤ R.slots) (hdg : decode cc pc = .ok (.invokevirtual idx, 3))
    (kk : ∀ (H1 : Heap) (locs1 : List Loc), va_P G.1 classes (wx Y σ') H1 → H.size ≤ H1.size → (∀ q : Nat, q < H.size → ¬ Aof Y q → H1[q]? = H[q]?) → va_S A H0 H1 locs1 → W p l e R s m args below meth c H1 locs1 cells slots Q (F0 m (pc + 3) ls (.ref rv :: rest))) : W p l e R s m args below meth c H locs cells slots Q (F0 m pc ls st) := by
  have hA : ∀ q, Aof Y q → A q := fun q h => by
    obtain ⟨i, h1, rfl⟩ := h
    exact hD.2 i _ (wx_at h1)
  refine va_callr (va_runV (As := as) (rest := rest) (b := Y.2.1 q) (C := y.cls) S hM ⟨cb_of S.2.2.2.2 hw.1 rfl rfl hR, S.2.2.2.2 _ hw.2.1, S.2.2.2.2 _ hw.2.2⟩ ⟨Pre.blind, by rw [← hr]; exact recvY K hP hq he hc, preV K hP hD⟩ rfl hn hl hst (lv_room hrest) hdg hf) hS (fun q _ h => hA q h) hA (fun u a t H1 locs1 ht hvm hw hB hz hk hS => ?_)
  obtain rfl := hw
  obtain ⟨rfl, hB⟩ := hB
  rw [ht] at hB
  exact kk H1 locs1 hB hz hk hS
theorem y_callSi (S : p.tables.exec = Jvm.exec ∧ c.code = cc ∧ c.maxLocals = nL ∧ s.vm.findClass own = some m.cls ∧ ∀ w ∈ gt, w.before args s = true) (K : Kx G s) (hP : va_P G.1 classes (wx Y σ) H) (hD : va_D A (wx Y σ)) (hS : va_S A H0 H locs) (hl : ls.size = nL) {y : MethodName} {b' : ByteArray} {nL' j idx n : Nat} {ret' : Option FieldType} {as : List Value} {rv : Int32} (hM : MI l G Y y b' nL' ret' j σ as rv σ') (hw : CS own idx y b' nL' ret' n) (hn : as.length = n) (hst : st = as.reverse ++ rest) (hrest : (rest.map fun v => v.category).sum ≤ 8) (hR : j + 1 ≤ R.frames ∧ 8 + (nL' + 11) + 30 * j ≤ R.locals) (hf : cells ≤ R.cells ∧ slots ≤ R.slots) (hdg : decode cc pc = .ok (.invokestatic idx, 3))
    (kk : ∀ (H1 : Heap) (locs1 : List Loc), va_P G.1 classes (wx Y σ') H1 → H.size ≤ H1.size → (∀ q : Nat, q < H.size → ¬ Aof Y q → H1[q]? = H[q]?) → va_S A H0 H1 locs1 → W p l e R s m args below meth c H1 locs1 cells slots Q (F0 m (pc + 3) ls (.int rv :: rest))) : W p l e R s m args below meth c H locs cells slots Q (F0 m pc ls st) := by
  have hA : ∀ q, Aof Y q → A q := fun q h => by
    obtain ⟨i, h1, rfl⟩ := h
    exact hD.2 i _ (wx_at h1)
  refine va_calli (va_runS (As := as) (rest := rest) S hM ⟨cb_of S.2.2.2.2 hw.1 rfl rfl hR, S.2.2.2.2 _ hw.2⟩ ⟨Pre.blind, preV K hP hD⟩ rfl hn hl hst (lv_room hrest) hdg hf) hS (fun q _ h => hA q h) hA (fun r u t H1 locs1 ht hvm hw hB hz hk hS => ?_)
  obtain ⟨rfl, rfl⟩ := hw
  rw [ht] at hB
  exact kk H1 locs1 hB hz hk hS
theorem y_callSv (S : p.tables.exec = Jvm.exec ∧ c.code = cc ∧ c.maxLocals = nL ∧ s.vm.findClass own = some m.cls ∧ ∀ w ∈ gt, w.before args s = true) (K : Kx G s) (hP : va_P G.1 classes (wx Y σ) H) (hD : va_D A (wx Y σ)) (hS : va_S A H0 H locs) (hl : ls.size = nL) {y : MethodName} {b' : ByteArray} {nL' j idx n : Nat} {ret' : Option FieldType} {as : List Value} (hM : MV l G Y y b' nL' ret' j σ as σ') (hw : CS own idx y b' nL' ret' n) (hn : as.length = n) (hst : st = as.reverse ++ rest) (hrest : (rest.map fun v => v.category).sum ≤ 8) (hR : j + 1 ≤ R.frames ∧ 8 + (nL' + 11) + 30 * j ≤ R.locals) (hf : cells ≤ R.cells ∧ slots ≤ R.slots) (hdg : decode cc pc = .ok (.invokestatic idx, 3))
    (kk : ∀ (H1 : Heap) (locs1 : List Loc), va_P G.1 classes (wx Y σ') H1 → H.size ≤ H1.size → (∀ q : Nat, q < H.size → ¬ Aof Y q → H1[q]? = H[q]?) → va_S A H0 H1 locs1 → W p l e R s m args below meth c H1 locs1 cells slots Q (F0 m (pc + 3) ls rest)) : W p l e R s m args below meth c H locs cells slots Q (F0 m pc ls st) := by
  have hA : ∀ q, Aof Y q → A q := fun q h => by
    obtain ⟨i, h1, rfl⟩ := h
    exact hD.2 i _ (wx_at h1)
  refine va_callv (va_runS (As := as) (rest := rest) S hM ⟨cb_of S.2.2.2.2 hw.1 rfl rfl hR, S.2.2.2.2 _ hw.2⟩ ⟨Pre.blind, preV K hP hD⟩ rfl hn hl hst (lv_room hrest) hdg hf) hS (fun q _ h => hA q h) hA (fun u t H1 locs1 ht hvm hw hB hz hk hS => ?_)
  obtain rfl := hw
  rw [ht] at hB
  exact kk H1 locs1 hB hz hk hS
theorem Cx.S (C : Cx G p s m args meth c own cc nL ret) : p.tables.exec = Jvm.exec ∧ c.code = cc ∧ c.maxLocals = nL ∧ s.vm.findClass own = some m.cls ∧ ∀ w ∈ gt, w.before args s = true := ⟨C.1, C.2.1, C.2.2.2.2.2.1, C.2.2.2.1, C.2.2.1⟩
/-- calls within the system -/
theorem x_callVi (C : Cx G p s m args meth c own cc nL ret) (h : Hp G Y A H0 σ H locs) (hl : ls.size = nL) {y : MethodName} {b' : ByteArray} {nL' j idx n ci q : Nat} {ret' : Option FieldType} {as : List Value} {rv : Int32} {r : vw_C} {fs : List Value} (hM : MI l G Y y b' nL' ret' j σ (.ref (Y.2.1 q) :: as) rv σ') (hq : q < Y.1) (he : Y.2.2 σ q = .inr (ci, fs)) (hc : classes[ci]? = some r) (hr : r.1 = y.cls) (hw : CW own idx y b' nL' ret' n) (hn : as.length = n) (hst : st = as.reverse ++ .ref (Y.2.1 q) :: rest) (hrest : (rest.map fun v => v.category).sum ≤ 8) (hR : j + 1 ≤ R.frames ∧ 8 + (nL' + 11) + 30 * j ≤ R.locals) (hf : cells ≤ R.cells ∧ slots ≤ R.slots) (hdg : decode cc pc = .ok (.invokevirtual idx, 3))
    (kk : ∀ (H : Heap) (locs : List Loc), Hp G Y A H0 σ' H locs → W p l e R s m args below meth c H locs cells slots Q (F0 m (pc + 3) ls (.int rv :: rest))) : W p l e R s m args below meth c H locs cells slots Q (F0 m pc ls st) :=
  y_callVi C.S C.2.2.2.2.1 h.1 h.2.1 h.2.2 hl hM hq he hc hr hw hn hst hrest hR hf hdg (fun H1 locs1 hP _ _ hS => kk H1 locs1 ⟨hP, wx_D σ' h.2.1, hS⟩)
theorem x_callVv (C : Cx G p s m args meth c own cc nL ret) (h : Hp G Y A H0 σ H locs) (hl : ls.size = nL) {y : MethodName} {b' : ByteArray} {nL' j idx n ci q : Nat} {ret' : Option FieldType} {as : List Value} {r : vw_C} {fs : List Value} (hM : MV l G Y y b' nL' ret' j σ (.ref (Y.2.1 q) :: as) σ') (hq : q < Y.1) (he : Y.2.2 σ q = .inr (ci, fs)) (hc : classes[ci]? = some r) (hr : r.1 = y.cls) (hw : CW own idx y b' nL' ret' n) (hn : as.length = n) (hst : st = as.reverse ++ .ref (Y.2.1 q) :: rest) (hrest : (rest.map fun v => v.category).sum ≤ 8) (hR : j + 1 ≤ R.frames ∧ 8 + (nL' + 11) + 30 * j ≤ R.locals) (hf : cells ≤ R.cells ∧ slots ≤ R.slots) (hdg : decode cc pc = .ok (.invokevirtual idx, 3))
    (kk : ∀ (H : Heap) (locs : List Loc), Hp G Y A H0 σ' H locs → W p l e R s m args below meth c H locs cells slots Q (F0 m (pc + 3) ls rest)) : W p l e R s m args below meth c H locs cells slots Q (F0 m pc ls st) :=
  y_callVv C.S C.2.2.2.2.1 h.1 h.2.1 h.2.2 hl hM hq he hc hr hw hn hst hrest hR hf hdg (fun H1 locs1 hP _ _ hS => kk H1 locs1 ⟨hP, wx_D σ' h.2.1, hS⟩)
theorem x_callVr (C : Cx G p s m args meth c own cc nL ret) (h : Hp G Y A H0 σ H locs) (hl : ls.size = nL) {y : MethodName} {b' : ByteArray} {nL' j idx n ci q : Nat} {ret' : Option FieldType} {as : List Value} {rv : Nat} {r : vw_C} {fs : List Value} (hM : MR l G Y y b' nL' ret' j σ (.ref (Y.2.1 q) :: as) rv σ') (hq : q < Y.1) (he : Y.2.2 σ q = .inr (ci, fs)) (hc : classes[ci]? = some r) (hr : r.1 = y.cls) (hw : CW own idx y b' nL' ret' n) (hn : as.length = n) (hst : st = as.reverse ++ .ref (Y.2.1 q) :: rest) (hrest : (rest.map fun v => v.category).sum ≤ 8) (hR : j + 1 ≤ R.frames ∧ 8 + (nL' + 11) + 30 * j ≤ R.locals) (hf : cells ≤ R.cells ∧ slots ≤ R.slots) (hdg : decode cc pc = .ok (.invokevirtual idx, 3))
    (kk : ∀ (H : Heap) (locs : List Loc), Hp G Y A H0 σ' H locs → W p l e R s m args below meth c H locs cells slots Q (F0 m (pc + 3) ls (.ref rv :: rest))) : W p l e R s m args below meth c H locs cells slots Q (F0 m pc ls st) :=
  y_callVr C.S C.2.2.2.2.1 h.1 h.2.1 h.2.2 hl hM hq he hc hr hw hn hst hrest hR hf hdg (fun H1 locs1 hP _ _ hS => kk H1 locs1 ⟨hP, wx_D σ' h.2.1, hS⟩)
theorem x_callSi (C : Cx G p s m args meth c own cc nL ret) (h : Hp G Y A H0 σ H locs) (hl : ls.size = nL) {y : MethodName} {b' : ByteArray} {nL' j idx n : Nat} {ret' : Option FieldType} {as : List Value} {rv : Int32} (hM : MI l G Y y b' nL' ret' j σ as rv σ') (hw : CS own idx y b' nL' ret' n) (hn : as.length = n) (hst : st = as.reverse ++ rest) (hrest : (rest.map fun v => v.category).sum ≤ 8) (hR : j + 1 ≤ R.frames ∧ 8 + (nL' + 11) + 30 * j ≤ R.locals) (hf : cells ≤ R.cells ∧ slots ≤ R.slots) (hdg : decode cc pc = .ok (.invokestatic idx, 3))
    (kk : ∀ (H : Heap) (locs : List Loc), Hp G Y A H0 σ' H locs → W p l e R s m args below meth c H locs cells slots Q (F0 m (pc + 3) ls (.int rv :: rest))) : W p l e R s m args below meth c H locs cells slots Q (F0 m pc ls st) :=
  y_callSi C.S C.2.2.2.2.1 h.1 h.2.1 h.2.2 hl hM hw hn hst hrest hR hf hdg (fun H1 locs1 hP _ _ hS => kk H1 locs1 ⟨hP, wx_D σ' h.2.1, hS⟩)
theorem x_callSv (C : Cx G p s m args meth c own cc nL ret) (h : Hp G Y A H0 σ H locs) (hl : ls.size = nL) {y : MethodName} {b' : ByteArray} {nL' j idx n : Nat} {ret' : Option FieldType} {as : List Value} (hM : MV l G Y y b' nL' ret' j σ as σ') (hw : CS own idx y b' nL' ret' n) (hn : as.length = n) (hst : st = as.reverse ++ rest) (hrest : (rest.map fun v => v.category).sum ≤ 8) (hR : j + 1 ≤ R.frames ∧ 8 + (nL' + 11) + 30 * j ≤ R.locals) (hf : cells ≤ R.cells ∧ slots ≤ R.slots) (hdg : decode cc pc = .ok (.invokestatic idx, 3))
    (kk : ∀ (H : Heap) (locs : List Loc), Hp G Y A H0 σ' H locs → W p l e R s m args below meth c H locs cells slots Q (F0 m (pc + 3) ls rest)) : W p l e R s m args below meth c H locs cells slots Q (F0 m pc ls st) :=
  y_callSv C.S C.2.2.2.2.1 h.1 h.2.1 h.2.2 hl hM hw hn hst hrest hR hf hdg (fun H1 locs1 hP _ _ hS => kk H1 locs1 ⟨hP, wx_D σ' h.2.1, hS⟩)
end RC
end
section
/-! THE TWO SYSTEMS: the component's 48 cells (0 BlockVault, 1 Platter, 2 its bytes, 3 Cache, 4 rows, 5 blocks, 6 held, 7 after, 8 before, 9 Log, 10 homes, 11 mine, 12 header, 13 row, 14.. the rows' bytes) and the model's 6 (0 BlockVaultModel, 1 safe, 2 now, 3 held, 4 changed, 5 stamp). A state σ: σ i j is place j of cell i (of an object: field j). -/
def cC (G : Gx) (n : Nat) (ad : Nat → Nat) (σ : Sg) : Nat → va_E
  | 0 => .inr (0, [.ref (ad 1), .ref (ad 3), .ref (ad 9)])
  | 1 => .inr (1, [.ref (ad 2), .int (σ 1 1), .int (σ 1 2), .int (σ 1 3), .int (σ 1 4)])
  | 2 => .inl (G.2.1, 1024 * n, .inl (fun j => bt (σ 2 j)))
  | 3 => .inr (2, [.ref (ad 1), .ref (ad 4), .ref (ad 5), .ref (ad 6), .ref (ad 7), .ref (ad 8), .int (σ 3 6)])
  | 4 => .inl (G.2.2.2.2, 34, .inr (.inr (.inr (.inr (fun k => some (ad (k + 14)))))))
  | 5 => .inl (G.2.2.1, 34, .inl (σ 5))
  | 6 => .inl (G.2.2.2.1, 34, .inl (σ 6))
  | 7 => .inl (G.2.2.1, 35, .inl (σ 7))
  | 8 => .inl (G.2.2.1, 35, .inl (σ 8))
  | 9 => .inr (3, [.ref (ad 1), .ref (ad 3), .ref (ad 10), .ref (ad 11), .ref (ad 12), .ref (ad 13), .int (σ 9 6), .int (σ 9 7), .int (σ 9 8), .int (σ 9 9)])
  | 10 => .inl (G.2.2.1, 30, .inl (σ 10))
  | 11 => .inl (G.2.2.2.1, n, .inl (σ 11))
  | i + 12 => .inl (G.2.1, 1024, .inl (fun j => bt (σ (i + 12) j)))
def Yc (G : Gx) (n : Nat) (ad : Nat → Nat) : Sy := (48, ad, cC G n ad)
def cM (G : Gx) (am : Nat → Nat) (σ : Sg) : Nat → va_E
  | 0 => .inr (4, [.int (σ 0 0), .int (σ 0 1), .ref (am 1), .ref (am 2), .ref (am 3), .ref (am 4), .ref (am 5), .int (σ 0 7), .int (σ 0 8), .int (σ 0 9), .int (σ 0 10), .int (σ 0 11), .int (σ 0 12), .int (σ 0 13), .int (σ 0 14)])
  | 1 => .inl (G.2.1, 81920, .inl (fun j => bt (σ 1 j)))
  | 2 => .inl (G.2.1, 81920, .inl (fun j => bt (σ 2 j)))
  | 3 => .inl (G.2.2.2.1, 80, .inl (σ 3))
  | 4 => .inl (G.2.2.2.1, 80, .inl (σ 4))
  | i + 5 => .inl (G.2.2.1, 80, .inl (σ (i + 5)))
def Ym (G : Gx) (am : Nat → Nat) : Sy := (6, am, cM G am)
theorem okC (G : Gx) (n : Nat) (ad : Nat → Nat) : okY (Yc G n ad) := by
  intro σ σ' j h
  show cC G n ad σ j = cC G n ad σ' j
  match j, h with
  | 0, h => rfl
  | 1, h => simp only [cC, h]
  | 2, h => simp only [cC, h]
  | 3, h => simp only [cC, h]
  | 4, h => rfl
  | 5, h => simp only [cC, h]
  | 6, h => simp only [cC, h]
  | 7, h => simp only [cC, h]
  | 8, h => simp only [cC, h]
  | 9, h => simp only [cC, h]
  | 10, h => simp only [cC, h]
  | 11, h => simp only [cC, h]
  | i + 12, h => simp only [cC, h]
theorem okM (G : Gx) (am : Nat → Nat) : okY (Ym G am) := by
  intro σ σ' j h
  show cM G am σ j = cM G am σ' j
  match j, h with
  | 0, h => simp only [cM, h]
  | 1, h => simp only [cM, h]
  | 2, h => simp only [cM, h]
  | 3, h => simp only [cM, h]
  | 4, h => simp only [cM, h]
  | i + 5, h => simp only [cM, h]
theorem cC_row {G : Gx} {n : Nat} {ad : Nat → Nat} {i : Nat} (h : 12 ≤ i) (σ : Sg) : (Yc G n ad).2.2 σ i = .inl (G.2.1, 1024, .inl (fun j => bt (σ i j))) := by
  obtain ⟨k, rfl⟩ : ∃ k, i = k + 12 := ⟨i - 12, by omega⟩
  rfl
section ROWS
variable {p : Program} {l : Launch} {e : Env} {R : Room} {s : State} {m : MethodId} {args : Array Value} {below : List Frame} {meth : Method} {c : Code} {H : Heap} {locs : List Loc} {cells slots : Nat} {Q : State → Prop}
variable {cc : ByteArray} {pc nL : Nat} {ls : Array Slot} {rest : List Value} {G : Gx} {n : Nat} {ad am : Nat → Nat} {A : Nat → Prop} {H0 : Heap} {σ : Sg} {ret : Option FieldType}
theorem g_Pl_18 (C : Cx G p s m args meth c R_Pl cc nL ret) (h : Hp G (Yc G n ad) A H0 σ H locs) (hdg : decode cc pc = .ok (.getfield 18, 3)) (kk : W p l e R s m args below meth c H locs cells slots Q (F0 m (pc + 3) ls (.ref (ad 2) :: rest))) : W p l e R s m args below meth c H locs cells slots Q (F0 m pc ls (.ref (ad 1) :: rest)) :=
  x_get (Y := (Yc G n ad)) C h fx_Pl 1 (Nat.le_of_ble_eq_true rfl) rfl rfl 0 (by decide) rfl k_28 rfl hdg kk
theorem g_Pl_15 (C : Cx G p s m args meth c R_Pl cc nL ret) (h : Hp G (Yc G n ad) A H0 σ H locs) (hdg : decode cc pc = .ok (.getfield 15, 3)) (kk : W p l e R s m args below meth c H locs cells slots Q (F0 m (pc + 3) ls (.int (σ 1 1) :: rest))) : W p l e R s m args below meth c H locs cells slots Q (F0 m pc ls (.ref (ad 1) :: rest)) :=
  x_get (Y := (Yc G n ad)) C h fx_Pl 1 (Nat.le_of_ble_eq_true rfl) rfl rfl 1 (by decide) rfl k_29 rfl hdg kk
theorem g_Lg_30 (C : Cx G p s m args meth c R_Lg cc nL ret) (h : Hp G (Yc G n ad) A H0 σ H locs) (hdg : decode cc pc = .ok (.getfield 30, 3)) (kk : W p l e R s m args below meth c H locs cells slots Q (F0 m (pc + 3) ls (.int (σ 1 1) :: rest))) : W p l e R s m args below meth c H locs cells slots Q (F0 m pc ls (.ref (ad 1) :: rest)) :=
  x_getN (Y := (Yc G n ad)) C h fx_Pl 1 (Nat.le_of_ble_eq_true rfl) rfl rfl 1 (by decide) rfl k_30 rfl hdg kk
theorem g_BV_45 (C : Cx G p s m args meth c R_BV cc nL ret) (h : Hp G (Yc G n ad) A H0 σ H locs) (hdg : decode cc pc = .ok (.getfield 45, 3)) (kk : W p l e R s m args below meth c H locs cells slots Q (F0 m (pc + 3) ls (.int (σ 1 1) :: rest))) : W p l e R s m args below meth c H locs cells slots Q (F0 m pc ls (.ref (ad 1) :: rest)) :=
  x_getN (Y := (Yc G n ad)) C h fx_Pl 1 (Nat.le_of_ble_eq_true rfl) rfl rfl 1 (by decide) rfl k_31 rfl hdg kk
theorem g_Pl_32 (C : Cx G p s m args meth c R_Pl cc nL ret) (h : Hp G (Yc G n ad) A H0 σ H locs) (hdg : decode cc pc = .ok (.getfield 32, 3)) (kk : W p l e R s m args below meth c H locs cells slots Q (F0 m (pc + 3) ls (.int (σ 1 2) :: rest))) : W p l e R s m args below meth c H locs cells slots Q (F0 m pc ls (.ref (ad 1) :: rest)) :=
  x_get (Y := (Yc G n ad)) C h fx_Pl 1 (Nat.le_of_ble_eq_true rfl) rfl rfl 2 (by decide) rfl k_32 rfl hdg kk
theorem p_Pl_32 {x : Int32} (C : Cx G p s m args meth c R_Pl cc nL ret) (h : Hp G (Yc G n ad) A H0 σ H locs) (hdg : decode cc pc = .ok (.putfield 32, 3)) (kk : ∀ (H : Heap) (locs : List Loc), Hp G (Yc G n ad) A H0 (set1 σ 1 2 x) H locs → W p l e R s m args below meth c H locs cells slots Q (F0 m (pc + 3) ls rest)) : W p l e R s m args below meth c H locs cells slots Q (F0 m pc ls (.int x :: .ref (ad 1) :: rest)) :=
  x_put (Y := (Yc G n ad)) C h (okC G n ad) fx_Pl 1 (Nat.le_of_ble_eq_true rfl) rfl rfl 2 (by decide) rfl k_32 rfl rfl rfl rfl (Nat.le_of_ble_eq_true rfl) hdg kk
theorem g_BV_92 (C : Cx G p s m args meth c R_BV cc nL ret) (h : Hp G (Yc G n ad) A H0 σ H locs) (hdg : decode cc pc = .ok (.getfield 92, 3)) (kk : W p l e R s m args below meth c H locs cells slots Q (F0 m (pc + 3) ls (.int (σ 1 2) :: rest))) : W p l e R s m args below meth c H locs cells slots Q (F0 m pc ls (.ref (ad 1) :: rest)) :=
  x_getN (Y := (Yc G n ad)) C h fx_Pl 1 (Nat.le_of_ble_eq_true rfl) rfl rfl 2 (by decide) rfl k_33 rfl hdg kk
theorem p_BV_92 {x : Int32} (C : Cx G p s m args meth c R_BV cc nL ret) (h : Hp G (Yc G n ad) A H0 σ H locs) (hdg : decode cc pc = .ok (.putfield 92, 3)) (kk : ∀ (H : Heap) (locs : List Loc), Hp G (Yc G n ad) A H0 (set1 σ 1 2 x) H locs → W p l e R s m args below meth c H locs cells slots Q (F0 m (pc + 3) ls rest)) : W p l e R s m args below meth c H locs cells slots Q (F0 m pc ls (.int x :: .ref (ad 1) :: rest)) :=
  x_putN (Y := (Yc G n ad)) C h (okC G n ad) fx_Pl 1 (Nat.le_of_ble_eq_true rfl) rfl rfl 2 (by decide) rfl k_33 rfl rfl rfl rfl (Nat.le_of_ble_eq_true rfl) hdg kk
theorem g_Pl_9 (C : Cx G p s m args meth c R_Pl cc nL ret) (h : Hp G (Yc G n ad) A H0 σ H locs) (hdg : decode cc pc = .ok (.getfield 9, 3)) (kk : W p l e R s m args below meth c H locs cells slots Q (F0 m (pc + 3) ls (.int (σ 1 3) :: rest))) : W p l e R s m args below meth c H locs cells slots Q (F0 m pc ls (.ref (ad 1) :: rest)) :=
  x_get (Y := (Yc G n ad)) C h fx_Pl 1 (Nat.le_of_ble_eq_true rfl) rfl rfl 3 (by decide) rfl k_34 rfl hdg kk
theorem p_Pl_9 {x : Int32} (C : Cx G p s m args meth c R_Pl cc nL ret) (h : Hp G (Yc G n ad) A H0 σ H locs) (hdg : decode cc pc = .ok (.putfield 9, 3)) (kk : ∀ (H : Heap) (locs : List Loc), Hp G (Yc G n ad) A H0 (set1 σ 1 3 x) H locs → W p l e R s m args below meth c H locs cells slots Q (F0 m (pc + 3) ls rest)) : W p l e R s m args below meth c H locs cells slots Q (F0 m pc ls (.int x :: .ref (ad 1) :: rest)) :=
  x_put (Y := (Yc G n ad)) C h (okC G n ad) fx_Pl 1 (Nat.le_of_ble_eq_true rfl) rfl rfl 3 (by decide) rfl k_34 rfl rfl rfl rfl (Nat.le_of_ble_eq_true rfl) hdg kk
theorem g_BV_82 (C : Cx G p s m args meth c R_BV cc nL ret) (h : Hp G (Yc G n ad) A H0 σ H locs) (hdg : decode cc pc = .ok (.getfield 82, 3)) (kk : W p l e R s m args below meth c H locs cells slots Q (F0 m (pc + 3) ls (.int (σ 1 3) :: rest))) : W p l e R s m args below meth c H locs cells slots Q (F0 m pc ls (.ref (ad 1) :: rest)) :=
  x_getN (Y := (Yc G n ad)) C h fx_Pl 1 (Nat.le_of_ble_eq_true rfl) rfl rfl 3 (by decide) rfl k_35 rfl hdg kk
theorem p_BV_82 {x : Int32} (C : Cx G p s m args meth c R_BV cc nL ret) (h : Hp G (Yc G n ad) A H0 σ H locs) (hdg : decode cc pc = .ok (.putfield 82, 3)) (kk : ∀ (H : Heap) (locs : List Loc), Hp G (Yc G n ad) A H0 (set1 σ 1 3 x) H locs → W p l e R s m args below meth c H locs cells slots Q (F0 m (pc + 3) ls rest)) : W p l e R s m args below meth c H locs cells slots Q (F0 m pc ls (.int x :: .ref (ad 1) :: rest)) :=
  x_putN (Y := (Yc G n ad)) C h (okC G n ad) fx_Pl 1 (Nat.le_of_ble_eq_true rfl) rfl rfl 3 (by decide) rfl k_35 rfl rfl rfl rfl (Nat.le_of_ble_eq_true rfl) hdg kk
theorem g_Pl_28 (C : Cx G p s m args meth c R_Pl cc nL ret) (h : Hp G (Yc G n ad) A H0 σ H locs) (hdg : decode cc pc = .ok (.getfield 28, 3)) (kk : W p l e R s m args below meth c H locs cells slots Q (F0 m (pc + 3) ls (.int (σ 1 4) :: rest))) : W p l e R s m args below meth c H locs cells slots Q (F0 m pc ls (.ref (ad 1) :: rest)) :=
  x_get (Y := (Yc G n ad)) C h fx_Pl 1 (Nat.le_of_ble_eq_true rfl) rfl rfl 4 (by decide) rfl k_36 rfl hdg kk
theorem p_Pl_28 {x : Int32} (C : Cx G p s m args meth c R_Pl cc nL ret) (h : Hp G (Yc G n ad) A H0 σ H locs) (hdg : decode cc pc = .ok (.putfield 28, 3)) (hn : narrow .boolean (.int x) = .int x) (hfit : fits .boolean (.int x) = true) (kk : ∀ (H : Heap) (locs : List Loc), Hp G (Yc G n ad) A H0 (set1 σ 1 4 x) H locs → W p l e R s m args below meth c H locs cells slots Q (F0 m (pc + 3) ls rest)) : W p l e R s m args below meth c H locs cells slots Q (F0 m pc ls (.int x :: .ref (ad 1) :: rest)) :=
  x_put (Y := (Yc G n ad)) C h (okC G n ad) fx_Pl 1 (Nat.le_of_ble_eq_true rfl) rfl rfl 4 (by decide) rfl k_36 rfl rfl hn hfit (Nat.le_of_ble_eq_true rfl) hdg kk
theorem g_BV_49 (C : Cx G p s m args meth c R_BV cc nL ret) (h : Hp G (Yc G n ad) A H0 σ H locs) (hdg : decode cc pc = .ok (.getfield 49, 3)) (kk : W p l e R s m args below meth c H locs cells slots Q (F0 m (pc + 3) ls (.int (σ 1 4) :: rest))) : W p l e R s m args below meth c H locs cells slots Q (F0 m pc ls (.ref (ad 1) :: rest)) :=
  x_getN (Y := (Yc G n ad)) C h fx_Pl 1 (Nat.le_of_ble_eq_true rfl) rfl rfl 4 (by decide) rfl k_37 rfl hdg kk
theorem p_BV_49 {x : Int32} (C : Cx G p s m args meth c R_BV cc nL ret) (h : Hp G (Yc G n ad) A H0 σ H locs) (hdg : decode cc pc = .ok (.putfield 49, 3)) (hn : narrow .boolean (.int x) = .int x) (hfit : fits .boolean (.int x) = true) (kk : ∀ (H : Heap) (locs : List Loc), Hp G (Yc G n ad) A H0 (set1 σ 1 4 x) H locs → W p l e R s m args below meth c H locs cells slots Q (F0 m (pc + 3) ls rest)) : W p l e R s m args below meth c H locs cells slots Q (F0 m pc ls (.int x :: .ref (ad 1) :: rest)) :=
  x_putN (Y := (Yc G n ad)) C h (okC G n ad) fx_Pl 1 (Nat.le_of_ble_eq_true rfl) rfl rfl 4 (by decide) rfl k_37 rfl rfl hn hfit (Nat.le_of_ble_eq_true rfl) hdg kk
theorem g_Lg_82 (C : Cx G p s m args meth c R_Lg cc nL ret) (h : Hp G (Yc G n ad) A H0 σ H locs) (hdg : decode cc pc = .ok (.getfield 82, 3)) (kk : W p l e R s m args below meth c H locs cells slots Q (F0 m (pc + 3) ls (.int (σ 1 4) :: rest))) : W p l e R s m args below meth c H locs cells slots Q (F0 m pc ls (.ref (ad 1) :: rest)) :=
  x_getN (Y := (Yc G n ad)) C h fx_Pl 1 (Nat.le_of_ble_eq_true rfl) rfl rfl 4 (by decide) rfl k_38 rfl hdg kk
theorem p_Lg_82 {x : Int32} (C : Cx G p s m args meth c R_Lg cc nL ret) (h : Hp G (Yc G n ad) A H0 σ H locs) (hdg : decode cc pc = .ok (.putfield 82, 3)) (hn : narrow .boolean (.int x) = .int x) (hfit : fits .boolean (.int x) = true) (kk : ∀ (H : Heap) (locs : List Loc), Hp G (Yc G n ad) A H0 (set1 σ 1 4 x) H locs → W p l e R s m args below meth c H locs cells slots Q (F0 m (pc + 3) ls rest)) : W p l e R s m args below meth c H locs cells slots Q (F0 m pc ls (.int x :: .ref (ad 1) :: rest)) :=
  x_putN (Y := (Yc G n ad)) C h (okC G n ad) fx_Pl 1 (Nat.le_of_ble_eq_true rfl) rfl rfl 4 (by decide) rfl k_38 rfl rfl hn hfit (Nat.le_of_ble_eq_true rfl) hdg kk
theorem g_Ca_32 (C : Cx G p s m args meth c R_Ca cc nL ret) (h : Hp G (Yc G n ad) A H0 σ H locs) (hdg : decode cc pc = .ok (.getfield 32, 3)) (kk : W p l e R s m args below meth c H locs cells slots Q (F0 m (pc + 3) ls (.ref (ad 1) :: rest))) : W p l e R s m args below meth c H locs cells slots Q (F0 m pc ls (.ref (ad 3) :: rest)) :=
  x_get (Y := (Yc G n ad)) C h fx_Ca 3 (Nat.le_of_ble_eq_true rfl) rfl rfl 0 (by decide) rfl k_63 rfl hdg kk
theorem g_Ca_15 (C : Cx G p s m args meth c R_Ca cc nL ret) (h : Hp G (Yc G n ad) A H0 σ H locs) (hdg : decode cc pc = .ok (.getfield 15, 3)) (kk : W p l e R s m args below meth c H locs cells slots Q (F0 m (pc + 3) ls (.ref (ad 4) :: rest))) : W p l e R s m args below meth c H locs cells slots Q (F0 m pc ls (.ref (ad 3) :: rest)) :=
  x_get (Y := (Yc G n ad)) C h fx_Ca 3 (Nat.le_of_ble_eq_true rfl) rfl rfl 1 (by decide) rfl k_64 rfl hdg kk
theorem g_Lg_38 (C : Cx G p s m args meth c R_Lg cc nL ret) (h : Hp G (Yc G n ad) A H0 σ H locs) (hdg : decode cc pc = .ok (.getfield 38, 3)) (kk : W p l e R s m args below meth c H locs cells slots Q (F0 m (pc + 3) ls (.ref (ad 4) :: rest))) : W p l e R s m args below meth c H locs cells slots Q (F0 m pc ls (.ref (ad 3) :: rest)) :=
  x_getN (Y := (Yc G n ad)) C h fx_Ca 3 (Nat.le_of_ble_eq_true rfl) rfl rfl 1 (by decide) rfl k_65 rfl hdg kk
theorem g_Ca_18 (C : Cx G p s m args meth c R_Ca cc nL ret) (h : Hp G (Yc G n ad) A H0 σ H locs) (hdg : decode cc pc = .ok (.getfield 18, 3)) (kk : W p l e R s m args below meth c H locs cells slots Q (F0 m (pc + 3) ls (.ref (ad 5) :: rest))) : W p l e R s m args below meth c H locs cells slots Q (F0 m pc ls (.ref (ad 3) :: rest)) :=
  x_get (Y := (Yc G n ad)) C h fx_Ca 3 (Nat.le_of_ble_eq_true rfl) rfl rfl 2 (by decide) rfl k_66 rfl hdg kk
theorem g_Ca_22 (C : Cx G p s m args meth c R_Ca cc nL ret) (h : Hp G (Yc G n ad) A H0 σ H locs) (hdg : decode cc pc = .ok (.getfield 22, 3)) (kk : W p l e R s m args below meth c H locs cells slots Q (F0 m (pc + 3) ls (.ref (ad 6) :: rest))) : W p l e R s m args below meth c H locs cells slots Q (F0 m pc ls (.ref (ad 3) :: rest)) :=
  x_get (Y := (Yc G n ad)) C h fx_Ca 3 (Nat.le_of_ble_eq_true rfl) rfl rfl 3 (by decide) rfl k_67 rfl hdg kk
theorem g_Lg_48 (C : Cx G p s m args meth c R_Lg cc nL ret) (h : Hp G (Yc G n ad) A H0 σ H locs) (hdg : decode cc pc = .ok (.getfield 48, 3)) (kk : W p l e R s m args below meth c H locs cells slots Q (F0 m (pc + 3) ls (.ref (ad 6) :: rest))) : W p l e R s m args below meth c H locs cells slots Q (F0 m pc ls (.ref (ad 3) :: rest)) :=
  x_getN (Y := (Yc G n ad)) C h fx_Ca 3 (Nat.le_of_ble_eq_true rfl) rfl rfl 3 (by decide) rfl k_68 rfl hdg kk
theorem g_BV_105 (C : Cx G p s m args meth c R_BV cc nL ret) (h : Hp G (Yc G n ad) A H0 σ H locs) (hdg : decode cc pc = .ok (.getfield 105, 3)) (kk : W p l e R s m args below meth c H locs cells slots Q (F0 m (pc + 3) ls (.ref (ad 6) :: rest))) : W p l e R s m args below meth c H locs cells slots Q (F0 m pc ls (.ref (ad 3) :: rest)) :=
  x_getN (Y := (Yc G n ad)) C h fx_Ca 3 (Nat.le_of_ble_eq_true rfl) rfl rfl 3 (by decide) rfl k_69 rfl hdg kk
theorem g_Ca_26 (C : Cx G p s m args meth c R_Ca cc nL ret) (h : Hp G (Yc G n ad) A H0 σ H locs) (hdg : decode cc pc = .ok (.getfield 26, 3)) (kk : W p l e R s m args below meth c H locs cells slots Q (F0 m (pc + 3) ls (.ref (ad 7) :: rest))) : W p l e R s m args below meth c H locs cells slots Q (F0 m pc ls (.ref (ad 3) :: rest)) :=
  x_get (Y := (Yc G n ad)) C h fx_Ca 3 (Nat.le_of_ble_eq_true rfl) rfl rfl 4 (by decide) rfl k_70 rfl hdg kk
theorem g_Ca_29 (C : Cx G p s m args meth c R_Ca cc nL ret) (h : Hp G (Yc G n ad) A H0 σ H locs) (hdg : decode cc pc = .ok (.getfield 29, 3)) (kk : W p l e R s m args below meth c H locs cells slots Q (F0 m (pc + 3) ls (.ref (ad 8) :: rest))) : W p l e R s m args below meth c H locs cells slots Q (F0 m pc ls (.ref (ad 3) :: rest)) :=
  x_get (Y := (Yc G n ad)) C h fx_Ca 3 (Nat.le_of_ble_eq_true rfl) rfl rfl 5 (by decide) rfl k_71 rfl hdg kk
theorem g_Ca_51 (C : Cx G p s m args meth c R_Ca cc nL ret) (h : Hp G (Yc G n ad) A H0 σ H locs) (hdg : decode cc pc = .ok (.getfield 51, 3)) (kk : W p l e R s m args below meth c H locs cells slots Q (F0 m (pc + 3) ls (.int (σ 3 6) :: rest))) : W p l e R s m args below meth c H locs cells slots Q (F0 m pc ls (.ref (ad 3) :: rest)) :=
  x_get (Y := (Yc G n ad)) C h fx_Ca 3 (Nat.le_of_ble_eq_true rfl) rfl rfl 6 (by decide) rfl k_72 rfl hdg kk
theorem p_Ca_51 {x : Int32} (C : Cx G p s m args meth c R_Ca cc nL ret) (h : Hp G (Yc G n ad) A H0 σ H locs) (hdg : decode cc pc = .ok (.putfield 51, 3)) (kk : ∀ (H : Heap) (locs : List Loc), Hp G (Yc G n ad) A H0 (set1 σ 3 6 x) H locs → W p l e R s m args below meth c H locs cells slots Q (F0 m (pc + 3) ls rest)) : W p l e R s m args below meth c H locs cells slots Q (F0 m pc ls (.int x :: .ref (ad 3) :: rest)) :=
  x_put (Y := (Yc G n ad)) C h (okC G n ad) fx_Ca 3 (Nat.le_of_ble_eq_true rfl) rfl rfl 6 (by decide) rfl k_72 rfl rfl rfl rfl (Nat.le_of_ble_eq_true rfl) hdg kk
theorem g_BV_95 (C : Cx G p s m args meth c R_BV cc nL ret) (h : Hp G (Yc G n ad) A H0 σ H locs) (hdg : decode cc pc = .ok (.getfield 95, 3)) (kk : W p l e R s m args below meth c H locs cells slots Q (F0 m (pc + 3) ls (.int (σ 3 6) :: rest))) : W p l e R s m args below meth c H locs cells slots Q (F0 m pc ls (.ref (ad 3) :: rest)) :=
  x_getN (Y := (Yc G n ad)) C h fx_Ca 3 (Nat.le_of_ble_eq_true rfl) rfl rfl 6 (by decide) rfl k_73 rfl hdg kk
theorem p_BV_95 {x : Int32} (C : Cx G p s m args meth c R_BV cc nL ret) (h : Hp G (Yc G n ad) A H0 σ H locs) (hdg : decode cc pc = .ok (.putfield 95, 3)) (kk : ∀ (H : Heap) (locs : List Loc), Hp G (Yc G n ad) A H0 (set1 σ 3 6 x) H locs → W p l e R s m args below meth c H locs cells slots Q (F0 m (pc + 3) ls rest)) : W p l e R s m args below meth c H locs cells slots Q (F0 m pc ls (.int x :: .ref (ad 3) :: rest)) :=
  x_putN (Y := (Yc G n ad)) C h (okC G n ad) fx_Ca 3 (Nat.le_of_ble_eq_true rfl) rfl rfl 6 (by decide) rfl k_73 rfl rfl rfl rfl (Nat.le_of_ble_eq_true rfl) hdg kk
theorem g_Lg_22 (C : Cx G p s m args meth c R_Lg cc nL ret) (h : Hp G (Yc G n ad) A H0 σ H locs) (hdg : decode cc pc = .ok (.getfield 22, 3)) (kk : W p l e R s m args below meth c H locs cells slots Q (F0 m (pc + 3) ls (.ref (ad 1) :: rest))) : W p l e R s m args below meth c H locs cells slots Q (F0 m pc ls (.ref (ad 9) :: rest)) :=
  x_get (Y := (Yc G n ad)) C h fx_Lg 9 (Nat.le_of_ble_eq_true rfl) rfl rfl 0 (by decide) rfl k_97 rfl hdg kk
theorem g_Lg_26 (C : Cx G p s m args meth c R_Lg cc nL ret) (h : Hp G (Yc G n ad) A H0 σ H locs) (hdg : decode cc pc = .ok (.getfield 26, 3)) (kk : W p l e R s m args below meth c H locs cells slots Q (F0 m (pc + 3) ls (.ref (ad 3) :: rest))) : W p l e R s m args below meth c H locs cells slots Q (F0 m pc ls (.ref (ad 9) :: rest)) :=
  x_get (Y := (Yc G n ad)) C h fx_Lg 9 (Nat.le_of_ble_eq_true rfl) rfl rfl 1 (by decide) rfl k_98 rfl hdg kk
theorem g_Lg_9 (C : Cx G p s m args meth c R_Lg cc nL ret) (h : Hp G (Yc G n ad) A H0 σ H locs) (hdg : decode cc pc = .ok (.getfield 9, 3)) (kk : W p l e R s m args below meth c H locs cells slots Q (F0 m (pc + 3) ls (.ref (ad 10) :: rest))) : W p l e R s m args below meth c H locs cells slots Q (F0 m pc ls (.ref (ad 9) :: rest)) :=
  x_get (Y := (Yc G n ad)) C h fx_Lg 9 (Nat.le_of_ble_eq_true rfl) rfl rfl 2 (by decide) rfl k_99 rfl hdg kk
theorem g_Lg_34 (C : Cx G p s m args meth c R_Lg cc nL ret) (h : Hp G (Yc G n ad) A H0 σ H locs) (hdg : decode cc pc = .ok (.getfield 34, 3)) (kk : W p l e R s m args below meth c H locs cells slots Q (F0 m (pc + 3) ls (.ref (ad 11) :: rest))) : W p l e R s m args below meth c H locs cells slots Q (F0 m pc ls (.ref (ad 9) :: rest)) :=
  x_get (Y := (Yc G n ad)) C h fx_Lg 9 (Nat.le_of_ble_eq_true rfl) rfl rfl 3 (by decide) rfl k_100 rfl hdg kk
theorem g_Lg_15 (C : Cx G p s m args meth c R_Lg cc nL ret) (h : Hp G (Yc G n ad) A H0 σ H locs) (hdg : decode cc pc = .ok (.getfield 15, 3)) (kk : W p l e R s m args below meth c H locs cells slots Q (F0 m (pc + 3) ls (.ref (ad 12) :: rest))) : W p l e R s m args below meth c H locs cells slots Q (F0 m pc ls (.ref (ad 9) :: rest)) :=
  x_get (Y := (Yc G n ad)) C h fx_Lg 9 (Nat.le_of_ble_eq_true rfl) rfl rfl 4 (by decide) rfl k_101 rfl hdg kk
theorem g_Lg_19 (C : Cx G p s m args meth c R_Lg cc nL ret) (h : Hp G (Yc G n ad) A H0 σ H locs) (hdg : decode cc pc = .ok (.getfield 19, 3)) (kk : W p l e R s m args below meth c H locs cells slots Q (F0 m (pc + 3) ls (.ref (ad 13) :: rest))) : W p l e R s m args below meth c H locs cells slots Q (F0 m pc ls (.ref (ad 9) :: rest)) :=
  x_get (Y := (Yc G n ad)) C h fx_Lg 9 (Nat.le_of_ble_eq_true rfl) rfl rfl 5 (by decide) rfl k_102 rfl hdg kk
theorem g_Lg_51 (C : Cx G p s m args meth c R_Lg cc nL ret) (h : Hp G (Yc G n ad) A H0 σ H locs) (hdg : decode cc pc = .ok (.getfield 51, 3)) (kk : W p l e R s m args below meth c H locs cells slots Q (F0 m (pc + 3) ls (.int (σ 9 6) :: rest))) : W p l e R s m args below meth c H locs cells slots Q (F0 m pc ls (.ref (ad 9) :: rest)) :=
  x_get (Y := (Yc G n ad)) C h fx_Lg 9 (Nat.le_of_ble_eq_true rfl) rfl rfl 6 (by decide) rfl k_103 rfl hdg kk
theorem p_Lg_51 {x : Int32} (C : Cx G p s m args meth c R_Lg cc nL ret) (h : Hp G (Yc G n ad) A H0 σ H locs) (hdg : decode cc pc = .ok (.putfield 51, 3)) (kk : ∀ (H : Heap) (locs : List Loc), Hp G (Yc G n ad) A H0 (set1 σ 9 6 x) H locs → W p l e R s m args below meth c H locs cells slots Q (F0 m (pc + 3) ls rest)) : W p l e R s m args below meth c H locs cells slots Q (F0 m pc ls (.int x :: .ref (ad 9) :: rest)) :=
  x_put (Y := (Yc G n ad)) C h (okC G n ad) fx_Lg 9 (Nat.le_of_ble_eq_true rfl) rfl rfl 6 (by decide) rfl k_103 rfl rfl rfl rfl (Nat.le_of_ble_eq_true rfl) hdg kk
theorem g_BV_62 (C : Cx G p s m args meth c R_BV cc nL ret) (h : Hp G (Yc G n ad) A H0 σ H locs) (hdg : decode cc pc = .ok (.getfield 62, 3)) (kk : W p l e R s m args below meth c H locs cells slots Q (F0 m (pc + 3) ls (.int (σ 9 6) :: rest))) : W p l e R s m args below meth c H locs cells slots Q (F0 m pc ls (.ref (ad 9) :: rest)) :=
  x_getN (Y := (Yc G n ad)) C h fx_Lg 9 (Nat.le_of_ble_eq_true rfl) rfl rfl 6 (by decide) rfl k_104 rfl hdg kk
theorem p_BV_62 {x : Int32} (C : Cx G p s m args meth c R_BV cc nL ret) (h : Hp G (Yc G n ad) A H0 σ H locs) (hdg : decode cc pc = .ok (.putfield 62, 3)) (kk : ∀ (H : Heap) (locs : List Loc), Hp G (Yc G n ad) A H0 (set1 σ 9 6 x) H locs → W p l e R s m args below meth c H locs cells slots Q (F0 m (pc + 3) ls rest)) : W p l e R s m args below meth c H locs cells slots Q (F0 m pc ls (.int x :: .ref (ad 9) :: rest)) :=
  x_putN (Y := (Yc G n ad)) C h (okC G n ad) fx_Lg 9 (Nat.le_of_ble_eq_true rfl) rfl rfl 6 (by decide) rfl k_104 rfl rfl rfl rfl (Nat.le_of_ble_eq_true rfl) hdg kk
theorem g_Lg_54 (C : Cx G p s m args meth c R_Lg cc nL ret) (h : Hp G (Yc G n ad) A H0 σ H locs) (hdg : decode cc pc = .ok (.getfield 54, 3)) (kk : W p l e R s m args below meth c H locs cells slots Q (F0 m (pc + 3) ls (.int (σ 9 7) :: rest))) : W p l e R s m args below meth c H locs cells slots Q (F0 m pc ls (.ref (ad 9) :: rest)) :=
  x_get (Y := (Yc G n ad)) C h fx_Lg 9 (Nat.le_of_ble_eq_true rfl) rfl rfl 7 (by decide) rfl k_105 rfl hdg kk
theorem p_Lg_54 {x : Int32} (C : Cx G p s m args meth c R_Lg cc nL ret) (h : Hp G (Yc G n ad) A H0 σ H locs) (hdg : decode cc pc = .ok (.putfield 54, 3)) (kk : ∀ (H : Heap) (locs : List Loc), Hp G (Yc G n ad) A H0 (set1 σ 9 7 x) H locs → W p l e R s m args below meth c H locs cells slots Q (F0 m (pc + 3) ls rest)) : W p l e R s m args below meth c H locs cells slots Q (F0 m pc ls (.int x :: .ref (ad 9) :: rest)) :=
  x_put (Y := (Yc G n ad)) C h (okC G n ad) fx_Lg 9 (Nat.le_of_ble_eq_true rfl) rfl rfl 7 (by decide) rfl k_105 rfl rfl rfl rfl (Nat.le_of_ble_eq_true rfl) hdg kk
theorem g_BV_89 (C : Cx G p s m args meth c R_BV cc nL ret) (h : Hp G (Yc G n ad) A H0 σ H locs) (hdg : decode cc pc = .ok (.getfield 89, 3)) (kk : W p l e R s m args below meth c H locs cells slots Q (F0 m (pc + 3) ls (.int (σ 9 7) :: rest))) : W p l e R s m args below meth c H locs cells slots Q (F0 m pc ls (.ref (ad 9) :: rest)) :=
  x_getN (Y := (Yc G n ad)) C h fx_Lg 9 (Nat.le_of_ble_eq_true rfl) rfl rfl 7 (by decide) rfl k_106 rfl hdg kk
theorem p_BV_89 {x : Int32} (C : Cx G p s m args meth c R_BV cc nL ret) (h : Hp G (Yc G n ad) A H0 σ H locs) (hdg : decode cc pc = .ok (.putfield 89, 3)) (kk : ∀ (H : Heap) (locs : List Loc), Hp G (Yc G n ad) A H0 (set1 σ 9 7 x) H locs → W p l e R s m args below meth c H locs cells slots Q (F0 m (pc + 3) ls rest)) : W p l e R s m args below meth c H locs cells slots Q (F0 m pc ls (.int x :: .ref (ad 9) :: rest)) :=
  x_putN (Y := (Yc G n ad)) C h (okC G n ad) fx_Lg 9 (Nat.le_of_ble_eq_true rfl) rfl rfl 7 (by decide) rfl k_106 rfl rfl rfl rfl (Nat.le_of_ble_eq_true rfl) hdg kk
theorem g_Lg_79 (C : Cx G p s m args meth c R_Lg cc nL ret) (h : Hp G (Yc G n ad) A H0 σ H locs) (hdg : decode cc pc = .ok (.getfield 79, 3)) (kk : W p l e R s m args below meth c H locs cells slots Q (F0 m (pc + 3) ls (.int (σ 9 8) :: rest))) : W p l e R s m args below meth c H locs cells slots Q (F0 m pc ls (.ref (ad 9) :: rest)) :=
  x_get (Y := (Yc G n ad)) C h fx_Lg 9 (Nat.le_of_ble_eq_true rfl) rfl rfl 8 (by decide) rfl k_107 rfl hdg kk
theorem p_Lg_79 {x : Int32} (C : Cx G p s m args meth c R_Lg cc nL ret) (h : Hp G (Yc G n ad) A H0 σ H locs) (hdg : decode cc pc = .ok (.putfield 79, 3)) (kk : ∀ (H : Heap) (locs : List Loc), Hp G (Yc G n ad) A H0 (set1 σ 9 8 x) H locs → W p l e R s m args below meth c H locs cells slots Q (F0 m (pc + 3) ls rest)) : W p l e R s m args below meth c H locs cells slots Q (F0 m pc ls (.int x :: .ref (ad 9) :: rest)) :=
  x_put (Y := (Yc G n ad)) C h (okC G n ad) fx_Lg 9 (Nat.le_of_ble_eq_true rfl) rfl rfl 8 (by decide) rfl k_107 rfl rfl rfl rfl (Nat.le_of_ble_eq_true rfl) hdg kk
theorem g_BV_98 (C : Cx G p s m args meth c R_BV cc nL ret) (h : Hp G (Yc G n ad) A H0 σ H locs) (hdg : decode cc pc = .ok (.getfield 98, 3)) (kk : W p l e R s m args below meth c H locs cells slots Q (F0 m (pc + 3) ls (.int (σ 9 8) :: rest))) : W p l e R s m args below meth c H locs cells slots Q (F0 m pc ls (.ref (ad 9) :: rest)) :=
  x_getN (Y := (Yc G n ad)) C h fx_Lg 9 (Nat.le_of_ble_eq_true rfl) rfl rfl 8 (by decide) rfl k_108 rfl hdg kk
theorem p_BV_98 {x : Int32} (C : Cx G p s m args meth c R_BV cc nL ret) (h : Hp G (Yc G n ad) A H0 σ H locs) (hdg : decode cc pc = .ok (.putfield 98, 3)) (kk : ∀ (H : Heap) (locs : List Loc), Hp G (Yc G n ad) A H0 (set1 σ 9 8 x) H locs → W p l e R s m args below meth c H locs cells slots Q (F0 m (pc + 3) ls rest)) : W p l e R s m args below meth c H locs cells slots Q (F0 m pc ls (.int x :: .ref (ad 9) :: rest)) :=
  x_putN (Y := (Yc G n ad)) C h (okC G n ad) fx_Lg 9 (Nat.le_of_ble_eq_true rfl) rfl rfl 8 (by decide) rfl k_108 rfl rfl rfl rfl (Nat.le_of_ble_eq_true rfl) hdg kk
theorem g_BV_53 (C : Cx G p s m args meth c R_BV cc nL ret) (h : Hp G (Yc G n ad) A H0 σ H locs) (hdg : decode cc pc = .ok (.getfield 53, 3)) (kk : W p l e R s m args below meth c H locs cells slots Q (F0 m (pc + 3) ls (.int (σ 9 9) :: rest))) : W p l e R s m args below meth c H locs cells slots Q (F0 m pc ls (.ref (ad 9) :: rest)) :=
  x_getN (Y := (Yc G n ad)) C h fx_Lg 9 (Nat.le_of_ble_eq_true rfl) rfl rfl 9 (by decide) rfl k_109 rfl hdg kk
theorem p_BV_53 {x : Int32} (C : Cx G p s m args meth c R_BV cc nL ret) (h : Hp G (Yc G n ad) A H0 σ H locs) (hdg : decode cc pc = .ok (.putfield 53, 3)) (hn : narrow .boolean (.int x) = .int x) (hfit : fits .boolean (.int x) = true) (kk : ∀ (H : Heap) (locs : List Loc), Hp G (Yc G n ad) A H0 (set1 σ 9 9 x) H locs → W p l e R s m args below meth c H locs cells slots Q (F0 m (pc + 3) ls rest)) : W p l e R s m args below meth c H locs cells slots Q (F0 m pc ls (.int x :: .ref (ad 9) :: rest)) :=
  x_putN (Y := (Yc G n ad)) C h (okC G n ad) fx_Lg 9 (Nat.le_of_ble_eq_true rfl) rfl rfl 9 (by decide) rfl k_109 rfl rfl hn hfit (Nat.le_of_ble_eq_true rfl) hdg kk
theorem g_Lg_57 (C : Cx G p s m args meth c R_Lg cc nL ret) (h : Hp G (Yc G n ad) A H0 σ H locs) (hdg : decode cc pc = .ok (.getfield 57, 3)) (kk : W p l e R s m args below meth c H locs cells slots Q (F0 m (pc + 3) ls (.int (σ 9 9) :: rest))) : W p l e R s m args below meth c H locs cells slots Q (F0 m pc ls (.ref (ad 9) :: rest)) :=
  x_get (Y := (Yc G n ad)) C h fx_Lg 9 (Nat.le_of_ble_eq_true rfl) rfl rfl 9 (by decide) rfl k_110 rfl hdg kk
theorem p_Lg_57 {x : Int32} (C : Cx G p s m args meth c R_Lg cc nL ret) (h : Hp G (Yc G n ad) A H0 σ H locs) (hdg : decode cc pc = .ok (.putfield 57, 3)) (hn : narrow .boolean (.int x) = .int x) (hfit : fits .boolean (.int x) = true) (kk : ∀ (H : Heap) (locs : List Loc), Hp G (Yc G n ad) A H0 (set1 σ 9 9 x) H locs → W p l e R s m args below meth c H locs cells slots Q (F0 m (pc + 3) ls rest)) : W p l e R s m args below meth c H locs cells slots Q (F0 m pc ls (.int x :: .ref (ad 9) :: rest)) :=
  x_put (Y := (Yc G n ad)) C h (okC G n ad) fx_Lg 9 (Nat.le_of_ble_eq_true rfl) rfl rfl 9 (by decide) rfl k_110 rfl rfl hn hfit (Nat.le_of_ble_eq_true rfl) hdg kk
theorem g_BV_23 (C : Cx G p s m args meth c R_BV cc nL ret) (h : Hp G (Yc G n ad) A H0 σ H locs) (hdg : decode cc pc = .ok (.getfield 23, 3)) (kk : W p l e R s m args below meth c H locs cells slots Q (F0 m (pc + 3) ls (.ref (ad 1) :: rest))) : W p l e R s m args below meth c H locs cells slots Q (F0 m pc ls (.ref (ad 0) :: rest)) :=
  x_get (Y := (Yc G n ad)) C h fx_BV 0 (Nat.le_of_ble_eq_true rfl) rfl rfl 0 (by decide) rfl k_132 rfl hdg kk
theorem g_BV_32 (C : Cx G p s m args meth c R_BV cc nL ret) (h : Hp G (Yc G n ad) A H0 σ H locs) (hdg : decode cc pc = .ok (.getfield 32, 3)) (kk : W p l e R s m args below meth c H locs cells slots Q (F0 m (pc + 3) ls (.ref (ad 3) :: rest))) : W p l e R s m args below meth c H locs cells slots Q (F0 m pc ls (.ref (ad 0) :: rest)) :=
  x_get (Y := (Yc G n ad)) C h fx_BV 0 (Nat.le_of_ble_eq_true rfl) rfl rfl 1 (by decide) rfl k_133 rfl hdg kk
theorem g_BV_41 (C : Cx G p s m args meth c R_BV cc nL ret) (h : Hp G (Yc G n ad) A H0 σ H locs) (hdg : decode cc pc = .ok (.getfield 41, 3)) (kk : W p l e R s m args below meth c H locs cells slots Q (F0 m (pc + 3) ls (.ref (ad 9) :: rest))) : W p l e R s m args below meth c H locs cells slots Q (F0 m pc ls (.ref (ad 0) :: rest)) :=
  x_get (Y := (Yc G n ad)) C h fx_BV 0 (Nat.le_of_ble_eq_true rfl) rfl rfl 2 (by decide) rfl k_134 rfl hdg kk
theorem g_Md_42 (C : Cx G p s m args meth c R_Md cc nL ret) (h : Hp G (Ym G am) A H0 σ H locs) (hdg : decode cc pc = .ok (.getfield 42, 3)) (kk : W p l e R s m args below meth c H locs cells slots Q (F0 m (pc + 3) ls (.int (σ 0 0) :: rest))) : W p l e R s m args below meth c H locs cells slots Q (F0 m pc ls (.ref (am 0) :: rest)) :=
  x_get (Y := (Ym G am)) C h fx_Md 0 (Nat.le_of_ble_eq_true rfl) rfl rfl 0 (by decide) rfl k_266 rfl hdg kk
theorem p_Md_42 {x : Int32} (C : Cx G p s m args meth c R_Md cc nL ret) (h : Hp G (Ym G am) A H0 σ H locs) (hdg : decode cc pc = .ok (.putfield 42, 3)) (kk : ∀ (H : Heap) (locs : List Loc), Hp G (Ym G am) A H0 (set1 σ 0 0 x) H locs → W p l e R s m args below meth c H locs cells slots Q (F0 m (pc + 3) ls rest)) : W p l e R s m args below meth c H locs cells slots Q (F0 m pc ls (.int x :: .ref (am 0) :: rest)) :=
  x_put (Y := (Ym G am)) C h (okM G am) fx_Md 0 (Nat.le_of_ble_eq_true rfl) rfl rfl 0 (by decide) rfl k_266 rfl rfl rfl rfl (Nat.le_of_ble_eq_true rfl) hdg kk
theorem g_Md_39 (C : Cx G p s m args meth c R_Md cc nL ret) (h : Hp G (Ym G am) A H0 σ H locs) (hdg : decode cc pc = .ok (.getfield 39, 3)) (kk : W p l e R s m args below meth c H locs cells slots Q (F0 m (pc + 3) ls (.int (σ 0 1) :: rest))) : W p l e R s m args below meth c H locs cells slots Q (F0 m pc ls (.ref (am 0) :: rest)) :=
  x_get (Y := (Ym G am)) C h fx_Md 0 (Nat.le_of_ble_eq_true rfl) rfl rfl 1 (by decide) rfl k_267 rfl hdg kk
theorem g_Md_8 (C : Cx G p s m args meth c R_Md cc nL ret) (h : Hp G (Ym G am) A H0 σ H locs) (hdg : decode cc pc = .ok (.getfield 8, 3)) (kk : W p l e R s m args below meth c H locs cells slots Q (F0 m (pc + 3) ls (.ref (am 1) :: rest))) : W p l e R s m args below meth c H locs cells slots Q (F0 m pc ls (.ref (am 0) :: rest)) :=
  x_get (Y := (Ym G am)) C h fx_Md 0 (Nat.le_of_ble_eq_true rfl) rfl rfl 2 (by decide) rfl k_268 rfl hdg kk
theorem g_Md_14 (C : Cx G p s m args meth c R_Md cc nL ret) (h : Hp G (Ym G am) A H0 σ H locs) (hdg : decode cc pc = .ok (.getfield 14, 3)) (kk : W p l e R s m args below meth c H locs cells slots Q (F0 m (pc + 3) ls (.ref (am 2) :: rest))) : W p l e R s m args below meth c H locs cells slots Q (F0 m pc ls (.ref (am 0) :: rest)) :=
  x_get (Y := (Ym G am)) C h fx_Md 0 (Nat.le_of_ble_eq_true rfl) rfl rfl 3 (by decide) rfl k_269 rfl hdg kk
theorem g_Md_17 (C : Cx G p s m args meth c R_Md cc nL ret) (h : Hp G (Ym G am) A H0 σ H locs) (hdg : decode cc pc = .ok (.getfield 17, 3)) (kk : W p l e R s m args below meth c H locs cells slots Q (F0 m (pc + 3) ls (.ref (am 3) :: rest))) : W p l e R s m args below meth c H locs cells slots Q (F0 m pc ls (.ref (am 0) :: rest)) :=
  x_get (Y := (Ym G am)) C h fx_Md 0 (Nat.le_of_ble_eq_true rfl) rfl rfl 4 (by decide) rfl k_270 rfl hdg kk
theorem g_Md_21 (C : Cx G p s m args meth c R_Md cc nL ret) (h : Hp G (Ym G am) A H0 σ H locs) (hdg : decode cc pc = .ok (.getfield 21, 3)) (kk : W p l e R s m args below meth c H locs cells slots Q (F0 m (pc + 3) ls (.ref (am 4) :: rest))) : W p l e R s m args below meth c H locs cells slots Q (F0 m pc ls (.ref (am 0) :: rest)) :=
  x_get (Y := (Ym G am)) C h fx_Md 0 (Nat.le_of_ble_eq_true rfl) rfl rfl 5 (by decide) rfl k_271 rfl hdg kk
theorem g_Md_24 (C : Cx G p s m args meth c R_Md cc nL ret) (h : Hp G (Ym G am) A H0 σ H locs) (hdg : decode cc pc = .ok (.getfield 24, 3)) (kk : W p l e R s m args below meth c H locs cells slots Q (F0 m (pc + 3) ls (.ref (am 5) :: rest))) : W p l e R s m args below meth c H locs cells slots Q (F0 m pc ls (.ref (am 0) :: rest)) :=
  x_get (Y := (Ym G am)) C h fx_Md 0 (Nat.le_of_ble_eq_true rfl) rfl rfl 6 (by decide) rfl k_272 rfl hdg kk
theorem g_Md_72 (C : Cx G p s m args meth c R_Md cc nL ret) (h : Hp G (Ym G am) A H0 σ H locs) (hdg : decode cc pc = .ok (.getfield 72, 3)) (kk : W p l e R s m args below meth c H locs cells slots Q (F0 m (pc + 3) ls (.int (σ 0 7) :: rest))) : W p l e R s m args below meth c H locs cells slots Q (F0 m pc ls (.ref (am 0) :: rest)) :=
  x_get (Y := (Ym G am)) C h fx_Md 0 (Nat.le_of_ble_eq_true rfl) rfl rfl 7 (by decide) rfl k_273 rfl hdg kk
theorem p_Md_72 {x : Int32} (C : Cx G p s m args meth c R_Md cc nL ret) (h : Hp G (Ym G am) A H0 σ H locs) (hdg : decode cc pc = .ok (.putfield 72, 3)) (kk : ∀ (H : Heap) (locs : List Loc), Hp G (Ym G am) A H0 (set1 σ 0 7 x) H locs → W p l e R s m args below meth c H locs cells slots Q (F0 m (pc + 3) ls rest)) : W p l e R s m args below meth c H locs cells slots Q (F0 m pc ls (.int x :: .ref (am 0) :: rest)) :=
  x_put (Y := (Ym G am)) C h (okM G am) fx_Md 0 (Nat.le_of_ble_eq_true rfl) rfl rfl 7 (by decide) rfl k_273 rfl rfl rfl rfl (Nat.le_of_ble_eq_true rfl) hdg kk
theorem g_Md_28 (C : Cx G p s m args meth c R_Md cc nL ret) (h : Hp G (Ym G am) A H0 σ H locs) (hdg : decode cc pc = .ok (.getfield 28, 3)) (kk : W p l e R s m args below meth c H locs cells slots Q (F0 m (pc + 3) ls (.int (σ 0 8) :: rest))) : W p l e R s m args below meth c H locs cells slots Q (F0 m pc ls (.ref (am 0) :: rest)) :=
  x_get (Y := (Ym G am)) C h fx_Md 0 (Nat.le_of_ble_eq_true rfl) rfl rfl 8 (by decide) rfl k_274 rfl hdg kk
theorem p_Md_28 {x : Int32} (C : Cx G p s m args meth c R_Md cc nL ret) (h : Hp G (Ym G am) A H0 σ H locs) (hdg : decode cc pc = .ok (.putfield 28, 3)) (hn : narrow .boolean (.int x) = .int x) (hfit : fits .boolean (.int x) = true) (kk : ∀ (H : Heap) (locs : List Loc), Hp G (Ym G am) A H0 (set1 σ 0 8 x) H locs → W p l e R s m args below meth c H locs cells slots Q (F0 m (pc + 3) ls rest)) : W p l e R s m args below meth c H locs cells slots Q (F0 m pc ls (.int x :: .ref (am 0) :: rest)) :=
  x_put (Y := (Ym G am)) C h (okM G am) fx_Md 0 (Nat.le_of_ble_eq_true rfl) rfl rfl 8 (by decide) rfl k_274 rfl rfl hn hfit (Nat.le_of_ble_eq_true rfl) hdg kk
theorem g_Md_45 (C : Cx G p s m args meth c R_Md cc nL ret) (h : Hp G (Ym G am) A H0 σ H locs) (hdg : decode cc pc = .ok (.getfield 45, 3)) (kk : W p l e R s m args below meth c H locs cells slots Q (F0 m (pc + 3) ls (.int (σ 0 9) :: rest))) : W p l e R s m args below meth c H locs cells slots Q (F0 m pc ls (.ref (am 0) :: rest)) :=
  x_get (Y := (Ym G am)) C h fx_Md 0 (Nat.le_of_ble_eq_true rfl) rfl rfl 9 (by decide) rfl k_275 rfl hdg kk
theorem p_Md_45 {x : Int32} (C : Cx G p s m args meth c R_Md cc nL ret) (h : Hp G (Ym G am) A H0 σ H locs) (hdg : decode cc pc = .ok (.putfield 45, 3)) (hn : narrow .boolean (.int x) = .int x) (hfit : fits .boolean (.int x) = true) (kk : ∀ (H : Heap) (locs : List Loc), Hp G (Ym G am) A H0 (set1 σ 0 9 x) H locs → W p l e R s m args below meth c H locs cells slots Q (F0 m (pc + 3) ls rest)) : W p l e R s m args below meth c H locs cells slots Q (F0 m pc ls (.int x :: .ref (am 0) :: rest)) :=
  x_put (Y := (Ym G am)) C h (okM G am) fx_Md 0 (Nat.le_of_ble_eq_true rfl) rfl rfl 9 (by decide) rfl k_275 rfl rfl hn hfit (Nat.le_of_ble_eq_true rfl) hdg kk
theorem g_Md_32 (C : Cx G p s m args meth c R_Md cc nL ret) (h : Hp G (Ym G am) A H0 σ H locs) (hdg : decode cc pc = .ok (.getfield 32, 3)) (kk : W p l e R s m args below meth c H locs cells slots Q (F0 m (pc + 3) ls (.int (σ 0 10) :: rest))) : W p l e R s m args below meth c H locs cells slots Q (F0 m pc ls (.ref (am 0) :: rest)) :=
  x_get (Y := (Ym G am)) C h fx_Md 0 (Nat.le_of_ble_eq_true rfl) rfl rfl 10 (by decide) rfl k_276 rfl hdg kk
theorem p_Md_32 {x : Int32} (C : Cx G p s m args meth c R_Md cc nL ret) (h : Hp G (Ym G am) A H0 σ H locs) (hdg : decode cc pc = .ok (.putfield 32, 3)) (kk : ∀ (H : Heap) (locs : List Loc), Hp G (Ym G am) A H0 (set1 σ 0 10 x) H locs → W p l e R s m args below meth c H locs cells slots Q (F0 m (pc + 3) ls rest)) : W p l e R s m args below meth c H locs cells slots Q (F0 m pc ls (.int x :: .ref (am 0) :: rest)) :=
  x_put (Y := (Ym G am)) C h (okM G am) fx_Md 0 (Nat.le_of_ble_eq_true rfl) rfl rfl 10 (by decide) rfl k_276 rfl rfl rfl rfl (Nat.le_of_ble_eq_true rfl) hdg kk
theorem g_Md_48 (C : Cx G p s m args meth c R_Md cc nL ret) (h : Hp G (Ym G am) A H0 σ H locs) (hdg : decode cc pc = .ok (.getfield 48, 3)) (kk : W p l e R s m args below meth c H locs cells slots Q (F0 m (pc + 3) ls (.int (σ 0 11) :: rest))) : W p l e R s m args below meth c H locs cells slots Q (F0 m pc ls (.ref (am 0) :: rest)) :=
  x_get (Y := (Ym G am)) C h fx_Md 0 (Nat.le_of_ble_eq_true rfl) rfl rfl 11 (by decide) rfl k_277 rfl hdg kk
theorem p_Md_48 {x : Int32} (C : Cx G p s m args meth c R_Md cc nL ret) (h : Hp G (Ym G am) A H0 σ H locs) (hdg : decode cc pc = .ok (.putfield 48, 3)) (kk : ∀ (H : Heap) (locs : List Loc), Hp G (Ym G am) A H0 (set1 σ 0 11 x) H locs → W p l e R s m args below meth c H locs cells slots Q (F0 m (pc + 3) ls rest)) : W p l e R s m args below meth c H locs cells slots Q (F0 m pc ls (.int x :: .ref (am 0) :: rest)) :=
  x_put (Y := (Ym G am)) C h (okM G am) fx_Md 0 (Nat.le_of_ble_eq_true rfl) rfl rfl 11 (by decide) rfl k_277 rfl rfl rfl rfl (Nat.le_of_ble_eq_true rfl) hdg kk
theorem g_Md_69 (C : Cx G p s m args meth c R_Md cc nL ret) (h : Hp G (Ym G am) A H0 σ H locs) (hdg : decode cc pc = .ok (.getfield 69, 3)) (kk : W p l e R s m args below meth c H locs cells slots Q (F0 m (pc + 3) ls (.int (σ 0 12) :: rest))) : W p l e R s m args below meth c H locs cells slots Q (F0 m pc ls (.ref (am 0) :: rest)) :=
  x_get (Y := (Ym G am)) C h fx_Md 0 (Nat.le_of_ble_eq_true rfl) rfl rfl 12 (by decide) rfl k_278 rfl hdg kk
theorem p_Md_69 {x : Int32} (C : Cx G p s m args meth c R_Md cc nL ret) (h : Hp G (Ym G am) A H0 σ H locs) (hdg : decode cc pc = .ok (.putfield 69, 3)) (kk : ∀ (H : Heap) (locs : List Loc), Hp G (Ym G am) A H0 (set1 σ 0 12 x) H locs → W p l e R s m args below meth c H locs cells slots Q (F0 m (pc + 3) ls rest)) : W p l e R s m args below meth c H locs cells slots Q (F0 m pc ls (.int x :: .ref (am 0) :: rest)) :=
  x_put (Y := (Ym G am)) C h (okM G am) fx_Md 0 (Nat.le_of_ble_eq_true rfl) rfl rfl 12 (by decide) rfl k_278 rfl rfl rfl rfl (Nat.le_of_ble_eq_true rfl) hdg kk
theorem g_Md_59 (C : Cx G p s m args meth c R_Md cc nL ret) (h : Hp G (Ym G am) A H0 σ H locs) (hdg : decode cc pc = .ok (.getfield 59, 3)) (kk : W p l e R s m args below meth c H locs cells slots Q (F0 m (pc + 3) ls (.int (σ 0 13) :: rest))) : W p l e R s m args below meth c H locs cells slots Q (F0 m pc ls (.ref (am 0) :: rest)) :=
  x_get (Y := (Ym G am)) C h fx_Md 0 (Nat.le_of_ble_eq_true rfl) rfl rfl 13 (by decide) rfl k_279 rfl hdg kk
theorem p_Md_59 {x : Int32} (C : Cx G p s m args meth c R_Md cc nL ret) (h : Hp G (Ym G am) A H0 σ H locs) (hdg : decode cc pc = .ok (.putfield 59, 3)) (kk : ∀ (H : Heap) (locs : List Loc), Hp G (Ym G am) A H0 (set1 σ 0 13 x) H locs → W p l e R s m args below meth c H locs cells slots Q (F0 m (pc + 3) ls rest)) : W p l e R s m args below meth c H locs cells slots Q (F0 m pc ls (.int x :: .ref (am 0) :: rest)) :=
  x_put (Y := (Ym G am)) C h (okM G am) fx_Md 0 (Nat.le_of_ble_eq_true rfl) rfl rfl 13 (by decide) rfl k_279 rfl rfl rfl rfl (Nat.le_of_ble_eq_true rfl) hdg kk
theorem g_Md_36 (C : Cx G p s m args meth c R_Md cc nL ret) (h : Hp G (Ym G am) A H0 σ H locs) (hdg : decode cc pc = .ok (.getfield 36, 3)) (kk : W p l e R s m args below meth c H locs cells slots Q (F0 m (pc + 3) ls (.int (σ 0 14) :: rest))) : W p l e R s m args below meth c H locs cells slots Q (F0 m pc ls (.ref (am 0) :: rest)) :=
  x_get (Y := (Ym G am)) C h fx_Md 0 (Nat.le_of_ble_eq_true rfl) rfl rfl 14 (by decide) rfl k_280 rfl hdg kk
theorem p_Md_36 {x : Int32} (C : Cx G p s m args meth c R_Md cc nL ret) (h : Hp G (Ym G am) A H0 σ H locs) (hdg : decode cc pc = .ok (.putfield 36, 3)) (kk : ∀ (H : Heap) (locs : List Loc), Hp G (Ym G am) A H0 (set1 σ 0 14 x) H locs → W p l e R s m args below meth c H locs cells slots Q (F0 m (pc + 3) ls rest)) : W p l e R s m args below meth c H locs cells slots Q (F0 m pc ls (.int x :: .ref (am 0) :: rest)) :=
  x_put (Y := (Ym G am)) C h (okM G am) fx_Md 0 (Nat.le_of_ble_eq_true rfl) rfl rfl 14 (by decide) rfl k_280 rfl rfl rfl rfl (Nat.le_of_ble_eq_true rfl) hdg kk
theorem l_c5 {own : String} {x : Int32} (C : Cx G p s m args meth c own cc nL ret) (h : Hp G (Yc G n ad) A H0 σ H locs) (hin : vp_in x 34) (hdg : decode cc pc = .ok (.iaload, 1)) (kk : W p l e R s m args below meth c H locs cells slots Q (F0 m (pc + 1) ls (.int (σ 5 x.toNatClampNeg) :: rest))) : W p l e R s m args below meth c H locs cells slots Q (F0 m pc ls (.int x :: .ref (ad 5) :: rest)) :=
  x_iald (Y := (Yc G n ad)) C h 5 (Nat.le_of_ble_eq_true rfl) rfl hin hdg kk
theorem ln_c5 {own : String} {k : Nat} (C : Cx G p s m args meth c own cc nL ret) (h : Hp G (Yc G n ad) A H0 σ H locs) (hk : k < 34) (h31 : k < 2 ^ 31) (hdg : decode cc pc = .ok (.iaload, 1)) (kk : W p l e R s m args below meth c H locs cells slots Q (F0 m (pc + 1) ls (.int (σ 5 k) :: rest))) : W p l e R s m args below meth c H locs cells slots Q (F0 m pc ls (.int (nI k) :: .ref (ad 5) :: rest)) := by
  refine l_c5 C h (fun q => by rw [nI_clamp h31] at q; exact q.elim (nI_pos h31) (Nat.not_le.mpr hk)) hdg ?_
  rw [nI_clamp h31]
  exact kk
theorem st_c5 {own : String} {x v : Int32} (C : Cx G p s m args meth c own cc nL ret) (h : Hp G (Yc G n ad) A H0 σ H locs) (hin : vp_in x 34) (hdg : decode cc pc = .ok (.iastore, 1)) (kk : ∀ (H : Heap) (locs : List Loc), Hp G (Yc G n ad) A H0 (set1 σ 5 x.toNatClampNeg v) H locs → W p l e R s m args below meth c H locs cells slots Q (F0 m (pc + 1) ls rest)) : W p l e R s m args below meth c H locs cells slots Q (F0 m pc ls (.int v :: .int x :: .ref (ad 5) :: rest)) :=
  x_iast (Y := (Yc G n ad)) C h (okC G n ad) 5 (Nat.le_of_ble_eq_true rfl) rfl rfl hin hdg kk
theorem sn_c5 {own : String} {k : Nat} {v : Int32} (C : Cx G p s m args meth c own cc nL ret) (h : Hp G (Yc G n ad) A H0 σ H locs) (hk : k < 34) (h31 : k < 2 ^ 31) (hdg : decode cc pc = .ok (.iastore, 1)) (kk : ∀ (H : Heap) (locs : List Loc), Hp G (Yc G n ad) A H0 (set1 σ 5 k v) H locs → W p l e R s m args below meth c H locs cells slots Q (F0 m (pc + 1) ls rest)) : W p l e R s m args below meth c H locs cells slots Q (F0 m pc ls (.int v :: .int (nI k) :: .ref (ad 5) :: rest)) := by
  refine st_c5 C h (fun q => by rw [nI_clamp h31] at q; exact q.elim (nI_pos h31) (Nat.not_le.mpr hk)) hdg ?_
  rw [nI_clamp h31]
  exact kk
theorem l_c6 {own : String} {x : Int32} (C : Cx G p s m args meth c own cc nL ret) (h : Hp G (Yc G n ad) A H0 σ H locs) (hin : vp_in x 34) (hdg : decode cc pc = .ok (.baload, 1)) (kk : W p l e R s m args below meth c H locs cells slots Q (F0 m (pc + 1) ls (.int (σ 6 x.toNatClampNeg) :: rest))) : W p l e R s m args below meth c H locs cells slots Q (F0 m pc ls (.int x :: .ref (ad 6) :: rest)) :=
  x_zald (Y := (Yc G n ad)) C h 6 (Nat.le_of_ble_eq_true rfl) rfl hin hdg kk
theorem ln_c6 {own : String} {k : Nat} (C : Cx G p s m args meth c own cc nL ret) (h : Hp G (Yc G n ad) A H0 σ H locs) (hk : k < 34) (h31 : k < 2 ^ 31) (hdg : decode cc pc = .ok (.baload, 1)) (kk : W p l e R s m args below meth c H locs cells slots Q (F0 m (pc + 1) ls (.int (σ 6 k) :: rest))) : W p l e R s m args below meth c H locs cells slots Q (F0 m pc ls (.int (nI k) :: .ref (ad 6) :: rest)) := by
  refine l_c6 C h (fun q => by rw [nI_clamp h31] at q; exact q.elim (nI_pos h31) (Nat.not_le.mpr hk)) hdg ?_
  rw [nI_clamp h31]
  exact kk
theorem st_c6 {own : String} {x v : Int32} (C : Cx G p s m args meth c own cc nL ret) (h : Hp G (Yc G n ad) A H0 σ H locs) (hv : vp_nar .boolean v = v) (hin : vp_in x 34) (hdg : decode cc pc = .ok (.bastore, 1)) (kk : ∀ (H : Heap) (locs : List Loc), Hp G (Yc G n ad) A H0 (set1 σ 6 x.toNatClampNeg v) H locs → W p l e R s m args below meth c H locs cells slots Q (F0 m (pc + 1) ls rest)) : W p l e R s m args below meth c H locs cells slots Q (F0 m pc ls (.int v :: .int x :: .ref (ad 6) :: rest)) :=
  x_zast (Y := (Yc G n ad)) C h (okC G n ad) 6 (Nat.le_of_ble_eq_true rfl) rfl rfl hv hin hdg kk
theorem sn_c6 {own : String} {k : Nat} {v : Int32} (C : Cx G p s m args meth c own cc nL ret) (h : Hp G (Yc G n ad) A H0 σ H locs) (hv : vp_nar .boolean v = v) (hk : k < 34) (h31 : k < 2 ^ 31) (hdg : decode cc pc = .ok (.bastore, 1)) (kk : ∀ (H : Heap) (locs : List Loc), Hp G (Yc G n ad) A H0 (set1 σ 6 k v) H locs → W p l e R s m args below meth c H locs cells slots Q (F0 m (pc + 1) ls rest)) : W p l e R s m args below meth c H locs cells slots Q (F0 m pc ls (.int v :: .int (nI k) :: .ref (ad 6) :: rest)) := by
  refine st_c6 C h hv (fun q => by rw [nI_clamp h31] at q; exact q.elim (nI_pos h31) (Nat.not_le.mpr hk)) hdg ?_
  rw [nI_clamp h31]
  exact kk
theorem l_c7 {own : String} {x : Int32} (C : Cx G p s m args meth c own cc nL ret) (h : Hp G (Yc G n ad) A H0 σ H locs) (hin : vp_in x 35) (hdg : decode cc pc = .ok (.iaload, 1)) (kk : W p l e R s m args below meth c H locs cells slots Q (F0 m (pc + 1) ls (.int (σ 7 x.toNatClampNeg) :: rest))) : W p l e R s m args below meth c H locs cells slots Q (F0 m pc ls (.int x :: .ref (ad 7) :: rest)) :=
  x_iald (Y := (Yc G n ad)) C h 7 (Nat.le_of_ble_eq_true rfl) rfl hin hdg kk
theorem ln_c7 {own : String} {k : Nat} (C : Cx G p s m args meth c own cc nL ret) (h : Hp G (Yc G n ad) A H0 σ H locs) (hk : k < 35) (h31 : k < 2 ^ 31) (hdg : decode cc pc = .ok (.iaload, 1)) (kk : W p l e R s m args below meth c H locs cells slots Q (F0 m (pc + 1) ls (.int (σ 7 k) :: rest))) : W p l e R s m args below meth c H locs cells slots Q (F0 m pc ls (.int (nI k) :: .ref (ad 7) :: rest)) := by
  refine l_c7 C h (fun q => by rw [nI_clamp h31] at q; exact q.elim (nI_pos h31) (Nat.not_le.mpr hk)) hdg ?_
  rw [nI_clamp h31]
  exact kk
theorem st_c7 {own : String} {x v : Int32} (C : Cx G p s m args meth c own cc nL ret) (h : Hp G (Yc G n ad) A H0 σ H locs) (hin : vp_in x 35) (hdg : decode cc pc = .ok (.iastore, 1)) (kk : ∀ (H : Heap) (locs : List Loc), Hp G (Yc G n ad) A H0 (set1 σ 7 x.toNatClampNeg v) H locs → W p l e R s m args below meth c H locs cells slots Q (F0 m (pc + 1) ls rest)) : W p l e R s m args below meth c H locs cells slots Q (F0 m pc ls (.int v :: .int x :: .ref (ad 7) :: rest)) :=
  x_iast (Y := (Yc G n ad)) C h (okC G n ad) 7 (Nat.le_of_ble_eq_true rfl) rfl rfl hin hdg kk
theorem sn_c7 {own : String} {k : Nat} {v : Int32} (C : Cx G p s m args meth c own cc nL ret) (h : Hp G (Yc G n ad) A H0 σ H locs) (hk : k < 35) (h31 : k < 2 ^ 31) (hdg : decode cc pc = .ok (.iastore, 1)) (kk : ∀ (H : Heap) (locs : List Loc), Hp G (Yc G n ad) A H0 (set1 σ 7 k v) H locs → W p l e R s m args below meth c H locs cells slots Q (F0 m (pc + 1) ls rest)) : W p l e R s m args below meth c H locs cells slots Q (F0 m pc ls (.int v :: .int (nI k) :: .ref (ad 7) :: rest)) := by
  refine st_c7 C h (fun q => by rw [nI_clamp h31] at q; exact q.elim (nI_pos h31) (Nat.not_le.mpr hk)) hdg ?_
  rw [nI_clamp h31]
  exact kk
theorem l_c8 {own : String} {x : Int32} (C : Cx G p s m args meth c own cc nL ret) (h : Hp G (Yc G n ad) A H0 σ H locs) (hin : vp_in x 35) (hdg : decode cc pc = .ok (.iaload, 1)) (kk : W p l e R s m args below meth c H locs cells slots Q (F0 m (pc + 1) ls (.int (σ 8 x.toNatClampNeg) :: rest))) : W p l e R s m args below meth c H locs cells slots Q (F0 m pc ls (.int x :: .ref (ad 8) :: rest)) :=
  x_iald (Y := (Yc G n ad)) C h 8 (Nat.le_of_ble_eq_true rfl) rfl hin hdg kk
theorem ln_c8 {own : String} {k : Nat} (C : Cx G p s m args meth c own cc nL ret) (h : Hp G (Yc G n ad) A H0 σ H locs) (hk : k < 35) (h31 : k < 2 ^ 31) (hdg : decode cc pc = .ok (.iaload, 1)) (kk : W p l e R s m args below meth c H locs cells slots Q (F0 m (pc + 1) ls (.int (σ 8 k) :: rest))) : W p l e R s m args below meth c H locs cells slots Q (F0 m pc ls (.int (nI k) :: .ref (ad 8) :: rest)) := by
  refine l_c8 C h (fun q => by rw [nI_clamp h31] at q; exact q.elim (nI_pos h31) (Nat.not_le.mpr hk)) hdg ?_
  rw [nI_clamp h31]
  exact kk
theorem st_c8 {own : String} {x v : Int32} (C : Cx G p s m args meth c own cc nL ret) (h : Hp G (Yc G n ad) A H0 σ H locs) (hin : vp_in x 35) (hdg : decode cc pc = .ok (.iastore, 1)) (kk : ∀ (H : Heap) (locs : List Loc), Hp G (Yc G n ad) A H0 (set1 σ 8 x.toNatClampNeg v) H locs → W p l e R s m args below meth c H locs cells slots Q (F0 m (pc + 1) ls rest)) : W p l e R s m args below meth c H locs cells slots Q (F0 m pc ls (.int v :: .int x :: .ref (ad 8) :: rest)) :=
  x_iast (Y := (Yc G n ad)) C h (okC G n ad) 8 (Nat.le_of_ble_eq_true rfl) rfl rfl hin hdg kk
theorem sn_c8 {own : String} {k : Nat} {v : Int32} (C : Cx G p s m args meth c own cc nL ret) (h : Hp G (Yc G n ad) A H0 σ H locs) (hk : k < 35) (h31 : k < 2 ^ 31) (hdg : decode cc pc = .ok (.iastore, 1)) (kk : ∀ (H : Heap) (locs : List Loc), Hp G (Yc G n ad) A H0 (set1 σ 8 k v) H locs → W p l e R s m args below meth c H locs cells slots Q (F0 m (pc + 1) ls rest)) : W p l e R s m args below meth c H locs cells slots Q (F0 m pc ls (.int v :: .int (nI k) :: .ref (ad 8) :: rest)) := by
  refine st_c8 C h (fun q => by rw [nI_clamp h31] at q; exact q.elim (nI_pos h31) (Nat.not_le.mpr hk)) hdg ?_
  rw [nI_clamp h31]
  exact kk
theorem l_c10 {own : String} {x : Int32} (C : Cx G p s m args meth c own cc nL ret) (h : Hp G (Yc G n ad) A H0 σ H locs) (hin : vp_in x 30) (hdg : decode cc pc = .ok (.iaload, 1)) (kk : W p l e R s m args below meth c H locs cells slots Q (F0 m (pc + 1) ls (.int (σ 10 x.toNatClampNeg) :: rest))) : W p l e R s m args below meth c H locs cells slots Q (F0 m pc ls (.int x :: .ref (ad 10) :: rest)) :=
  x_iald (Y := (Yc G n ad)) C h 10 (Nat.le_of_ble_eq_true rfl) rfl hin hdg kk
theorem ln_c10 {own : String} {k : Nat} (C : Cx G p s m args meth c own cc nL ret) (h : Hp G (Yc G n ad) A H0 σ H locs) (hk : k < 30) (h31 : k < 2 ^ 31) (hdg : decode cc pc = .ok (.iaload, 1)) (kk : W p l e R s m args below meth c H locs cells slots Q (F0 m (pc + 1) ls (.int (σ 10 k) :: rest))) : W p l e R s m args below meth c H locs cells slots Q (F0 m pc ls (.int (nI k) :: .ref (ad 10) :: rest)) := by
  refine l_c10 C h (fun q => by rw [nI_clamp h31] at q; exact q.elim (nI_pos h31) (Nat.not_le.mpr hk)) hdg ?_
  rw [nI_clamp h31]
  exact kk
theorem st_c10 {own : String} {x v : Int32} (C : Cx G p s m args meth c own cc nL ret) (h : Hp G (Yc G n ad) A H0 σ H locs) (hin : vp_in x 30) (hdg : decode cc pc = .ok (.iastore, 1)) (kk : ∀ (H : Heap) (locs : List Loc), Hp G (Yc G n ad) A H0 (set1 σ 10 x.toNatClampNeg v) H locs → W p l e R s m args below meth c H locs cells slots Q (F0 m (pc + 1) ls rest)) : W p l e R s m args below meth c H locs cells slots Q (F0 m pc ls (.int v :: .int x :: .ref (ad 10) :: rest)) :=
  x_iast (Y := (Yc G n ad)) C h (okC G n ad) 10 (Nat.le_of_ble_eq_true rfl) rfl rfl hin hdg kk
theorem sn_c10 {own : String} {k : Nat} {v : Int32} (C : Cx G p s m args meth c own cc nL ret) (h : Hp G (Yc G n ad) A H0 σ H locs) (hk : k < 30) (h31 : k < 2 ^ 31) (hdg : decode cc pc = .ok (.iastore, 1)) (kk : ∀ (H : Heap) (locs : List Loc), Hp G (Yc G n ad) A H0 (set1 σ 10 k v) H locs → W p l e R s m args below meth c H locs cells slots Q (F0 m (pc + 1) ls rest)) : W p l e R s m args below meth c H locs cells slots Q (F0 m pc ls (.int v :: .int (nI k) :: .ref (ad 10) :: rest)) := by
  refine st_c10 C h (fun q => by rw [nI_clamp h31] at q; exact q.elim (nI_pos h31) (Nat.not_le.mpr hk)) hdg ?_
  rw [nI_clamp h31]
  exact kk
theorem l_c11 {own : String} {x : Int32} (C : Cx G p s m args meth c own cc nL ret) (h : Hp G (Yc G n ad) A H0 σ H locs) (hin : vp_in x n) (hdg : decode cc pc = .ok (.baload, 1)) (kk : W p l e R s m args below meth c H locs cells slots Q (F0 m (pc + 1) ls (.int (σ 11 x.toNatClampNeg) :: rest))) : W p l e R s m args below meth c H locs cells slots Q (F0 m pc ls (.int x :: .ref (ad 11) :: rest)) :=
  x_zald (Y := (Yc G n ad)) C h 11 (Nat.le_of_ble_eq_true rfl) rfl hin hdg kk
theorem ln_c11 {own : String} {k : Nat} (C : Cx G p s m args meth c own cc nL ret) (h : Hp G (Yc G n ad) A H0 σ H locs) (hk : k < n) (h31 : k < 2 ^ 31) (hdg : decode cc pc = .ok (.baload, 1)) (kk : W p l e R s m args below meth c H locs cells slots Q (F0 m (pc + 1) ls (.int (σ 11 k) :: rest))) : W p l e R s m args below meth c H locs cells slots Q (F0 m pc ls (.int (nI k) :: .ref (ad 11) :: rest)) := by
  refine l_c11 C h (fun q => by rw [nI_clamp h31] at q; exact q.elim (nI_pos h31) (Nat.not_le.mpr hk)) hdg ?_
  rw [nI_clamp h31]
  exact kk
theorem st_c11 {own : String} {x v : Int32} (C : Cx G p s m args meth c own cc nL ret) (h : Hp G (Yc G n ad) A H0 σ H locs) (hv : vp_nar .boolean v = v) (hin : vp_in x n) (hdg : decode cc pc = .ok (.bastore, 1)) (kk : ∀ (H : Heap) (locs : List Loc), Hp G (Yc G n ad) A H0 (set1 σ 11 x.toNatClampNeg v) H locs → W p l e R s m args below meth c H locs cells slots Q (F0 m (pc + 1) ls rest)) : W p l e R s m args below meth c H locs cells slots Q (F0 m pc ls (.int v :: .int x :: .ref (ad 11) :: rest)) :=
  x_zast (Y := (Yc G n ad)) C h (okC G n ad) 11 (Nat.le_of_ble_eq_true rfl) rfl rfl hv hin hdg kk
theorem sn_c11 {own : String} {k : Nat} {v : Int32} (C : Cx G p s m args meth c own cc nL ret) (h : Hp G (Yc G n ad) A H0 σ H locs) (hv : vp_nar .boolean v = v) (hk : k < n) (h31 : k < 2 ^ 31) (hdg : decode cc pc = .ok (.bastore, 1)) (kk : ∀ (H : Heap) (locs : List Loc), Hp G (Yc G n ad) A H0 (set1 σ 11 k v) H locs → W p l e R s m args below meth c H locs cells slots Q (F0 m (pc + 1) ls rest)) : W p l e R s m args below meth c H locs cells slots Q (F0 m pc ls (.int v :: .int (nI k) :: .ref (ad 11) :: rest)) := by
  refine st_c11 C h hv (fun q => by rw [nI_clamp h31] at q; exact q.elim (nI_pos h31) (Nat.not_le.mpr hk)) hdg ?_
  rw [nI_clamp h31]
  exact kk
theorem l_m1 {own : String} {x : Int32} (C : Cx G p s m args meth c own cc nL ret) (h : Hp G (Ym G am) A H0 σ H locs) (hin : vp_in x 81920) (hdg : decode cc pc = .ok (.baload, 1)) (kk : W p l e R s m args below meth c H locs cells slots Q (F0 m (pc + 1) ls (.int (bt (σ 1 x.toNatClampNeg)) :: rest))) : W p l e R s m args below meth c H locs cells slots Q (F0 m pc ls (.int x :: .ref (am 1) :: rest)) :=
  x_bald (Y := (Ym G am)) C h 1 (Nat.le_of_ble_eq_true rfl) rfl hin hdg kk
theorem ln_m1 {own : String} {k : Nat} (C : Cx G p s m args meth c own cc nL ret) (h : Hp G (Ym G am) A H0 σ H locs) (hk : k < 81920) (h31 : k < 2 ^ 31) (hdg : decode cc pc = .ok (.baload, 1)) (kk : W p l e R s m args below meth c H locs cells slots Q (F0 m (pc + 1) ls (.int (bt (σ 1 k)) :: rest))) : W p l e R s m args below meth c H locs cells slots Q (F0 m pc ls (.int (nI k) :: .ref (am 1) :: rest)) := by
  refine l_m1 C h (fun q => by rw [nI_clamp h31] at q; exact q.elim (nI_pos h31) (Nat.not_le.mpr hk)) hdg ?_
  rw [nI_clamp h31]
  exact kk
theorem st_m1 {own : String} {x v : Int32} (C : Cx G p s m args meth c own cc nL ret) (h : Hp G (Ym G am) A H0 σ H locs) (hin : vp_in x 81920) (hdg : decode cc pc = .ok (.bastore, 1)) (kk : ∀ (H : Heap) (locs : List Loc), Hp G (Ym G am) A H0 (set1 σ 1 x.toNatClampNeg v) H locs → W p l e R s m args below meth c H locs cells slots Q (F0 m (pc + 1) ls rest)) : W p l e R s m args below meth c H locs cells slots Q (F0 m pc ls (.int v :: .int x :: .ref (am 1) :: rest)) :=
  x_bast (Y := (Ym G am)) C h (okM G am) 1 (Nat.le_of_ble_eq_true rfl) (fun _ => rfl) hin hdg kk
theorem sn_m1 {own : String} {k : Nat} {v : Int32} (C : Cx G p s m args meth c own cc nL ret) (h : Hp G (Ym G am) A H0 σ H locs) (hk : k < 81920) (h31 : k < 2 ^ 31) (hdg : decode cc pc = .ok (.bastore, 1)) (kk : ∀ (H : Heap) (locs : List Loc), Hp G (Ym G am) A H0 (set1 σ 1 k v) H locs → W p l e R s m args below meth c H locs cells slots Q (F0 m (pc + 1) ls rest)) : W p l e R s m args below meth c H locs cells slots Q (F0 m pc ls (.int v :: .int (nI k) :: .ref (am 1) :: rest)) := by
  refine st_m1 C h (fun q => by rw [nI_clamp h31] at q; exact q.elim (nI_pos h31) (Nat.not_le.mpr hk)) hdg ?_
  rw [nI_clamp h31]
  exact kk
theorem l_m2 {own : String} {x : Int32} (C : Cx G p s m args meth c own cc nL ret) (h : Hp G (Ym G am) A H0 σ H locs) (hin : vp_in x 81920) (hdg : decode cc pc = .ok (.baload, 1)) (kk : W p l e R s m args below meth c H locs cells slots Q (F0 m (pc + 1) ls (.int (bt (σ 2 x.toNatClampNeg)) :: rest))) : W p l e R s m args below meth c H locs cells slots Q (F0 m pc ls (.int x :: .ref (am 2) :: rest)) :=
  x_bald (Y := (Ym G am)) C h 2 (Nat.le_of_ble_eq_true rfl) rfl hin hdg kk
theorem ln_m2 {own : String} {k : Nat} (C : Cx G p s m args meth c own cc nL ret) (h : Hp G (Ym G am) A H0 σ H locs) (hk : k < 81920) (h31 : k < 2 ^ 31) (hdg : decode cc pc = .ok (.baload, 1)) (kk : W p l e R s m args below meth c H locs cells slots Q (F0 m (pc + 1) ls (.int (bt (σ 2 k)) :: rest))) : W p l e R s m args below meth c H locs cells slots Q (F0 m pc ls (.int (nI k) :: .ref (am 2) :: rest)) := by
  refine l_m2 C h (fun q => by rw [nI_clamp h31] at q; exact q.elim (nI_pos h31) (Nat.not_le.mpr hk)) hdg ?_
  rw [nI_clamp h31]
  exact kk
theorem st_m2 {own : String} {x v : Int32} (C : Cx G p s m args meth c own cc nL ret) (h : Hp G (Ym G am) A H0 σ H locs) (hin : vp_in x 81920) (hdg : decode cc pc = .ok (.bastore, 1)) (kk : ∀ (H : Heap) (locs : List Loc), Hp G (Ym G am) A H0 (set1 σ 2 x.toNatClampNeg v) H locs → W p l e R s m args below meth c H locs cells slots Q (F0 m (pc + 1) ls rest)) : W p l e R s m args below meth c H locs cells slots Q (F0 m pc ls (.int v :: .int x :: .ref (am 2) :: rest)) :=
  x_bast (Y := (Ym G am)) C h (okM G am) 2 (Nat.le_of_ble_eq_true rfl) (fun _ => rfl) hin hdg kk
theorem sn_m2 {own : String} {k : Nat} {v : Int32} (C : Cx G p s m args meth c own cc nL ret) (h : Hp G (Ym G am) A H0 σ H locs) (hk : k < 81920) (h31 : k < 2 ^ 31) (hdg : decode cc pc = .ok (.bastore, 1)) (kk : ∀ (H : Heap) (locs : List Loc), Hp G (Ym G am) A H0 (set1 σ 2 k v) H locs → W p l e R s m args below meth c H locs cells slots Q (F0 m (pc + 1) ls rest)) : W p l e R s m args below meth c H locs cells slots Q (F0 m pc ls (.int v :: .int (nI k) :: .ref (am 2) :: rest)) := by
  refine st_m2 C h (fun q => by rw [nI_clamp h31] at q; exact q.elim (nI_pos h31) (Nat.not_le.mpr hk)) hdg ?_
  rw [nI_clamp h31]
  exact kk
theorem l_m3 {own : String} {x : Int32} (C : Cx G p s m args meth c own cc nL ret) (h : Hp G (Ym G am) A H0 σ H locs) (hin : vp_in x 80) (hdg : decode cc pc = .ok (.baload, 1)) (kk : W p l e R s m args below meth c H locs cells slots Q (F0 m (pc + 1) ls (.int (σ 3 x.toNatClampNeg) :: rest))) : W p l e R s m args below meth c H locs cells slots Q (F0 m pc ls (.int x :: .ref (am 3) :: rest)) :=
  x_zald (Y := (Ym G am)) C h 3 (Nat.le_of_ble_eq_true rfl) rfl hin hdg kk
theorem ln_m3 {own : String} {k : Nat} (C : Cx G p s m args meth c own cc nL ret) (h : Hp G (Ym G am) A H0 σ H locs) (hk : k < 80) (h31 : k < 2 ^ 31) (hdg : decode cc pc = .ok (.baload, 1)) (kk : W p l e R s m args below meth c H locs cells slots Q (F0 m (pc + 1) ls (.int (σ 3 k) :: rest))) : W p l e R s m args below meth c H locs cells slots Q (F0 m pc ls (.int (nI k) :: .ref (am 3) :: rest)) := by
  refine l_m3 C h (fun q => by rw [nI_clamp h31] at q; exact q.elim (nI_pos h31) (Nat.not_le.mpr hk)) hdg ?_
  rw [nI_clamp h31]
  exact kk
theorem st_m3 {own : String} {x v : Int32} (C : Cx G p s m args meth c own cc nL ret) (h : Hp G (Ym G am) A H0 σ H locs) (hv : vp_nar .boolean v = v) (hin : vp_in x 80) (hdg : decode cc pc = .ok (.bastore, 1)) (kk : ∀ (H : Heap) (locs : List Loc), Hp G (Ym G am) A H0 (set1 σ 3 x.toNatClampNeg v) H locs → W p l e R s m args below meth c H locs cells slots Q (F0 m (pc + 1) ls rest)) : W p l e R s m args below meth c H locs cells slots Q (F0 m pc ls (.int v :: .int x :: .ref (am 3) :: rest)) :=
  x_zast (Y := (Ym G am)) C h (okM G am) 3 (Nat.le_of_ble_eq_true rfl) rfl rfl hv hin hdg kk
theorem sn_m3 {own : String} {k : Nat} {v : Int32} (C : Cx G p s m args meth c own cc nL ret) (h : Hp G (Ym G am) A H0 σ H locs) (hv : vp_nar .boolean v = v) (hk : k < 80) (h31 : k < 2 ^ 31) (hdg : decode cc pc = .ok (.bastore, 1)) (kk : ∀ (H : Heap) (locs : List Loc), Hp G (Ym G am) A H0 (set1 σ 3 k v) H locs → W p l e R s m args below meth c H locs cells slots Q (F0 m (pc + 1) ls rest)) : W p l e R s m args below meth c H locs cells slots Q (F0 m pc ls (.int v :: .int (nI k) :: .ref (am 3) :: rest)) := by
  refine st_m3 C h hv (fun q => by rw [nI_clamp h31] at q; exact q.elim (nI_pos h31) (Nat.not_le.mpr hk)) hdg ?_
  rw [nI_clamp h31]
  exact kk
theorem l_m4 {own : String} {x : Int32} (C : Cx G p s m args meth c own cc nL ret) (h : Hp G (Ym G am) A H0 σ H locs) (hin : vp_in x 80) (hdg : decode cc pc = .ok (.baload, 1)) (kk : W p l e R s m args below meth c H locs cells slots Q (F0 m (pc + 1) ls (.int (σ 4 x.toNatClampNeg) :: rest))) : W p l e R s m args below meth c H locs cells slots Q (F0 m pc ls (.int x :: .ref (am 4) :: rest)) :=
  x_zald (Y := (Ym G am)) C h 4 (Nat.le_of_ble_eq_true rfl) rfl hin hdg kk
theorem ln_m4 {own : String} {k : Nat} (C : Cx G p s m args meth c own cc nL ret) (h : Hp G (Ym G am) A H0 σ H locs) (hk : k < 80) (h31 : k < 2 ^ 31) (hdg : decode cc pc = .ok (.baload, 1)) (kk : W p l e R s m args below meth c H locs cells slots Q (F0 m (pc + 1) ls (.int (σ 4 k) :: rest))) : W p l e R s m args below meth c H locs cells slots Q (F0 m pc ls (.int (nI k) :: .ref (am 4) :: rest)) := by
  refine l_m4 C h (fun q => by rw [nI_clamp h31] at q; exact q.elim (nI_pos h31) (Nat.not_le.mpr hk)) hdg ?_
  rw [nI_clamp h31]
  exact kk
theorem st_m4 {own : String} {x v : Int32} (C : Cx G p s m args meth c own cc nL ret) (h : Hp G (Ym G am) A H0 σ H locs) (hv : vp_nar .boolean v = v) (hin : vp_in x 80) (hdg : decode cc pc = .ok (.bastore, 1)) (kk : ∀ (H : Heap) (locs : List Loc), Hp G (Ym G am) A H0 (set1 σ 4 x.toNatClampNeg v) H locs → W p l e R s m args below meth c H locs cells slots Q (F0 m (pc + 1) ls rest)) : W p l e R s m args below meth c H locs cells slots Q (F0 m pc ls (.int v :: .int x :: .ref (am 4) :: rest)) :=
  x_zast (Y := (Ym G am)) C h (okM G am) 4 (Nat.le_of_ble_eq_true rfl) rfl rfl hv hin hdg kk
theorem sn_m4 {own : String} {k : Nat} {v : Int32} (C : Cx G p s m args meth c own cc nL ret) (h : Hp G (Ym G am) A H0 σ H locs) (hv : vp_nar .boolean v = v) (hk : k < 80) (h31 : k < 2 ^ 31) (hdg : decode cc pc = .ok (.bastore, 1)) (kk : ∀ (H : Heap) (locs : List Loc), Hp G (Ym G am) A H0 (set1 σ 4 k v) H locs → W p l e R s m args below meth c H locs cells slots Q (F0 m (pc + 1) ls rest)) : W p l e R s m args below meth c H locs cells slots Q (F0 m pc ls (.int v :: .int (nI k) :: .ref (am 4) :: rest)) := by
  refine st_m4 C h hv (fun q => by rw [nI_clamp h31] at q; exact q.elim (nI_pos h31) (Nat.not_le.mpr hk)) hdg ?_
  rw [nI_clamp h31]
  exact kk
theorem l_m5 {own : String} {x : Int32} (C : Cx G p s m args meth c own cc nL ret) (h : Hp G (Ym G am) A H0 σ H locs) (hin : vp_in x 80) (hdg : decode cc pc = .ok (.iaload, 1)) (kk : W p l e R s m args below meth c H locs cells slots Q (F0 m (pc + 1) ls (.int (σ 5 x.toNatClampNeg) :: rest))) : W p l e R s m args below meth c H locs cells slots Q (F0 m pc ls (.int x :: .ref (am 5) :: rest)) :=
  x_iald (Y := (Ym G am)) C h 5 (Nat.le_of_ble_eq_true rfl) rfl hin hdg kk
theorem ln_m5 {own : String} {k : Nat} (C : Cx G p s m args meth c own cc nL ret) (h : Hp G (Ym G am) A H0 σ H locs) (hk : k < 80) (h31 : k < 2 ^ 31) (hdg : decode cc pc = .ok (.iaload, 1)) (kk : W p l e R s m args below meth c H locs cells slots Q (F0 m (pc + 1) ls (.int (σ 5 k) :: rest))) : W p l e R s m args below meth c H locs cells slots Q (F0 m pc ls (.int (nI k) :: .ref (am 5) :: rest)) := by
  refine l_m5 C h (fun q => by rw [nI_clamp h31] at q; exact q.elim (nI_pos h31) (Nat.not_le.mpr hk)) hdg ?_
  rw [nI_clamp h31]
  exact kk
theorem st_m5 {own : String} {x v : Int32} (C : Cx G p s m args meth c own cc nL ret) (h : Hp G (Ym G am) A H0 σ H locs) (hin : vp_in x 80) (hdg : decode cc pc = .ok (.iastore, 1)) (kk : ∀ (H : Heap) (locs : List Loc), Hp G (Ym G am) A H0 (set1 σ 5 x.toNatClampNeg v) H locs → W p l e R s m args below meth c H locs cells slots Q (F0 m (pc + 1) ls rest)) : W p l e R s m args below meth c H locs cells slots Q (F0 m pc ls (.int v :: .int x :: .ref (am 5) :: rest)) :=
  x_iast (Y := (Ym G am)) C h (okM G am) 5 (Nat.le_of_ble_eq_true rfl) rfl rfl hin hdg kk
theorem sn_m5 {own : String} {k : Nat} {v : Int32} (C : Cx G p s m args meth c own cc nL ret) (h : Hp G (Ym G am) A H0 σ H locs) (hk : k < 80) (h31 : k < 2 ^ 31) (hdg : decode cc pc = .ok (.iastore, 1)) (kk : ∀ (H : Heap) (locs : List Loc), Hp G (Ym G am) A H0 (set1 σ 5 k v) H locs → W p l e R s m args below meth c H locs cells slots Q (F0 m (pc + 1) ls rest)) : W p l e R s m args below meth c H locs cells slots Q (F0 m pc ls (.int v :: .int (nI k) :: .ref (am 5) :: rest)) := by
  refine st_m5 C h (fun q => by rw [nI_clamp h31] at q; exact q.elim (nI_pos h31) (Nat.not_le.mpr hk)) hdg ?_
  rw [nI_clamp h31]
  exact kk
theorem ln_row {own : String} {i k : Nat} (C : Cx G p s m args meth c own cc nL ret) (h : Hp G (Yc G n ad) A H0 σ H locs) (h12 : 12 ≤ i) (h48 : i < 48) (hk : k < 1024) (hdg : decode cc pc = .ok (.baload, 1)) (kk : W p l e R s m args below meth c H locs cells slots Q (F0 m (pc + 1) ls (.int (bt (σ i k)) :: rest))) : W p l e R s m args below meth c H locs cells slots Q (F0 m pc ls (.int (nI k) :: .ref (ad i) :: rest)) := by
  have h31 : k < 2 ^ 31 := by omega
  refine x_bald (Y := Yc G n ad) C h i h48 (cC_row h12 σ) (fun q => by rw [nI_clamp h31] at q; exact q.elim (nI_pos h31) (Nat.not_le.mpr hk)) hdg ?_
  rw [nI_clamp h31]
  exact kk
theorem sn_row {own : String} {i k : Nat} {v : Int32} (C : Cx G p s m args meth c own cc nL ret) (h : Hp G (Yc G n ad) A H0 σ H locs) (h12 : 12 ≤ i) (h48 : i < 48) (hk : k < 1024) (hdg : decode cc pc = .ok (.bastore, 1)) (kk : ∀ (H : Heap) (locs : List Loc), Hp G (Yc G n ad) A H0 (set1 σ i k v) H locs → W p l e R s m args below meth c H locs cells slots Q (F0 m (pc + 1) ls rest)) : W p l e R s m args below meth c H locs cells slots Q (F0 m pc ls (.int v :: .int (nI k) :: .ref (ad i) :: rest)) := by
  have h31 : k < 2 ^ 31 := by omega
  refine x_bast (Y := Yc G n ad) C h (okC G n ad) i h48 (cC_row h12) (fun q => by rw [nI_clamp h31] at q; exact q.elim (nI_pos h31) (Nat.not_le.mpr hk)) hdg ?_
  rw [nI_clamp h31]
  exact kk
theorem ln_c4 {own : String} {k : Nat} (C : Cx G p s m args meth c own cc nL ret) (h : Hp G (Yc G n ad) A H0 σ H locs) (hk : k < 34) (hdg : decode cc pc = .ok (.aaload, 1)) (kk : W p l e R s m args below meth c H locs cells slots Q (F0 m (pc + 1) ls (.ref (ad (k + 14)) :: rest))) : W p l e R s m args below meth c H locs cells slots Q (F0 m pc ls (.int (nI k) :: .ref (ad 4) :: rest)) := by
  have h31 : k < 2 ^ 31 := by omega
  refine x_aald (Y := Yc G n ad) C h 4 (Nat.le_of_ble_eq_true rfl) rfl (fun q => by rw [nI_clamp h31] at q; exact q.elim (nI_pos h31) (Nat.not_le.mpr hk)) hdg ?_
  rw [nI_clamp h31]
  exact kk
end ROWS
theorem ci_law_15 : CB R_law 15 y_BV_init b_BV_init 2 none 1 := ⟨k_10, k_1, k_12, ⟨by decide +kernel, by decide +kernel⟩, by decide +kernel⟩
theorem ci_BV_20 : CB R_BV 20 y_Pl_init b_Pl_init 2 none 1 := ⟨k_24, k_2, k_26, ⟨by decide +kernel, by decide +kernel⟩, by decide +kernel⟩
theorem ci_BV_29 : CB R_BV 29 y_Ca_init b_Ca_init 3 none 1 := ⟨k_53, k_4, k_55, ⟨by decide +kernel, by decide +kernel⟩, by decide +kernel⟩
theorem cw_Ca_36 : CW R_Ca 36 y_Ca_clear b_Ca_clear 2 none 0 := ⟨⟨k_59, k_4, k_62, ⟨by decide +kernel, by decide +kernel⟩, by decide +kernel⟩, k_60, k_61⟩
theorem ci_BV_38 : CB R_BV 38 y_Lg_init b_Lg_init 3 none 2 := ⟨k_93, k_5, k_95, ⟨by decide +kernel, by decide +kernel⟩, by decide +kernel⟩
theorem cw_law_21 : CW R_law 21 y_BV_begin b_BV_begin 1 (some .boolean) 0 := ⟨⟨k_142, k_1, k_145, ⟨by decide +kernel, by decide +kernel⟩, by decide +kernel⟩, k_143, k_144⟩
theorem cw_BV_56 : CW R_BV 56 y_Lg_begin b_Lg_begin 2 none 0 := ⟨⟨k_146, k_5, k_149, ⟨by decide +kernel, by decide +kernel⟩, by decide +kernel⟩, k_147, k_148⟩
theorem cw_law_26 : CW R_law 26 y_BV_end b_BV_end 1 (some .int) 0 := ⟨⟨k_150, k_1, k_153, ⟨by decide +kernel, by decide +kernel⟩, by decide +kernel⟩, k_151, k_152⟩
theorem cw_BV_59 : CW R_BV 59 y_Lg_end b_Lg_end 1 none 0 := ⟨⟨k_154, k_5, k_157, ⟨by decide +kernel, by decide +kernel⟩, by decide +kernel⟩, k_155, k_156⟩
theorem cw_Lg_61 : CW R_Lg 61 y_Lg_commit b_Lg_commit 2 none 0 := ⟨⟨k_158, k_5, k_161, ⟨by decide +kernel, by decide +kernel⟩, by decide +kernel⟩, k_159, k_160⟩
theorem cw_Lg_72 : CW R_Lg 72 y_Ca_find b_Ca_find 3 (some .int) 1 := ⟨⟨k_162, k_4, k_165, ⟨by decide +kernel, by decide +kernel⟩, by decide +kernel⟩, k_163, k_164⟩
theorem cw_Lg_68 : CW R_Lg 68 y_Pl_write b_Pl_write 3 none 2 := ⟨⟨k_166, k_2, k_169, ⟨by decide +kernel, by decide +kernel⟩, by decide +kernel⟩, k_167, k_168⟩
theorem cw_Lg_75 : CW R_Lg 75 y_Lg_writeHeader b_Lg_writeHeader 3 none 1 := ⟨⟨k_173, k_5, k_176, ⟨by decide +kernel, by decide +kernel⟩, by decide +kernel⟩, k_175, s_Lg_writeHeader⟩
theorem cs_Lg_64 : CS R_Lg 64 y_Lg_put b_Lg_put 4 none 3 := ⟨⟨k_177, k_5, k_179, ⟨by decide +kernel, by decide +kernel⟩, by decide +kernel⟩, k_178⟩
theorem cw_law_31 : CW R_law 31 y_BV_flush b_BV_flush 2 (some .int) 0 := ⟨⟨k_180, k_1, k_183, ⟨by decide +kernel, by decide +kernel⟩, by decide +kernel⟩, k_181, k_182⟩
theorem cw_BV_65 : CW R_BV 65 y_Lg_commit b_Lg_commit 2 none 0 := ⟨⟨k_184, k_5, k_161, ⟨by decide +kernel, by decide +kernel⟩, by decide +kernel⟩, k_159, k_160⟩
theorem cw_law_35 : CW R_law 35 y_BV_get b_BV_get 3 (some .int) 2 := ⟨⟨k_185, k_1, k_188, ⟨by decide +kernel, by decide +kernel⟩, by decide +kernel⟩, k_186, k_187⟩
theorem cw_BV_68 : CW R_BV 68 y_BV_isBlock b_BV_isBlock 2 (some .boolean) 1 := ⟨⟨k_189, k_1, k_192, ⟨by decide +kernel, by decide +kernel⟩, by decide +kernel⟩, k_191, s_BV_isBlock⟩
theorem cw_BV_72 : CW R_BV 72 y_Lg_block b_Lg_block 2 (some (.array .byte)) 1 := ⟨⟨k_193, k_5, k_196, ⟨by decide +kernel, by decide +kernel⟩, by decide +kernel⟩, k_194, k_195⟩
theorem cw_Lg_44 : CW R_Lg 44 y_Ca_take b_Ca_take 3 (some .int) 1 := ⟨⟨k_197, k_4, k_200, ⟨by decide +kernel, by decide +kernel⟩, by decide +kernel⟩, k_198, k_199⟩
theorem cw_Ca_39 : CW R_Ca 39 y_Ca_find b_Ca_find 3 (some .int) 1 := ⟨⟨k_201, k_4, k_165, ⟨by decide +kernel, by decide +kernel⟩, by decide +kernel⟩, k_163, k_164⟩
theorem cw_Ca_43 : CW R_Ca 43 y_Ca_victim b_Ca_victim 2 (some .int) 0 := ⟨⟨k_202, k_4, k_205, ⟨by decide +kernel, by decide +kernel⟩, by decide +kernel⟩, k_204, s_Ca_victim⟩
theorem cw_Ca_47 : CW R_Ca 47 y_Pl_read b_Pl_read 3 none 2 := ⟨⟨k_206, k_2, k_209, ⟨by decide +kernel, by decide +kernel⟩, by decide +kernel⟩, k_207, k_208⟩
theorem cw_Ca_55 : CW R_Ca 55 y_Ca_use b_Ca_use 2 none 1 := ⟨⟨k_210, k_4, k_213, ⟨by decide +kernel, by decide +kernel⟩, by decide +kernel⟩, k_212, s_Ca_use⟩
theorem cw_law_40 : CW R_law 40 y_BV_fill b_BV_fill 7 (some .boolean) 4 := ⟨⟨k_214, k_1, k_217, ⟨by decide +kernel, by decide +kernel⟩, by decide +kernel⟩, k_215, k_216⟩
theorem cw_BV_76 : CW R_BV 76 y_Lg_mayTouch b_Lg_mayTouch 2 (some .boolean) 1 := ⟨⟨k_218, k_5, k_221, ⟨by decide +kernel, by decide +kernel⟩, by decide +kernel⟩, k_219, k_220⟩
theorem cw_BV_79 : CW R_BV 79 y_Lg_touch b_Lg_touch 3 none 1 := ⟨⟨k_222, k_5, k_225, ⟨by decide +kernel, by decide +kernel⟩, by decide +kernel⟩, k_223, k_224⟩
theorem cw_law_45 : CW R_law 45 y_BV_cut b_BV_cut 2 (some .boolean) 1 := ⟨⟨k_226, k_1, k_229, ⟨by decide +kernel, by decide +kernel⟩, by decide +kernel⟩, k_227, k_228⟩
theorem cw_law_50 : CW R_law 50 y_BV_power b_BV_power 3 (some .int) 1 := ⟨⟨k_230, k_1, k_233, ⟨by decide +kernel, by decide +kernel⟩, by decide +kernel⟩, k_231, k_232⟩
theorem cw_BV_85 : CW R_BV 85 y_Lg_recover b_Lg_recover 3 (some .int) 0 := ⟨⟨k_234, k_5, k_237, ⟨by decide +kernel, by decide +kernel⟩, by decide +kernel⟩, k_235, k_236⟩
theorem cw_Lg_85 : CW R_Lg 85 y_Ca_clear b_Ca_clear 2 none 0 := ⟨⟨k_238, k_4, k_62, ⟨by decide +kernel, by decide +kernel⟩, by decide +kernel⟩, k_60, k_61⟩
theorem cw_Lg_88 : CW R_Lg 88 y_Pl_read b_Pl_read 3 none 2 := ⟨⟨k_239, k_2, k_209, ⟨by decide +kernel, by decide +kernel⟩, by decide +kernel⟩, k_207, k_208⟩
theorem cs_Lg_91 : CS R_Lg 91 y_Lg_get b_Lg_get 4 (some .int) 2 := ⟨⟨k_240, k_5, k_242, ⟨by decide +kernel, by decide +kernel⟩, by decide +kernel⟩, k_241⟩
theorem cw_law_55 : CW R_law 55 y_BV_count b_BV_count 2 (some .int) 1 := ⟨⟨k_243, k_1, k_246, ⟨by decide +kernel, by decide +kernel⟩, by decide +kernel⟩, k_244, k_245⟩
theorem cw_law_59 : CW R_law 59 y_BV_held b_BV_held 2 (some .boolean) 1 := ⟨⟨k_247, k_1, k_250, ⟨by decide +kernel, by decide +kernel⟩, by decide +kernel⟩, k_248, k_249⟩
theorem cw_BV_101 : CW R_BV 101 y_Ca_find b_Ca_find 3 (some .int) 1 := ⟨⟨k_251, k_4, k_165, ⟨by decide +kernel, by decide +kernel⟩, by decide +kernel⟩, k_163, k_164⟩
theorem cw_law_63 : CW R_law 63 y_BV_cached b_BV_cached 2 (some .boolean) 1 := ⟨⟨k_252, k_1, k_255, ⟨by decide +kernel, by decide +kernel⟩, by decide +kernel⟩, k_253, k_254⟩
theorem cs_law_9 : CS R_law 9 y_law_cell b_law_cell 2 (some .int) 2 := ⟨⟨k_256, k_0, k_258, ⟨by decide +kernel, by decide +kernel⟩, by decide +kernel⟩, k_257⟩
theorem ci_law_20 : CB R_law 20 y_Md_init b_Md_init 2 none 1 := ⟨k_261, k_6, k_263, ⟨by decide +kernel, by decide +kernel⟩, by decide +kernel⟩
theorem cw_law_25 : CW R_law 25 y_Md_begin b_Md_begin 2 (some .boolean) 0 := ⟨⟨k_312, k_6, k_315, ⟨by decide +kernel, by decide +kernel⟩, by decide +kernel⟩, k_313, k_314⟩
theorem cw_law_30 : CW R_law 30 y_Md_end b_Md_end 2 (some .int) 0 := ⟨⟨k_316, k_6, k_319, ⟨by decide +kernel, by decide +kernel⟩, by decide +kernel⟩, k_317, k_318⟩
theorem cs_Md_51 : CS R_Md 51 y_Md_many b_Md_many 3 (some .int) 1 := ⟨⟨k_320, k_6, k_322, ⟨by decide +kernel, by decide +kernel⟩, by decide +kernel⟩, k_321⟩
theorem cw_Md_66 : CW R_Md 66 y_Md_commit b_Md_commit 4 (some .boolean) 0 := ⟨⟨k_323, k_6, k_326, ⟨by decide +kernel, by decide +kernel⟩, by decide +kernel⟩, k_325, s_Md_commit⟩
theorem cw_Md_55 : CW R_Md 55 y_Md_written b_Md_written 2 (some .boolean) 1 := ⟨⟨k_327, k_6, k_330, ⟨by decide +kernel, by decide +kernel⟩, by decide +kernel⟩, k_329, s_Md_written⟩
theorem cw_Md_62 : CW R_Md 62 y_Md_ended b_Md_ended 2 (some .boolean) 0 := ⟨⟨k_331, k_6, k_334, ⟨by decide +kernel, by decide +kernel⟩, by decide +kernel⟩, k_333, s_Md_ended⟩
theorem cw_law_34 : CW R_law 34 y_Md_flush b_Md_flush 2 (some .int) 0 := ⟨⟨k_335, k_6, k_338, ⟨by decide +kernel, by decide +kernel⟩, by decide +kernel⟩, k_336, k_337⟩
theorem cw_law_39 : CW R_law 39 y_Md_get b_Md_get 3 (some .int) 2 := ⟨⟨k_339, k_6, k_342, ⟨by decide +kernel, by decide +kernel⟩, by decide +kernel⟩, k_340, k_341⟩
theorem cw_Md_75 : CW R_Md 75 y_Md_isBlock b_Md_isBlock 2 (some .boolean) 1 := ⟨⟨k_343, k_6, k_346, ⟨by decide +kernel, by decide +kernel⟩, by decide +kernel⟩, k_345, s_Md_isBlock⟩
theorem cw_Md_78 : CW R_Md 78 y_Md_look b_Md_look 5 none 1 := ⟨⟨k_347, k_6, k_350, ⟨by decide +kernel, by decide +kernel⟩, by decide +kernel⟩, k_349, s_Md_look⟩
theorem cw_law_44 : CW R_law 44 y_Md_fill b_Md_fill 6 (some .boolean) 4 := ⟨⟨k_351, k_6, k_354, ⟨by decide +kernel, by decide +kernel⟩, by decide +kernel⟩, k_352, k_353⟩
theorem cw_law_49 : CW R_law 49 y_Md_cut b_Md_cut 2 (some .boolean) 1 := ⟨⟨k_355, k_6, k_358, ⟨by decide +kernel, by decide +kernel⟩, by decide +kernel⟩, k_356, k_357⟩
theorem cw_law_54 : CW R_law 54 y_Md_power b_Md_power 3 (some .int) 1 := ⟨⟨k_359, k_6, k_362, ⟨by decide +kernel, by decide +kernel⟩, by decide +kernel⟩, k_360, k_361⟩
theorem cw_law_58 : CW R_law 58 y_Md_count b_Md_count 2 (some .int) 1 := ⟨⟨k_363, k_6, k_366, ⟨by decide +kernel, by decide +kernel⟩, by decide +kernel⟩, k_364, k_365⟩
theorem cw_law_62 : CW R_law 62 y_Md_held b_Md_held 2 (some .boolean) 1 := ⟨⟨k_367, k_6, k_370, ⟨by decide +kernel, by decide +kernel⟩, by decide +kernel⟩, k_368, k_369⟩
theorem cw_law_66 : CW R_law 66 y_Md_cached b_Md_cached 2 (some .boolean) 1 := ⟨⟨k_371, k_6, k_374, ⟨by decide +kernel, by decide +kernel⟩, by decide +kernel⟩, k_372, k_373⟩
end
section
theorem f_le {a b : Nat} (h : nI a ≤ nI b) (ha : a < 2 ^ 31) (hb : b < 2 ^ 31) (hn : b < a) : False := absurd ((nI_leI ha hb).mp h) (by omega)
theorem f_nle {a b : Nat} (h : ¬ nI a ≤ nI b) (ha : a < 2 ^ 31) (hb : b < 2 ^ 31) (hn : a ≤ b) : False := h ((nI_leI ha hb).mpr hn)
theorem f_lt {a b : Nat} (h : nI a < nI b) (ha : a < 2 ^ 31) (hb : b < 2 ^ 31) (hn : b ≤ a) : False := absurd ((nI_ltI ha hb).mp h) (by omega)
theorem f_nlt {a b : Nat} (h : ¬ nI a < nI b) (ha : a < 2 ^ 31) (hb : b < 2 ^ 31) (hn : a < b) : False := h ((nI_ltI ha hb).mpr hn)
theorem f_eq {a b : Nat} (h : nI a = nI b) (ha : a < 2 ^ 31) (hb : b < 2 ^ 31) (hn : a ≠ b) : False := hn ((nI_eq ha hb).mp h)
theorem f_ne {a b : Nat} (h : ¬ nI a = nI b) (hn : a = b) : False := h (by rw [hn])
theorem inc1 (k : Nat) : nI k + Int32.ofInt 1 = nI (k + 1) := nI_1 k
theorem m1_ne {k : Nat} (h : k < 2 ^ 31) : nI k ≠ -1 := by
  intro q
  have e := nI_toInt h
  rw [q] at e
  have : (-1 : Int32).toInt = -1 := by decide
  omega
section INC
variable {p : Program} {l : Launch} {e : Env} {R : Room} {s : State} {m : MethodId} {args : Array Value} {below : List Frame} {meth : Method} {c : Code} {H : Heap} {locs : List Loc} {cells slots : Nat} {Q : State → Prop}
variable {cc : ByteArray} {pc : Nat} {ls : Array Slot} {rest : List Value}
theorem x_iinc (hexec : p.tables.exec = Jvm.exec) (hb : c.code = cc) {i nL : Nat} {n : Int} {x v : Int32} {lv : List (Nat × Value)} (hdg : decode cc pc = .ok (.iinc i n, 3)) (h : lv_has ls nL lv) (hk : lv.lookup i = some (.int x)) (hv : x + Int32.ofInt n = v) (hn : i < nL)
    (kk : ∀ ls : Array Slot, lv_has ls nL ((i, Value.int v) :: lv.filter (fun q => !(q.1 == i) && !(q.1 + 1 == i && q.2.category == 2))) → W p l e R s m args below meth c H locs cells slots Q (F0 m (pc + 3) ls rest)) : W p l e R s m args below meth c H locs cells slots Q (F0 m pc ls rest) := by
  have hm : (i, Value.int x) ∈ lv := by
    clear h kk
    induction lv with
    | nil => cases hk
    | cons q t ih =>
      obtain ⟨j, w⟩ := q
      rw [List.lookup_cons] at hk
      by_cases hj : i = j
      · subst hj
        simp at hk
        subst hk
        exact List.mem_cons_self
      · have : (i == j) = false := by simpa using hj
        rw [this] at hk
        exact List.mem_cons_of_mem _ (ih hk)
  obtain ⟨k, hk'⟩ := List.getElem?_of_mem hm
  exact lv_iinc hexec hb hdg h hk' hv hn rfl kk
end INC
end
section
/-! WHAT THE COMPONENT's METHODS COMPUTE, as functions of its state -/
theorem st_ne {σ : Sg} {i k j : Nat} {v : Int32} (h : j ≠ i) : set1 σ i k v j = σ j := va_up_ne _ _ h
theorem st_self {σ : Sg} {i k : Nat} {v : Int32} : set1 σ i k v i = upd (σ i) k v := va_up_self _ _ _
theorem st_eq {σ : Sg} {i k : Nat} {v : Int32} : set1 σ i k v i k = v := by rw [st_self]; exact pk_us
theorem st_nk {σ : Sg} {i k k' : Nat} {v : Int32} (h : k' ≠ k) : set1 σ i k v i k' = σ i k' := by rw [st_self]; exact pk_un h
/-- for k in [k, k + d) -/
def itr (f : Nat → Sg → Sg) : Nat → Nat → Sg → Sg
  | 0, _, σ => σ
  | d + 1, k, σ => itr f d (k + 1) (f k σ)
-- the platter
def pw (σ : Sg) (b i : Nat) : Sg :=
  if σ 1 4 ≠ 0 ∨ σ 1 3 = 0 then set1 σ 1 4 1
  else
    let s1 := set1 σ 1 3 (if 0 < σ 1 3 then σ 1 3 - 1 else σ 1 3)
    let s2 := set1 s1 1 2 (s1 1 2 + 1)
    va_up s2 2 (va_cpy (s2 i) (s2 2) 0 (1024 * b) 1024)
def prd (σ : Sg) (b i : Nat) : Sg := va_up σ i (va_cpy (σ 2) (σ i) (1024 * b) 0 1024)
-- the cache
def fdN (f : Nat → Int32) (b : Int32) : Nat → Nat → Nat
  | 0, k => k
  | d + 1, k => if f k = b then k else fdN f b d (k + 1)
def fd (σ : Sg) (b : Int32) : Nat := fdN (σ 5) b 34 0
def fdr (σ : Sg) (b : Int32) : Int32 := if fd σ b < 34 then nI (fd σ b) else -1
def clr (σ : Sg) : Sg := itr (fun k σ => set1 (set1 σ 5 k (-1)) 6 k 0) 34 0 σ
def RingIn (σ : Sg) : Prop := ∀ j, j < 35 → vp_in (σ 7 j) 35 ∧ vp_in (σ 8 j) 35
def us (σ : Sg) (k : Nat) : Sg :=
  let s1 := set1 σ 7 (σ 8 k).toNatClampNeg (σ 7 k)
  let s2 := set1 s1 8 (s1 7 k).toNatClampNeg (s1 8 k)
  let s3 := set1 s2 7 k (s2 7 34)
  let s4 := set1 s3 8 k (nI 34)
  let s5 := set1 s4 8 (s4 7 34).toNatClampNeg (nI k)
  set1 s5 7 34 (nI k)
/-- a path back over rows that are held, to one that isn't -/
def Pth (f g : Nat → Int32) : Nat → List Nat → Nat → Prop
  | x, [], v => f x = nI v ∧ v < 34 ∧ g v = 0
  | x, y :: t, v => f x = nI y ∧ y < 34 ∧ g y ≠ 0 ∧ Pth f g y t v
def Vc (σ : Sg) (v : Nat) : Prop := (fd σ (-1) < 34 ∧ v = fd σ (-1)) ∨ (¬ fd σ (-1) < 34 ∧ ∃ R, Pth (σ 8) (σ 6) 34 R v)
def TR (σ : Sg) (b k : Nat) : Prop := (fd σ (nI b) < 34 ∧ k = fd σ (nI b)) ∨ (¬ fd σ (nI b) < 34 ∧ Vc σ k)
def tk0 (σ : Sg) (b k : Nat) : Sg :=
  let s1 := set1 σ 5 k (nI b)
  let s2 := prd s1 b (k + 14)
  set1 s2 3 6 (s2 3 6 + 1)
def tk (σ : Sg) (b k : Nat) : Sg := us (if fd σ (nI b) < 34 then σ else tk0 σ b k) k
-- the log
def tch (σ : Sg) (b k : Nat) : Sg :=
  let s0 := tk σ b k
  let s1 := if s0 6 k = 0 then
      let a1 := set1 s0 6 k 1
      let a2 := set1 a1 10 (a1 9 6).toNatClampNeg (nI b)
      set1 a2 9 6 (a2 9 6 + 1)
    else s0
  if s1 11 b = 0 then
    let a1 := set1 s1 11 b 1
    set1 a1 9 7 (a1 9 7 + 1)
  else s1
def lgb (n : Nat) (σ : Sg) : Sg := itr (fun k σ => set1 σ 11 k 0) n 0 (set1 (set1 σ 9 9 1) 9 7 0)
def put4 (i at_ : Nat) (v : Int32) (σ : Sg) : Sg := itr (fun k σ => set1 σ i (at_ + k) (v >>> ((8 * nI k) &&& 31)).toInt8.toInt32) 4 0 σ
def get4N (f : Nat → Int32) (at_ : Nat) : Nat → Int32 → Int32
  | 0, v => v
  | d + 1, v => get4N f at_ d ((v <<< ((8 : Int32) &&& 31)) ||| (bt (f (at_ + d)) &&& 255))
def get4 (σ : Sg) (i at_ : Nat) : Int32 := get4N (σ i) at_ 4 0
def wh (σ : Sg) (n : Nat) : Sg := pw (itr (fun k σ => put4 12 (4 + 4 * k) (σ 10 k) σ) n 0 (put4 12 0 (nI n) σ)) 2 12
/-- row of a block's home -/
def rw_ (σ : Sg) (k : Nat) : Nat := fd σ (σ 10 k) + 14
def cmt (σ : Sg) (sz : Nat) : Sg :=
  if sz = 0 then σ else
  let s1 := itr (fun k σ => pw σ (3 + k) (rw_ σ k)) sz 0 σ
  let s2 := wh s1 sz
  let s3 := set1 s2 9 8 (s2 9 8 + (if s2 1 4 = 0 then 1 else 0))
  let s4 := itr (fun k σ => pw σ (σ 10 k).toNatClampNeg (rw_ σ k)) sz 0 s3
  let s5 := wh s4 0
  let s6 := itr (fun k σ => set1 σ 6 (fd σ (σ 10 k)) 0) sz 0 s5
  set1 s6 9 6 0
def lend (σ : Sg) (sz : Nat) : Sg := let s1 := set1 σ 9 9 0; if 20 < sz then cmt s1 sz else s1
def rcv0 (σ : Sg) : Sg := prd (set1 (set1 (clr σ) 9 9 0) 9 6 0) 2 12
def rcv (σ : Sg) (u : Nat) : Sg :=
  let s1 := itr (fun k σ => let a1 := set1 σ 10 k (get4 σ 12 (4 + 4 * k)); let a2 := prd a1 (3 + k) 13; pw a2 (a2 10 k).toNatClampNeg 13) u 0 (rcv0 σ)
  if u = 0 then s1 else wh s1 0
theorem fdN_le (f : Nat → Int32) (b : Int32) : ∀ d k, fdN f b d k ≤ k + d := by
  intro d
  induction d with
  | zero => intro k; exact Nat.le_refl _
  | succ d ih =>
    intro k
    simp only [fdN]
    split
    · omega
    · have := ih (k + 1); omega
theorem RingIn_tk0 {σ : Sg} {b k : Nat} (h : RingIn σ) : RingIn (tk0 σ b k) := by
  intro j hj
  have e7 : tk0 σ b k 7 = σ 7 := by
    simp only [tk0, set1, prd]
    rw [va_up_ne _ _ (by decide), va_up_ne _ _ (by omega), va_up_ne _ _ (by decide)]
  have e8 : tk0 σ b k 8 = σ 8 := by
    simp only [tk0, set1, prd]
    rw [va_up_ne _ _ (by decide), va_up_ne _ _ (by omega), va_up_ne _ _ (by decide)]
  rw [e7, e8]
  exact h j hj
def kd : Nat → Int32
  | 0 => -1
  | d + 1 => nI d
theorem kd_dec (d : Nat) : nI d + Int32.ofInt (-1) = kd d := by
  cases d with
  | zero => decide
  | succ d => exact pk_m1 d
theorem pw_ne {σ : Sg} {b i j : Nat} (h1 : j ≠ 1) (h2 : j ≠ 2) : pw σ b i j = σ j := by
  simp only [pw]
  split
  · rw [st_ne h1]
  · rw [va_up_ne _ _ h2, st_ne h1, st_ne h1]
theorem prd_ne {σ : Sg} {b i j : Nat} (h1 : j ≠ i) : prd σ b i j = σ j := va_up_ne _ _ h1
theorem itr_ne {f : Nat → Sg → Sg} {j : Nat} (h : ∀ k σ, f k σ j = σ j) : ∀ d k σ, itr f d k σ j = σ j := by
  intro d
  induction d with
  | zero => intro k σ; rfl
  | succ d ih => intro k σ; rw [itr, ih, h]
theorem put4_ne {i a j : Nat} {v : Int32} {σ : Sg} (h : j ≠ i) : put4 i a v σ j = σ j := itr_ne (fun _ _ => st_ne h) 4 0 σ
theorem wh_ne {σ : Sg} {u j : Nat} (h1 : j ≠ 1) (h2 : j ≠ 2) (h3 : j ≠ 12) : wh σ u j = σ j := by
  rw [wh, pw_ne h1 h2, itr_ne (fun _ _ => put4_ne h3), put4_ne h3]
theorem fd_congr {σ σ' : Sg} (h : σ 5 = σ' 5) (b : Int32) : fd σ b = fd σ' b := by rw [fd, fd, h]
end
section
section W21
variable {p : Program} {l : Launch} {e : Env} {R : Room} {s : State} {m : MethodId} {args : Array Value} {below : List Frame} {meth : Method} {c : Code} {H : Heap} {locs : List Loc} {cells slots : Nat} {Q : State → Prop}
variable {G : Gx} {n : Nat} {ad am : Nat → Nat} {A : Nat → Prop} {H0 : Heap} {ret : Option FieldType}
theorem c_Pl_read (l : Launch) (G : Gx) (n : Nat) (ad : Nat → Nat) (σ : Sg) (b i : Nat) (hbn : b < n) (hn : n ≤ 80) (h12 : 12 ≤ i) (h48 : i < 48) : MV l G (Yc G n ad) y_Pl_read b_Pl_read 3 none 1 σ [.ref (ad 1), .int (nI b), .ref (ad i)] (prd σ b i) := by
  refine go rfl (Nat.le_of_ble_eq_true rfl) (fun p e s m below meth c ls C h hl => ?_)
  have hx := C.1
  have hb := C.2.1
  refine lv_aload_n hx hb d_Pl_read_0 rfl (lk hl rfl) ?_
  refine g_Pl_18 C h d_Pl_read_1 ?_
  refine lv_sipush (v := nI 1024) hx hb d_Pl_read_4 (by decide) ?_
  refine lv_iload_n hx hb d_Pl_read_7 rfl (lk hl rfl) ?_
  refine lv_imul hx hb d_Pl_read_8 ?_
  refine top (pk_mul 1024 b) ?_
  refine lv_aload_n hx hb d_Pl_read_9 rfl (lk hl rfl) ?_
  refine lv_iconst (v := nI 0) hx hb d_Pl_read_10 (by decide) ?_
  refine lv_sipush (v := nI 1024) hx hb d_Pl_read_11 (by decide) ?_
  refine x_copy (Y := Yc G n ad) C hl.1 h (okC G n ad) 2 i (Nat.le_of_ble_eq_true rfl) h48 (fun _ => rfl) (cC_row h12) (1024 * b) 0 1024 (by omega) (by omega) (by omega) (by omega) (by omega) (Nat.le_of_ble_eq_true rfl) (Nat.le_of_ble_eq_true rfl) d_Pl_read_14 (fun H locs h => ?_)
  exact x_vret C h d_Pl_read_17 (rfl)
theorem c_Pl_write (l : Launch) (G : Gx) (n : Nat) (ad : Nat → Nat) (σ : Sg) (b i : Nat) (hbn : b < n) (hn : n ≤ 80) (h12 : 12 ≤ i) (h48 : i < 48) : MV l G (Yc G n ad) y_Pl_write b_Pl_write 3 none 1 σ [.ref (ad 1), .int (nI b), .ref (ad i)] (pw σ b i) := by
  refine go rfl (Nat.le_of_ble_eq_true rfl) (fun p e s m below meth c ls C h hl => ?_)
  have hx := C.1
  have hb := C.2.1
  refine lv_aload_n hx hb d_Pl_write_0 rfl (lk hl rfl) ?_
  refine g_Pl_28 C h d_Pl_write_1 ?_
  refine lv_if_ne (tgt := 14) hx hb d_Pl_write_4 (by decide) (fun c_4 => ?_) (fun c_4 => ?_)
  · refine lv_aload_n hx hb d_Pl_write_14 rfl (lk hl rfl) ?_
    refine lv_iconst (v := 1) hx hb d_Pl_write_15 (by decide) ?_
    refine p_Pl_28 C h d_Pl_write_16 rfl rfl (fun H locs h => ?_)
    exact x_vret C h d_Pl_write_19 (by simp only [pw]; first | rw [if_pos (by first | exact Or.inl c_4 | exact Or.inr c_11)] | (rw [if_neg (by rintro (q | q); exact q c_4; exact c_11 q)]; first | rw [if_pos (Int32.not_le.mp c_25)] | rw [if_neg (Int32.not_lt.mpr c_25)]))
  · refine lv_aload_n hx hb d_Pl_write_7 rfl (lk hl rfl) ?_
    refine g_Pl_9 C h d_Pl_write_8 ?_
    refine lv_if_ne (tgt := 20) hx hb d_Pl_write_11 (by decide) (fun c_11 => ?_) (fun c_11 => ?_)
    · refine lv_aload_n hx hb d_Pl_write_20 rfl (lk hl rfl) ?_
      refine lv_aload_n hx hb d_Pl_write_21 rfl (lk hl rfl) ?_
      refine g_Pl_9 C h d_Pl_write_22 ?_
      refine lv_if_le (tgt := 37) hx hb d_Pl_write_25 (by decide) (fun c_25 => ?_) (fun c_25 => ?_)
      · refine lv_aload_n hx hb d_Pl_write_37 rfl (lk hl rfl) ?_
        refine g_Pl_9 C h d_Pl_write_38 ?_
        refine p_Pl_9 C h d_Pl_write_41 (fun H locs h => ?_)
        refine lv_aload_n hx hb d_Pl_write_44 rfl (lk hl rfl) ?_
        refine lv_dup hx hb d_Pl_write_45 rfl ?_
        refine g_Pl_32 C h d_Pl_write_46 ?_
        refine lv_iconst (v := 1) hx hb d_Pl_write_49 (by decide) ?_
        refine lv_iadd hx hb d_Pl_write_50 ?_
        refine p_Pl_32 C h d_Pl_write_51 (fun H locs h => ?_)
        refine lv_aload_n hx hb d_Pl_write_54 rfl (lk hl rfl) ?_
        refine lv_iconst (v := nI 0) hx hb d_Pl_write_55 (by decide) ?_
        refine lv_aload_n hx hb d_Pl_write_56 rfl (lk hl rfl) ?_
        refine g_Pl_18 C h d_Pl_write_57 ?_
        refine lv_sipush (v := nI 1024) hx hb d_Pl_write_60 (by decide) ?_
        refine lv_iload_n hx hb d_Pl_write_63 rfl (lk hl rfl) ?_
        refine lv_imul hx hb d_Pl_write_64 ?_
        refine top (pk_mul 1024 b) ?_
        refine lv_sipush (v := nI 1024) hx hb d_Pl_write_65 (by decide) ?_
        refine x_copy (Y := Yc G n ad) C hl.1 h (okC G n ad) i 2 h48 (Nat.le_of_ble_eq_true rfl) (cC_row h12) (fun _ => rfl) 0 (1024 * b) 1024 (by omega) (by omega) (by omega) (by omega) (by omega) (Nat.le_of_ble_eq_true rfl) (Nat.le_of_ble_eq_true rfl) d_Pl_write_68 (fun H locs h => ?_)
        exact x_vret C h d_Pl_write_71 (by simp only [pw]; first | rw [if_pos (by first | exact Or.inl c_4 | exact Or.inr c_11)] | (rw [if_neg (by rintro (q | q); exact q c_4; exact c_11 q)]; first | rw [if_pos (Int32.not_le.mp c_25)] | rw [if_neg (Int32.not_lt.mpr c_25)]))
      · refine lv_aload_n hx hb d_Pl_write_28 rfl (lk hl rfl) ?_
        refine g_Pl_9 C h d_Pl_write_29 ?_
        refine lv_iconst (v := 1) hx hb d_Pl_write_32 (by decide) ?_
        refine lv_isub hx hb d_Pl_write_33 ?_
        refine lv_goto (tgt := 41) hx hb d_Pl_write_34 (by decide) ?_
        refine p_Pl_9 C h d_Pl_write_41 (fun H locs h => ?_)
        refine lv_aload_n hx hb d_Pl_write_44 rfl (lk hl rfl) ?_
        refine lv_dup hx hb d_Pl_write_45 rfl ?_
        refine g_Pl_32 C h d_Pl_write_46 ?_
        refine lv_iconst (v := 1) hx hb d_Pl_write_49 (by decide) ?_
        refine lv_iadd hx hb d_Pl_write_50 ?_
        refine p_Pl_32 C h d_Pl_write_51 (fun H locs h => ?_)
        refine lv_aload_n hx hb d_Pl_write_54 rfl (lk hl rfl) ?_
        refine lv_iconst (v := nI 0) hx hb d_Pl_write_55 (by decide) ?_
        refine lv_aload_n hx hb d_Pl_write_56 rfl (lk hl rfl) ?_
        refine g_Pl_18 C h d_Pl_write_57 ?_
        refine lv_sipush (v := nI 1024) hx hb d_Pl_write_60 (by decide) ?_
        refine lv_iload_n hx hb d_Pl_write_63 rfl (lk hl rfl) ?_
        refine lv_imul hx hb d_Pl_write_64 ?_
        refine top (pk_mul 1024 b) ?_
        refine lv_sipush (v := nI 1024) hx hb d_Pl_write_65 (by decide) ?_
        refine x_copy (Y := Yc G n ad) C hl.1 h (okC G n ad) i 2 h48 (Nat.le_of_ble_eq_true rfl) (cC_row h12) (fun _ => rfl) 0 (1024 * b) 1024 (by omega) (by omega) (by omega) (by omega) (by omega) (Nat.le_of_ble_eq_true rfl) (Nat.le_of_ble_eq_true rfl) d_Pl_write_68 (fun H locs h => ?_)
        exact x_vret C h d_Pl_write_71 (by simp only [pw]; first | rw [if_pos (by first | exact Or.inl c_4 | exact Or.inr c_11)] | (rw [if_neg (by rintro (q | q); exact q c_4; exact c_11 q)]; first | rw [if_pos (Int32.not_le.mp c_25)] | rw [if_neg (Int32.not_lt.mpr c_25)]))
    · refine lv_aload_n hx hb d_Pl_write_14 rfl (lk hl rfl) ?_
      refine lv_iconst (v := 1) hx hb d_Pl_write_15 (by decide) ?_
      refine p_Pl_28 C h d_Pl_write_16 rfl rfl (fun H locs h => ?_)
      exact x_vret C h d_Pl_write_19 (by simp only [pw]; first | rw [if_pos (by first | exact Or.inl c_4 | exact Or.inr c_11)] | (rw [if_neg (by rintro (q | q); exact q c_4; exact c_11 q)]; first | rw [if_pos (Int32.not_le.mp c_25)] | rw [if_neg (Int32.not_lt.mpr c_25)]))
theorem lp_Ca_find {b : Int32} {σ : Sg} (C : Cx G p s m args meth c R_Ca b_Ca_find 3 ret) (h : Hp G (Yc G n ad) A H0 σ H locs) : ∀ (d k : Nat), k + d = 34 → ∀ ls : Array Slot, lv_has ls 3 [(0, .ref (ad 3)), (1, .int b), (2, .int (nI k))] → (∀ ls : Array Slot, lv_has ls 3 [(0, .ref (ad 3)), (1, .int b), (2, .int (nI (fdN (σ 5) b d k)))] → W p l e R s m args below meth c H locs cells slots Q (F0 m 24 ls [])) → W p l e R s m args below meth c H locs cells slots Q (F0 m 2 ls []) := by
  have hx := C.1
  have hb := C.2.1
  intro d
  induction d with
  | zero =>
    intro k hk ls hl K
    refine lv_iload_n hx hb d_Ca_find_2 rfl (lk hl rfl) ?_
    refine lv_bipush (v := nI 34) hx hb d_Ca_find_3 (by decide) ?_
    refine lv_icmp_ge (tgt := 24) hx hb d_Ca_find_5 (by decide) (fun c_5 => ?_) (fun c_5 => False.elim (f_nle c_5 (by omega) (by omega) (by omega)))
    exact K ls (lv_re hl _ rfl)
  | succ d ih =>
    intro k hk ls hl K
    refine lv_iload_n hx hb d_Ca_find_2 rfl (lk hl rfl) ?_
    refine lv_bipush (v := nI 34) hx hb d_Ca_find_3 (by decide) ?_
    refine lv_icmp_ge (tgt := 24) hx hb d_Ca_find_5 (by decide) (fun c_5 => False.elim (f_le c_5 (by omega) (by omega) (by omega))) (fun c_5 => ?_)
    refine lv_aload_n hx hb d_Ca_find_8 rfl (lk hl rfl) ?_
    refine g_Ca_18 C h d_Ca_find_9 ?_
    refine lv_iload_n hx hb d_Ca_find_12 rfl (lk hl rfl) ?_
    refine ln_c5 C h (by omega) (by omega) d_Ca_find_13 ?_
    refine lv_iload_n hx hb d_Ca_find_14 rfl (lk hl rfl) ?_
    refine lv_icmp_eq (tgt := 24) hx hb d_Ca_find_15 (by decide) (fun c_15 => ?_) (fun c_15 => ?_)
    · exact K ls (lv_re hl _ (by simp only [fdN]; rw [if_pos c_15]; rfl))
    · refine x_iinc (v := nI (k + 1)) hx hb d_Ca_find_18 hl rfl (inc1 k) (by decide) (fun ls hl => ?_)
      refine lv_goto (tgt := 2) hx hb d_Ca_find_21 (by decide) ?_
      exact ih (k + 1) (by omega) ls (lv_re hl _ rfl) (fun ls hl => K ls (lv_re hl _ (by simp only [fdN]; rw [if_neg c_15]; rfl)))
theorem c_Ca_find (l : Launch) (G : Gx) (n : Nat) (ad : Nat → Nat) (σ : Sg) (b : Int32) : MI l G (Yc G n ad) y_Ca_find b_Ca_find 3 (some .int) 0 σ [.ref (ad 3), .int b] (fdr σ b) σ := by
  refine go rfl (Nat.le_of_ble_eq_true rfl) (fun p e s m below meth c ls C h hl => ?_)
  have hx := C.1
  have hb := C.2.1
  refine lv_iconst (v := nI 0) hx hb d_Ca_find_0 (by decide) ?_
  refine lv_istore_n hx hb d_Ca_find_1 rfl hl (by decide) rfl (fun ls hl => ?_)
  refine lp_Ca_find C h 34 0 rfl ls (lv_re hl _ rfl) (fun ls hl => ?_)
  have hf : fdN (σ 5) b 34 0 = fd σ b := rfl
  rw [hf] at hl
  by_cases hlt : fd σ b < 34
  · refine lv_iload_n hx hb d_Ca_find_24 rfl (lk hl rfl) ?_
    refine lv_bipush (v := nI 34) hx hb d_Ca_find_25 (by decide) ?_
    refine lv_icmp_ge (tgt := 34) hx hb d_Ca_find_27 (by decide) (fun c_27 => False.elim (f_le c_27 (by omega) (by omega) (by omega))) (fun c_27 => ?_)
    refine lv_iload_n hx hb d_Ca_find_30 rfl (lk hl rfl) ?_
    refine lv_goto (tgt := 35) hx hb d_Ca_find_31 (by decide) ?_
    exact x_iret C h d_Ca_find_35 (by rw [fdr, if_pos hlt]) (rfl)
  · have hle : fd σ b ≤ 34 := fdN_le _ _ 34 0
    refine lv_iload_n hx hb d_Ca_find_24 rfl (lk hl rfl) ?_
    refine lv_bipush (v := nI 34) hx hb d_Ca_find_25 (by decide) ?_
    refine lv_icmp_ge (tgt := 34) hx hb d_Ca_find_27 (by decide) (fun c_27 => ?_) (fun c_27 => False.elim (f_nle c_27 (by omega) (by omega) (by omega)))
    refine lv_iconst (v := (-1)) hx hb d_Ca_find_34 (by decide) ?_
    exact x_iret C h d_Ca_find_35 (by rw [fdr, if_neg hlt]) (rfl)
theorem lp_Ca_clear (C : Cx G p s m args meth c R_Ca b_Ca_clear 2 ret) : ∀ (d k : Nat), k + d = 34 → ∀ (σ : Sg) (H : Heap) (locs : List Loc), Hp G (Yc G n ad) A H0 σ H locs → ∀ ls : Array Slot, lv_has ls 2 [(0, .ref (ad 3)), (1, .int (nI k))] → (∀ (H : Heap) (locs : List Loc), Hp G (Yc G n ad) A H0 (itr (fun k σ => set1 (set1 σ 5 k (-1)) 6 k 0) d k σ) H locs → ∀ ls : Array Slot, W p l e R s m args below meth c H locs cells slots Q (F0 m 28 ls [])) → W p l e R s m args below meth c H locs cells slots Q (F0 m 2 ls []) := by
  have hx := C.1
  have hb := C.2.1
  intro d
  induction d with
  | zero =>
    intro k hk σ H locs h ls hl K
    refine lv_iload_n hx hb d_Ca_clear_2 rfl (lk hl rfl) ?_
    refine lv_bipush (v := nI 34) hx hb d_Ca_clear_3 (by decide) ?_
    refine lv_icmp_ge (tgt := 28) hx hb d_Ca_clear_5 (by decide) (fun c_5 => ?_) (fun c_5 => False.elim (f_nle c_5 (by omega) (by omega) (by omega)))
    exact K H locs h ls
  | succ d ih =>
    intro k hk σ H locs h ls hl K
    refine lv_iload_n hx hb d_Ca_clear_2 rfl (lk hl rfl) ?_
    refine lv_bipush (v := nI 34) hx hb d_Ca_clear_3 (by decide) ?_
    refine lv_icmp_ge (tgt := 28) hx hb d_Ca_clear_5 (by decide) (fun c_5 => False.elim (f_le c_5 (by omega) (by omega) (by omega))) (fun c_5 => ?_)
    refine lv_aload_n hx hb d_Ca_clear_8 rfl (lk hl rfl) ?_
    refine g_Ca_18 C h d_Ca_clear_9 ?_
    refine lv_iload_n hx hb d_Ca_clear_12 rfl (lk hl rfl) ?_
    refine lv_iconst (v := (-1)) hx hb d_Ca_clear_13 (by decide) ?_
    refine sn_c5 C h (by omega) (by omega) d_Ca_clear_14 (fun H locs h => ?_)
    refine lv_aload_n hx hb d_Ca_clear_15 rfl (lk hl rfl) ?_
    refine g_Ca_22 C h d_Ca_clear_16 ?_
    refine lv_iload_n hx hb d_Ca_clear_19 rfl (lk hl rfl) ?_
    refine lv_iconst (v := 0) hx hb d_Ca_clear_20 (by decide) ?_
    refine sn_c6 C h rfl (by omega) (by omega) d_Ca_clear_21 (fun H locs h => ?_)
    refine x_iinc (v := nI (k + 1)) hx hb d_Ca_clear_22 hl rfl (inc1 k) (by decide) (fun ls hl => ?_)
    refine lv_goto (tgt := 2) hx hb d_Ca_clear_25 (by decide) ?_
    exact ih (k + 1) (by omega) _ H locs h ls (lv_re hl _ rfl) K
theorem c_Ca_clear (l : Launch) (G : Gx) (n : Nat) (ad : Nat → Nat) (σ : Sg) : MV l G (Yc G n ad) y_Ca_clear b_Ca_clear 2 none 0 σ [.ref (ad 3)] (clr σ) := by
  refine go rfl (Nat.le_of_ble_eq_true rfl) (fun p e s m below meth c ls C h hl => ?_)
  have hx := C.1
  have hb := C.2.1
  refine lv_iconst (v := nI 0) hx hb d_Ca_clear_0 (by decide) ?_
  refine lv_istore_n hx hb d_Ca_clear_1 rfl hl (by decide) rfl (fun ls hl => ?_)
  refine lp_Ca_clear C 34 0 rfl σ _ _ h ls (lv_re hl _ rfl) (fun H locs h ls => ?_)
  exact x_vret C h d_Ca_clear_28 rfl
theorem c_Ca_use (l : Launch) (G : Gx) (n : Nat) (ad : Nat → Nat) (σ : Sg) (k : Nat) (hk : k < 34) (hr : RingIn σ) : MV l G (Yc G n ad) y_Ca_use b_Ca_use 2 none 0 σ [.ref (ad 3), .int (nI k)] (us σ k) := by
  refine go rfl (Nat.le_of_ble_eq_true rfl) (fun p e s m below meth c ls C h hl => ?_)
  have hx := C.1
  have hb := C.2.1
  have e8 : vp_in (σ 8 k) 35 := (hr k (by omega)).2
  have e1 : vp_in (set1 σ 7 (σ 8 k).toNatClampNeg (σ 7 k) 7 k) 35 := by
    simp only [set1, va_up_self, upd]
    split <;> exact (hr k (by omega)).1
  have e2 : vp_in (set1 (set1 (set1 (set1 σ 7 (σ 8 k).toNatClampNeg (σ 7 k)) 8 (set1 σ 7 (σ 8 k).toNatClampNeg (σ 7 k) 7 k).toNatClampNeg (set1 σ 7 (σ 8 k).toNatClampNeg (σ 7 k) 8 k)) 7 k (set1 (set1 σ 7 (σ 8 k).toNatClampNeg (σ 7 k)) 8 (set1 σ 7 (σ 8 k).toNatClampNeg (σ 7 k) 7 k).toNatClampNeg (set1 σ 7 (σ 8 k).toNatClampNeg (σ 7 k) 8 k) 7 34)) 8 k (nI 34) 7 34) 35 := by
    simp [set1, va_up, upd]
    repeat' split
    all_goals first | exact (hr k (by omega)).1 | exact (hr 34 (by omega)).1 | omega
  refine lv_aload_n hx hb d_Ca_use_0 rfl (lk hl rfl) ?_
  refine g_Ca_26 C h d_Ca_use_1 ?_
  refine lv_aload_n hx hb d_Ca_use_4 rfl (lk hl rfl) ?_
  refine g_Ca_29 C h d_Ca_use_5 ?_
  refine lv_iload_n hx hb d_Ca_use_8 rfl (lk hl rfl) ?_
  refine ln_c8 C h (by omega) (by omega) d_Ca_use_9 ?_
  refine lv_aload_n hx hb d_Ca_use_10 rfl (lk hl rfl) ?_
  refine g_Ca_26 C h d_Ca_use_11 ?_
  refine lv_iload_n hx hb d_Ca_use_14 rfl (lk hl rfl) ?_
  refine ln_c7 C h (by omega) (by omega) d_Ca_use_15 ?_
  refine st_c7 C h e8 d_Ca_use_16 (fun H locs h => ?_)
  refine lv_aload_n hx hb d_Ca_use_17 rfl (lk hl rfl) ?_
  refine g_Ca_29 C h d_Ca_use_18 ?_
  refine lv_aload_n hx hb d_Ca_use_21 rfl (lk hl rfl) ?_
  refine g_Ca_26 C h d_Ca_use_22 ?_
  refine lv_iload_n hx hb d_Ca_use_25 rfl (lk hl rfl) ?_
  refine ln_c7 C h (by omega) (by omega) d_Ca_use_26 ?_
  refine lv_aload_n hx hb d_Ca_use_27 rfl (lk hl rfl) ?_
  refine g_Ca_29 C h d_Ca_use_28 ?_
  refine lv_iload_n hx hb d_Ca_use_31 rfl (lk hl rfl) ?_
  refine ln_c8 C h (by omega) (by omega) d_Ca_use_32 ?_
  refine st_c8 C h e1 d_Ca_use_33 (fun H locs h => ?_)
  refine lv_aload_n hx hb d_Ca_use_34 rfl (lk hl rfl) ?_
  refine g_Ca_26 C h d_Ca_use_35 ?_
  refine lv_iload_n hx hb d_Ca_use_38 rfl (lk hl rfl) ?_
  refine lv_aload_n hx hb d_Ca_use_39 rfl (lk hl rfl) ?_
  refine g_Ca_26 C h d_Ca_use_40 ?_
  refine lv_bipush (v := nI 34) hx hb d_Ca_use_43 (by decide) ?_
  refine ln_c7 C h (by omega) (by omega) d_Ca_use_45 ?_
  refine sn_c7 C h (by omega) (by omega) d_Ca_use_46 (fun H locs h => ?_)
  refine lv_aload_n hx hb d_Ca_use_47 rfl (lk hl rfl) ?_
  refine g_Ca_29 C h d_Ca_use_48 ?_
  refine lv_iload_n hx hb d_Ca_use_51 rfl (lk hl rfl) ?_
  refine lv_bipush (v := nI 34) hx hb d_Ca_use_52 (by decide) ?_
  refine sn_c8 C h (by omega) (by omega) d_Ca_use_54 (fun H locs h => ?_)
  refine lv_aload_n hx hb d_Ca_use_55 rfl (lk hl rfl) ?_
  refine g_Ca_29 C h d_Ca_use_56 ?_
  refine lv_aload_n hx hb d_Ca_use_59 rfl (lk hl rfl) ?_
  refine g_Ca_26 C h d_Ca_use_60 ?_
  refine lv_bipush (v := nI 34) hx hb d_Ca_use_63 (by decide) ?_
  refine ln_c7 C h (by omega) (by omega) d_Ca_use_65 ?_
  refine lv_iload_n hx hb d_Ca_use_66 rfl (lk hl rfl) ?_
  refine st_c8 C h e2 d_Ca_use_67 (fun H locs h => ?_)
  refine lv_aload_n hx hb d_Ca_use_68 rfl (lk hl rfl) ?_
  refine g_Ca_26 C h d_Ca_use_69 ?_
  refine lv_bipush (v := nI 34) hx hb d_Ca_use_72 (by decide) ?_
  refine lv_iload_n hx hb d_Ca_use_74 rfl (lk hl rfl) ?_
  refine sn_c7 C h (by omega) (by omega) d_Ca_use_75 (fun H locs h => ?_)
  exact x_vret C h d_Ca_use_76 (rfl)
end W21
end
section
section W22
variable {p : Program} {l : Launch} {e : Env} {R : Room} {s : State} {m : MethodId} {args : Array Value} {below : List Frame} {meth : Method} {c : Code} {H : Heap} {locs : List Loc} {cells slots : Nat} {Q : State → Prop}
variable {G : Gx} {n : Nat} {ad am : Nat → Nat} {A : Nat → Prop} {H0 : Heap} {ret : Option FieldType}
theorem lp_Ca_victim {σ : Sg} {v : Nat} (C : Cx G p s m args meth c R_Ca b_Ca_victim 2 ret) (h : Hp G (Yc G n ad) A H0 σ H locs) : ∀ (T : List Nat) (x : Nat), Pth (σ 8) (σ 6) x T v → ∀ ls : Array Slot, lv_has ls 2 [(0, .ref (ad 3)), (1, .int (σ 8 x))] → (∀ ls : Array Slot, lv_has ls 2 [(0, .ref (ad 3)), (1, .int (nI v))] → W p l e R s m args below meth c H locs cells slots Q (F0 m 40 ls [])) → W p l e R s m args below meth c H locs cells slots Q (F0 m 21 ls []) := by
  have hx := C.1
  have hb := C.2.1
  intro T
  induction T with
  | nil =>
    intro x hP ls hl K
    obtain ⟨h1, h2, h3⟩ := hP
    rw [h1] at hl
    refine lv_aload_n hx hb d_Ca_victim_21 rfl (lk hl rfl) ?_
    refine g_Ca_22 C h d_Ca_victim_22 ?_
    refine lv_iload_n hx hb d_Ca_victim_25 rfl (lk hl rfl) ?_
    refine ln_c6 C h (by omega) (by omega) d_Ca_victim_26 ?_
    refine lv_if_eq (tgt := 40) hx hb d_Ca_victim_27 (by decide) (fun c_27 => ?_) (fun c_27 => False.elim (c_27 h3))
    exact K ls hl
  | cons y T ih =>
    intro x hP ls hl K
    obtain ⟨h1, h2, h3, h4⟩ := hP
    rw [h1] at hl
    refine lv_aload_n hx hb d_Ca_victim_21 rfl (lk hl rfl) ?_
    refine g_Ca_22 C h d_Ca_victim_22 ?_
    refine lv_iload_n hx hb d_Ca_victim_25 rfl (lk hl rfl) ?_
    refine ln_c6 C h (by omega) (by omega) d_Ca_victim_26 ?_
    refine lv_if_eq (tgt := 40) hx hb d_Ca_victim_27 (by decide) (fun c_27 => False.elim (h3 c_27)) (fun c_27 => ?_)
    refine lv_aload_n hx hb d_Ca_victim_30 rfl (lk hl rfl) ?_
    refine g_Ca_29 C h d_Ca_victim_31 ?_
    refine lv_iload_n hx hb d_Ca_victim_34 rfl (lk hl rfl) ?_
    refine ln_c8 C h (by omega) (by omega) d_Ca_victim_35 ?_
    refine lv_istore_n hx hb d_Ca_victim_36 rfl hl (by decide) rfl (fun ls hl => ?_)
    refine lv_goto (tgt := 21) hx hb d_Ca_victim_37 (by decide) ?_
    exact ih y h4 ls (lv_re hl _ rfl) K
theorem c_Ca_victim (l : Launch) (G : Gx) (n : Nat) (ad : Nat → Nat) (σ : Sg) (v : Nat) (hv : Vc σ v) : MI l G (Yc G n ad) y_Ca_victim b_Ca_victim 2 (some .int) 1 σ [.ref (ad 3)] (nI v) σ := by
  refine go rfl (Nat.le_of_ble_eq_true rfl) (fun p e s m below meth c ls C h hl => ?_)
  have hx := C.1
  have hb := C.2.1
  rcases hv with ⟨hlt, rfl⟩ | ⟨hlt, T, hT⟩
  · refine lv_aload_n hx hb d_Ca_victim_0 rfl (lk hl rfl) ?_
    refine lv_iconst (v := (-1)) hx hb d_Ca_victim_1 (by decide) ?_
    refine x_callVi (Y := Yc G n ad) (q := 3) C h hl.1 (c_Ca_find l G n ad σ (-1)) (Nat.le_of_ble_eq_true rfl) rfl rfl rfl cw_Ca_39 rfl rfl (Nat.le_of_ble_eq_true rfl) ⟨Nat.le_of_ble_eq_true rfl, Nat.le_of_ble_eq_true rfl⟩ ⟨Nat.le_refl _, Nat.le_refl _⟩ d_Ca_victim_2 (fun H locs h => ?_)
    refine top (show fdr σ (-1) = nI (fd σ (-1)) by rw [fdr, if_pos hlt]) ?_
    refine lv_istore_n hx hb d_Ca_victim_5 rfl hl (by decide) rfl (fun ls hl => ?_)
    refine lv_iload_n hx hb d_Ca_victim_6 rfl (lk hl rfl) ?_
    refine lv_iconst (v := (-1)) hx hb d_Ca_victim_7 (by decide) ?_
    refine lv_icmp_eq (tgt := 13) hx hb d_Ca_victim_8 (by decide) (fun c_8 => False.elim (m1_ne (by omega) c_8)) (fun c_8 => ?_)
    refine lv_iload_n hx hb d_Ca_victim_11 rfl (lk hl rfl) ?_
    exact x_iret C h d_Ca_victim_12 (rfl) (rfl)
  · refine lv_aload_n hx hb d_Ca_victim_0 rfl (lk hl rfl) ?_
    refine lv_iconst (v := (-1)) hx hb d_Ca_victim_1 (by decide) ?_
    refine x_callVi (Y := Yc G n ad) (q := 3) C h hl.1 (c_Ca_find l G n ad σ (-1)) (Nat.le_of_ble_eq_true rfl) rfl rfl rfl cw_Ca_39 rfl rfl (Nat.le_of_ble_eq_true rfl) ⟨Nat.le_of_ble_eq_true rfl, Nat.le_of_ble_eq_true rfl⟩ ⟨Nat.le_refl _, Nat.le_refl _⟩ d_Ca_victim_2 (fun H locs h => ?_)
    refine top (show fdr σ (-1) = -1 by rw [fdr, if_neg hlt]) ?_
    refine lv_istore_n hx hb d_Ca_victim_5 rfl hl (by decide) rfl (fun ls hl => ?_)
    refine lv_iload_n hx hb d_Ca_victim_6 rfl (lk hl rfl) ?_
    refine lv_iconst (v := (-1)) hx hb d_Ca_victim_7 (by decide) ?_
    refine lv_icmp_eq (tgt := 13) hx hb d_Ca_victim_8 (by decide) (fun c_8 => ?_) (fun c_8 => False.elim (c_8 rfl))
    refine lv_aload_n hx hb d_Ca_victim_13 rfl (lk hl rfl) ?_
    refine g_Ca_29 C h d_Ca_victim_14 ?_
    refine lv_bipush (v := nI 34) hx hb d_Ca_victim_17 (by decide) ?_
    refine ln_c8 C h (by omega) (by omega) d_Ca_victim_19 ?_
    refine lv_istore_n hx hb d_Ca_victim_20 rfl hl (by decide) rfl (fun ls hl => ?_)
    refine lp_Ca_victim C h T 34 hT ls (lv_re hl _ rfl) (fun ls hl => ?_)
    refine lv_iload_n hx hb d_Ca_victim_40 rfl (lk hl rfl) ?_
    exact x_iret C h d_Ca_victim_41 (rfl) (rfl)
theorem c_Ca_take (l : Launch) (G : Gx) (n : Nat) (ad : Nat → Nat) (σ : Sg) (b k : Nat) (hbn : b < n) (hn : n ≤ 80) (hT : TR σ b k) (hk : k < 34) (hr : RingIn σ) : MI l G (Yc G n ad) y_Ca_take b_Ca_take 3 (some .int) 2 σ [.ref (ad 3), .int (nI b)] (nI k) (tk σ b k) := by
  refine go rfl (Nat.le_of_ble_eq_true rfl) (fun p e s m below meth c ls C h hl => ?_)
  have hx := C.1
  have hb := C.2.1
  rcases hT with ⟨hlt, rfl⟩ | ⟨hlt, hv⟩
  · refine lv_aload_n hx hb d_Ca_take_0 rfl (lk hl rfl) ?_
    refine lv_iload_n hx hb d_Ca_take_1 rfl (lk hl rfl) ?_
    refine x_callVi (Y := Yc G n ad) (q := 3) C h hl.1 (c_Ca_find l G n ad σ (nI b)) (Nat.le_of_ble_eq_true rfl) rfl rfl rfl cw_Ca_39 rfl rfl (Nat.le_of_ble_eq_true rfl) ⟨Nat.le_of_ble_eq_true rfl, Nat.le_of_ble_eq_true rfl⟩ ⟨Nat.le_refl _, Nat.le_refl _⟩ d_Ca_take_2 (fun H locs h => ?_)
    refine top (show fdr σ (nI b) = nI (fd σ (nI b)) by rw [fdr, if_pos hlt]) ?_
    refine lv_istore_n hx hb d_Ca_take_5 rfl hl (by decide) rfl (fun ls hl => ?_)
    refine lv_iload_n hx hb d_Ca_take_6 rfl (lk hl rfl) ?_
    refine lv_iconst (v := (-1)) hx hb d_Ca_take_7 (by decide) ?_
    refine lv_icmp_ne (tgt := 47) hx hb d_Ca_take_8 (by decide) (fun c_8 => ?_) (fun c_8 => False.elim (m1_ne (by omega) c_8))
    refine lv_aload_n hx hb d_Ca_take_47 rfl (lk hl rfl) ?_
    refine lv_iload_n hx hb d_Ca_take_48 rfl (lk hl rfl) ?_
    refine x_callVv (Y := Yc G n ad) (q := 3) C h hl.1 (c_Ca_use l G n ad σ (fd σ (nI b)) hk hr) (Nat.le_of_ble_eq_true rfl) rfl rfl rfl cw_Ca_55 rfl rfl (Nat.le_of_ble_eq_true rfl) ⟨Nat.le_of_ble_eq_true rfl, Nat.le_of_ble_eq_true rfl⟩ ⟨Nat.le_refl _, Nat.le_refl _⟩ d_Ca_take_49 (fun H locs h => ?_)
    refine lv_iload_n hx hb d_Ca_take_52 rfl (lk hl rfl) ?_
    exact x_iret C h d_Ca_take_53 (rfl) (by rw [tk, if_pos hlt])
  · refine lv_aload_n hx hb d_Ca_take_0 rfl (lk hl rfl) ?_
    refine lv_iload_n hx hb d_Ca_take_1 rfl (lk hl rfl) ?_
    refine x_callVi (Y := Yc G n ad) (q := 3) C h hl.1 (c_Ca_find l G n ad σ (nI b)) (Nat.le_of_ble_eq_true rfl) rfl rfl rfl cw_Ca_39 rfl rfl (Nat.le_of_ble_eq_true rfl) ⟨Nat.le_of_ble_eq_true rfl, Nat.le_of_ble_eq_true rfl⟩ ⟨Nat.le_refl _, Nat.le_refl _⟩ d_Ca_take_2 (fun H locs h => ?_)
    refine top (show fdr σ (nI b) = -1 by rw [fdr, if_neg hlt]) ?_
    refine lv_istore_n hx hb d_Ca_take_5 rfl hl (by decide) rfl (fun ls hl => ?_)
    refine lv_iload_n hx hb d_Ca_take_6 rfl (lk hl rfl) ?_
    refine lv_iconst (v := (-1)) hx hb d_Ca_take_7 (by decide) ?_
    refine lv_icmp_ne (tgt := 47) hx hb d_Ca_take_8 (by decide) (fun c_8 => False.elim (c_8 rfl)) (fun c_8 => ?_)
    refine lv_aload_n hx hb d_Ca_take_11 rfl (lk hl rfl) ?_
    refine x_callVi (Y := Yc G n ad) (q := 3) C h hl.1 (c_Ca_victim l G n ad σ k hv) (Nat.le_of_ble_eq_true rfl) rfl rfl rfl cw_Ca_43 rfl rfl (Nat.le_of_ble_eq_true rfl) ⟨Nat.le_of_ble_eq_true rfl, Nat.le_of_ble_eq_true rfl⟩ ⟨Nat.le_refl _, Nat.le_refl _⟩ d_Ca_take_12 (fun H locs h => ?_)
    refine lv_istore_n hx hb d_Ca_take_15 rfl hl (by decide) rfl (fun ls hl => ?_)
    refine lv_aload_n hx hb d_Ca_take_16 rfl (lk hl rfl) ?_
    refine g_Ca_18 C h d_Ca_take_17 ?_
    refine lv_iload_n hx hb d_Ca_take_20 rfl (lk hl rfl) ?_
    refine lv_iload_n hx hb d_Ca_take_21 rfl (lk hl rfl) ?_
    refine sn_c5 C h (by omega) (by omega) d_Ca_take_22 (fun H locs h => ?_)
    refine lv_aload_n hx hb d_Ca_take_23 rfl (lk hl rfl) ?_
    refine g_Ca_32 C h d_Ca_take_24 ?_
    refine lv_iload_n hx hb d_Ca_take_27 rfl (lk hl rfl) ?_
    refine lv_aload_n hx hb d_Ca_take_28 rfl (lk hl rfl) ?_
    refine g_Ca_15 C h d_Ca_take_29 ?_
    refine lv_iload_n hx hb d_Ca_take_32 rfl (lk hl rfl) ?_
    refine ln_c4 C h (by omega) d_Ca_take_33 ?_
    refine x_callVv (Y := Yc G n ad) (q := 1) C h hl.1 (c_Pl_read l G n ad (set1 σ 5 k (nI b)) b (k + 14) hbn hn (by omega) (by omega)) (Nat.le_of_ble_eq_true rfl) rfl rfl rfl cw_Ca_47 rfl rfl (Nat.le_of_ble_eq_true rfl) ⟨Nat.le_of_ble_eq_true rfl, Nat.le_of_ble_eq_true rfl⟩ ⟨Nat.le_refl _, Nat.le_refl _⟩ d_Ca_take_34 (fun H locs h => ?_)
    refine lv_aload_n hx hb d_Ca_take_37 rfl (lk hl rfl) ?_
    refine lv_dup hx hb d_Ca_take_38 rfl ?_
    refine g_Ca_51 C h d_Ca_take_39 ?_
    refine lv_iconst (v := 1) hx hb d_Ca_take_42 (by decide) ?_
    refine lv_iadd hx hb d_Ca_take_43 ?_
    refine p_Ca_51 C h d_Ca_take_44 (fun H locs h => ?_)
    refine lv_aload_n hx hb d_Ca_take_47 rfl (lk hl rfl) ?_
    refine lv_iload_n hx hb d_Ca_take_48 rfl (lk hl rfl) ?_
    refine x_callVv (Y := Yc G n ad) (q := 3) C h hl.1 (c_Ca_use l G n ad (tk0 σ b k) k hk (RingIn_tk0 hr)) (Nat.le_of_ble_eq_true rfl) rfl rfl rfl cw_Ca_55 rfl rfl (Nat.le_of_ble_eq_true rfl) ⟨Nat.le_of_ble_eq_true rfl, Nat.le_of_ble_eq_true rfl⟩ ⟨Nat.le_refl _, Nat.le_refl _⟩ d_Ca_take_49 (fun H locs h => ?_)
    refine lv_iload_n hx hb d_Ca_take_52 rfl (lk hl rfl) ?_
    exact x_iret C h d_Ca_take_53 (rfl) (by rw [tk, if_neg hlt])
theorem c_Lg_block (l : Launch) (G : Gx) (n : Nat) (ad : Nat → Nat) (σ : Sg) (b k : Nat) (hbn : b < n) (hn : n ≤ 80) (hT : TR σ b k) (hk : k < 34) (hr : RingIn σ) : MR l G (Yc G n ad) y_Lg_block b_Lg_block 2 (some (.array .byte)) 3 σ [.ref (ad 9), .int (nI b)] (ad (k + 14)) (tk σ b k) := by
  refine go rfl (Nat.le_of_ble_eq_true rfl) (fun p e s m below meth c ls C h hl => ?_)
  have hx := C.1
  have hb := C.2.1
  refine lv_aload_n hx hb d_Lg_block_0 rfl (lk hl rfl) ?_
  refine g_Lg_26 C h d_Lg_block_1 ?_
  refine g_Lg_38 C h d_Lg_block_4 ?_
  refine lv_aload_n hx hb d_Lg_block_7 rfl (lk hl rfl) ?_
  refine g_Lg_26 C h d_Lg_block_8 ?_
  refine lv_iload_n hx hb d_Lg_block_11 rfl (lk hl rfl) ?_
  refine x_callVi (Y := Yc G n ad) (q := 3) C h hl.1 (c_Ca_take l G n ad σ b k hbn hn hT hk hr) (Nat.le_of_ble_eq_true rfl) rfl rfl rfl cw_Lg_44 rfl rfl (Nat.le_of_ble_eq_true rfl) ⟨Nat.le_of_ble_eq_true rfl, Nat.le_of_ble_eq_true rfl⟩ ⟨Nat.le_refl _, Nat.le_refl _⟩ d_Lg_block_12 (fun H locs h => ?_)
  refine ln_c4 C h (by omega) d_Lg_block_15 ?_
  exact x_aret C h d_Lg_block_16 rfl rfl
theorem c_Lg_touch (l : Launch) (G : Gx) (n : Nat) (ad : Nat → Nat) (σ : Sg) (b k sz : Nat) (hbn : b < n) (hn : n ≤ 80) (hT : TR σ b k) (hk : k < 34) (hr : RingIn σ) (hsz : tk σ b k 9 6 = nI sz) (hsz2 : tk σ b k 6 k = 0 → sz < 30) : MV l G (Yc G n ad) y_Lg_touch b_Lg_touch 3 none 3 σ [.ref (ad 9), .int (nI b)] (tch σ b k) := by
  refine go rfl (Nat.le_of_ble_eq_true rfl) (fun p e s m below meth c ls C h hl => ?_)
  have hx := C.1
  have hb := C.2.1
  refine lv_aload_n hx hb d_Lg_touch_0 rfl (lk hl rfl) ?_
  refine g_Lg_26 C h d_Lg_touch_1 ?_
  refine lv_iload_n hx hb d_Lg_touch_4 rfl (lk hl rfl) ?_
  refine x_callVi (Y := Yc G n ad) (q := 3) C h hl.1 (c_Ca_take l G n ad σ b k hbn hn hT hk hr) (Nat.le_of_ble_eq_true rfl) rfl rfl rfl cw_Lg_44 rfl rfl (Nat.le_of_ble_eq_true rfl) ⟨Nat.le_of_ble_eq_true rfl, Nat.le_of_ble_eq_true rfl⟩ ⟨Nat.le_refl _, Nat.le_refl _⟩ d_Lg_touch_5 (fun H locs h => ?_)
  refine lv_istore_n hx hb d_Lg_touch_8 rfl hl (by decide) rfl (fun ls hl => ?_)
  refine lv_aload_n hx hb d_Lg_touch_9 rfl (lk hl rfl) ?_
  refine g_Lg_26 C h d_Lg_touch_10 ?_
  refine g_Lg_48 C h d_Lg_touch_13 ?_
  refine lv_iload_n hx hb d_Lg_touch_16 rfl (lk hl rfl) ?_
  refine ln_c6 C h (by omega) (by omega) d_Lg_touch_17 ?_
  refine lv_if_ne (tgt := 51) hx hb d_Lg_touch_18 (by decide) (fun c_18 => ?_) (fun c_18 => ?_)
  · refine lv_aload_n hx hb d_Lg_touch_51 rfl (lk hl rfl) ?_
    refine g_Lg_34 C h d_Lg_touch_52 ?_
    refine lv_iload_n hx hb d_Lg_touch_55 rfl (lk hl rfl) ?_
    refine ln_c11 C h hbn (by omega) d_Lg_touch_56 ?_
    refine lv_if_ne (tgt := 77) hx hb d_Lg_touch_57 (by decide) (fun c_57 => ?_) (fun c_57 => ?_)
    · exact x_vret C h d_Lg_touch_77 (by simp only [tch]; (first | rw [if_pos c_18] | rw [if_neg c_18]); (first | rw [if_pos c_57] | rw [if_neg c_57]))
    · refine lv_aload_n hx hb d_Lg_touch_60 rfl (lk hl rfl) ?_
      refine g_Lg_34 C h d_Lg_touch_61 ?_
      refine lv_iload_n hx hb d_Lg_touch_64 rfl (lk hl rfl) ?_
      refine lv_iconst (v := 1) hx hb d_Lg_touch_65 (by decide) ?_
      refine sn_c11 C h rfl hbn (by omega) d_Lg_touch_66 (fun H locs h => ?_)
      refine lv_aload_n hx hb d_Lg_touch_67 rfl (lk hl rfl) ?_
      refine lv_dup hx hb d_Lg_touch_68 rfl ?_
      refine g_Lg_54 C h d_Lg_touch_69 ?_
      refine lv_iconst (v := 1) hx hb d_Lg_touch_72 (by decide) ?_
      refine lv_iadd hx hb d_Lg_touch_73 ?_
      refine p_Lg_54 C h d_Lg_touch_74 (fun H locs h => ?_)
      exact x_vret C h d_Lg_touch_77 (by simp only [tch]; (first | rw [if_pos c_18] | rw [if_neg c_18]); (first | rw [if_pos c_57] | rw [if_neg c_57]))
  · refine lv_aload_n hx hb d_Lg_touch_21 rfl (lk hl rfl) ?_
    refine g_Lg_26 C h d_Lg_touch_22 ?_
    refine g_Lg_48 C h d_Lg_touch_25 ?_
    refine lv_iload_n hx hb d_Lg_touch_28 rfl (lk hl rfl) ?_
    refine lv_iconst (v := 1) hx hb d_Lg_touch_29 (by decide) ?_
    refine sn_c6 C h rfl (by omega) (by omega) d_Lg_touch_30 (fun H locs h => ?_)
    refine lv_aload_n hx hb d_Lg_touch_31 rfl (lk hl rfl) ?_
    refine g_Lg_9 C h d_Lg_touch_32 ?_
    refine lv_aload_n hx hb d_Lg_touch_35 rfl (lk hl rfl) ?_
    refine g_Lg_51 C h d_Lg_touch_36 ?_
    refine lv_iload_n hx hb d_Lg_touch_39 rfl (lk hl rfl) ?_
    refine st_c10 C h (by rw [st_ne (by decide), hsz]; exact vp_in_nI (hsz2 c_18) (by omega)) d_Lg_touch_40 (fun H locs h => ?_)
    refine lv_aload_n hx hb d_Lg_touch_41 rfl (lk hl rfl) ?_
    refine lv_dup hx hb d_Lg_touch_42 rfl ?_
    refine g_Lg_51 C h d_Lg_touch_43 ?_
    refine lv_iconst (v := 1) hx hb d_Lg_touch_46 (by decide) ?_
    refine lv_iadd hx hb d_Lg_touch_47 ?_
    refine p_Lg_51 C h d_Lg_touch_48 (fun H locs h => ?_)
    refine lv_aload_n hx hb d_Lg_touch_51 rfl (lk hl rfl) ?_
    refine g_Lg_34 C h d_Lg_touch_52 ?_
    refine lv_iload_n hx hb d_Lg_touch_55 rfl (lk hl rfl) ?_
    refine ln_c11 C h hbn (by omega) d_Lg_touch_56 ?_
    refine lv_if_ne (tgt := 77) hx hb d_Lg_touch_57 (by decide) (fun c_57 => ?_) (fun c_57 => ?_)
    · exact x_vret C h d_Lg_touch_77 (by simp only [tch]; (first | rw [if_pos c_18] | rw [if_neg c_18]); (first | rw [if_pos c_57] | rw [if_neg c_57]))
    · refine lv_aload_n hx hb d_Lg_touch_60 rfl (lk hl rfl) ?_
      refine g_Lg_34 C h d_Lg_touch_61 ?_
      refine lv_iload_n hx hb d_Lg_touch_64 rfl (lk hl rfl) ?_
      refine lv_iconst (v := 1) hx hb d_Lg_touch_65 (by decide) ?_
      refine sn_c11 C h rfl hbn (by omega) d_Lg_touch_66 (fun H locs h => ?_)
      refine lv_aload_n hx hb d_Lg_touch_67 rfl (lk hl rfl) ?_
      refine lv_dup hx hb d_Lg_touch_68 rfl ?_
      refine g_Lg_54 C h d_Lg_touch_69 ?_
      refine lv_iconst (v := 1) hx hb d_Lg_touch_72 (by decide) ?_
      refine lv_iadd hx hb d_Lg_touch_73 ?_
      refine p_Lg_54 C h d_Lg_touch_74 (fun H locs h => ?_)
      exact x_vret C h d_Lg_touch_77 (by simp only [tch]; (first | rw [if_pos c_18] | rw [if_neg c_18]); (first | rw [if_pos c_57] | rw [if_neg c_57]))
def mtr (σ : Sg) (b : Nat) : Int32 := if σ 9 9 ≠ 0 ∧ (σ 11 b ≠ 0 ∨ σ 9 7 < 10) then 1 else 0
theorem c_Lg_mayTouch (l : Launch) (G : Gx) (n : Nat) (ad : Nat → Nat) (σ : Sg) (b : Nat) (hbn : b < n) (hn : n ≤ 80) : MI l G (Yc G n ad) y_Lg_mayTouch b_Lg_mayTouch 2 (some .boolean) 0 σ [.ref (ad 9), .int (nI b)] (mtr σ b) σ := by
  refine go rfl (Nat.le_of_ble_eq_true rfl) (fun p e s m below meth c ls C h hl => ?_)
  have hx := C.1
  have hb := C.2.1
  refine lv_aload_n hx hb d_Lg_mayTouch_0 rfl (lk hl rfl) ?_
  refine g_Lg_57 C h d_Lg_mayTouch_1 ?_
  refine lv_if_eq (tgt := 29) hx hb d_Lg_mayTouch_4 (by decide) (fun c_4 => ?_) (fun c_4 => ?_)
  · refine lv_iconst (v := 0) hx hb d_Lg_mayTouch_29 (by decide) ?_
    exact x_zret C h d_Lg_mayTouch_30 rfl (by simp_all [mtr]) (rfl)
  · refine lv_aload_n hx hb d_Lg_mayTouch_7 rfl (lk hl rfl) ?_
    refine g_Lg_34 C h d_Lg_mayTouch_8 ?_
    refine lv_iload_n hx hb d_Lg_mayTouch_11 rfl (lk hl rfl) ?_
    refine ln_c11 C h hbn (by omega) d_Lg_mayTouch_12 ?_
    refine lv_if_ne (tgt := 25) hx hb d_Lg_mayTouch_13 (by decide) (fun c_13 => ?_) (fun c_13 => ?_)
    · refine lv_iconst (v := 1) hx hb d_Lg_mayTouch_25 (by decide) ?_
      refine lv_goto (tgt := 30) hx hb d_Lg_mayTouch_26 (by decide) ?_
      exact x_zret C h d_Lg_mayTouch_30 rfl (by simp_all [mtr]) (rfl)
    · refine lv_aload_n hx hb d_Lg_mayTouch_16 rfl (lk hl rfl) ?_
      refine g_Lg_54 C h d_Lg_mayTouch_17 ?_
      refine lv_bipush (v := 10) hx hb d_Lg_mayTouch_20 (by decide) ?_
      refine lv_icmp_ge (tgt := 29) hx hb d_Lg_mayTouch_22 (by decide) (fun c_22 => ?_) (fun c_22 => ?_)
      · refine lv_iconst (v := 0) hx hb d_Lg_mayTouch_29 (by decide) ?_
        exact x_zret C h d_Lg_mayTouch_30 rfl (by simp_all [mtr]) (rfl)
      · refine lv_iconst (v := 1) hx hb d_Lg_mayTouch_25 (by decide) ?_
        refine lv_goto (tgt := 30) hx hb d_Lg_mayTouch_26 (by decide) ?_
        exact x_zret C h d_Lg_mayTouch_30 rfl (by simp_all [mtr]) (rfl)
theorem lp_Lg_begin (C : Cx G p s m args meth c R_Lg b_Lg_begin 2 ret) (hn : n ≤ 80) : ∀ (d k : Nat), k + d = n → ∀ (σ : Sg) (H : Heap) (locs : List Loc), Hp G (Yc G n ad) A H0 σ H locs → ∀ ls : Array Slot, lv_has ls 2 [(0, .ref (ad 9)), (1, .int (nI k))] → (∀ (H : Heap) (locs : List Loc), Hp G (Yc G n ad) A H0 (itr (fun k σ => set1 σ 11 k 0) d k σ) H locs → ∀ ls : Array Slot, W p l e R s m args below meth c H locs cells slots Q (F0 m 34 ls [])) → W p l e R s m args below meth c H locs cells slots Q (F0 m 12 ls []) := by
  have hx := C.1
  have hb := C.2.1
  intro d
  induction d with
  | zero =>
    intro k hk σ H locs h ls hl K
    refine lv_iload_n hx hb d_Lg_begin_12 rfl (lk hl rfl) ?_
    refine lv_aload_n hx hb d_Lg_begin_13 rfl (lk hl rfl) ?_
    refine g_Lg_34 C h d_Lg_begin_14 ?_
    refine x_alen (Y := Yc G n ad) (v := nI n) C h 11 (Nat.le_of_ble_eq_true rfl) rfl 2 rfl rfl d_Lg_begin_17 ?_
    refine lv_icmp_ge (tgt := 34) hx hb d_Lg_begin_18 (by decide) (fun c_18 => ?_) (fun c_18 => False.elim (f_nle c_18 (by omega) (by omega) (by omega)))
    exact K H locs h ls
  | succ d ih =>
    intro k hk σ H locs h ls hl K
    refine lv_iload_n hx hb d_Lg_begin_12 rfl (lk hl rfl) ?_
    refine lv_aload_n hx hb d_Lg_begin_13 rfl (lk hl rfl) ?_
    refine g_Lg_34 C h d_Lg_begin_14 ?_
    refine x_alen (Y := Yc G n ad) (v := nI n) C h 11 (Nat.le_of_ble_eq_true rfl) rfl 2 rfl rfl d_Lg_begin_17 ?_
    refine lv_icmp_ge (tgt := 34) hx hb d_Lg_begin_18 (by decide) (fun c_18 => False.elim (f_le c_18 (by omega) (by omega) (by omega))) (fun c_18 => ?_)
    refine lv_aload_n hx hb d_Lg_begin_21 rfl (lk hl rfl) ?_
    refine g_Lg_34 C h d_Lg_begin_22 ?_
    refine lv_iload_n hx hb d_Lg_begin_25 rfl (lk hl rfl) ?_
    refine lv_iconst (v := 0) hx hb d_Lg_begin_26 (by decide) ?_
    refine sn_c11 C h rfl (by omega) (by omega) d_Lg_begin_27 (fun H locs h => ?_)
    refine x_iinc (v := nI (k + 1)) hx hb d_Lg_begin_28 hl rfl (inc1 k) (by decide) (fun ls hl => ?_)
    refine lv_goto (tgt := 12) hx hb d_Lg_begin_31 (by decide) ?_
    exact ih (k + 1) (by omega) _ H locs h ls (lv_re hl _ rfl) K
theorem c_Lg_begin (l : Launch) (G : Gx) (n : Nat) (ad : Nat → Nat) (σ : Sg) (hn : n ≤ 80) : MV l G (Yc G n ad) y_Lg_begin b_Lg_begin 2 none 0 σ [.ref (ad 9)] (lgb n σ) := by
  refine go rfl (Nat.le_of_ble_eq_true rfl) (fun p e s m below meth c ls C h hl => ?_)
  have hx := C.1
  have hb := C.2.1
  refine lv_aload_n hx hb d_Lg_begin_0 rfl (lk hl rfl) ?_
  refine lv_iconst (v := 1) hx hb d_Lg_begin_1 (by decide) ?_
  refine p_Lg_57 C h d_Lg_begin_2 rfl rfl (fun H locs h => ?_)
  refine lv_aload_n hx hb d_Lg_begin_5 rfl (lk hl rfl) ?_
  refine lv_iconst (v := 0) hx hb d_Lg_begin_6 (by decide) ?_
  refine p_Lg_54 C h d_Lg_begin_7 (fun H locs h => ?_)
  refine lv_iconst (v := nI 0) hx hb d_Lg_begin_10 (by decide) ?_
  refine lv_istore_n hx hb d_Lg_begin_11 rfl hl (by decide) rfl (fun ls hl => ?_)
  refine lp_Lg_begin C hn n 0 (by omega) _ _ _ h ls (lv_re hl _ rfl) (fun H locs h ls => ?_)
  exact x_vret C h d_Lg_begin_34 rfl
end W22
end
section
section W23
variable {p : Program} {l : Launch} {e : Env} {R : Room} {s : State} {m : MethodId} {args : Array Value} {below : List Frame} {meth : Method} {c : Code} {H : Heap} {locs : List Loc} {cells slots : Nat} {Q : State → Prop}
variable {G : Gx} {n : Nat} {ad am : Nat → Nat} {A : Nat → Prop} {H0 : Heap} {ret : Option FieldType}
theorem lp_Lg_put {i at_ : Nat} {v : Int32} (C : Cx G p s m args meth c R_Lg b_Lg_put 4 ret) (h12 : 12 ≤ i) (h48 : i < 48) (hat : at_ + 4 ≤ 1024) : ∀ (d k : Nat), k + d = 4 → ∀ (σ : Sg) (H : Heap) (locs : List Loc), Hp G (Yc G n ad) A H0 σ H locs → ∀ ls : Array Slot, lv_has ls 4 [(0, .ref (ad i)), (1, .int (nI at_)), (2, .int v), (3, .int (nI k))] → (∀ (H : Heap) (locs : List Loc), Hp G (Yc G n ad) A H0 (itr (fun k σ => set1 σ i (at_ + k) (v >>> ((8 * nI k) &&& 31)).toInt8.toInt32) d k σ) H locs → ∀ ls : Array Slot, W p l e R s m args below meth c H locs cells slots Q (F0 m 25 ls [])) → W p l e R s m args below meth c H locs cells slots Q (F0 m 2 ls []) := by
  have hx := C.1
  have hb := C.2.1
  intro d
  induction d with
  | zero =>
    intro k hk σ H locs h ls hl K
    refine lv_iload_n hx hb d_Lg_put_2 rfl (lk hl rfl) ?_
    refine lv_iconst (v := nI 4) hx hb d_Lg_put_3 (by decide) ?_
    refine lv_icmp_ge (tgt := 25) hx hb d_Lg_put_4 (by decide) (fun c_4 => ?_) (fun c_4 => False.elim (f_nle c_4 (by omega) (by omega) (by omega)))
    exact K H locs h ls
  | succ d ih =>
    intro k hk σ H locs h ls hl K
    refine lv_iload_n hx hb d_Lg_put_2 rfl (lk hl rfl) ?_
    refine lv_iconst (v := nI 4) hx hb d_Lg_put_3 (by decide) ?_
    refine lv_icmp_ge (tgt := 25) hx hb d_Lg_put_4 (by decide) (fun c_4 => False.elim (f_le c_4 (by omega) (by omega) (by omega))) (fun c_4 => ?_)
    refine lv_aload_n hx hb d_Lg_put_7 rfl (lk hl rfl) ?_
    refine lv_iload_n hx hb d_Lg_put_8 rfl (lk hl rfl) ?_
    refine lv_iload_n hx hb d_Lg_put_9 rfl (lk hl rfl) ?_
    refine lv_iadd hx hb d_Lg_put_10 ?_
    refine top (nI_add at_ k) ?_
    refine lv_iload_n hx hb d_Lg_put_11 rfl (lk hl rfl) ?_
    refine lv_bipush (v := 8) hx hb d_Lg_put_12 (by decide) ?_
    refine lv_iload_n hx hb d_Lg_put_14 rfl (lk hl rfl) ?_
    refine lv_imul hx hb d_Lg_put_15 ?_
    refine lv_ishr hx hb d_Lg_put_16 ?_
    refine lv_i2b hx hb d_Lg_put_17 rfl ?_
    refine sn_row C h h12 h48 (by omega) d_Lg_put_18 (fun H locs h => ?_)
    refine x_iinc (v := nI (k + 1)) hx hb d_Lg_put_19 hl rfl (inc1 k) (by decide) (fun ls hl => ?_)
    refine lv_goto (tgt := 2) hx hb d_Lg_put_22 (by decide) ?_
    exact ih (k + 1) (by omega) _ H locs h ls (lv_re hl _ rfl) K
theorem c_Lg_put (l : Launch) (G : Gx) (n : Nat) (ad : Nat → Nat) (σ : Sg) (i at_ : Nat) (v : Int32) (h12 : 12 ≤ i) (h48 : i < 48) (hat : at_ + 4 ≤ 1024) : MV l G (Yc G n ad) y_Lg_put b_Lg_put 4 none 0 σ [.ref (ad i), .int (nI at_), .int v] (put4 i at_ v σ) := by
  refine go rfl (Nat.le_of_ble_eq_true rfl) (fun p e s m below meth c ls C h hl => ?_)
  have hx := C.1
  have hb := C.2.1
  refine lv_iconst (v := nI 0) hx hb d_Lg_put_0 (by decide) ?_
  refine lv_istore_n hx hb d_Lg_put_1 rfl hl (by decide) rfl (fun ls hl => ?_)
  refine lp_Lg_put C h12 h48 hat 4 0 rfl σ _ _ h ls (lv_re hl _ rfl) (fun H locs h ls => ?_)
  exact x_vret C h d_Lg_put_25 rfl
theorem lp_Lg_get {i at_ : Nat} {σ : Sg} (C : Cx G p s m args meth c R_Lg b_Lg_get 4 ret) (h : Hp G (Yc G n ad) A H0 σ H locs) (h12 : 12 ≤ i) (h48 : i < 48) (hat : at_ + 4 ≤ 1024) : ∀ (d : Nat), d ≤ 4 → ∀ (v : Int32) (ls : Array Slot), lv_has ls 4 [(0, .ref (ad i)), (1, .int (nI at_)), (2, .int v), (3, .int (kd d))] → (∀ ls : Array Slot, lv_has ls 4 [(2, .int (get4N (σ i) at_ d v))] → W p l e R s m args below meth c H locs cells slots Q (F0 m 29 ls [])) → W p l e R s m args below meth c H locs cells slots Q (F0 m 4 ls []) := by
  have hx := C.1
  have hb := C.2.1
  intro d
  induction d with
  | zero =>
    intro hd v ls hl K
    refine lv_iload_n hx hb d_Lg_get_4 rfl (lk hl rfl) ?_
    refine lv_if_lt (tgt := 29) hx hb d_Lg_get_5 (by decide) (fun c_5 => ?_) (fun c_5 => False.elim (c_5 (show kd 0 < 0 by decide)))
    exact K ls (lv_re hl _ rfl)
  | succ d ih =>
    intro hd v ls hl K
    have hl : lv_has ls 4 [(0, .ref (ad i)), (1, .int (nI at_)), (2, .int v), (3, .int (nI d))] := hl
    refine lv_iload_n hx hb d_Lg_get_4 rfl (lk hl rfl) ?_
    refine lv_if_lt (tgt := 29) hx hb d_Lg_get_5 (by decide) (fun c_5 => False.elim (nI_pos (by omega) c_5)) (fun c_5 => ?_)
    refine lv_iload_n hx hb d_Lg_get_8 rfl (lk hl rfl) ?_
    refine lv_bipush (v := 8) hx hb d_Lg_get_9 (by decide) ?_
    refine lv_ishl hx hb d_Lg_get_11 ?_
    refine lv_aload_n hx hb d_Lg_get_12 rfl (lk hl rfl) ?_
    refine lv_iload_n hx hb d_Lg_get_13 rfl (lk hl rfl) ?_
    refine lv_iload_n hx hb d_Lg_get_14 rfl (lk hl rfl) ?_
    refine lv_iadd hx hb d_Lg_get_15 ?_
    refine top (nI_add at_ d) ?_
    refine ln_row C h h12 h48 (by omega) d_Lg_get_16 ?_
    refine lv_sipush (v := 255) hx hb d_Lg_get_17 (by decide) ?_
    refine lv_iand hx hb d_Lg_get_20 ?_
    refine lv_ior hx hb d_Lg_get_21 ?_
    refine lv_istore_n hx hb d_Lg_get_22 rfl hl (by decide) rfl (fun ls hl => ?_)
    refine x_iinc (v := kd d) hx hb d_Lg_get_23 hl rfl (kd_dec d) (by decide) (fun ls hl => ?_)
    refine lv_goto (tgt := 4) hx hb d_Lg_get_26 (by decide) ?_
    exact ih (by omega) _ ls (lv_re hl _ rfl) K
theorem c_Lg_get (l : Launch) (G : Gx) (n : Nat) (ad : Nat → Nat) (σ : Sg) (i at_ : Nat) (h12 : 12 ≤ i) (h48 : i < 48) (hat : at_ + 4 ≤ 1024) : MI l G (Yc G n ad) y_Lg_get b_Lg_get 4 (some .int) 0 σ [.ref (ad i), .int (nI at_)] (get4 σ i at_) σ := by
  refine go rfl (Nat.le_of_ble_eq_true rfl) (fun p e s m below meth c ls C h hl => ?_)
  have hx := C.1
  have hb := C.2.1
  refine lv_iconst (v := 0) hx hb d_Lg_get_0 (by decide) ?_
  refine lv_istore_n hx hb d_Lg_get_1 rfl hl (by decide) rfl (fun ls hl => ?_)
  refine lv_iconst (v := nI 3) hx hb d_Lg_get_2 (by decide) ?_
  refine lv_istore_n hx hb d_Lg_get_3 rfl hl (by decide) rfl (fun ls hl => ?_)
  refine lp_Lg_get C h h12 h48 hat 4 (by omega) 0 ls (lv_re hl _ rfl) (fun ls hl => ?_)
  refine lv_iload_n hx hb d_Lg_get_29 rfl (lk hl rfl) ?_
  exact x_iret C h d_Lg_get_30 (rfl) (rfl)
theorem lp_Lg_wh {u : Nat} (C : Cx G p s m args meth c R_Lg b_Lg_writeHeader 3 ret) (hu : u ≤ 30) (hR : R = rk 2) (hc : cells = 0 ∧ slots = 0) : ∀ (d k : Nat), k + d = u → ∀ (σ : Sg) (H : Heap) (locs : List Loc), Hp G (Yc G n ad) A H0 σ H locs → ∀ ls : Array Slot, lv_has ls 3 [(0, .ref (ad 9)), (1, .int (nI u)), (2, .int (nI k))] → (∀ (H : Heap) (locs : List Loc), Hp G (Yc G n ad) A H0 (itr (fun k σ => put4 12 (4 + 4 * k) (σ 10 k) σ) d k σ) H locs → ∀ ls : Array Slot, lv_has ls 3 [(0, .ref (ad 9))] → W p l e R s m args below meth c H locs cells slots Q (F0 m 40 ls [])) → W p l e R s m args below meth c H locs cells slots Q (F0 m 11 ls []) := by
  subst hR
  obtain ⟨rfl, rfl⟩ := hc
  have hx := C.1
  have hb := C.2.1
  intro d
  induction d with
  | zero =>
    intro k hk σ H locs h ls hl K
    refine lv_iload_n hx hb d_Lg_writeHeader_11 rfl (lk hl rfl) ?_
    refine lv_iload_n hx hb d_Lg_writeHeader_12 rfl (lk hl rfl) ?_
    refine lv_icmp_ge (tgt := 40) hx hb d_Lg_writeHeader_13 (by decide) (fun c_13 => ?_) (fun c_13 => False.elim (f_nle c_13 (by omega) (by omega) (by omega)))
    exact K H locs h ls (lv_re hl _ rfl)
  | succ d ih =>
    intro k hk σ H locs h ls hl K
    refine lv_iload_n hx hb d_Lg_writeHeader_11 rfl (lk hl rfl) ?_
    refine lv_iload_n hx hb d_Lg_writeHeader_12 rfl (lk hl rfl) ?_
    refine lv_icmp_ge (tgt := 40) hx hb d_Lg_writeHeader_13 (by decide) (fun c_13 => False.elim (f_le c_13 (by omega) (by omega) (by omega))) (fun c_13 => ?_)
    refine lv_aload_n hx hb d_Lg_writeHeader_16 rfl (lk hl rfl) ?_
    refine g_Lg_15 C h d_Lg_writeHeader_17 ?_
    refine lv_iconst (v := nI 4) hx hb d_Lg_writeHeader_20 (by decide) ?_
    refine lv_iconst (v := nI 4) hx hb d_Lg_writeHeader_21 (by decide) ?_
    refine lv_iload_n hx hb d_Lg_writeHeader_22 rfl (lk hl rfl) ?_
    refine lv_imul hx hb d_Lg_writeHeader_23 ?_
    refine top (pk_mul 4 k) ?_
    refine lv_iadd hx hb d_Lg_writeHeader_24 ?_
    refine top (nI_add 4 (4 * k)) ?_
    refine lv_aload_n hx hb d_Lg_writeHeader_25 rfl (lk hl rfl) ?_
    refine g_Lg_9 C h d_Lg_writeHeader_26 ?_
    refine lv_iload_n hx hb d_Lg_writeHeader_29 rfl (lk hl rfl) ?_
    refine ln_c10 C h (by omega) (by omega) d_Lg_writeHeader_30 ?_
    refine x_callSv (Y := Yc G n ad) C h hl.1 (c_Lg_put l G n ad σ 12 (4 + 4 * k) (σ 10 k) (by omega) (by omega) (by omega)) cs_Lg_64 rfl rfl (Nat.le_of_ble_eq_true rfl) ⟨Nat.le_of_ble_eq_true rfl, Nat.le_of_ble_eq_true rfl⟩ ⟨Nat.le_refl _, Nat.le_refl _⟩ d_Lg_writeHeader_31 (fun H locs h => ?_)
    refine x_iinc (v := nI (k + 1)) hx hb d_Lg_writeHeader_34 hl rfl (inc1 k) (by decide) (fun ls hl => ?_)
    refine lv_goto (tgt := 11) hx hb d_Lg_writeHeader_37 (by decide) ?_
    exact ih (k + 1) (by omega) _ H locs h ls (lv_re hl _ rfl) K
theorem c_Lg_wh (l : Launch) (G : Gx) (n : Nat) (ad : Nat → Nat) (σ : Sg) (u : Nat) (hu : u ≤ 30) (hn : n ≤ 80) (hn2 : 40 ≤ n) : MV l G (Yc G n ad) y_Lg_writeHeader b_Lg_writeHeader 3 none 2 σ [.ref (ad 9), .int (nI u)] (wh σ u) := by
  refine go rfl (Nat.le_of_ble_eq_true rfl) (fun p e s m below meth c ls C h hl => ?_)
  have hx := C.1
  have hb := C.2.1
  refine lv_aload_n hx hb d_Lg_writeHeader_0 rfl (lk hl rfl) ?_
  refine g_Lg_15 C h d_Lg_writeHeader_1 ?_
  refine lv_iconst (v := nI 0) hx hb d_Lg_writeHeader_4 (by decide) ?_
  refine lv_iload_n hx hb d_Lg_writeHeader_5 rfl (lk hl rfl) ?_
  refine x_callSv (Y := Yc G n ad) C h hl.1 (c_Lg_put l G n ad σ 12 0 (nI u) (by omega) (by omega) (by omega)) cs_Lg_64 rfl rfl (Nat.le_of_ble_eq_true rfl) ⟨Nat.le_of_ble_eq_true rfl, Nat.le_of_ble_eq_true rfl⟩ ⟨Nat.le_refl _, Nat.le_refl _⟩ d_Lg_writeHeader_6 (fun H locs h => ?_)
  refine lv_iconst (v := nI 0) hx hb d_Lg_writeHeader_9 (by decide) ?_
  refine lv_istore_n hx hb d_Lg_writeHeader_10 rfl hl (by decide) rfl (fun ls hl => ?_)
  refine lp_Lg_wh C hu rfl ⟨rfl, rfl⟩ u 0 (by omega) _ _ _ h ls (lv_re hl _ rfl) (fun H locs h ls hl => ?_)
  refine lv_aload_n hx hb d_Lg_writeHeader_40 rfl (lk hl rfl) ?_
  refine g_Lg_22 C h d_Lg_writeHeader_41 ?_
  refine lv_iconst (v := nI 2) hx hb d_Lg_writeHeader_44 (by decide) ?_
  refine lv_aload_n hx hb d_Lg_writeHeader_45 rfl (lk hl rfl) ?_
  refine g_Lg_15 C h d_Lg_writeHeader_46 ?_
  refine x_callVv (Y := Yc G n ad) (q := 1) C h hl.1 (c_Pl_write l G n ad _ 2 12 (by omega) hn (by omega) (by omega)) (Nat.le_of_ble_eq_true rfl) rfl rfl rfl cw_Lg_68 rfl rfl (Nat.le_of_ble_eq_true rfl) ⟨Nat.le_of_ble_eq_true rfl, Nat.le_of_ble_eq_true rfl⟩ ⟨Nat.le_refl _, Nat.le_refl _⟩ d_Lg_writeHeader_49 (fun H locs h => ?_)
  exact x_vret C h d_Lg_writeHeader_52 (rfl)
/-- the homes of the first sz places are blocks, and lie in rows -/
def HomeOk (n sz : Nat) (σ : Sg) : Prop := σ 9 6 = nI sz ∧ ∀ k, k < sz → fd σ (σ 10 k) < 34 ∧ ∃ b, b < n ∧ σ 10 k = nI b
theorem HomeOk.of {n sz : Nat} {σ σ' : Sg} (h : HomeOk n sz σ) (h9 : σ' 9 6 = σ 9 6) (h5 : σ' 5 = σ 5) (h10 : σ' 10 = σ 10) : HomeOk n sz σ' := by
  refine ⟨h9.trans h.1, fun k hk => ?_⟩
  rw [h10, fd_congr h5]
  exact h.2 k hk
theorem lp_cm1 {sz : Nat} (C : Cx G p s m args meth c R_Lg b_Lg_commit 2 ret) (hu : sz ≤ 30) (hn : n ≤ 80) (hn2 : 40 ≤ n) (hR : R = rk 3) (hc : cells = 0 ∧ slots = 0) : ∀ (d k : Nat), k + d = sz → ∀ (σ : Sg) (H : Heap) (locs : List Loc), HomeOk n sz σ → Hp G (Yc G n ad) A H0 σ H locs → ∀ ls : Array Slot, lv_has ls 2 [(0, .ref (ad 9)), (1, .int (nI k))] → (∀ (H : Heap) (locs : List Loc), Hp G (Yc G n ad) A H0 (itr (fun k σ => pw σ (3 + k) (rw_ σ k)) d k σ) H locs → ∀ ls : Array Slot, lv_has ls 2 [(0, .ref (ad 9))] → W p l e R s m args below meth c H locs cells slots Q (F0 m 55 ls [])) → W p l e R s m args below meth c H locs cells slots Q (F0 m 10 ls []) := by
  subst hR
  obtain ⟨rfl, rfl⟩ := hc
  have hx := C.1
  have hb := C.2.1
  intro d
  induction d with
  | zero =>
    intro k hk σ H locs ho h ls hl K
    refine lv_iload_n hx hb d_Lg_commit_10 rfl (lk hl rfl) ?_
    refine lv_aload_n hx hb d_Lg_commit_11 rfl (lk hl rfl) ?_
    refine g_Lg_51 C h d_Lg_commit_12 ?_
    refine top ho.1 ?_
    refine lv_icmp_ge (tgt := 55) hx hb d_Lg_commit_15 (by decide) (fun c_15 => ?_) (fun c_15 => False.elim (f_nle c_15 (by omega) (by omega) (by omega)))
    exact K H locs h ls (lv_re hl _ rfl)
  | succ d ih =>
    intro k hk σ H locs ho h ls hl K
    obtain ⟨hlt, b, hbn, hbe⟩ := ho.2 k (by omega)
    refine lv_iload_n hx hb d_Lg_commit_10 rfl (lk hl rfl) ?_
    refine lv_aload_n hx hb d_Lg_commit_11 rfl (lk hl rfl) ?_
    refine g_Lg_51 C h d_Lg_commit_12 ?_
    refine top ho.1 ?_
    refine lv_icmp_ge (tgt := 55) hx hb d_Lg_commit_15 (by decide) (fun c_15 => False.elim (f_le c_15 (by omega) (by omega) (by omega))) (fun c_15 => ?_)
    refine lv_aload_n hx hb d_Lg_commit_18 rfl (lk hl rfl) ?_
    refine g_Lg_22 C h d_Lg_commit_19 ?_
    refine lv_iconst (v := nI 3) hx hb d_Lg_commit_22 (by decide) ?_
    refine lv_iload_n hx hb d_Lg_commit_23 rfl (lk hl rfl) ?_
    refine lv_iadd hx hb d_Lg_commit_24 ?_
    refine top (nI_add 3 k) ?_
    refine lv_aload_n hx hb d_Lg_commit_25 rfl (lk hl rfl) ?_
    refine g_Lg_26 C h d_Lg_commit_26 ?_
    refine g_Lg_38 C h d_Lg_commit_29 ?_
    refine lv_aload_n hx hb d_Lg_commit_32 rfl (lk hl rfl) ?_
    refine g_Lg_26 C h d_Lg_commit_33 ?_
    refine lv_aload_n hx hb d_Lg_commit_36 rfl (lk hl rfl) ?_
    refine g_Lg_9 C h d_Lg_commit_37 ?_
    refine lv_iload_n hx hb d_Lg_commit_40 rfl (lk hl rfl) ?_
    refine ln_c10 C h (by omega) (by omega) d_Lg_commit_41 ?_
    refine x_callVi (Y := Yc G n ad) (q := 3) C h hl.1 (c_Ca_find l G n ad σ (σ 10 k)) (Nat.le_of_ble_eq_true rfl) rfl rfl rfl cw_Lg_72 rfl rfl (Nat.le_of_ble_eq_true rfl) ⟨Nat.le_of_ble_eq_true rfl, Nat.le_of_ble_eq_true rfl⟩ ⟨Nat.le_refl _, Nat.le_refl _⟩ d_Lg_commit_42 (fun H locs h => ?_)
    refine top (show fdr σ (σ 10 k) = nI (fd σ (σ 10 k)) by rw [fdr, if_pos hlt]) ?_
    refine ln_c4 C h hlt d_Lg_commit_45 ?_
    refine x_callVv (Y := Yc G n ad) (q := 1) C h hl.1 (c_Pl_write l G n ad σ (3 + k) (rw_ σ k) (by omega) hn (by rw [rw_]; omega) (by rw [rw_]; omega)) (Nat.le_of_ble_eq_true rfl) rfl rfl rfl cw_Lg_68 rfl rfl (Nat.le_of_ble_eq_true rfl) ⟨Nat.le_of_ble_eq_true rfl, Nat.le_of_ble_eq_true rfl⟩ ⟨Nat.le_refl _, Nat.le_refl _⟩ d_Lg_commit_46 (fun H locs h => ?_)
    refine x_iinc (v := nI (k + 1)) hx hb d_Lg_commit_49 hl rfl (inc1 k) (by decide) (fun ls hl => ?_)
    refine lv_goto (tgt := 10) hx hb d_Lg_commit_52 (by decide) ?_
    exact ih (k + 1) (by omega) _ H locs (ho.of (by rw [pw_ne (by decide) (by decide)]) (pw_ne (by decide) (by decide)) (pw_ne (by decide) (by decide))) h ls (lv_re hl _ rfl) K
theorem lp_cm2 {sz : Nat} (C : Cx G p s m args meth c R_Lg b_Lg_commit 2 ret) (hu : sz ≤ 30) (hn : n ≤ 80) (hn2 : 40 ≤ n) (hR : R = rk 3) (hc : cells = 0 ∧ slots = 0) : ∀ (d k : Nat), k + d = sz → ∀ (σ : Sg) (H : Heap) (locs : List Loc), HomeOk n sz σ → Hp G (Yc G n ad) A H0 σ H locs → ∀ ls : Array Slot, lv_has ls 2 [(0, .ref (ad 9)), (1, .int (nI k))] → (∀ (H : Heap) (locs : List Loc), Hp G (Yc G n ad) A H0 (itr (fun k σ => pw σ (σ 10 k).toNatClampNeg (rw_ σ k)) d k σ) H locs → ∀ ls : Array Slot, lv_has ls 2 [(0, .ref (ad 9))] → W p l e R s m args below meth c H locs cells slots Q (F0 m 137 ls [])) → W p l e R s m args below meth c H locs cells slots Q (F0 m 89 ls []) := by
  subst hR
  obtain ⟨rfl, rfl⟩ := hc
  have hx := C.1
  have hb := C.2.1
  intro d
  induction d with
  | zero =>
    intro k hk σ H locs ho h ls hl K
    refine lv_iload_n hx hb d_Lg_commit_89 rfl (lk hl rfl) ?_
    refine lv_aload_n hx hb d_Lg_commit_90 rfl (lk hl rfl) ?_
    refine g_Lg_51 C h d_Lg_commit_91 ?_
    refine top ho.1 ?_
    refine lv_icmp_ge (tgt := 137) hx hb d_Lg_commit_94 (by decide) (fun c_94 => ?_) (fun c_94 => False.elim (f_nle c_94 (by omega) (by omega) (by omega)))
    exact K H locs h ls (lv_re hl _ rfl)
  | succ d ih =>
    intro k hk σ H locs ho h ls hl K
    obtain ⟨hlt, b, hbn, hbe⟩ := ho.2 k (by omega)
    refine lv_iload_n hx hb d_Lg_commit_89 rfl (lk hl rfl) ?_
    refine lv_aload_n hx hb d_Lg_commit_90 rfl (lk hl rfl) ?_
    refine g_Lg_51 C h d_Lg_commit_91 ?_
    refine top ho.1 ?_
    refine lv_icmp_ge (tgt := 137) hx hb d_Lg_commit_94 (by decide) (fun c_94 => False.elim (f_le c_94 (by omega) (by omega) (by omega))) (fun c_94 => ?_)
    refine lv_aload_n hx hb d_Lg_commit_97 rfl (lk hl rfl) ?_
    refine g_Lg_22 C h d_Lg_commit_98 ?_
    refine lv_aload_n hx hb d_Lg_commit_101 rfl (lk hl rfl) ?_
    refine g_Lg_9 C h d_Lg_commit_102 ?_
    refine lv_iload_n hx hb d_Lg_commit_105 rfl (lk hl rfl) ?_
    refine ln_c10 C h (by omega) (by omega) d_Lg_commit_106 ?_
    refine top (show σ 10 k = nI (σ 10 k).toNatClampNeg by rw [hbe, nI_clamp (by omega)]) ?_
    refine lv_aload_n hx hb d_Lg_commit_107 rfl (lk hl rfl) ?_
    refine g_Lg_26 C h d_Lg_commit_108 ?_
    refine g_Lg_38 C h d_Lg_commit_111 ?_
    refine lv_aload_n hx hb d_Lg_commit_114 rfl (lk hl rfl) ?_
    refine g_Lg_26 C h d_Lg_commit_115 ?_
    refine lv_aload_n hx hb d_Lg_commit_118 rfl (lk hl rfl) ?_
    refine g_Lg_9 C h d_Lg_commit_119 ?_
    refine lv_iload_n hx hb d_Lg_commit_122 rfl (lk hl rfl) ?_
    refine ln_c10 C h (by omega) (by omega) d_Lg_commit_123 ?_
    refine x_callVi (Y := Yc G n ad) (q := 3) C h hl.1 (c_Ca_find l G n ad σ (σ 10 k)) (Nat.le_of_ble_eq_true rfl) rfl rfl rfl cw_Lg_72 rfl rfl (Nat.le_of_ble_eq_true rfl) ⟨Nat.le_of_ble_eq_true rfl, Nat.le_of_ble_eq_true rfl⟩ ⟨Nat.le_refl _, Nat.le_refl _⟩ d_Lg_commit_124 (fun H locs h => ?_)
    refine top (show fdr σ (σ 10 k) = nI (fd σ (σ 10 k)) by rw [fdr, if_pos hlt]) ?_
    refine ln_c4 C h hlt d_Lg_commit_127 ?_
    refine x_callVv (Y := Yc G n ad) (q := 1) C h hl.1 (c_Pl_write l G n ad σ (σ 10 k).toNatClampNeg (rw_ σ k) (by rw [hbe, nI_clamp (by omega)]; exact hbn) hn (by rw [rw_]; omega) (by rw [rw_]; omega)) (Nat.le_of_ble_eq_true rfl) rfl rfl rfl cw_Lg_68 rfl rfl (Nat.le_of_ble_eq_true rfl) ⟨Nat.le_of_ble_eq_true rfl, Nat.le_of_ble_eq_true rfl⟩ ⟨Nat.le_refl _, Nat.le_refl _⟩ d_Lg_commit_128 (fun H locs h => ?_)
    refine x_iinc (v := nI (k + 1)) hx hb d_Lg_commit_131 hl rfl (inc1 k) (by decide) (fun ls hl => ?_)
    refine lv_goto (tgt := 89) hx hb d_Lg_commit_134 (by decide) ?_
    exact ih (k + 1) (by omega) _ H locs (ho.of (by rw [pw_ne (by decide) (by decide)]) (pw_ne (by decide) (by decide)) (pw_ne (by decide) (by decide))) h ls (lv_re hl _ rfl) K
theorem lp_cm3 {sz : Nat} (C : Cx G p s m args meth c R_Lg b_Lg_commit 2 ret) (hu : sz ≤ 30) (hn : n ≤ 80) (hn2 : 40 ≤ n) (hR : R = rk 3) (hc : cells = 0 ∧ slots = 0) : ∀ (d k : Nat), k + d = sz → ∀ (σ : Sg) (H : Heap) (locs : List Loc), HomeOk n sz σ → Hp G (Yc G n ad) A H0 σ H locs → ∀ ls : Array Slot, lv_has ls 2 [(0, .ref (ad 9)), (1, .int (nI k))] → (∀ (H : Heap) (locs : List Loc), Hp G (Yc G n ad) A H0 (itr (fun k σ => set1 σ 6 (fd σ (σ 10 k)) 0) d k σ) H locs → ∀ ls : Array Slot, lv_has ls 2 [(0, .ref (ad 9))] → W p l e R s m args below meth c H locs cells slots Q (F0 m 180 ls [])) → W p l e R s m args below meth c H locs cells slots Q (F0 m 144 ls []) := by
  subst hR
  obtain ⟨rfl, rfl⟩ := hc
  have hx := C.1
  have hb := C.2.1
  intro d
  induction d with
  | zero =>
    intro k hk σ H locs ho h ls hl K
    refine lv_iload_n hx hb d_Lg_commit_144 rfl (lk hl rfl) ?_
    refine lv_aload_n hx hb d_Lg_commit_145 rfl (lk hl rfl) ?_
    refine g_Lg_51 C h d_Lg_commit_146 ?_
    refine top ho.1 ?_
    refine lv_icmp_ge (tgt := 180) hx hb d_Lg_commit_149 (by decide) (fun c_149 => ?_) (fun c_149 => False.elim (f_nle c_149 (by omega) (by omega) (by omega)))
    exact K H locs h ls (lv_re hl _ rfl)
  | succ d ih =>
    intro k hk σ H locs ho h ls hl K
    obtain ⟨hlt, b, hbn, hbe⟩ := ho.2 k (by omega)
    refine lv_iload_n hx hb d_Lg_commit_144 rfl (lk hl rfl) ?_
    refine lv_aload_n hx hb d_Lg_commit_145 rfl (lk hl rfl) ?_
    refine g_Lg_51 C h d_Lg_commit_146 ?_
    refine top ho.1 ?_
    refine lv_icmp_ge (tgt := 180) hx hb d_Lg_commit_149 (by decide) (fun c_149 => False.elim (f_le c_149 (by omega) (by omega) (by omega))) (fun c_149 => ?_)
    refine lv_aload_n hx hb d_Lg_commit_152 rfl (lk hl rfl) ?_
    refine g_Lg_26 C h d_Lg_commit_153 ?_
    refine g_Lg_48 C h d_Lg_commit_156 ?_
    refine lv_aload_n hx hb d_Lg_commit_159 rfl (lk hl rfl) ?_
    refine g_Lg_26 C h d_Lg_commit_160 ?_
    refine lv_aload_n hx hb d_Lg_commit_163 rfl (lk hl rfl) ?_
    refine g_Lg_9 C h d_Lg_commit_164 ?_
    refine lv_iload_n hx hb d_Lg_commit_167 rfl (lk hl rfl) ?_
    refine ln_c10 C h (by omega) (by omega) d_Lg_commit_168 ?_
    refine x_callVi (Y := Yc G n ad) (q := 3) C h hl.1 (c_Ca_find l G n ad σ (σ 10 k)) (Nat.le_of_ble_eq_true rfl) rfl rfl rfl cw_Lg_72 rfl rfl (Nat.le_of_ble_eq_true rfl) ⟨Nat.le_of_ble_eq_true rfl, Nat.le_of_ble_eq_true rfl⟩ ⟨Nat.le_refl _, Nat.le_refl _⟩ d_Lg_commit_169 (fun H locs h => ?_)
    refine top (show fdr σ (σ 10 k) = nI (fd σ (σ 10 k)) by rw [fdr, if_pos hlt]) ?_
    refine lv_iconst (v := 0) hx hb d_Lg_commit_172 (by decide) ?_
    refine sn_c6 C h rfl hlt (by omega) d_Lg_commit_173 (fun H locs h => ?_)
    refine x_iinc (v := nI (k + 1)) hx hb d_Lg_commit_174 hl rfl (inc1 k) (by decide) (fun ls hl => ?_)
    refine lv_goto (tgt := 144) hx hb d_Lg_commit_177 (by decide) ?_
    exact ih (k + 1) (by omega) _ H locs (ho.of (by rw [st_ne (by decide)]) (st_ne (by decide)) (st_ne (by decide))) h ls (lv_re hl _ rfl) K
theorem tl_cm {sz : Nat} {σ σ' : Sg} (C : Cx G p s m args meth c R_Lg b_Lg_commit 2 none) (hu : sz ≤ 30) (hn : n ≤ 80) (hn2 : 40 ≤ n) (ho : HomeOk n sz σ) (h : Hp G (Yc G n ad) (Aof (Yc G n ad)) s.heap σ H locs) {ls : Array Slot} (hl : lv_has ls 2 [(0, .ref (ad 9))]) (hs : (let s4 := itr (fun k σ => pw σ (σ 10 k).toNatClampNeg (rw_ σ k)) sz 0 σ; let s5 := wh s4 0; let s6 := itr (fun k σ => set1 σ 6 (fd σ (σ 10 k)) 0) sz 0 s5; set1 s6 9 6 0) = σ') : W p l e (rk 3) s m args below meth c H locs 0 0 (MQ below (QV G (Yc G n ad) σ') args s 0 0 (Aof (Yc G n ad))) (F0 m 87 ls []) := by
  have hx := C.1
  have hb := C.2.1
  refine lv_iconst (v := nI 0) hx hb d_Lg_commit_87 (by decide) ?_
  refine lv_istore_n hx hb d_Lg_commit_88 rfl hl (by decide) rfl (fun ls hl => ?_)
  refine lp_cm2 C hu hn hn2 rfl ⟨rfl, rfl⟩ sz 0 (by omega) σ _ _ ho h ls (lv_re hl _ rfl) (fun H locs h ls hl => ?_)
  have ho := ho.of (σ' := itr (fun k σ => pw σ (σ 10 k).toNatClampNeg (rw_ σ k)) sz 0 σ) (by rw [itr_ne (fun _ _ => pw_ne (by decide) (by decide))]) (itr_ne (fun _ _ => pw_ne (by decide) (by decide)) _ _ _) (itr_ne (fun _ _ => pw_ne (by decide) (by decide)) _ _ _)
  refine lv_aload_n hx hb d_Lg_commit_137 rfl (lk hl rfl) ?_
  refine lv_iconst (v := nI 0) hx hb d_Lg_commit_138 (by decide) ?_
  refine x_callVv (Y := Yc G n ad) (q := 9) C h hl.1 (c_Lg_wh l G n ad _ 0 (by omega) hn hn2) (Nat.le_of_ble_eq_true rfl) rfl rfl rfl cw_Lg_75 rfl rfl (Nat.le_of_ble_eq_true rfl) ⟨Nat.le_of_ble_eq_true rfl, Nat.le_of_ble_eq_true rfl⟩ ⟨Nat.le_refl _, Nat.le_refl _⟩ d_Lg_commit_139 (fun H locs h => ?_)
  refine lv_iconst (v := nI 0) hx hb d_Lg_commit_142 (by decide) ?_
  refine lv_istore_n hx hb d_Lg_commit_143 rfl hl (by decide) rfl (fun ls hl => ?_)
  have ho := ho.of (σ' := wh (itr (fun k σ => pw σ (σ 10 k).toNatClampNeg (rw_ σ k)) sz 0 σ) 0) (by rw [wh_ne (by decide) (by decide) (by decide)]) (wh_ne (by decide) (by decide) (by decide)) (wh_ne (by decide) (by decide) (by decide))
  refine lp_cm3 C hu hn hn2 rfl ⟨rfl, rfl⟩ sz 0 (by omega) _ _ _ ho h ls (lv_re hl _ rfl) (fun H locs h ls hl => ?_)
  refine lv_aload_n hx hb d_Lg_commit_180 rfl (lk hl rfl) ?_
  refine lv_iconst (v := 0) hx hb d_Lg_commit_181 (by decide) ?_
  refine p_Lg_51 C h d_Lg_commit_182 (fun H locs h => ?_)
  exact x_vret C h d_Lg_commit_185 (hs)
theorem c_Lg_commit (l : Launch) (G : Gx) (n : Nat) (ad : Nat → Nat) (σ : Sg) (sz : Nat) (hu : sz ≤ 30) (hn : n ≤ 80) (hn2 : 40 ≤ n) (ho : HomeOk n sz σ) : MV l G (Yc G n ad) y_Lg_commit b_Lg_commit 2 none 3 σ [.ref (ad 9)] (cmt σ sz) := by
  refine go rfl (Nat.le_of_ble_eq_true rfl) (fun p e s m below meth c ls C h hl => ?_)
  have hx := C.1
  have hb := C.2.1
  by_cases hz : sz = 0
  · refine lv_aload_n hx hb d_Lg_commit_0 rfl (lk hl rfl) ?_
    refine g_Lg_51 C h d_Lg_commit_1 ?_
    refine top (show σ 9 6 = 0 by rw [ho.1, hz]; rfl) ?_
    refine lv_if_ne (tgt := 8) hx hb d_Lg_commit_4 (by decide) (fun c_4 => False.elim (c_4 rfl)) (fun c_4 => ?_)
    exact x_vret C h d_Lg_commit_7 (by rw [cmt, if_pos hz])
  · refine lv_aload_n hx hb d_Lg_commit_0 rfl (lk hl rfl) ?_
    refine g_Lg_51 C h d_Lg_commit_1 ?_
    refine top ho.1 ?_
    refine lv_if_ne (tgt := 8) hx hb d_Lg_commit_4 (by decide) (fun c_4 => ?_) (fun c_4 => False.elim (nI_ne0 (by omega) (by omega) c_4))
    refine lv_iconst (v := nI 0) hx hb d_Lg_commit_8 (by decide) ?_
    refine lv_istore_n hx hb d_Lg_commit_9 rfl hl (by decide) rfl (fun ls hl => ?_)
    refine lp_cm1 C hu hn hn2 rfl ⟨rfl, rfl⟩ sz 0 (by omega) σ _ _ ho h ls (lv_re hl _ rfl) (fun H locs h ls hl => ?_)
    have ho := ho.of (σ' := itr (fun k σ => pw σ (3 + k) (rw_ σ k)) sz 0 σ) (by rw [itr_ne (fun _ _ => pw_ne (by decide) (by decide))]) (itr_ne (fun _ _ => pw_ne (by decide) (by decide)) _ _ _) (itr_ne (fun _ _ => pw_ne (by decide) (by decide)) _ _ _)
    refine lv_aload_n hx hb d_Lg_commit_55 rfl (lk hl rfl) ?_
    refine lv_aload_n hx hb d_Lg_commit_56 rfl (lk hl rfl) ?_
    refine g_Lg_51 C h d_Lg_commit_57 ?_
    refine top ho.1 ?_
    refine x_callVv (Y := Yc G n ad) (q := 9) C h hl.1 (c_Lg_wh l G n ad _ sz hu hn hn2) (Nat.le_of_ble_eq_true rfl) rfl rfl rfl cw_Lg_75 rfl rfl (Nat.le_of_ble_eq_true rfl) ⟨Nat.le_of_ble_eq_true rfl, Nat.le_of_ble_eq_true rfl⟩ ⟨Nat.le_refl _, Nat.le_refl _⟩ d_Lg_commit_60 (fun H locs h => ?_)
    have ho := ho.of (σ' := wh (itr (fun k σ => pw σ (3 + k) (rw_ σ k)) sz 0 σ) sz) (by rw [wh_ne (by decide) (by decide) (by decide)]) (wh_ne (by decide) (by decide) (by decide)) (wh_ne (by decide) (by decide) (by decide))
    refine lv_aload_n hx hb d_Lg_commit_63 rfl (lk hl rfl) ?_
    refine lv_dup hx hb d_Lg_commit_64 rfl ?_
    refine g_Lg_79 C h d_Lg_commit_65 ?_
    refine lv_aload_n hx hb d_Lg_commit_68 rfl (lk hl rfl) ?_
    refine g_Lg_22 C h d_Lg_commit_69 ?_
    refine g_Lg_82 C h d_Lg_commit_72 ?_
    refine lv_if_eq (tgt := 82) hx hb d_Lg_commit_75 (by decide) (fun c_75 => ?_) (fun c_75 => ?_)
    · refine lv_iconst (v := 1) hx hb d_Lg_commit_82 (by decide) ?_
      refine lv_iadd hx hb d_Lg_commit_83 ?_
      refine p_Lg_79 C h d_Lg_commit_84 (fun H locs h => ?_)
      exact tl_cm C hu hn hn2 (ho.of (st_nk (by decide)) (st_ne (by decide)) (st_ne (by decide))) h (lv_re hl _ rfl) (by simp only [cmt]; rw [if_neg hz]; first | rw [if_pos c_75] | rw [if_neg c_75])
    · refine lv_iconst (v := 0) hx hb d_Lg_commit_78 (by decide) ?_
      refine lv_goto (tgt := 83) hx hb d_Lg_commit_79 (by decide) ?_
      refine lv_iadd hx hb d_Lg_commit_83 ?_
      refine p_Lg_79 C h d_Lg_commit_84 (fun H locs h => ?_)
      exact tl_cm C hu hn hn2 (ho.of (st_nk (by decide)) (st_ne (by decide)) (st_ne (by decide))) h (lv_re hl _ rfl) (by simp only [cmt]; rw [if_neg hz]; first | rw [if_pos c_75] | rw [if_neg c_75])
theorem c_Lg_end (l : Launch) (G : Gx) (n : Nat) (ad : Nat → Nat) (σ : Sg) (sz : Nat) (hu : sz ≤ 30) (hn : n ≤ 80) (hn2 : 40 ≤ n) (ho : HomeOk n sz σ) : MV l G (Yc G n ad) y_Lg_end b_Lg_end 1 none 4 σ [.ref (ad 9)] (lend σ sz) := by
  refine go rfl (Nat.le_of_ble_eq_true rfl) (fun p e s m below meth c ls C h hl => ?_)
  have hx := C.1
  have hb := C.2.1
  have ho' : HomeOk n sz (set1 σ 9 9 0) := ho.of (st_nk (by decide)) (st_ne (by decide)) (st_ne (by decide))
  by_cases hz : 20 < sz
  · refine lv_aload_n hx hb d_Lg_end_0 rfl (lk hl rfl) ?_
    refine lv_iconst (v := 0) hx hb d_Lg_end_1 (by decide) ?_
    refine p_Lg_57 C h d_Lg_end_2 rfl rfl (fun H locs h => ?_)
    refine lv_aload_n hx hb d_Lg_end_5 rfl (lk hl rfl) ?_
    refine g_Lg_51 C h d_Lg_end_6 ?_
    refine top ho'.1 ?_
    refine lv_bipush (v := nI 20) hx hb d_Lg_end_9 (by decide) ?_
    refine lv_icmp_le (tgt := 18) hx hb d_Lg_end_11 (by decide) (fun c_11 => False.elim (f_le c_11 (by omega) (by omega) (by omega))) (fun c_11 => ?_)
    refine lv_aload_n hx hb d_Lg_end_14 rfl (lk hl rfl) ?_
    refine x_callVv (Y := Yc G n ad) (q := 9) C h hl.1 (c_Lg_commit l G n ad _ sz hu hn hn2 ho') (Nat.le_of_ble_eq_true rfl) rfl rfl rfl cw_Lg_61 rfl rfl (Nat.le_of_ble_eq_true rfl) ⟨Nat.le_of_ble_eq_true rfl, Nat.le_of_ble_eq_true rfl⟩ ⟨Nat.le_refl _, Nat.le_refl _⟩ d_Lg_end_15 (fun H locs h => ?_)
    exact x_vret C h d_Lg_end_18 (by simp only [lend]; rw [if_pos hz])
  · refine lv_aload_n hx hb d_Lg_end_0 rfl (lk hl rfl) ?_
    refine lv_iconst (v := 0) hx hb d_Lg_end_1 (by decide) ?_
    refine p_Lg_57 C h d_Lg_end_2 rfl rfl (fun H locs h => ?_)
    refine lv_aload_n hx hb d_Lg_end_5 rfl (lk hl rfl) ?_
    refine g_Lg_51 C h d_Lg_end_6 ?_
    refine top ho'.1 ?_
    refine lv_bipush (v := nI 20) hx hb d_Lg_end_9 (by decide) ?_
    refine lv_icmp_le (tgt := 18) hx hb d_Lg_end_11 (by decide) (fun c_11 => ?_) (fun c_11 => False.elim (f_nle c_11 (by omega) (by omega) (by omega)))
    exact x_vret C h d_Lg_end_18 (by simp only [lend]; rw [if_neg hz])
theorem lp_rcv {u : Nat} (C : Cx G p s m args meth c R_Lg b_Lg_recover 3 ret) (hu : u ≤ 30) (hn : n ≤ 80) (hn2 : 40 ≤ n) (hR : R = rk 3) (hc : cells = 0 ∧ slots = 0) : ∀ (d k : Nat), k + d = u → ∀ (σ : Sg) (H : Heap) (locs : List Loc), (∀ j, j < u → ∃ b, b < n ∧ get4 σ 12 (4 + 4 * j) = nI b) → Hp G (Yc G n ad) A H0 σ H locs → ∀ ls : Array Slot, lv_has ls 3 [(0, .ref (ad 9)), (1, .int (nI u)), (2, .int (nI k))] → (∀ (H : Heap) (locs : List Loc), Hp G (Yc G n ad) A H0 (itr (fun k σ => let a1 := set1 σ 10 k (get4 σ 12 (4 + 4 * k)); let a2 := prd a1 (3 + k) 13; pw a2 (a2 10 k).toNatClampNeg 13) d k σ) H locs → ∀ ls : Array Slot, lv_has ls 3 [(0, .ref (ad 9)), (1, .int (nI u))] → W p l e R s m args below meth c H locs cells slots Q (F0 m 100 ls [])) → W p l e R s m args below meth c H locs cells slots Q (F0 m 40 ls []) := by
  subst hR
  obtain ⟨rfl, rfl⟩ := hc
  have hx := C.1
  have hb := C.2.1
  intro d
  induction d with
  | zero =>
    intro k hk σ H locs ho h ls hl K
    refine lv_iload_n hx hb d_Lg_recover_40 rfl (lk hl rfl) ?_
    refine lv_iload_n hx hb d_Lg_recover_41 rfl (lk hl rfl) ?_
    refine lv_icmp_ge (tgt := 100) hx hb d_Lg_recover_42 (by decide) (fun c_42 => ?_) (fun c_42 => False.elim (f_nle c_42 (by omega) (by omega) (by omega)))
    exact K H locs h ls (lv_re hl _ rfl)
  | succ d ih =>
    intro k hk σ H locs ho h ls hl K
    obtain ⟨b, hbn, hbe⟩ := ho k (by omega)
    have e1 : (prd (set1 σ 10 k (get4 σ 12 (4 + 4 * k))) (3 + k) 13) 10 k = nI b := by rw [prd_ne (by decide), st_eq, hbe]
    refine lv_iload_n hx hb d_Lg_recover_40 rfl (lk hl rfl) ?_
    refine lv_iload_n hx hb d_Lg_recover_41 rfl (lk hl rfl) ?_
    refine lv_icmp_ge (tgt := 100) hx hb d_Lg_recover_42 (by decide) (fun c_42 => False.elim (f_le c_42 (by omega) (by omega) (by omega))) (fun c_42 => ?_)
    refine lv_aload_n hx hb d_Lg_recover_45 rfl (lk hl rfl) ?_
    refine g_Lg_9 C h d_Lg_recover_46 ?_
    refine lv_iload_n hx hb d_Lg_recover_49 rfl (lk hl rfl) ?_
    refine lv_aload_n hx hb d_Lg_recover_50 rfl (lk hl rfl) ?_
    refine g_Lg_15 C h d_Lg_recover_51 ?_
    refine lv_iconst (v := nI 4) hx hb d_Lg_recover_54 (by decide) ?_
    refine lv_iconst (v := nI 4) hx hb d_Lg_recover_55 (by decide) ?_
    refine lv_iload_n hx hb d_Lg_recover_56 rfl (lk hl rfl) ?_
    refine lv_imul hx hb d_Lg_recover_57 ?_
    refine top (pk_mul 4 k) ?_
    refine lv_iadd hx hb d_Lg_recover_58 ?_
    refine top (nI_add 4 (4 * k)) ?_
    refine x_callSi (Y := Yc G n ad) C h hl.1 (c_Lg_get l G n ad σ 12 (4 + 4 * k) (by omega) (by omega) (by omega)) cs_Lg_91 rfl rfl (Nat.le_of_ble_eq_true rfl) ⟨Nat.le_of_ble_eq_true rfl, Nat.le_of_ble_eq_true rfl⟩ ⟨Nat.le_refl _, Nat.le_refl _⟩ d_Lg_recover_59 (fun H locs h => ?_)
    refine sn_c10 C h (by omega) (by omega) d_Lg_recover_62 (fun H locs h => ?_)
    refine lv_aload_n hx hb d_Lg_recover_63 rfl (lk hl rfl) ?_
    refine g_Lg_22 C h d_Lg_recover_64 ?_
    refine lv_iconst (v := nI 3) hx hb d_Lg_recover_67 (by decide) ?_
    refine lv_iload_n hx hb d_Lg_recover_68 rfl (lk hl rfl) ?_
    refine lv_iadd hx hb d_Lg_recover_69 ?_
    refine top (nI_add 3 k) ?_
    refine lv_aload_n hx hb d_Lg_recover_70 rfl (lk hl rfl) ?_
    refine g_Lg_19 C h d_Lg_recover_71 ?_
    refine x_callVv (Y := Yc G n ad) (q := 1) C h hl.1 (c_Pl_read l G n ad _ (3 + k) 13 (by omega) hn (by omega) (by omega)) (Nat.le_of_ble_eq_true rfl) rfl rfl rfl cw_Lg_88 rfl rfl (Nat.le_of_ble_eq_true rfl) ⟨Nat.le_of_ble_eq_true rfl, Nat.le_of_ble_eq_true rfl⟩ ⟨Nat.le_refl _, Nat.le_refl _⟩ d_Lg_recover_74 (fun H locs h => ?_)
    refine lv_aload_n hx hb d_Lg_recover_77 rfl (lk hl rfl) ?_
    refine g_Lg_22 C h d_Lg_recover_78 ?_
    refine lv_aload_n hx hb d_Lg_recover_81 rfl (lk hl rfl) ?_
    refine g_Lg_9 C h d_Lg_recover_82 ?_
    refine lv_iload_n hx hb d_Lg_recover_85 rfl (lk hl rfl) ?_
    refine ln_c10 C h (by omega) (by omega) d_Lg_recover_86 ?_
    refine top (show _ = nI ((prd (set1 σ 10 k (get4 σ 12 (4 + 4 * k))) (3 + k) 13) 10 k).toNatClampNeg by rw [e1, nI_clamp (by omega)]) ?_
    refine lv_aload_n hx hb d_Lg_recover_87 rfl (lk hl rfl) ?_
    refine g_Lg_19 C h d_Lg_recover_88 ?_
    refine x_callVv (Y := Yc G n ad) (q := 1) C h hl.1 (c_Pl_write l G n ad _ _ 13 (by rw [e1, nI_clamp (by omega)]; exact hbn) hn (by omega) (by omega)) (Nat.le_of_ble_eq_true rfl) rfl rfl rfl cw_Lg_68 rfl rfl (Nat.le_of_ble_eq_true rfl) ⟨Nat.le_of_ble_eq_true rfl, Nat.le_of_ble_eq_true rfl⟩ ⟨Nat.le_refl _, Nat.le_refl _⟩ d_Lg_recover_91 (fun H locs h => ?_)
    refine x_iinc (v := nI (k + 1)) hx hb d_Lg_recover_94 hl rfl (inc1 k) (by decide) (fun ls hl => ?_)
    refine lv_goto (tgt := 40) hx hb d_Lg_recover_97 (by decide) ?_
    refine ih (k + 1) (by omega) _ H locs (fun j hj => ?_) h ls (lv_re hl _ rfl) K
    rw [show get4 (pw (prd (set1 σ 10 k (get4 σ 12 (4 + 4 * k))) (3 + k) 13) ((prd (set1 σ 10 k (get4 σ 12 (4 + 4 * k))) (3 + k) 13) 10 k).toNatClampNeg 13) 12 (4 + 4 * j) = get4 σ 12 (4 + 4 * j) by simp only [get4]; rw [pw_ne (by decide) (by decide), prd_ne (by decide), st_ne (by decide)]]
    exact ho j hj
theorem c_Lg_recover (l : Launch) (G : Gx) (n : Nat) (ad : Nat → Nat) (σ : Sg) (u : Nat) (hu : u ≤ 30) (hn : n ≤ 80) (hn2 : 40 ≤ n) (h0 : get4 (rcv0 σ) 12 0 = nI u) (ho : ∀ j, j < u → ∃ b, b < n ∧ get4 (rcv0 σ) 12 (4 + 4 * j) = nI b) : MI l G (Yc G n ad) y_Lg_recover b_Lg_recover 3 (some .int) 3 σ [.ref (ad 9)] (nI u) (rcv σ u) := by
  refine go rfl (Nat.le_of_ble_eq_true rfl) (fun p e s m below meth c ls C h hl => ?_)
  have hx := C.1
  have hb := C.2.1
  refine lv_aload_n hx hb d_Lg_recover_0 rfl (lk hl rfl) ?_
  refine g_Lg_26 C h d_Lg_recover_1 ?_
  refine x_callVv (Y := Yc G n ad) (q := 3) C h hl.1 (c_Ca_clear l G n ad σ) (Nat.le_of_ble_eq_true rfl) rfl rfl rfl cw_Lg_85 rfl rfl (Nat.le_of_ble_eq_true rfl) ⟨Nat.le_of_ble_eq_true rfl, Nat.le_of_ble_eq_true rfl⟩ ⟨Nat.le_refl _, Nat.le_refl _⟩ d_Lg_recover_4 (fun H locs h => ?_)
  refine lv_aload_n hx hb d_Lg_recover_7 rfl (lk hl rfl) ?_
  refine lv_iconst (v := 0) hx hb d_Lg_recover_8 (by decide) ?_
  refine p_Lg_57 C h d_Lg_recover_9 rfl rfl (fun H locs h => ?_)
  refine lv_aload_n hx hb d_Lg_recover_12 rfl (lk hl rfl) ?_
  refine lv_iconst (v := 0) hx hb d_Lg_recover_13 (by decide) ?_
  refine p_Lg_51 C h d_Lg_recover_14 (fun H locs h => ?_)
  refine lv_aload_n hx hb d_Lg_recover_17 rfl (lk hl rfl) ?_
  refine g_Lg_22 C h d_Lg_recover_18 ?_
  refine lv_iconst (v := nI 2) hx hb d_Lg_recover_21 (by decide) ?_
  refine lv_aload_n hx hb d_Lg_recover_22 rfl (lk hl rfl) ?_
  refine g_Lg_15 C h d_Lg_recover_23 ?_
  refine x_callVv (Y := Yc G n ad) (q := 1) C h hl.1 (c_Pl_read l G n ad _ 2 12 (by omega) hn (by omega) (by omega)) (Nat.le_of_ble_eq_true rfl) rfl rfl rfl cw_Lg_88 rfl rfl (Nat.le_of_ble_eq_true rfl) ⟨Nat.le_of_ble_eq_true rfl, Nat.le_of_ble_eq_true rfl⟩ ⟨Nat.le_refl _, Nat.le_refl _⟩ d_Lg_recover_26 (fun H locs h => ?_)
  refine lv_aload_n hx hb d_Lg_recover_29 rfl (lk hl rfl) ?_
  refine g_Lg_15 C h d_Lg_recover_30 ?_
  refine lv_iconst (v := nI 0) hx hb d_Lg_recover_33 (by decide) ?_
  refine x_callSi (Y := Yc G n ad) C h hl.1 (c_Lg_get l G n ad (rcv0 σ) 12 0 (by omega) (by omega) (by omega)) cs_Lg_91 rfl rfl (Nat.le_of_ble_eq_true rfl) ⟨Nat.le_of_ble_eq_true rfl, Nat.le_of_ble_eq_true rfl⟩ ⟨Nat.le_refl _, Nat.le_refl _⟩ d_Lg_recover_34 (fun H locs h => ?_)
  refine top h0 ?_
  refine lv_istore_n hx hb d_Lg_recover_37 rfl hl (by decide) rfl (fun ls hl => ?_)
  refine lv_iconst (v := nI 0) hx hb d_Lg_recover_38 (by decide) ?_
  refine lv_istore_n hx hb d_Lg_recover_39 rfl hl (by decide) rfl (fun ls hl => ?_)
  refine lp_rcv C hu hn hn2 rfl ⟨rfl, rfl⟩ u 0 (by omega) (rcv0 σ) _ _ ho h ls (lv_re hl _ rfl) (fun H locs h ls hl => ?_)
  by_cases hz : u = 0
  · refine lv_iload_n hx hb d_Lg_recover_100 rfl (lk hl rfl) ?_
    refine lv_if_le (tgt := 109) hx hb d_Lg_recover_101 (by decide) (fun c_101 => ?_) (fun c_101 => False.elim (c_101 (by rw [hz]; decide)))
    refine lv_iload_n hx hb d_Lg_recover_109 rfl (lk hl rfl) ?_
    exact x_iret C h d_Lg_recover_110 (rfl) (by simp only [rcv]; rw [if_pos hz])
  · refine lv_iload_n hx hb d_Lg_recover_100 rfl (lk hl rfl) ?_
    refine lv_if_le (tgt := 109) hx hb d_Lg_recover_101 (by decide) (fun c_101 => False.elim (nI_nle (by omega) (by omega) c_101)) (fun c_101 => ?_)
    refine lv_aload_n hx hb d_Lg_recover_104 rfl (lk hl rfl) ?_
    refine lv_iconst (v := nI 0) hx hb d_Lg_recover_105 (by decide) ?_
    refine x_callVv (Y := Yc G n ad) (q := 9) C h hl.1 (c_Lg_wh l G n ad _ 0 (by omega) hn hn2) (Nat.le_of_ble_eq_true rfl) rfl rfl rfl cw_Lg_75 rfl rfl (Nat.le_of_ble_eq_true rfl) ⟨Nat.le_of_ble_eq_true rfl, Nat.le_of_ble_eq_true rfl⟩ ⟨Nat.le_refl _, Nat.le_refl _⟩ d_Lg_recover_106 (fun H locs h => ?_)
    refine lv_iload_n hx hb d_Lg_recover_109 rfl (lk hl rfl) ?_
    exact x_iret C h d_Lg_recover_110 (rfl) (by simp only [rcv]; rw [if_neg hz])
end W23
end
section
section W24
variable {p : Program} {l : Launch} {e : Env} {R : Room} {s : State} {m : MethodId} {args : Array Value} {below : List Frame} {meth : Method} {c : Code} {H : Heap} {locs : List Loc} {cells slots : Nat} {Q : State → Prop}
variable {G : Gx} {n : Nat} {ad am : Nat → Nat} {A : Nat → Prop} {H0 : Heap} {ret : Option FieldType}
def ibr (x b : Int32) : Int32 := if ¬ b < 0 ∧ b < x ∧ (b < 2 ∨ 32 < b) then 1 else 0
theorem ibr_1 {x b : Int32} (h1 : ¬ b < 0) (h2 : ¬ x ≤ b) (h3 : b < 2 ∨ ¬ b ≤ 32) : 1 = ibr x b := by
  rw [ibr, if_pos ⟨h1, Int32.not_le.mp h2, h3.imp_right Int32.not_le.mp⟩]
theorem ibr_0 {x b : Int32} (h : b < 0 ∨ x ≤ b ∨ (¬ b < 2 ∧ b ≤ 32)) : 0 = ibr x b := by
  rw [ibr, if_neg]
  rintro ⟨q1, q2, q3⟩
  rcases h with h | h | ⟨h, h'⟩
  · exact q1 h
  · exact Int32.not_lt.mpr h q2
  · rcases q3 with q | q
    · exact h q
    · exact Int32.not_lt.mpr h' q
theorem c_BV_isBlock (l : Launch) (G : Gx) (n : Nat) (ad : Nat → Nat) (σ : Sg) (b : Int32) : MI l G (Yc G n ad) y_BV_isBlock b_BV_isBlock 2 (some .boolean) 0 σ [.ref (ad 0), .int b] (ibr (σ 1 1) b) σ := by
  refine go rfl (Nat.le_of_ble_eq_true rfl) (fun p e s m below meth c ls C h hl => ?_)
  have hx := C.1
  have hb := C.2.1
  refine lv_iload_n hx hb d_BV_isBlock_0 rfl (lk hl rfl) ?_
  refine lv_if_lt (tgt := 30) hx hb d_BV_isBlock_1 (by decide) (fun c_1 => ?_) (fun c_1 => ?_)
  · refine lv_iconst (v := 0) hx hb d_BV_isBlock_30 (by decide) ?_
    exact x_zret C h d_BV_isBlock_31 rfl (by first | exact ibr_1 c_1 c_12 (Or.inl c_17) | exact ibr_1 c_1 c_12 (Or.inr c_23) | exact ibr_0 (Or.inl c_1) | exact ibr_0 (Or.inr (Or.inl c_12)) | exact ibr_0 (Or.inr (Or.inr ⟨c_17, c_23⟩))) (rfl)
  · refine lv_iload_n hx hb d_BV_isBlock_4 rfl (lk hl rfl) ?_
    refine lv_aload_n hx hb d_BV_isBlock_5 rfl (lk hl rfl) ?_
    refine g_BV_23 C h d_BV_isBlock_6 ?_
    refine g_BV_45 C h d_BV_isBlock_9 ?_
    refine lv_icmp_ge (tgt := 30) hx hb d_BV_isBlock_12 (by decide) (fun c_12 => ?_) (fun c_12 => ?_)
    · refine lv_iconst (v := 0) hx hb d_BV_isBlock_30 (by decide) ?_
      exact x_zret C h d_BV_isBlock_31 rfl (by first | exact ibr_1 c_1 c_12 (Or.inl c_17) | exact ibr_1 c_1 c_12 (Or.inr c_23) | exact ibr_0 (Or.inl c_1) | exact ibr_0 (Or.inr (Or.inl c_12)) | exact ibr_0 (Or.inr (Or.inr ⟨c_17, c_23⟩))) (rfl)
    · refine lv_iload_n hx hb d_BV_isBlock_15 rfl (lk hl rfl) ?_
      refine lv_iconst (v := 2) hx hb d_BV_isBlock_16 (by decide) ?_
      refine lv_icmp_lt (tgt := 26) hx hb d_BV_isBlock_17 (by decide) (fun c_17 => ?_) (fun c_17 => ?_)
      · refine lv_iconst (v := 1) hx hb d_BV_isBlock_26 (by decide) ?_
        refine lv_goto (tgt := 31) hx hb d_BV_isBlock_27 (by decide) ?_
        exact x_zret C h d_BV_isBlock_31 rfl (by first | exact ibr_1 c_1 c_12 (Or.inl c_17) | exact ibr_1 c_1 c_12 (Or.inr c_23) | exact ibr_0 (Or.inl c_1) | exact ibr_0 (Or.inr (Or.inl c_12)) | exact ibr_0 (Or.inr (Or.inr ⟨c_17, c_23⟩))) (rfl)
      · refine lv_iload_n hx hb d_BV_isBlock_20 rfl (lk hl rfl) ?_
        refine lv_bipush (v := 32) hx hb d_BV_isBlock_21 (by decide) ?_
        refine lv_icmp_le (tgt := 30) hx hb d_BV_isBlock_23 (by decide) (fun c_23 => ?_) (fun c_23 => ?_)
        · refine lv_iconst (v := 0) hx hb d_BV_isBlock_30 (by decide) ?_
          exact x_zret C h d_BV_isBlock_31 rfl (by first | exact ibr_1 c_1 c_12 (Or.inl c_17) | exact ibr_1 c_1 c_12 (Or.inr c_23) | exact ibr_0 (Or.inl c_1) | exact ibr_0 (Or.inr (Or.inl c_12)) | exact ibr_0 (Or.inr (Or.inr ⟨c_17, c_23⟩))) (rfl)
        · refine lv_iconst (v := 1) hx hb d_BV_isBlock_26 (by decide) ?_
          refine lv_goto (tgt := 31) hx hb d_BV_isBlock_27 (by decide) ?_
          exact x_zret C h d_BV_isBlock_31 rfl (by first | exact ibr_1 c_1 c_12 (Or.inl c_17) | exact ibr_1 c_1 c_12 (Or.inr c_23) | exact ibr_0 (Or.inl c_1) | exact ibr_0 (Or.inr (Or.inl c_12)) | exact ibr_0 (Or.inr (Or.inr ⟨c_17, c_23⟩))) (rfl)
theorem c_BV_begin0 (l : Launch) (G : Gx) (n : Nat) (ad : Nat → Nat) (σ : Sg) (hno : σ 1 4 ≠ 0 ∨ σ 9 9 ≠ 0) : MI l G (Yc G n ad) y_BV_begin b_BV_begin 1 (some .boolean) 1 σ [.ref (ad 0)] 0 σ := by
  refine go rfl (Nat.le_of_ble_eq_true rfl) (fun p e s m below meth c ls C h hl => ?_)
  have hx := C.1
  have hb := C.2.1
  refine lv_aload_n hx hb d_BV_begin_0 rfl (lk hl rfl) ?_
  refine g_BV_23 C h d_BV_begin_1 ?_
  refine g_BV_49 C h d_BV_begin_4 ?_
  refine lv_if_ne (tgt := 20) hx hb d_BV_begin_7 (by decide) (fun c_7 => ?_) (fun c_7 => ?_)
  · refine lv_iconst (v := 0) hx hb d_BV_begin_20 (by decide) ?_
    exact x_zret C h d_BV_begin_21 rfl (rfl) (rfl)
  · refine lv_aload_n hx hb d_BV_begin_10 rfl (lk hl rfl) ?_
    refine g_BV_41 C h d_BV_begin_11 ?_
    refine g_BV_53 C h d_BV_begin_14 ?_
    refine lv_if_eq (tgt := 22) hx hb d_BV_begin_17 (by decide) (fun c_17 => ?_) (fun c_17 => ?_)
    · exact absurd hno (by rintro (q | q); exact q c_7; exact q c_17)
    · refine lv_iconst (v := 0) hx hb d_BV_begin_20 (by decide) ?_
      exact x_zret C h d_BV_begin_21 rfl (rfl) (rfl)
theorem c_BV_begin1 (l : Launch) (G : Gx) (n : Nat) (ad : Nat → Nat) (σ : Sg) (hn : n ≤ 80) (h0 : σ 1 4 = 0) (h1 : σ 9 9 = 0) : MI l G (Yc G n ad) y_BV_begin b_BV_begin 1 (some .boolean) 1 σ [.ref (ad 0)] 1 (lgb n σ) := by
  refine go rfl (Nat.le_of_ble_eq_true rfl) (fun p e s m below meth c ls C h hl => ?_)
  have hx := C.1
  have hb := C.2.1
  refine lv_aload_n hx hb d_BV_begin_0 rfl (lk hl rfl) ?_
  refine g_BV_23 C h d_BV_begin_1 ?_
  refine g_BV_49 C h d_BV_begin_4 ?_
  refine lv_if_ne (tgt := 20) hx hb d_BV_begin_7 (by decide) (fun c_7 => False.elim (c_7 h0)) (fun c_7 => ?_)
  refine lv_aload_n hx hb d_BV_begin_10 rfl (lk hl rfl) ?_
  refine g_BV_41 C h d_BV_begin_11 ?_
  refine g_BV_53 C h d_BV_begin_14 ?_
  refine lv_if_eq (tgt := 22) hx hb d_BV_begin_17 (by decide) (fun c_17 => ?_) (fun c_17 => False.elim (c_17 h1))
  refine lv_aload_n hx hb d_BV_begin_22 rfl (lk hl rfl) ?_
  refine g_BV_41 C h d_BV_begin_23 ?_
  refine x_callVv (Y := Yc G n ad) (q := 9) C h hl.1 (c_Lg_begin l G n ad σ hn) (Nat.le_of_ble_eq_true rfl) rfl rfl rfl cw_BV_56 rfl rfl (Nat.le_of_ble_eq_true rfl) ⟨Nat.le_of_ble_eq_true rfl, Nat.le_of_ble_eq_true rfl⟩ ⟨Nat.le_refl _, Nat.le_refl _⟩ d_BV_begin_26 (fun H locs h => ?_)
  refine lv_iconst (v := 1) hx hb d_BV_begin_29 (by decide) ?_
  exact x_zret C h d_BV_begin_30 rfl (rfl) (rfl)
theorem c_BV_end0 (l : Launch) (G : Gx) (n : Nat) (ad : Nat → Nat) (σ : Sg) (hno : σ 1 4 ≠ 0 ∨ σ 9 9 = 0) : MI l G (Yc G n ad) y_BV_end b_BV_end 1 (some .int) 5 σ [.ref (ad 0)] (-1) σ := by
  refine go rfl (Nat.le_of_ble_eq_true rfl) (fun p e s m below meth c ls C h hl => ?_)
  have hx := C.1
  have hb := C.2.1
  refine lv_aload_n hx hb d_BV_end_0 rfl (lk hl rfl) ?_
  refine g_BV_23 C h d_BV_end_1 ?_
  refine g_BV_49 C h d_BV_end_4 ?_
  refine lv_if_ne (tgt := 20) hx hb d_BV_end_7 (by decide) (fun c_7 => ?_) (fun c_7 => ?_)
  · refine lv_iconst (v := (-1)) hx hb d_BV_end_20 (by decide) ?_
    exact x_iret C h d_BV_end_21 (rfl) (rfl)
  · refine lv_aload_n hx hb d_BV_end_10 rfl (lk hl rfl) ?_
    refine g_BV_41 C h d_BV_end_11 ?_
    refine g_BV_53 C h d_BV_end_14 ?_
    refine lv_if_ne (tgt := 22) hx hb d_BV_end_17 (by decide) (fun c_17 => ?_) (fun c_17 => ?_)
    · exact absurd hno (by rintro (q | q); exact q c_7; exact c_17 q)
    · refine lv_iconst (v := (-1)) hx hb d_BV_end_20 (by decide) ?_
      exact x_iret C h d_BV_end_21 (rfl) (rfl)
theorem c_BV_end1 (l : Launch) (G : Gx) (n : Nat) (ad : Nat → Nat) (σ : Sg) (sz : Nat) (hu : sz ≤ 30) (hn : n ≤ 80) (hn2 : 40 ≤ n) (ho : HomeOk n sz σ) (h0 : σ 1 4 = 0) (h1 : σ 9 9 ≠ 0) : MI l G (Yc G n ad) y_BV_end b_BV_end 1 (some .int) 5 σ [.ref (ad 0)] (if lend σ sz 1 4 = 0 then lend σ sz 9 6 else -1) (lend σ sz) := by
  refine go rfl (Nat.le_of_ble_eq_true rfl) (fun p e s m below meth c ls C h hl => ?_)
  have hx := C.1
  have hb := C.2.1
  refine lv_aload_n hx hb d_BV_end_0 rfl (lk hl rfl) ?_
  refine g_BV_23 C h d_BV_end_1 ?_
  refine g_BV_49 C h d_BV_end_4 ?_
  refine lv_if_ne (tgt := 20) hx hb d_BV_end_7 (by decide) (fun c_7 => False.elim (c_7 h0)) (fun c_7 => ?_)
  refine lv_aload_n hx hb d_BV_end_10 rfl (lk hl rfl) ?_
  refine g_BV_41 C h d_BV_end_11 ?_
  refine g_BV_53 C h d_BV_end_14 ?_
  refine lv_if_ne (tgt := 22) hx hb d_BV_end_17 (by decide) (fun c_17 => ?_) (fun c_17 => False.elim (h1 c_17))
  refine lv_aload_n hx hb d_BV_end_22 rfl (lk hl rfl) ?_
  refine g_BV_41 C h d_BV_end_23 ?_
  refine x_callVv (Y := Yc G n ad) (q := 9) C h hl.1 (c_Lg_end l G n ad σ sz hu hn hn2 ho) (Nat.le_of_ble_eq_true rfl) rfl rfl rfl cw_BV_59 rfl rfl (Nat.le_of_ble_eq_true rfl) ⟨Nat.le_of_ble_eq_true rfl, Nat.le_of_ble_eq_true rfl⟩ ⟨Nat.le_refl _, Nat.le_refl _⟩ d_BV_end_26 (fun H locs h => ?_)
  refine lv_aload_n hx hb d_BV_end_29 rfl (lk hl rfl) ?_
  refine g_BV_23 C h d_BV_end_30 ?_
  refine g_BV_49 C h d_BV_end_33 ?_
  refine lv_if_eq (tgt := 43) hx hb d_BV_end_36 (by decide) (fun c_36 => ?_) (fun c_36 => ?_)
  · refine lv_aload_n hx hb d_BV_end_43 rfl (lk hl rfl) ?_
    refine g_BV_41 C h d_BV_end_44 ?_
    refine g_BV_62 C h d_BV_end_47 ?_
    exact x_iret C h d_BV_end_50 (by first | rw [if_pos c_36] | rw [if_neg c_36]) (rfl)
  · refine lv_iconst (v := (-1)) hx hb d_BV_end_39 (by decide) ?_
    refine lv_goto (tgt := 50) hx hb d_BV_end_40 (by decide) ?_
    exact x_iret C h d_BV_end_50 (by first | rw [if_pos c_36] | rw [if_neg c_36]) (rfl)
theorem c_BV_flush0 (l : Launch) (G : Gx) (n : Nat) (ad : Nat → Nat) (σ : Sg) (hno : σ 1 4 ≠ 0 ∨ σ 9 9 ≠ 0) : MI l G (Yc G n ad) y_BV_flush b_BV_flush 2 (some .int) 4 σ [.ref (ad 0)] (-1) σ := by
  refine go rfl (Nat.le_of_ble_eq_true rfl) (fun p e s m below meth c ls C h hl => ?_)
  have hx := C.1
  have hb := C.2.1
  refine lv_aload_n hx hb d_BV_flush_0 rfl (lk hl rfl) ?_
  refine g_BV_23 C h d_BV_flush_1 ?_
  refine g_BV_49 C h d_BV_flush_4 ?_
  refine lv_if_ne (tgt := 20) hx hb d_BV_flush_7 (by decide) (fun c_7 => ?_) (fun c_7 => ?_)
  · refine lv_iconst (v := (-1)) hx hb d_BV_flush_20 (by decide) ?_
    exact x_iret C h d_BV_flush_21 (rfl) (rfl)
  · refine lv_aload_n hx hb d_BV_flush_10 rfl (lk hl rfl) ?_
    refine g_BV_41 C h d_BV_flush_11 ?_
    refine g_BV_53 C h d_BV_flush_14 ?_
    refine lv_if_eq (tgt := 22) hx hb d_BV_flush_17 (by decide) (fun c_17 => ?_) (fun c_17 => ?_)
    · exact absurd hno (by rintro (q | q); exact q c_7; exact q c_17)
    · refine lv_iconst (v := (-1)) hx hb d_BV_flush_20 (by decide) ?_
      exact x_iret C h d_BV_flush_21 (rfl) (rfl)
theorem c_BV_flush1 (l : Launch) (G : Gx) (n : Nat) (ad : Nat → Nat) (σ : Sg) (sz : Nat) (hu : sz ≤ 30) (hn : n ≤ 80) (hn2 : 40 ≤ n) (ho : HomeOk n sz σ) (h0 : σ 1 4 = 0) (h1 : σ 9 9 = 0) : MI l G (Yc G n ad) y_BV_flush b_BV_flush 2 (some .int) 4 σ [.ref (ad 0)] (if cmt σ sz 1 4 = 0 then σ 9 6 else -1) (cmt σ sz) := by
  refine go rfl (Nat.le_of_ble_eq_true rfl) (fun p e s m below meth c ls C h hl => ?_)
  have hx := C.1
  have hb := C.2.1
  refine lv_aload_n hx hb d_BV_flush_0 rfl (lk hl rfl) ?_
  refine g_BV_23 C h d_BV_flush_1 ?_
  refine g_BV_49 C h d_BV_flush_4 ?_
  refine lv_if_ne (tgt := 20) hx hb d_BV_flush_7 (by decide) (fun c_7 => False.elim (c_7 h0)) (fun c_7 => ?_)
  refine lv_aload_n hx hb d_BV_flush_10 rfl (lk hl rfl) ?_
  refine g_BV_41 C h d_BV_flush_11 ?_
  refine g_BV_53 C h d_BV_flush_14 ?_
  refine lv_if_eq (tgt := 22) hx hb d_BV_flush_17 (by decide) (fun c_17 => ?_) (fun c_17 => False.elim (c_17 h1))
  refine lv_aload_n hx hb d_BV_flush_22 rfl (lk hl rfl) ?_
  refine g_BV_41 C h d_BV_flush_23 ?_
  refine g_BV_62 C h d_BV_flush_26 ?_
  refine lv_istore_n hx hb d_BV_flush_29 rfl hl (by decide) rfl (fun ls hl => ?_)
  refine lv_aload_n hx hb d_BV_flush_30 rfl (lk hl rfl) ?_
  refine g_BV_41 C h d_BV_flush_31 ?_
  refine x_callVv (Y := Yc G n ad) (q := 9) C h hl.1 (c_Lg_commit l G n ad σ sz hu hn hn2 ho) (Nat.le_of_ble_eq_true rfl) rfl rfl rfl cw_BV_65 rfl rfl (Nat.le_of_ble_eq_true rfl) ⟨Nat.le_of_ble_eq_true rfl, Nat.le_of_ble_eq_true rfl⟩ ⟨Nat.le_refl _, Nat.le_refl _⟩ d_BV_flush_34 (fun H locs h => ?_)
  refine lv_aload_n hx hb d_BV_flush_37 rfl (lk hl rfl) ?_
  refine g_BV_23 C h d_BV_flush_38 ?_
  refine g_BV_49 C h d_BV_flush_41 ?_
  refine lv_if_eq (tgt := 51) hx hb d_BV_flush_44 (by decide) (fun c_44 => ?_) (fun c_44 => ?_)
  · refine lv_iload_n hx hb d_BV_flush_51 rfl (lk hl rfl) ?_
    exact x_iret C h d_BV_flush_52 (by first | rw [if_pos c_44] | rw [if_neg c_44]) (rfl)
  · refine lv_iconst (v := (-1)) hx hb d_BV_flush_47 (by decide) ?_
    refine lv_goto (tgt := 52) hx hb d_BV_flush_48 (by decide) ?_
    exact x_iret C h d_BV_flush_52 (by first | rw [if_pos c_44] | rw [if_neg c_44]) (rfl)
theorem c_BV_get0 (l : Launch) (G : Gx) (n : Nat) (ad : Nat → Nat) (σ : Sg) (b k : Int32) (hno : σ 1 4 ≠ 0 ∨ ibr (σ 1 1) b = 0 ∨ k < 0 ∨ ¬ k < 1024) : MI l G (Yc G n ad) y_BV_get b_BV_get 3 (some .int) 4 σ [.ref (ad 0), .int b, .int k] (-1) σ := by
  refine go rfl (Nat.le_of_ble_eq_true rfl) (fun p e s m below meth c ls C h hl => ?_)
  have hx := C.1
  have hb := C.2.1
  refine lv_aload_n hx hb d_BV_get_0 rfl (lk hl rfl) ?_
  refine g_BV_23 C h d_BV_get_1 ?_
  refine g_BV_49 C h d_BV_get_4 ?_
  refine lv_if_ne (tgt := 29) hx hb d_BV_get_7 (by decide) (fun c_7 => ?_) (fun c_7 => ?_)
  · refine lv_iconst (v := (-1)) hx hb d_BV_get_29 (by decide) ?_
    refine lv_goto (tgt := 47) hx hb d_BV_get_30 (by decide) ?_
    exact x_iret C h d_BV_get_47 (rfl) (rfl)
  · refine lv_aload_n hx hb d_BV_get_10 rfl (lk hl rfl) ?_
    refine lv_iload_n hx hb d_BV_get_11 rfl (lk hl rfl) ?_
    refine x_callVi (Y := Yc G n ad) (q := 0) C h hl.1 (c_BV_isBlock l G n ad σ b) (Nat.le_of_ble_eq_true rfl) rfl rfl rfl cw_BV_68 rfl rfl (Nat.le_of_ble_eq_true rfl) ⟨Nat.le_of_ble_eq_true rfl, Nat.le_of_ble_eq_true rfl⟩ ⟨Nat.le_refl _, Nat.le_refl _⟩ d_BV_get_12 (fun H locs h => ?_)
    refine lv_if_eq (tgt := 29) hx hb d_BV_get_15 (by decide) (fun c_15 => ?_) (fun c_15 => ?_)
    · refine lv_iconst (v := (-1)) hx hb d_BV_get_29 (by decide) ?_
      refine lv_goto (tgt := 47) hx hb d_BV_get_30 (by decide) ?_
      exact x_iret C h d_BV_get_47 (rfl) (rfl)
    · refine lv_iload_n hx hb d_BV_get_18 rfl (lk hl rfl) ?_
      refine lv_if_lt (tgt := 29) hx hb d_BV_get_19 (by decide) (fun c_19 => ?_) (fun c_19 => ?_)
      · refine lv_iconst (v := (-1)) hx hb d_BV_get_29 (by decide) ?_
        refine lv_goto (tgt := 47) hx hb d_BV_get_30 (by decide) ?_
        exact x_iret C h d_BV_get_47 (rfl) (rfl)
      · refine lv_iload_n hx hb d_BV_get_22 rfl (lk hl rfl) ?_
        refine lv_sipush (v := 1024) hx hb d_BV_get_23 (by decide) ?_
        refine lv_icmp_lt (tgt := 33) hx hb d_BV_get_26 (by decide) (fun c_26 => ?_) (fun c_26 => ?_)
        · exact absurd hno (by rintro (q | q | q | q); exact q c_7; exact c_15 q; exact c_19 q; exact q c_26)
        · refine lv_iconst (v := (-1)) hx hb d_BV_get_29 (by decide) ?_
          refine lv_goto (tgt := 47) hx hb d_BV_get_30 (by decide) ?_
          exact x_iret C h d_BV_get_47 (rfl) (rfl)
theorem c_BV_get1 (l : Launch) (G : Gx) (n : Nat) (ad : Nat → Nat) (σ : Sg) (b k r : Nat) (hn : n ≤ 80) (h0 : σ 1 4 = 0) (h1 : ibr (σ 1 1) (nI b) ≠ 0) (hbn : b < n) (hk : k < 1024) (hT : TR σ b r) (hr3 : r < 34) (hr : RingIn σ) : MI l G (Yc G n ad) y_BV_get b_BV_get 3 (some .int) 4 σ [.ref (ad 0), .int (nI b), .int (nI k)] (bt (tk σ b r (r + 14) k) &&& 255) (tk σ b r) := by
  refine go rfl (Nat.le_of_ble_eq_true rfl) (fun p e s m below meth c ls C h hl => ?_)
  have hx := C.1
  have hb := C.2.1
  refine lv_aload_n hx hb d_BV_get_0 rfl (lk hl rfl) ?_
  refine g_BV_23 C h d_BV_get_1 ?_
  refine g_BV_49 C h d_BV_get_4 ?_
  refine lv_if_ne (tgt := 29) hx hb d_BV_get_7 (by decide) (fun c_7 => False.elim (c_7 h0)) (fun c_7 => ?_)
  refine lv_aload_n hx hb d_BV_get_10 rfl (lk hl rfl) ?_
  refine lv_iload_n hx hb d_BV_get_11 rfl (lk hl rfl) ?_
  refine x_callVi (Y := Yc G n ad) (q := 0) C h hl.1 (c_BV_isBlock l G n ad σ (nI b)) (Nat.le_of_ble_eq_true rfl) rfl rfl rfl cw_BV_68 rfl rfl (Nat.le_of_ble_eq_true rfl) ⟨Nat.le_of_ble_eq_true rfl, Nat.le_of_ble_eq_true rfl⟩ ⟨Nat.le_refl _, Nat.le_refl _⟩ d_BV_get_12 (fun H locs h => ?_)
  refine lv_if_eq (tgt := 29) hx hb d_BV_get_15 (by decide) (fun c_15 => False.elim (h1 c_15)) (fun c_15 => ?_)
  refine lv_iload_n hx hb d_BV_get_18 rfl (lk hl rfl) ?_
  refine lv_if_lt (tgt := 29) hx hb d_BV_get_19 (by decide) (fun c_19 => False.elim (nI_pos (by omega) c_19)) (fun c_19 => ?_)
  refine lv_iload_n hx hb d_BV_get_22 rfl (lk hl rfl) ?_
  refine lv_sipush (v := nI 1024) hx hb d_BV_get_23 (by decide) ?_
  refine lv_icmp_lt (tgt := 33) hx hb d_BV_get_26 (by decide) (fun c_26 => ?_) (fun c_26 => False.elim (f_nlt c_26 (by omega) (by omega) hk))
  refine lv_aload_n hx hb d_BV_get_33 rfl (lk hl rfl) ?_
  refine g_BV_41 C h d_BV_get_34 ?_
  refine lv_iload_n hx hb d_BV_get_37 rfl (lk hl rfl) ?_
  refine x_callVr (Y := Yc G n ad) (q := 9) C h hl.1 (c_Lg_block l G n ad σ b r hbn hn hT hr3 hr) (Nat.le_of_ble_eq_true rfl) rfl rfl rfl cw_BV_72 rfl rfl (Nat.le_of_ble_eq_true rfl) ⟨Nat.le_of_ble_eq_true rfl, Nat.le_of_ble_eq_true rfl⟩ ⟨Nat.le_refl _, Nat.le_refl _⟩ d_BV_get_38 (fun H locs h => ?_)
  refine lv_iload_n hx hb d_BV_get_41 rfl (lk hl rfl) ?_
  refine ln_row C h (by omega) (by omega) hk d_BV_get_42 ?_
  refine lv_sipush (v := 255) hx hb d_BV_get_43 (by decide) ?_
  refine lv_iand hx hb d_BV_get_46 ?_
  exact x_iret C h d_BV_get_47 (rfl) (rfl)
def fl0 (σ : Sg) (r k n : Nat) (v : Int32) : Sg := itr (fun j σ => set1 σ (r + 14) (k + j) (v + nI j).toInt8.toInt32) n 0 σ
theorem ibr_lt {n : Nat} {x b : Int32} (hn : n ≤ 80) (hn2 : 40 ≤ n) (hx : x = nI n) (h : ¬ ibr x b = 0) : b.toNatClampNeg < n ∧ b = nI b.toNatClampNeg := by
  have hc : ¬ b < 0 ∧ b < x ∧ (b < 2 ∨ 32 < b) := by
    apply Classical.byContradiction
    intro q
    rw [ibr, if_neg q] at h
    exact h rfl
  obtain ⟨j, hj, rfl⟩ := nI_of hc.1
  rw [nI_clamp hj]
  refine ⟨?_, rfl⟩
  have h2 := hc.2.1
  rw [hx] at h2
  exact (nI_ltI hj (by omega)).mp h2
theorem c_BV_fill0 (l : Launch) (G : Gx) (n : Nat) (ad : Nat → Nat) (σ : Sg) (b k cn v : Int32) (hn : n ≤ 80) (hn2 : 40 ≤ n) (h11 : σ 1 1 = nI n) (hno : σ 1 4 ≠ 0 ∨ ibr (σ 1 1) b = 0 ∨ mtr σ b.toNatClampNeg = 0 ∨ cn < 1 ∨ 1024 < cn ∨ k < 0 ∨ ¬ k ≤ 1024 - cn) : MI l G (Yc G n ad) y_BV_fill b_BV_fill 7 (some .boolean) 4 σ [.ref (ad 0), .int b, .int k, .int cn, .int v] 0 σ := by
  refine go rfl (Nat.le_of_ble_eq_true rfl) (fun p e s m below meth c ls C h hl => ?_)
  have hx := C.1
  have hb := C.2.1
  refine lv_aload_n hx hb d_BV_fill_0 rfl (lk hl rfl) ?_
  refine g_BV_23 C h d_BV_fill_1 ?_
  refine g_BV_49 C h d_BV_fill_4 ?_
  refine lv_if_ne (tgt := 54) hx hb d_BV_fill_7 (by decide) (fun c_7 => ?_) (fun c_7 => ?_)
  · refine lv_iconst (v := 0) hx hb d_BV_fill_54 (by decide) ?_
    exact x_zret C h d_BV_fill_55 rfl (rfl) (rfl)
  · refine lv_aload_n hx hb d_BV_fill_10 rfl (lk hl rfl) ?_
    refine lv_iload_n hx hb d_BV_fill_11 rfl (lk hl rfl) ?_
    refine x_callVi (Y := Yc G n ad) (q := 0) C h hl.1 (c_BV_isBlock l G n ad σ b) (Nat.le_of_ble_eq_true rfl) rfl rfl rfl cw_BV_68 rfl rfl (Nat.le_of_ble_eq_true rfl) ⟨Nat.le_of_ble_eq_true rfl, Nat.le_of_ble_eq_true rfl⟩ ⟨Nat.le_refl _, Nat.le_refl _⟩ d_BV_fill_12 (fun H locs h => ?_)
    refine lv_if_eq (tgt := 54) hx hb d_BV_fill_15 (by decide) (fun c_15 => ?_) (fun c_15 => ?_)
    · refine lv_iconst (v := 0) hx hb d_BV_fill_54 (by decide) ?_
      exact x_zret C h d_BV_fill_55 rfl (rfl) (rfl)
    · refine lv_aload_n hx hb d_BV_fill_18 rfl (lk hl rfl) ?_
      refine g_BV_41 C h d_BV_fill_19 ?_
      refine lv_iload_n hx hb d_BV_fill_22 rfl (lk hl rfl) ?_
      refine top (ibr_lt hn hn2 h11 c_15).2 ?_
      refine x_callVi (Y := Yc G n ad) (q := 9) C h hl.1 (c_Lg_mayTouch l G n ad σ b.toNatClampNeg (ibr_lt hn hn2 h11 c_15).1 hn) (Nat.le_of_ble_eq_true rfl) rfl rfl rfl cw_BV_76 rfl rfl (Nat.le_of_ble_eq_true rfl) ⟨Nat.le_of_ble_eq_true rfl, Nat.le_of_ble_eq_true rfl⟩ ⟨Nat.le_refl _, Nat.le_refl _⟩ d_BV_fill_23 (fun H locs h => ?_)
      refine lv_if_eq (tgt := 54) hx hb d_BV_fill_26 (by decide) (fun c_26 => ?_) (fun c_26 => ?_)
      · refine lv_iconst (v := 0) hx hb d_BV_fill_54 (by decide) ?_
        exact x_zret C h d_BV_fill_55 rfl (rfl) (rfl)
      · refine lv_iload_n hx hb d_BV_fill_29 rfl (lk hl rfl) ?_
        refine lv_iconst (v := 1) hx hb d_BV_fill_30 (by decide) ?_
        refine lv_icmp_lt (tgt := 54) hx hb d_BV_fill_31 (by decide) (fun c_31 => ?_) (fun c_31 => ?_)
        · refine lv_iconst (v := 0) hx hb d_BV_fill_54 (by decide) ?_
          exact x_zret C h d_BV_fill_55 rfl (rfl) (rfl)
        · refine lv_iload_n hx hb d_BV_fill_34 rfl (lk hl rfl) ?_
          refine lv_sipush (v := 1024) hx hb d_BV_fill_35 (by decide) ?_
          refine lv_icmp_gt (tgt := 54) hx hb d_BV_fill_38 (by decide) (fun c_38 => ?_) (fun c_38 => ?_)
          · refine lv_iconst (v := 0) hx hb d_BV_fill_54 (by decide) ?_
            exact x_zret C h d_BV_fill_55 rfl (rfl) (rfl)
          · refine lv_iload_n hx hb d_BV_fill_41 rfl (lk hl rfl) ?_
            refine lv_if_lt (tgt := 54) hx hb d_BV_fill_42 (by decide) (fun c_42 => ?_) (fun c_42 => ?_)
            · refine lv_iconst (v := 0) hx hb d_BV_fill_54 (by decide) ?_
              exact x_zret C h d_BV_fill_55 rfl (rfl) (rfl)
            · refine lv_iload_n hx hb d_BV_fill_45 rfl (lk hl rfl) ?_
              refine lv_sipush (v := 1024) hx hb d_BV_fill_46 (by decide) ?_
              refine lv_iload_n hx hb d_BV_fill_49 rfl (lk hl rfl) ?_
              refine lv_isub hx hb d_BV_fill_50 ?_
              refine lv_icmp_le (tgt := 56) hx hb d_BV_fill_51 (by decide) (fun c_51 => ?_) (fun c_51 => ?_)
              · exact absurd hno (by rintro (q | q | q | q | q | q | q); exact q c_7; exact c_15 q; exact c_26 q; exact c_31 q; exact c_38 q; exact c_42 q; exact q c_51)
              · refine lv_iconst (v := 0) hx hb d_BV_fill_54 (by decide) ?_
                exact x_zret C h d_BV_fill_55 rfl (rfl) (rfl)
theorem lp_fill {b k cn r : Nat} {v : Int32} (C : Cx G p s m args meth c R_BV b_BV_fill 7 ret) (hr3 : r < 34) (hkn : k + cn ≤ 1024) : ∀ (d j : Nat), j + d = cn → ∀ (σ : Sg) (H : Heap) (locs : List Loc), Hp G (Yc G n ad) A H0 σ H locs → ∀ ls : Array Slot, lv_has ls 7 [(0, .ref (ad 0)), (1, .int (nI b)), (2, .int (nI k)), (3, .int (nI cn)), (4, .int v), (5, .ref (ad (r + 14))), (6, .int (nI j))] → (∀ (H : Heap) (locs : List Loc), Hp G (Yc G n ad) A H0 (itr (fun j σ => set1 σ (r + 14) (k + j) (v + nI j).toInt8.toInt32) d j σ) H locs → ∀ ls : Array Slot, lv_has ls 7 [(0, .ref (ad 0)), (1, .int (nI b))] → W p l e R s m args below meth c H locs cells slots Q (F0 m 94 ls [])) → W p l e R s m args below meth c H locs cells slots Q (F0 m 69 ls []) := by
  have hx := C.1
  have hb := C.2.1
  intro d
  induction d with
  | zero =>
    intro j hj σ H locs h ls hl K
    refine lv_iload hx hb d_BV_fill_69 (lk hl rfl) ?_
    refine lv_iload_n hx hb d_BV_fill_71 rfl (lk hl rfl) ?_
    refine lv_icmp_ge (tgt := 94) hx hb d_BV_fill_72 (by decide) (fun c_72 => ?_) (fun c_72 => False.elim (f_nle c_72 (by omega) (by omega) (by omega)))
    exact K H locs h ls (lv_re hl _ rfl)
  | succ d ih =>
    intro j hj σ H locs h ls hl K
    refine lv_iload hx hb d_BV_fill_69 (lk hl rfl) ?_
    refine lv_iload_n hx hb d_BV_fill_71 rfl (lk hl rfl) ?_
    refine lv_icmp_ge (tgt := 94) hx hb d_BV_fill_72 (by decide) (fun c_72 => False.elim (f_le c_72 (by omega) (by omega) (by omega))) (fun c_72 => ?_)
    refine lv_aload hx hb d_BV_fill_75 (lk hl rfl) ?_
    refine lv_iload_n hx hb d_BV_fill_77 rfl (lk hl rfl) ?_
    refine lv_iload hx hb d_BV_fill_78 (lk hl rfl) ?_
    refine lv_iadd hx hb d_BV_fill_80 ?_
    refine top (nI_add k j) ?_
    refine lv_iload hx hb d_BV_fill_81 (lk hl rfl) ?_
    refine lv_iload hx hb d_BV_fill_83 (lk hl rfl) ?_
    refine lv_iadd hx hb d_BV_fill_85 ?_
    refine lv_i2b hx hb d_BV_fill_86 rfl ?_
    refine sn_row C h (by omega) (by omega) (by omega) d_BV_fill_87 (fun H locs h => ?_)
    refine x_iinc (v := nI (j + 1)) hx hb d_BV_fill_88 hl rfl (inc1 j) (by decide) (fun ls hl => ?_)
    refine lv_goto (tgt := 69) hx hb d_BV_fill_91 (by decide) ?_
    exact ih (j + 1) (by omega) _ H locs h ls (lv_re hl _ rfl) K
theorem c_BV_fill1 (l : Launch) (G : Gx) (n : Nat) (ad : Nat → Nat) (σ : Sg) (b k cn r sz : Nat) (v : Int32) (hn : n ≤ 80) (h0 : σ 1 4 = 0) (h1 : ibr (σ 1 1) (nI b) ≠ 0) (h2 : mtr σ b ≠ 0) (hbn : b < n) (hc1 : 1 ≤ cn) (hkn : k + cn ≤ 1024) (hT : TR σ b r) (hr3 : r < 34) (hr : RingIn σ) (hT2 : TR (fl0 (tk σ b r) r k cn v) b r) (hr2 : RingIn (fl0 (tk σ b r) r k cn v)) (hsz : tk (fl0 (tk σ b r) r k cn v) b r 9 6 = nI sz) (hsz2 : tk (fl0 (tk σ b r) r k cn v) b r 6 r = 0 → sz < 30) : MI l G (Yc G n ad) y_BV_fill b_BV_fill 7 (some .boolean) 4 σ [.ref (ad 0), .int (nI b), .int (nI k), .int (nI cn), .int v] 1 (tch (fl0 (tk σ b r) r k cn v) b r) := by
  refine go rfl (Nat.le_of_ble_eq_true rfl) (fun p e s m below meth c ls C h hl => ?_)
  have hx := C.1
  have hb := C.2.1
  refine lv_aload_n hx hb d_BV_fill_0 rfl (lk hl rfl) ?_
  refine g_BV_23 C h d_BV_fill_1 ?_
  refine g_BV_49 C h d_BV_fill_4 ?_
  refine lv_if_ne (tgt := 54) hx hb d_BV_fill_7 (by decide) (fun c_7 => False.elim (c_7 h0)) (fun c_7 => ?_)
  refine lv_aload_n hx hb d_BV_fill_10 rfl (lk hl rfl) ?_
  refine lv_iload_n hx hb d_BV_fill_11 rfl (lk hl rfl) ?_
  refine x_callVi (Y := Yc G n ad) (q := 0) C h hl.1 (c_BV_isBlock l G n ad σ (nI b)) (Nat.le_of_ble_eq_true rfl) rfl rfl rfl cw_BV_68 rfl rfl (Nat.le_of_ble_eq_true rfl) ⟨Nat.le_of_ble_eq_true rfl, Nat.le_of_ble_eq_true rfl⟩ ⟨Nat.le_refl _, Nat.le_refl _⟩ d_BV_fill_12 (fun H locs h => ?_)
  refine lv_if_eq (tgt := 54) hx hb d_BV_fill_15 (by decide) (fun c_15 => False.elim (h1 c_15)) (fun c_15 => ?_)
  refine lv_aload_n hx hb d_BV_fill_18 rfl (lk hl rfl) ?_
  refine g_BV_41 C h d_BV_fill_19 ?_
  refine lv_iload_n hx hb d_BV_fill_22 rfl (lk hl rfl) ?_
  refine x_callVi (Y := Yc G n ad) (q := 9) C h hl.1 (c_Lg_mayTouch l G n ad σ b hbn hn) (Nat.le_of_ble_eq_true rfl) rfl rfl rfl cw_BV_76 rfl rfl (Nat.le_of_ble_eq_true rfl) ⟨Nat.le_of_ble_eq_true rfl, Nat.le_of_ble_eq_true rfl⟩ ⟨Nat.le_refl _, Nat.le_refl _⟩ d_BV_fill_23 (fun H locs h => ?_)
  refine lv_if_eq (tgt := 54) hx hb d_BV_fill_26 (by decide) (fun c_26 => False.elim (h2 c_26)) (fun c_26 => ?_)
  refine lv_iload_n hx hb d_BV_fill_29 rfl (lk hl rfl) ?_
  refine lv_iconst (v := nI 1) hx hb d_BV_fill_30 (by decide) ?_
  refine lv_icmp_lt (tgt := 54) hx hb d_BV_fill_31 (by decide) (fun c_31 => False.elim (f_lt c_31 (by omega) (by omega) hc1)) (fun c_31 => ?_)
  refine lv_iload_n hx hb d_BV_fill_34 rfl (lk hl rfl) ?_
  refine lv_sipush (v := nI 1024) hx hb d_BV_fill_35 (by decide) ?_
  refine lv_icmp_gt (tgt := 54) hx hb d_BV_fill_38 (by decide) (fun c_38 => False.elim (f_lt c_38 (by omega) (by omega) (by omega))) (fun c_38 => ?_)
  refine lv_iload_n hx hb d_BV_fill_41 rfl (lk hl rfl) ?_
  refine lv_if_lt (tgt := 54) hx hb d_BV_fill_42 (by decide) (fun c_42 => False.elim (nI_pos (by omega) c_42)) (fun c_42 => ?_)
  refine lv_iload_n hx hb d_BV_fill_45 rfl (lk hl rfl) ?_
  refine lv_sipush (v := nI 1024) hx hb d_BV_fill_46 (by decide) ?_
  refine lv_iload_n hx hb d_BV_fill_49 rfl (lk hl rfl) ?_
  refine lv_isub hx hb d_BV_fill_50 ?_
  refine top (pk_sub (by omega)) ?_
  refine lv_icmp_le (tgt := 56) hx hb d_BV_fill_51 (by decide) (fun c_51 => ?_) (fun c_51 => False.elim (f_nle c_51 (by omega) (by omega) (by omega)))
  refine lv_aload_n hx hb d_BV_fill_56 rfl (lk hl rfl) ?_
  refine g_BV_41 C h d_BV_fill_57 ?_
  refine lv_iload_n hx hb d_BV_fill_60 rfl (lk hl rfl) ?_
  refine x_callVr (Y := Yc G n ad) (q := 9) C h hl.1 (c_Lg_block l G n ad σ b r hbn hn hT hr3 hr) (Nat.le_of_ble_eq_true rfl) rfl rfl rfl cw_BV_72 rfl rfl (Nat.le_of_ble_eq_true rfl) ⟨Nat.le_of_ble_eq_true rfl, Nat.le_of_ble_eq_true rfl⟩ ⟨Nat.le_refl _, Nat.le_refl _⟩ d_BV_fill_61 (fun H locs h => ?_)
  refine lv_astore hx hb d_BV_fill_64 hl (by decide) rfl (fun ls hl => ?_)
  refine lv_iconst (v := nI 0) hx hb d_BV_fill_66 (by decide) ?_
  refine lv_istore hx hb d_BV_fill_67 hl (by decide) rfl (fun ls hl => ?_)
  refine lp_fill C hr3 hkn cn 0 (by omega) _ _ _ h ls (lv_re hl _ rfl) (fun H locs h ls hl => ?_)
  refine lv_aload_n hx hb d_BV_fill_94 rfl (lk hl rfl) ?_
  refine g_BV_41 C h d_BV_fill_95 ?_
  refine lv_iload_n hx hb d_BV_fill_98 rfl (lk hl rfl) ?_
  refine x_callVv (Y := Yc G n ad) (q := 9) C h hl.1 (c_Lg_touch l G n ad (fl0 (tk σ b r) r k cn v) b r sz hbn hn hT2 hr3 hr2 hsz hsz2) (Nat.le_of_ble_eq_true rfl) rfl rfl rfl cw_BV_79 rfl rfl (Nat.le_of_ble_eq_true rfl) ⟨Nat.le_of_ble_eq_true rfl, Nat.le_of_ble_eq_true rfl⟩ ⟨Nat.le_refl _, Nat.le_refl _⟩ d_BV_fill_99 (fun H locs h => ?_)
  refine lv_iconst (v := 1) hx hb d_BV_fill_102 (by decide) ?_
  exact x_zret C h d_BV_fill_103 rfl (rfl) (rfl)
theorem c_BV_cut0 (l : Launch) (G : Gx) (n : Nat) (ad : Nat → Nat) (σ : Sg) (k : Int32) (h0 : σ 1 4 ≠ 0) : MI l G (Yc G n ad) y_BV_cut b_BV_cut 2 (some .boolean) 0 σ [.ref (ad 0), .int k] 0 σ := by
  refine go rfl (Nat.le_of_ble_eq_true rfl) (fun p e s m below meth c ls C h hl => ?_)
  have hx := C.1
  have hb := C.2.1
  refine lv_aload_n hx hb d_BV_cut_0 rfl (lk hl rfl) ?_
  refine g_BV_23 C h d_BV_cut_1 ?_
  refine g_BV_49 C h d_BV_cut_4 ?_
  refine lv_if_eq (tgt := 12) hx hb d_BV_cut_7 (by decide) (fun c_7 => False.elim (h0 c_7)) (fun c_7 => ?_)
  refine lv_iconst (v := 0) hx hb d_BV_cut_10 (by decide) ?_
  exact x_zret C h d_BV_cut_11 rfl (rfl) (rfl)
theorem c_BV_cut1 (l : Launch) (G : Gx) (n : Nat) (ad : Nat → Nat) (σ : Sg) (k : Int32) (h0 : σ 1 4 = 0) : MI l G (Yc G n ad) y_BV_cut b_BV_cut 2 (some .boolean) 0 σ [.ref (ad 0), .int k] 1 (set1 σ 1 3 (if 0 ≤ k then k else -1)) := by
  refine go rfl (Nat.le_of_ble_eq_true rfl) (fun p e s m below meth c ls C h hl => ?_)
  have hx := C.1
  have hb := C.2.1
  refine lv_aload_n hx hb d_BV_cut_0 rfl (lk hl rfl) ?_
  refine g_BV_23 C h d_BV_cut_1 ?_
  refine g_BV_49 C h d_BV_cut_4 ?_
  refine lv_if_eq (tgt := 12) hx hb d_BV_cut_7 (by decide) (fun c_7 => ?_) (fun c_7 => False.elim (c_7 h0))
  refine lv_aload_n hx hb d_BV_cut_12 rfl (lk hl rfl) ?_
  refine g_BV_23 C h d_BV_cut_13 ?_
  refine lv_iload_n hx hb d_BV_cut_16 rfl (lk hl rfl) ?_
  refine lv_if_ge (tgt := 24) hx hb d_BV_cut_17 (by decide) (fun c_17 => ?_) (fun c_17 => ?_)
  · refine lv_iload_n hx hb d_BV_cut_24 rfl (lk hl rfl) ?_
    refine p_BV_82 C h d_BV_cut_25 (fun H locs h => ?_)
    refine lv_iconst (v := 1) hx hb d_BV_cut_28 (by decide) ?_
    exact x_zret C h d_BV_cut_29 rfl (rfl) (by first | rw [if_pos c_17] | rw [if_neg c_17])
  · refine lv_iconst (v := (-1)) hx hb d_BV_cut_20 (by decide) ?_
    refine lv_goto (tgt := 25) hx hb d_BV_cut_21 (by decide) ?_
    refine p_BV_82 C h d_BV_cut_25 (fun H locs h => ?_)
    refine lv_iconst (v := 1) hx hb d_BV_cut_28 (by decide) ?_
    exact x_zret C h d_BV_cut_29 rfl (rfl) (by first | rw [if_pos c_17] | rw [if_neg c_17])
theorem c_BV_power0 (l : Launch) (G : Gx) (n : Nat) (ad : Nat → Nat) (σ : Sg) (k : Int32) (h0 : σ 1 4 = 0) : MI l G (Yc G n ad) y_BV_power b_BV_power 3 (some .int) 4 σ [.ref (ad 0), .int k] (-1) σ := by
  refine go rfl (Nat.le_of_ble_eq_true rfl) (fun p e s m below meth c ls C h hl => ?_)
  have hx := C.1
  have hb := C.2.1
  refine lv_aload_n hx hb d_BV_power_0 rfl (lk hl rfl) ?_
  refine g_BV_23 C h d_BV_power_1 ?_
  refine g_BV_49 C h d_BV_power_4 ?_
  refine lv_if_ne (tgt := 12) hx hb d_BV_power_7 (by decide) (fun c_7 => False.elim (c_7 h0)) (fun c_7 => ?_)
  refine lv_iconst (v := (-1)) hx hb d_BV_power_10 (by decide) ?_
  exact x_iret C h d_BV_power_11 (rfl) (rfl)
def pwr0 (σ : Sg) (k : Int32) : Sg := set1 (set1 σ 1 4 0) 1 3 (if 0 ≤ k then k else -1)
theorem c_BV_power1 (l : Launch) (G : Gx) (n : Nat) (ad : Nat → Nat) (σ : Sg) (k : Int32) (u : Nat) (h0 : σ 1 4 ≠ 0) (hu : u ≤ 30) (hn : n ≤ 80) (hn2 : 40 ≤ n) (hg : get4 (rcv0 (pwr0 σ k)) 12 0 = nI u) (ho : ∀ j, j < u → ∃ b, b < n ∧ get4 (rcv0 (pwr0 σ k)) 12 (4 + 4 * j) = nI b) : MI l G (Yc G n ad) y_BV_power b_BV_power 3 (some .int) 4 σ [.ref (ad 0), .int k] (if rcv (pwr0 σ k) u 1 4 = 0 then nI u else -1) (rcv (pwr0 σ k) u) := by
  refine go rfl (Nat.le_of_ble_eq_true rfl) (fun p e s m below meth c ls C h hl => ?_)
  have hx := C.1
  have hb := C.2.1
  by_cases hk : 0 ≤ k
  · refine lv_aload_n hx hb d_BV_power_0 rfl (lk hl rfl) ?_
    refine g_BV_23 C h d_BV_power_1 ?_
    refine g_BV_49 C h d_BV_power_4 ?_
    refine lv_if_ne (tgt := 12) hx hb d_BV_power_7 (by decide) (fun c_7 => ?_) (fun c_7 => False.elim (h0 c_7))
    refine lv_aload_n hx hb d_BV_power_12 rfl (lk hl rfl) ?_
    refine g_BV_23 C h d_BV_power_13 ?_
    refine lv_iconst (v := 0) hx hb d_BV_power_16 (by decide) ?_
    refine p_BV_49 C h d_BV_power_17 rfl rfl (fun H locs h => ?_)
    refine lv_aload_n hx hb d_BV_power_20 rfl (lk hl rfl) ?_
    refine g_BV_23 C h d_BV_power_21 ?_
    refine lv_iload_n hx hb d_BV_power_24 rfl (lk hl rfl) ?_
    refine lv_if_ge (tgt := 32) hx hb d_BV_power_25 (by decide) (fun c_25 => ?_) (fun c_25 => False.elim (c_25 hk))
    refine lv_iload_n hx hb d_BV_power_32 rfl (lk hl rfl) ?_
    refine p_BV_82 C h d_BV_power_33 (fun H locs h => ?_)
    have h : Hp G (Yc G n ad) (Aof (Yc G n ad)) s.heap (pwr0 σ k) H locs := by rw [pwr0, if_pos hk]; exact h
    refine lv_aload_n hx hb d_BV_power_36 rfl (lk hl rfl) ?_
    refine g_BV_41 C h d_BV_power_37 ?_
    refine x_callVi (Y := Yc G n ad) (q := 9) C h hl.1 (c_Lg_recover l G n ad (pwr0 σ k) u hu hn hn2 hg ho) (Nat.le_of_ble_eq_true rfl) rfl rfl rfl cw_BV_85 rfl rfl (Nat.le_of_ble_eq_true rfl) ⟨Nat.le_of_ble_eq_true rfl, Nat.le_of_ble_eq_true rfl⟩ ⟨Nat.le_refl _, Nat.le_refl _⟩ d_BV_power_40 (fun H locs h => ?_)
    refine lv_istore_n hx hb d_BV_power_43 rfl hl (by decide) rfl (fun ls hl => ?_)
    refine lv_aload_n hx hb d_BV_power_44 rfl (lk hl rfl) ?_
    refine g_BV_23 C h d_BV_power_45 ?_
    refine g_BV_49 C h d_BV_power_48 ?_
    refine lv_if_eq (tgt := 58) hx hb d_BV_power_51 (by decide) (fun c_51 => ?_) (fun c_51 => ?_)
    · refine lv_iload_n hx hb d_BV_power_58 rfl (lk hl rfl) ?_
      exact x_iret C h d_BV_power_59 (by first | rw [if_pos c_51] | rw [if_neg c_51]) (rfl)
    · refine lv_iconst (v := (-1)) hx hb d_BV_power_54 (by decide) ?_
      refine lv_goto (tgt := 59) hx hb d_BV_power_55 (by decide) ?_
      exact x_iret C h d_BV_power_59 (by first | rw [if_pos c_51] | rw [if_neg c_51]) (rfl)
  · refine lv_aload_n hx hb d_BV_power_0 rfl (lk hl rfl) ?_
    refine g_BV_23 C h d_BV_power_1 ?_
    refine g_BV_49 C h d_BV_power_4 ?_
    refine lv_if_ne (tgt := 12) hx hb d_BV_power_7 (by decide) (fun c_7 => ?_) (fun c_7 => False.elim (h0 c_7))
    refine lv_aload_n hx hb d_BV_power_12 rfl (lk hl rfl) ?_
    refine g_BV_23 C h d_BV_power_13 ?_
    refine lv_iconst (v := 0) hx hb d_BV_power_16 (by decide) ?_
    refine p_BV_49 C h d_BV_power_17 rfl rfl (fun H locs h => ?_)
    refine lv_aload_n hx hb d_BV_power_20 rfl (lk hl rfl) ?_
    refine g_BV_23 C h d_BV_power_21 ?_
    refine lv_iload_n hx hb d_BV_power_24 rfl (lk hl rfl) ?_
    refine lv_if_ge (tgt := 32) hx hb d_BV_power_25 (by decide) (fun c_25 => False.elim (hk c_25)) (fun c_25 => ?_)
    refine lv_iconst (v := (-1)) hx hb d_BV_power_28 (by decide) ?_
    refine lv_goto (tgt := 33) hx hb d_BV_power_29 (by decide) ?_
    refine p_BV_82 C h d_BV_power_33 (fun H locs h => ?_)
    have h : Hp G (Yc G n ad) (Aof (Yc G n ad)) s.heap (pwr0 σ k) H locs := by rw [pwr0, if_neg hk]; exact h
    refine lv_aload_n hx hb d_BV_power_36 rfl (lk hl rfl) ?_
    refine g_BV_41 C h d_BV_power_37 ?_
    refine x_callVi (Y := Yc G n ad) (q := 9) C h hl.1 (c_Lg_recover l G n ad (pwr0 σ k) u hu hn hn2 hg ho) (Nat.le_of_ble_eq_true rfl) rfl rfl rfl cw_BV_85 rfl rfl (Nat.le_of_ble_eq_true rfl) ⟨Nat.le_of_ble_eq_true rfl, Nat.le_of_ble_eq_true rfl⟩ ⟨Nat.le_refl _, Nat.le_refl _⟩ d_BV_power_40 (fun H locs h => ?_)
    refine lv_istore_n hx hb d_BV_power_43 rfl hl (by decide) rfl (fun ls hl => ?_)
    refine lv_aload_n hx hb d_BV_power_44 rfl (lk hl rfl) ?_
    refine g_BV_23 C h d_BV_power_45 ?_
    refine g_BV_49 C h d_BV_power_48 ?_
    refine lv_if_eq (tgt := 58) hx hb d_BV_power_51 (by decide) (fun c_51 => ?_) (fun c_51 => ?_)
    · refine lv_iload_n hx hb d_BV_power_58 rfl (lk hl rfl) ?_
      exact x_iret C h d_BV_power_59 (by first | rw [if_pos c_51] | rw [if_neg c_51]) (rfl)
    · refine lv_iconst (v := (-1)) hx hb d_BV_power_54 (by decide) ?_
      refine lv_goto (tgt := 59) hx hb d_BV_power_55 (by decide) ?_
      exact x_iret C h d_BV_power_59 (by first | rw [if_pos c_51] | rw [if_neg c_51]) (rfl)
def cnt (σ : Sg) (w : Int32) : Int32 := if w = 0 then (if σ 1 4 = 0 then 1 else 0) else if w = 1 then σ 1 1 else if w = 2 then (if σ 1 4 = 0 then σ 9 6 else 0) else if w = 3 then (if σ 1 4 ≠ 0 ∨ σ 9 9 = 0 then -1 else σ 9 7) else if w = 4 then σ 1 2 else if w = 5 then σ 3 6 else if w = 6 then σ 9 8 else -1
theorem cnt_out {w : Int32} (w0 : ¬ w = 0) (w1 : ¬ w = 1) (w2 : ¬ w = 2) (w3 : ¬ w = 3) (w4 : ¬ w = 4) (w5 : ¬ w = 5) (w6 : ¬ w = 6) : w.toInt < 0 ∨ 6 < w.toInt := by
  have a0 := lv_neT w0 (show (0 : Int32).toInt = 0 by decide)
  have a1 := lv_neT w1 (show (1 : Int32).toInt = 1 by decide)
  have a2 := lv_neT w2 (show (2 : Int32).toInt = 2 by decide)
  have a3 := lv_neT w3 (show (3 : Int32).toInt = 3 by decide)
  have a4 := lv_neT w4 (show (4 : Int32).toInt = 4 by decide)
  have a5 := lv_neT w5 (show (5 : Int32).toInt = 5 by decide)
  have a6 := lv_neT w6 (show (6 : Int32).toInt = 6 by decide)
  omega
theorem c_BV_count (l : Launch) (G : Gx) (n : Nat) (ad : Nat → Nat) (σ : Sg) (w : Int32) : MI l G (Yc G n ad) y_BV_count b_BV_count 2 (some .int) 0 σ [.ref (ad 0), .int w] (cnt σ w) σ := by
  refine go rfl (Nat.le_of_ble_eq_true rfl) (fun p e s m below meth c ls C h hl => ?_)
  have hx := C.1
  have hb := C.2.1
  refine lv_iload_n hx hb d_BV_count_0 rfl (lk hl rfl) ?_
  by_cases w0 : w = 0
  · subst w0
    refine lv_tableIn (tgt := 44) hx hb d_BV_count_1 (by decide) (by decide) rfl (by decide) ?_
    have ec : cnt σ 0 = (if σ 1 4 = 0 then 1 else 0) := rfl
    refine lv_aload_n hx hb d_BV_count_44 rfl (lk hl rfl) ?_
    refine g_BV_23 C h d_BV_count_45 ?_
    refine g_BV_49 C h d_BV_count_48 ?_
    refine lv_if_eq (tgt := 58) hx hb d_BV_count_51 (by decide) (fun c_51 => ?_) (fun c_51 => ?_)
    · refine lv_iconst (v := 1) hx hb d_BV_count_58 (by decide) ?_
      exact x_iret C h d_BV_count_59 (by rw [ec]; first | rw [if_pos c_51] | rw [if_neg c_51]) (rfl)
    · refine lv_iconst (v := 0) hx hb d_BV_count_54 (by decide) ?_
      refine lv_goto (tgt := 59) hx hb d_BV_count_55 (by decide) ?_
      exact x_iret C h d_BV_count_59 (by rw [ec]; first | rw [if_pos c_51] | rw [if_neg c_51]) (rfl)
  by_cases w1 : w = 1
  · subst w1
    refine lv_tableIn (tgt := 60) hx hb d_BV_count_1 (by decide) (by decide) rfl (by decide) ?_
    have ec : cnt σ 1 = σ 1 1 := rfl
    refine lv_aload_n hx hb d_BV_count_60 rfl (lk hl rfl) ?_
    refine g_BV_23 C h d_BV_count_61 ?_
    refine g_BV_45 C h d_BV_count_64 ?_
    exact x_iret C h d_BV_count_67 (rfl) (rfl)
  by_cases w2 : w = 2
  · subst w2
    refine lv_tableIn (tgt := 68) hx hb d_BV_count_1 (by decide) (by decide) rfl (by decide) ?_
    have ec : cnt σ 2 = (if σ 1 4 = 0 then σ 9 6 else 0) := rfl
    refine lv_aload_n hx hb d_BV_count_68 rfl (lk hl rfl) ?_
    refine g_BV_23 C h d_BV_count_69 ?_
    refine g_BV_49 C h d_BV_count_72 ?_
    refine lv_if_eq (tgt := 82) hx hb d_BV_count_75 (by decide) (fun c_75 => ?_) (fun c_75 => ?_)
    · refine lv_aload_n hx hb d_BV_count_82 rfl (lk hl rfl) ?_
      refine g_BV_41 C h d_BV_count_83 ?_
      refine g_BV_62 C h d_BV_count_86 ?_
      exact x_iret C h d_BV_count_89 (by rw [ec]; first | rw [if_pos c_75] | rw [if_neg c_75]) (rfl)
    · refine lv_iconst (v := 0) hx hb d_BV_count_78 (by decide) ?_
      refine lv_goto (tgt := 89) hx hb d_BV_count_79 (by decide) ?_
      exact x_iret C h d_BV_count_89 (by rw [ec]; first | rw [if_pos c_75] | rw [if_neg c_75]) (rfl)
  by_cases w3 : w = 3
  · subst w3
    refine lv_tableIn (tgt := 90) hx hb d_BV_count_1 (by decide) (by decide) rfl (by decide) ?_
    have ec : cnt σ 3 = (if σ 1 4 ≠ 0 ∨ σ 9 9 = 0 then -1 else σ 9 7) := rfl
    refine lv_aload_n hx hb d_BV_count_90 rfl (lk hl rfl) ?_
    refine g_BV_23 C h d_BV_count_91 ?_
    refine g_BV_49 C h d_BV_count_94 ?_
    refine lv_if_ne (tgt := 110) hx hb d_BV_count_97 (by decide) (fun c_97 => ?_) (fun c_97 => ?_)
    · refine lv_iconst (v := (-1)) hx hb d_BV_count_110 (by decide) ?_
      refine lv_goto (tgt := 121) hx hb d_BV_count_111 (by decide) ?_
      exact x_iret C h d_BV_count_121 (by rw [ec]; first | rw [if_pos (Or.inl c_97)] | rw [if_pos (Or.inr c_107)] | rw [if_neg (by rintro (q | q); exact q c_97; exact c_107 q)]) (rfl)
    · refine lv_aload_n hx hb d_BV_count_100 rfl (lk hl rfl) ?_
      refine g_BV_41 C h d_BV_count_101 ?_
      refine g_BV_53 C h d_BV_count_104 ?_
      refine lv_if_ne (tgt := 114) hx hb d_BV_count_107 (by decide) (fun c_107 => ?_) (fun c_107 => ?_)
      · refine lv_aload_n hx hb d_BV_count_114 rfl (lk hl rfl) ?_
        refine g_BV_41 C h d_BV_count_115 ?_
        refine g_BV_89 C h d_BV_count_118 ?_
        exact x_iret C h d_BV_count_121 (by rw [ec]; first | rw [if_pos (Or.inl c_97)] | rw [if_pos (Or.inr c_107)] | rw [if_neg (by rintro (q | q); exact q c_97; exact c_107 q)]) (rfl)
      · refine lv_iconst (v := (-1)) hx hb d_BV_count_110 (by decide) ?_
        refine lv_goto (tgt := 121) hx hb d_BV_count_111 (by decide) ?_
        exact x_iret C h d_BV_count_121 (by rw [ec]; first | rw [if_pos (Or.inl c_97)] | rw [if_pos (Or.inr c_107)] | rw [if_neg (by rintro (q | q); exact q c_97; exact c_107 q)]) (rfl)
  by_cases w4 : w = 4
  · subst w4
    refine lv_tableIn (tgt := 122) hx hb d_BV_count_1 (by decide) (by decide) rfl (by decide) ?_
    have ec : cnt σ 4 = σ 1 2 := rfl
    refine lv_aload_n hx hb d_BV_count_122 rfl (lk hl rfl) ?_
    refine g_BV_23 C h d_BV_count_123 ?_
    refine g_BV_92 C h d_BV_count_126 ?_
    exact x_iret C h d_BV_count_129 (rfl) (rfl)
  by_cases w5 : w = 5
  · subst w5
    refine lv_tableIn (tgt := 130) hx hb d_BV_count_1 (by decide) (by decide) rfl (by decide) ?_
    have ec : cnt σ 5 = σ 3 6 := rfl
    refine lv_aload_n hx hb d_BV_count_130 rfl (lk hl rfl) ?_
    refine g_BV_32 C h d_BV_count_131 ?_
    refine g_BV_95 C h d_BV_count_134 ?_
    exact x_iret C h d_BV_count_137 (rfl) (rfl)
  by_cases w6 : w = 6
  · subst w6
    refine lv_tableIn (tgt := 138) hx hb d_BV_count_1 (by decide) (by decide) rfl (by decide) ?_
    have ec : cnt σ 6 = σ 9 8 := rfl
    refine lv_aload_n hx hb d_BV_count_138 rfl (lk hl rfl) ?_
    refine g_BV_41 C h d_BV_count_139 ?_
    refine g_BV_98 C h d_BV_count_142 ?_
    exact x_iret C h d_BV_count_145 (rfl) (rfl)
  · refine lv_tableOut (tgt := 146) hx hb d_BV_count_1 (by have := cnt_out w0 w1 w2 w3 w4 w5 w6; omega) (by decide) ?_
    refine lv_iconst (v := (-1)) hx hb d_BV_count_146 (by decide) ?_
    exact x_iret C h d_BV_count_147 (by rw [cnt, if_neg w0, if_neg w1, if_neg w2, if_neg w3, if_neg w4, if_neg w5, if_neg w6]) (rfl)
def hld (σ : Sg) (b : Int32) : Int32 := if σ 1 4 = 0 ∧ ibr (σ 1 1) b ≠ 0 ∧ fd σ b < 34 ∧ σ 6 (fd σ b) ≠ 0 then 1 else 0
theorem c_BV_held (l : Launch) (G : Gx) (n : Nat) (ad : Nat → Nat) (σ : Sg) (b : Int32) : MI l G (Yc G n ad) y_BV_held b_BV_held 2 (some .boolean) 1 σ [.ref (ad 0), .int b] (hld σ b) σ := by
  refine go rfl (Nat.le_of_ble_eq_true rfl) (fun p e s m below meth c ls C h hl => ?_)
  have hx := C.1
  have hb := C.2.1
  by_cases hlt : fd σ b < 34
  · refine lv_aload_n hx hb d_BV_held_0 rfl (lk hl rfl) ?_
    refine g_BV_23 C h d_BV_held_1 ?_
    refine g_BV_49 C h d_BV_held_4 ?_
    refine lv_if_ne (tgt := 53) hx hb d_BV_held_7 (by decide) (fun c_7 => ?_) (fun c_7 => ?_)
    · refine lv_iconst (v := 0) hx hb d_BV_held_53 (by decide) ?_
      exact x_zret C h d_BV_held_54 rfl (by simp_all [hld]) (rfl)
    · refine lv_aload_n hx hb d_BV_held_10 rfl (lk hl rfl) ?_
      refine lv_iload_n hx hb d_BV_held_11 rfl (lk hl rfl) ?_
      refine x_callVi (Y := Yc G n ad) (q := 0) C h hl.1 (c_BV_isBlock l G n ad σ b) (Nat.le_of_ble_eq_true rfl) rfl rfl rfl cw_BV_68 rfl rfl (Nat.le_of_ble_eq_true rfl) ⟨Nat.le_of_ble_eq_true rfl, Nat.le_of_ble_eq_true rfl⟩ ⟨Nat.le_refl _, Nat.le_refl _⟩ d_BV_held_12 (fun H locs h => ?_)
      refine lv_if_eq (tgt := 53) hx hb d_BV_held_15 (by decide) (fun c_15 => ?_) (fun c_15 => ?_)
      · refine lv_iconst (v := 0) hx hb d_BV_held_53 (by decide) ?_
        exact x_zret C h d_BV_held_54 rfl (by simp_all [hld]) (rfl)
      · refine lv_aload_n hx hb d_BV_held_18 rfl (lk hl rfl) ?_
        refine g_BV_32 C h d_BV_held_19 ?_
        refine lv_iload_n hx hb d_BV_held_22 rfl (lk hl rfl) ?_
        refine x_callVi (Y := Yc G n ad) (q := 3) C h hl.1 (c_Ca_find l G n ad σ b) (Nat.le_of_ble_eq_true rfl) rfl rfl rfl cw_BV_101 rfl rfl (Nat.le_of_ble_eq_true rfl) ⟨Nat.le_of_ble_eq_true rfl, Nat.le_of_ble_eq_true rfl⟩ ⟨Nat.le_refl _, Nat.le_refl _⟩ d_BV_held_23 (fun H locs h => ?_)
        refine top (show fdr σ b = nI (fd σ b) by rw [fdr, if_pos hlt]) ?_
        refine lv_iconst (v := (-1)) hx hb d_BV_held_26 (by decide) ?_
        refine lv_icmp_eq (tgt := 53) hx hb d_BV_held_27 (by decide) (fun c_27 => False.elim (m1_ne (by omega) c_27)) (fun c_27 => ?_)
        refine lv_aload_n hx hb d_BV_held_30 rfl (lk hl rfl) ?_
        refine g_BV_32 C h d_BV_held_31 ?_
        refine g_BV_105 C h d_BV_held_34 ?_
        refine lv_aload_n hx hb d_BV_held_37 rfl (lk hl rfl) ?_
        refine g_BV_32 C h d_BV_held_38 ?_
        refine lv_iload_n hx hb d_BV_held_41 rfl (lk hl rfl) ?_
        refine x_callVi (Y := Yc G n ad) (q := 3) C h hl.1 (c_Ca_find l G n ad σ b) (Nat.le_of_ble_eq_true rfl) rfl rfl rfl cw_BV_101 rfl rfl (Nat.le_of_ble_eq_true rfl) ⟨Nat.le_of_ble_eq_true rfl, Nat.le_of_ble_eq_true rfl⟩ ⟨Nat.le_refl _, Nat.le_refl _⟩ d_BV_held_42 (fun H locs h => ?_)
        refine top (show fdr σ b = nI (fd σ b) by rw [fdr, if_pos hlt]) ?_
        refine ln_c6 C h hlt (by omega) d_BV_held_45 ?_
        refine lv_if_eq (tgt := 53) hx hb d_BV_held_46 (by decide) (fun c_46 => ?_) (fun c_46 => ?_)
        · refine lv_iconst (v := 0) hx hb d_BV_held_53 (by decide) ?_
          exact x_zret C h d_BV_held_54 rfl (by simp_all [hld]) (rfl)
        · refine lv_iconst (v := 1) hx hb d_BV_held_49 (by decide) ?_
          refine lv_goto (tgt := 54) hx hb d_BV_held_50 (by decide) ?_
          exact x_zret C h d_BV_held_54 rfl (by simp_all [hld]) (rfl)
  · refine lv_aload_n hx hb d_BV_held_0 rfl (lk hl rfl) ?_
    refine g_BV_23 C h d_BV_held_1 ?_
    refine g_BV_49 C h d_BV_held_4 ?_
    refine lv_if_ne (tgt := 53) hx hb d_BV_held_7 (by decide) (fun c_7 => ?_) (fun c_7 => ?_)
    · refine lv_iconst (v := 0) hx hb d_BV_held_53 (by decide) ?_
      exact x_zret C h d_BV_held_54 rfl (by rw [hld, if_neg (fun q => hlt q.2.2.1)]) (rfl)
    · refine lv_aload_n hx hb d_BV_held_10 rfl (lk hl rfl) ?_
      refine lv_iload_n hx hb d_BV_held_11 rfl (lk hl rfl) ?_
      refine x_callVi (Y := Yc G n ad) (q := 0) C h hl.1 (c_BV_isBlock l G n ad σ b) (Nat.le_of_ble_eq_true rfl) rfl rfl rfl cw_BV_68 rfl rfl (Nat.le_of_ble_eq_true rfl) ⟨Nat.le_of_ble_eq_true rfl, Nat.le_of_ble_eq_true rfl⟩ ⟨Nat.le_refl _, Nat.le_refl _⟩ d_BV_held_12 (fun H locs h => ?_)
      refine lv_if_eq (tgt := 53) hx hb d_BV_held_15 (by decide) (fun c_15 => ?_) (fun c_15 => ?_)
      · refine lv_iconst (v := 0) hx hb d_BV_held_53 (by decide) ?_
        exact x_zret C h d_BV_held_54 rfl (by rw [hld, if_neg (fun q => hlt q.2.2.1)]) (rfl)
      · refine lv_aload_n hx hb d_BV_held_18 rfl (lk hl rfl) ?_
        refine g_BV_32 C h d_BV_held_19 ?_
        refine lv_iload_n hx hb d_BV_held_22 rfl (lk hl rfl) ?_
        refine x_callVi (Y := Yc G n ad) (q := 3) C h hl.1 (c_Ca_find l G n ad σ b) (Nat.le_of_ble_eq_true rfl) rfl rfl rfl cw_BV_101 rfl rfl (Nat.le_of_ble_eq_true rfl) ⟨Nat.le_of_ble_eq_true rfl, Nat.le_of_ble_eq_true rfl⟩ ⟨Nat.le_refl _, Nat.le_refl _⟩ d_BV_held_23 (fun H locs h => ?_)
        refine top (show fdr σ b = -1 by rw [fdr, if_neg hlt]) ?_
        refine lv_iconst (v := (-1)) hx hb d_BV_held_26 (by decide) ?_
        refine lv_icmp_eq (tgt := 53) hx hb d_BV_held_27 (by decide) (fun c_27 => ?_) (fun c_27 => False.elim (c_27 rfl))
        refine lv_iconst (v := 0) hx hb d_BV_held_53 (by decide) ?_
        exact x_zret C h d_BV_held_54 rfl (by rw [hld, if_neg (fun q => hlt q.2.2.1)]) (rfl)
def cch (σ : Sg) (b : Int32) : Int32 := if σ 1 4 = 0 ∧ ibr (σ 1 1) b ≠ 0 ∧ fd σ b < 34 then 1 else 0
theorem c_BV_cached (l : Launch) (G : Gx) (n : Nat) (ad : Nat → Nat) (σ : Sg) (b : Int32) : MI l G (Yc G n ad) y_BV_cached b_BV_cached 2 (some .boolean) 1 σ [.ref (ad 0), .int b] (cch σ b) σ := by
  refine go rfl (Nat.le_of_ble_eq_true rfl) (fun p e s m below meth c ls C h hl => ?_)
  have hx := C.1
  have hb := C.2.1
  by_cases hlt : fd σ b < 34
  · refine lv_aload_n hx hb d_BV_cached_0 rfl (lk hl rfl) ?_
    refine g_BV_23 C h d_BV_cached_1 ?_
    refine g_BV_49 C h d_BV_cached_4 ?_
    refine lv_if_ne (tgt := 34) hx hb d_BV_cached_7 (by decide) (fun c_7 => ?_) (fun c_7 => ?_)
    · refine lv_iconst (v := 0) hx hb d_BV_cached_34 (by decide) ?_
      exact x_zret C h d_BV_cached_35 rfl (by simp_all [cch]) (rfl)
    · refine lv_aload_n hx hb d_BV_cached_10 rfl (lk hl rfl) ?_
      refine lv_iload_n hx hb d_BV_cached_11 rfl (lk hl rfl) ?_
      refine x_callVi (Y := Yc G n ad) (q := 0) C h hl.1 (c_BV_isBlock l G n ad σ b) (Nat.le_of_ble_eq_true rfl) rfl rfl rfl cw_BV_68 rfl rfl (Nat.le_of_ble_eq_true rfl) ⟨Nat.le_of_ble_eq_true rfl, Nat.le_of_ble_eq_true rfl⟩ ⟨Nat.le_refl _, Nat.le_refl _⟩ d_BV_cached_12 (fun H locs h => ?_)
      refine lv_if_eq (tgt := 34) hx hb d_BV_cached_15 (by decide) (fun c_15 => ?_) (fun c_15 => ?_)
      · refine lv_iconst (v := 0) hx hb d_BV_cached_34 (by decide) ?_
        exact x_zret C h d_BV_cached_35 rfl (by simp_all [cch]) (rfl)
      · refine lv_aload_n hx hb d_BV_cached_18 rfl (lk hl rfl) ?_
        refine g_BV_32 C h d_BV_cached_19 ?_
        refine lv_iload_n hx hb d_BV_cached_22 rfl (lk hl rfl) ?_
        refine x_callVi (Y := Yc G n ad) (q := 3) C h hl.1 (c_Ca_find l G n ad σ b) (Nat.le_of_ble_eq_true rfl) rfl rfl rfl cw_BV_101 rfl rfl (Nat.le_of_ble_eq_true rfl) ⟨Nat.le_of_ble_eq_true rfl, Nat.le_of_ble_eq_true rfl⟩ ⟨Nat.le_refl _, Nat.le_refl _⟩ d_BV_cached_23 (fun H locs h => ?_)
        refine top (show fdr σ b = nI (fd σ b) by rw [fdr, if_pos hlt]) ?_
        refine lv_iconst (v := (-1)) hx hb d_BV_cached_26 (by decide) ?_
        refine lv_icmp_eq (tgt := 34) hx hb d_BV_cached_27 (by decide) (fun c_27 => False.elim (m1_ne (by omega) c_27)) (fun c_27 => ?_)
        refine lv_iconst (v := 1) hx hb d_BV_cached_30 (by decide) ?_
        refine lv_goto (tgt := 35) hx hb d_BV_cached_31 (by decide) ?_
        exact x_zret C h d_BV_cached_35 rfl (by simp_all [cch]) (rfl)
  · refine lv_aload_n hx hb d_BV_cached_0 rfl (lk hl rfl) ?_
    refine g_BV_23 C h d_BV_cached_1 ?_
    refine g_BV_49 C h d_BV_cached_4 ?_
    refine lv_if_ne (tgt := 34) hx hb d_BV_cached_7 (by decide) (fun c_7 => ?_) (fun c_7 => ?_)
    · refine lv_iconst (v := 0) hx hb d_BV_cached_34 (by decide) ?_
      exact x_zret C h d_BV_cached_35 rfl (by simp_all [cch]) (rfl)
    · refine lv_aload_n hx hb d_BV_cached_10 rfl (lk hl rfl) ?_
      refine lv_iload_n hx hb d_BV_cached_11 rfl (lk hl rfl) ?_
      refine x_callVi (Y := Yc G n ad) (q := 0) C h hl.1 (c_BV_isBlock l G n ad σ b) (Nat.le_of_ble_eq_true rfl) rfl rfl rfl cw_BV_68 rfl rfl (Nat.le_of_ble_eq_true rfl) ⟨Nat.le_of_ble_eq_true rfl, Nat.le_of_ble_eq_true rfl⟩ ⟨Nat.le_refl _, Nat.le_refl _⟩ d_BV_cached_12 (fun H locs h => ?_)
      refine lv_if_eq (tgt := 34) hx hb d_BV_cached_15 (by decide) (fun c_15 => ?_) (fun c_15 => ?_)
      · refine lv_iconst (v := 0) hx hb d_BV_cached_34 (by decide) ?_
        exact x_zret C h d_BV_cached_35 rfl (by simp_all [cch]) (rfl)
      · refine lv_aload_n hx hb d_BV_cached_18 rfl (lk hl rfl) ?_
        refine g_BV_32 C h d_BV_cached_19 ?_
        refine lv_iload_n hx hb d_BV_cached_22 rfl (lk hl rfl) ?_
        refine x_callVi (Y := Yc G n ad) (q := 3) C h hl.1 (c_Ca_find l G n ad σ b) (Nat.le_of_ble_eq_true rfl) rfl rfl rfl cw_BV_101 rfl rfl (Nat.le_of_ble_eq_true rfl) ⟨Nat.le_of_ble_eq_true rfl, Nat.le_of_ble_eq_true rfl⟩ ⟨Nat.le_refl _, Nat.le_refl _⟩ d_BV_cached_23 (fun H locs h => ?_)
        refine top (show fdr σ b = -1 by rw [fdr, if_neg hlt]) ?_
        refine lv_iconst (v := (-1)) hx hb d_BV_cached_26 (by decide) ?_
        refine lv_icmp_eq (tgt := 34) hx hb d_BV_cached_27 (by decide) (fun c_27 => ?_) (fun c_27 => False.elim (c_27 rfl))
        refine lv_iconst (v := 0) hx hb d_BV_cached_34 (by decide) ?_
        exact x_zret C h d_BV_cached_35 rfl (by simp_all [cch]) (rfl)
end W24
end
section
/-! WHAT THE MODEL's METHODS COMPUTE -/
def mny (f : Nat → Int32) : Nat → Nat
  | 0 => 0
  | k + 1 => mny f k + (if f k = 0 then 0 else 1)
theorem mny_le (f : Nat → Int32) : ∀ k, mny f k ≤ k := by
  intro k
  induction k with
  | zero => exact Nat.le_refl _
  | succ k ih => simp only [mny]; split <;> omega
def th0 (τ : Sg) : Sg := set1 τ 0 0 0
def mbg (τ : Sg) : Sg := itr (fun k σ => set1 σ 4 k 0) 80 0 (set1 (th0 τ) 0 9 1)
def wrOk (τ : Sg) (x : Int32) : Prop := τ 0 10 < 0 ∨ ¬ τ 0 10 < x
def wr1 (τ : Sg) (x : Int32) : Sg :=
  let s1 := set1 τ 0 11 (τ 0 11 + x)
  set1 s1 0 10 (if 0 ≤ s1 0 10 then s1 0 10 - x else s1 0 10)
def wr0 (τ : Sg) : Sg := set1 (set1 (set1 τ 0 11 (τ 0 11 + τ 0 10)) 0 10 (-1)) 0 8 0
def en1 (τ : Sg) : Sg := set1 (wr1 τ (τ 0 14 + 1)) 0 14 (-1)
def en0 (τ : Sg) : Sg := let s1 := wr0 τ; set1 s1 0 14 (s1 0 14)
def cpb (b : Nat) (σ : Sg) : Sg := set1 (if σ 3 b = 0 then σ else itr (fun k σ => set1 σ 1 k (bt (σ 2 k))) 1024 (1024 * b) σ) 3 b 0
/-- a commit that counts, up to its last writes -/
def cm1 (n : Nat) (τ : Sg) : Sg :=
  let c := mny (τ 3) 80
  let s1 := wr1 τ (nI c + 1)
  let s2 := set1 s1 0 13 (s1 0 13 + 1)
  set1 (itr cpb n 0 s2) 0 14 (nI c)
def lkN (st hd : Nat → Int32) : Nat → Nat × Int32
  | 0 => (0, -1)
  | k + 1 => ((lkN st hd k).1 + (if 0 < st k then 1 else 0), if 0 < st k ∧ hd k = 0 ∧ ((lkN st hd k).2 < 0 ∨ st k < st (lkN st hd k).2.toNatClampNeg) then nI k else (lkN st hd k).2)
theorem lkN_le (st hd : Nat → Int32) : ∀ k, (lkN st hd k).1 ≤ k := by
  intro k
  induction k with
  | zero => exact Nat.le_refl _
  | succ k ih => simp only [lkN]; split <;> omega
theorem lkN_in (st hd : Nat → Int32) : ∀ k, (lkN st hd k).2 = -1 ∨ ∃ j, j < k ∧ (lkN st hd k).2 = nI j := by
  intro k
  induction k with
  | zero => exact Or.inl rfl
  | succ k ih =>
    simp only [lkN]
    split
    · exact Or.inr ⟨k, Nat.lt_succ_self k, rfl⟩
    · rcases ih with h | ⟨j, hj, h⟩
      · exact Or.inl h
      · exact Or.inr ⟨j, by omega, h⟩
def lk1 (n : Nat) (τ : Sg) : Sg :=
  let a := set1 τ 0 12 (τ 0 12 + 1)
  if (lkN (a 5) (a 3) n).1 = 34 then set1 a 5 (lkN (a 5) (a 3) n).2.toNatClampNeg 0 else a
def lkS (n b : Nat) (τ : Sg) : Sg :=
  let s1 := if τ 5 b = 0 then lk1 n τ else τ
  let s2 := set1 s1 0 7 (s1 0 7 + 1)
  set1 s2 5 b (s2 0 7)
def mfl (n b k cn : Nat) (v : Int32) (τ : Sg) : Sg := itr (fun j σ => set1 σ 2 (1024 * b + k + j) (v + nI j).toInt8.toInt32) cn 0 (set1 (set1 (lkS n b τ) 4 b 1) 3 b 1)
def mpw (τ : Sg) (k : Int32) : Sg :=
  let s1 := set1 (set1 (set1 (th0 τ) 0 8 1) 0 9 0) 0 10 (if 0 ≤ k then k else -1)
  let s2 := itr (fun k σ => set1 σ 2 k (bt (σ 1 k))) 81920 0 s1
  itr (fun k σ => set1 (set1 σ 3 k 0) 5 k 0) 80 0 s2
def mcnt (τ : Sg) (w : Int32) : Int32 := if w = 0 then (if τ 0 8 = 0 then 0 else 1) else if w = 1 then τ 0 1 else if w = 2 then (if τ 0 8 = 0 then 0 else nI (mny (τ 3) 80)) else if w = 3 then (if τ 0 8 = 0 ∨ τ 0 9 = 0 then -1 else nI (mny (τ 4) 80)) else if w = 4 then τ 0 11 else if w = 5 then τ 0 12 else if w = 6 then τ 0 13 else -1
def mhld (τ : Sg) (b : Int32) : Int32 := if τ 0 8 ≠ 0 ∧ ibr (τ 0 1) b ≠ 0 ∧ τ 3 b.toNatClampNeg ≠ 0 then 1 else 0
def mcch (τ : Sg) (b : Int32) : Int32 := if τ 0 8 ≠ 0 ∧ ibr (τ 0 1) b ≠ 0 ∧ 0 < τ 5 b.toNatClampNeg then 1 else 0
theorem cpb_0 {b : Nat} {σ : Sg} : cpb b σ 0 = σ 0 := by
  rw [cpb, st_ne (by decide)]
  split
  · rfl
  · rw [itr_ne (fun _ _ => st_ne (by decide))]
end
section
section W26
variable {p : Program} {l : Launch} {e : Env} {R : Room} {s : State} {m : MethodId} {args : Array Value} {below : List Frame} {meth : Method} {c : Code} {H : Heap} {locs : List Loc} {cells slots : Nat} {Q : State → Prop}
variable {G : Gx} {n : Nat} {ad am : Nat → Nat} {A : Nat → Prop} {H0 : Heap} {ret : Option FieldType}
theorem c_Md_isBlock (l : Launch) (G : Gx) (am : Nat → Nat) (σ : Sg) (b : Int32) : MI l G (Ym G am) y_Md_isBlock b_Md_isBlock 2 (some .boolean) 0 σ [.ref (am 0), .int b] (ibr (σ 0 1) b) σ := by
  refine go rfl (Nat.le_of_ble_eq_true rfl) (fun p e s m below meth c ls C h hl => ?_)
  have hx := C.1
  have hb := C.2.1
  refine lv_iload_n hx hb d_Md_isBlock_0 rfl (lk hl rfl) ?_
  refine lv_if_lt (tgt := 27) hx hb d_Md_isBlock_1 (by decide) (fun c_1 => ?_) (fun c_1 => ?_)
  · refine lv_iconst (v := 0) hx hb d_Md_isBlock_27 (by decide) ?_
    exact x_zret C h d_Md_isBlock_28 rfl (by first | exact ibr_1 c_1 c_9 (Or.inl c_14) | exact ibr_1 c_1 c_9 (Or.inr c_20) | exact ibr_0 (Or.inl c_1) | exact ibr_0 (Or.inr (Or.inl c_9)) | exact ibr_0 (Or.inr (Or.inr ⟨c_14, c_20⟩))) (rfl)
  · refine lv_iload_n hx hb d_Md_isBlock_4 rfl (lk hl rfl) ?_
    refine lv_aload_n hx hb d_Md_isBlock_5 rfl (lk hl rfl) ?_
    refine g_Md_39 C h d_Md_isBlock_6 ?_
    refine lv_icmp_ge (tgt := 27) hx hb d_Md_isBlock_9 (by decide) (fun c_9 => ?_) (fun c_9 => ?_)
    · refine lv_iconst (v := 0) hx hb d_Md_isBlock_27 (by decide) ?_
      exact x_zret C h d_Md_isBlock_28 rfl (by first | exact ibr_1 c_1 c_9 (Or.inl c_14) | exact ibr_1 c_1 c_9 (Or.inr c_20) | exact ibr_0 (Or.inl c_1) | exact ibr_0 (Or.inr (Or.inl c_9)) | exact ibr_0 (Or.inr (Or.inr ⟨c_14, c_20⟩))) (rfl)
    · refine lv_iload_n hx hb d_Md_isBlock_12 rfl (lk hl rfl) ?_
      refine lv_iconst (v := 2) hx hb d_Md_isBlock_13 (by decide) ?_
      refine lv_icmp_lt (tgt := 23) hx hb d_Md_isBlock_14 (by decide) (fun c_14 => ?_) (fun c_14 => ?_)
      · refine lv_iconst (v := 1) hx hb d_Md_isBlock_23 (by decide) ?_
        refine lv_goto (tgt := 28) hx hb d_Md_isBlock_24 (by decide) ?_
        exact x_zret C h d_Md_isBlock_28 rfl (by first | exact ibr_1 c_1 c_9 (Or.inl c_14) | exact ibr_1 c_1 c_9 (Or.inr c_20) | exact ibr_0 (Or.inl c_1) | exact ibr_0 (Or.inr (Or.inl c_9)) | exact ibr_0 (Or.inr (Or.inr ⟨c_14, c_20⟩))) (rfl)
      · refine lv_iload_n hx hb d_Md_isBlock_17 rfl (lk hl rfl) ?_
        refine lv_bipush (v := 32) hx hb d_Md_isBlock_18 (by decide) ?_
        refine lv_icmp_le (tgt := 27) hx hb d_Md_isBlock_20 (by decide) (fun c_20 => ?_) (fun c_20 => ?_)
        · refine lv_iconst (v := 0) hx hb d_Md_isBlock_27 (by decide) ?_
          exact x_zret C h d_Md_isBlock_28 rfl (by first | exact ibr_1 c_1 c_9 (Or.inl c_14) | exact ibr_1 c_1 c_9 (Or.inr c_20) | exact ibr_0 (Or.inl c_1) | exact ibr_0 (Or.inr (Or.inl c_9)) | exact ibr_0 (Or.inr (Or.inr ⟨c_14, c_20⟩))) (rfl)
        · refine lv_iconst (v := 1) hx hb d_Md_isBlock_23 (by decide) ?_
          refine lv_goto (tgt := 28) hx hb d_Md_isBlock_24 (by decide) ?_
          exact x_zret C h d_Md_isBlock_28 rfl (by first | exact ibr_1 c_1 c_9 (Or.inl c_14) | exact ibr_1 c_1 c_9 (Or.inr c_20) | exact ibr_0 (Or.inl c_1) | exact ibr_0 (Or.inr (Or.inl c_9)) | exact ibr_0 (Or.inr (Or.inr ⟨c_14, c_20⟩))) (rfl)
theorem lp_many3 {σ : Sg} (C : Cx G p s m args meth c R_Md b_Md_many 3 ret) (h : Hp G (Ym G am) A H0 σ H locs) : ∀ (d k : Nat), k + d = 80 → ∀ ls : Array Slot, lv_has ls 3 [(0, .ref (am 3)), (1, .int (nI (mny (σ 3) k))), (2, .int (nI k))] → (∀ ls : Array Slot, lv_has ls 3 [(1, .int (nI (mny (σ 3) 80)))] → W p l e R s m args below meth c H locs cells slots Q (F0 m 30 ls [])) → W p l e R s m args below meth c H locs cells slots Q (F0 m 4 ls []) := by
  have hx := C.1
  have hb := C.2.1
  intro d
  induction d with
  | zero =>
    intro k hk ls hl K
    have hk : k = 80 := by omega
    subst hk
    refine lv_iload_n hx hb d_Md_many_4 rfl (lk hl rfl) ?_
    refine lv_bipush (v := nI 80) hx hb d_Md_many_5 (by decide) ?_
    refine lv_icmp_ge (tgt := 30) hx hb d_Md_many_7 (by decide) (fun c_7 => ?_) (fun c_7 => False.elim (f_nle c_7 (by omega) (by omega) (by omega)))
    exact K ls (lv_re hl _ rfl)
  | succ d ih =>
    intro k hk ls hl K
    refine lv_iload_n hx hb d_Md_many_4 rfl (lk hl rfl) ?_
    refine lv_bipush (v := nI 80) hx hb d_Md_many_5 (by decide) ?_
    refine lv_icmp_ge (tgt := 30) hx hb d_Md_many_7 (by decide) (fun c_7 => False.elim (f_le c_7 (by omega) (by omega) (by omega))) (fun c_7 => ?_)
    refine lv_iload_n hx hb d_Md_many_10 rfl (lk hl rfl) ?_
    refine lv_aload_n hx hb d_Md_many_11 rfl (lk hl rfl) ?_
    refine lv_iload_n hx hb d_Md_many_12 rfl (lk hl rfl) ?_
    refine ln_m3 C h (by omega) (by omega) d_Md_many_13 ?_
    refine lv_if_eq (tgt := 21) hx hb d_Md_many_14 (by decide) (fun c_14 => ?_) (fun c_14 => ?_)
    · refine lv_iconst (v := nI 0) hx hb d_Md_many_21 (by decide) ?_
      refine lv_iadd hx hb d_Md_many_22 ?_
      refine top (nI_add _ _) ?_
      refine lv_istore_n hx hb d_Md_many_23 rfl hl (by decide) rfl (fun ls hl => ?_)
      refine x_iinc (v := nI (k + 1)) hx hb d_Md_many_24 hl rfl (inc1 k) (by decide) (fun ls hl => ?_)
      refine lv_goto (tgt := 4) hx hb d_Md_many_27 (by decide) ?_
      exact ih (k + 1) (by omega) ls (lv_re hl _ (by simp only [mny]; (first | rw [if_pos c_14] | rw [if_neg c_14]); rfl)) K
    · refine lv_iconst (v := nI 1) hx hb d_Md_many_17 (by decide) ?_
      refine lv_goto (tgt := 22) hx hb d_Md_many_18 (by decide) ?_
      refine lv_iadd hx hb d_Md_many_22 ?_
      refine top (nI_add _ _) ?_
      refine lv_istore_n hx hb d_Md_many_23 rfl hl (by decide) rfl (fun ls hl => ?_)
      refine x_iinc (v := nI (k + 1)) hx hb d_Md_many_24 hl rfl (inc1 k) (by decide) (fun ls hl => ?_)
      refine lv_goto (tgt := 4) hx hb d_Md_many_27 (by decide) ?_
      exact ih (k + 1) (by omega) ls (lv_re hl _ (by simp only [mny]; (first | rw [if_pos c_14] | rw [if_neg c_14]); rfl)) K
theorem c_Md_many3 (l : Launch) (G : Gx) (am : Nat → Nat) (σ : Sg) : MI l G (Ym G am) y_Md_many b_Md_many 3 (some .int) 0 σ [.ref (am 3)] (nI (mny (σ 3) 80)) σ := by
  refine go rfl (Nat.le_of_ble_eq_true rfl) (fun p e s m below meth c ls C h hl => ?_)
  have hx := C.1
  have hb := C.2.1
  refine lv_iconst (v := nI 0) hx hb d_Md_many_0 (by decide) ?_
  refine lv_istore_n hx hb d_Md_many_1 rfl hl (by decide) rfl (fun ls hl => ?_)
  refine lv_iconst (v := nI 0) hx hb d_Md_many_2 (by decide) ?_
  refine lv_istore_n hx hb d_Md_many_3 rfl hl (by decide) rfl (fun ls hl => ?_)
  refine lp_many3 C h 80 0 rfl ls (lv_re hl _ rfl) (fun ls hl => ?_)
  refine lv_iload_n hx hb d_Md_many_30 rfl (lk hl rfl) ?_
  exact x_iret C h d_Md_many_31 (rfl) (rfl)
theorem lp_many4 {σ : Sg} (C : Cx G p s m args meth c R_Md b_Md_many 3 ret) (h : Hp G (Ym G am) A H0 σ H locs) : ∀ (d k : Nat), k + d = 80 → ∀ ls : Array Slot, lv_has ls 3 [(0, .ref (am 4)), (1, .int (nI (mny (σ 4) k))), (2, .int (nI k))] → (∀ ls : Array Slot, lv_has ls 3 [(1, .int (nI (mny (σ 4) 80)))] → W p l e R s m args below meth c H locs cells slots Q (F0 m 30 ls [])) → W p l e R s m args below meth c H locs cells slots Q (F0 m 4 ls []) := by
  have hx := C.1
  have hb := C.2.1
  intro d
  induction d with
  | zero =>
    intro k hk ls hl K
    have hk : k = 80 := by omega
    subst hk
    refine lv_iload_n hx hb d_Md_many_4 rfl (lk hl rfl) ?_
    refine lv_bipush (v := nI 80) hx hb d_Md_many_5 (by decide) ?_
    refine lv_icmp_ge (tgt := 30) hx hb d_Md_many_7 (by decide) (fun c_7 => ?_) (fun c_7 => False.elim (f_nle c_7 (by omega) (by omega) (by omega)))
    exact K ls (lv_re hl _ rfl)
  | succ d ih =>
    intro k hk ls hl K
    refine lv_iload_n hx hb d_Md_many_4 rfl (lk hl rfl) ?_
    refine lv_bipush (v := nI 80) hx hb d_Md_many_5 (by decide) ?_
    refine lv_icmp_ge (tgt := 30) hx hb d_Md_many_7 (by decide) (fun c_7 => False.elim (f_le c_7 (by omega) (by omega) (by omega))) (fun c_7 => ?_)
    refine lv_iload_n hx hb d_Md_many_10 rfl (lk hl rfl) ?_
    refine lv_aload_n hx hb d_Md_many_11 rfl (lk hl rfl) ?_
    refine lv_iload_n hx hb d_Md_many_12 rfl (lk hl rfl) ?_
    refine ln_m4 C h (by omega) (by omega) d_Md_many_13 ?_
    refine lv_if_eq (tgt := 21) hx hb d_Md_many_14 (by decide) (fun c_14 => ?_) (fun c_14 => ?_)
    · refine lv_iconst (v := nI 0) hx hb d_Md_many_21 (by decide) ?_
      refine lv_iadd hx hb d_Md_many_22 ?_
      refine top (nI_add _ _) ?_
      refine lv_istore_n hx hb d_Md_many_23 rfl hl (by decide) rfl (fun ls hl => ?_)
      refine x_iinc (v := nI (k + 1)) hx hb d_Md_many_24 hl rfl (inc1 k) (by decide) (fun ls hl => ?_)
      refine lv_goto (tgt := 4) hx hb d_Md_many_27 (by decide) ?_
      exact ih (k + 1) (by omega) ls (lv_re hl _ (by simp only [mny]; (first | rw [if_pos c_14] | rw [if_neg c_14]); rfl)) K
    · refine lv_iconst (v := nI 1) hx hb d_Md_many_17 (by decide) ?_
      refine lv_goto (tgt := 22) hx hb d_Md_many_18 (by decide) ?_
      refine lv_iadd hx hb d_Md_many_22 ?_
      refine top (nI_add _ _) ?_
      refine lv_istore_n hx hb d_Md_many_23 rfl hl (by decide) rfl (fun ls hl => ?_)
      refine x_iinc (v := nI (k + 1)) hx hb d_Md_many_24 hl rfl (inc1 k) (by decide) (fun ls hl => ?_)
      refine lv_goto (tgt := 4) hx hb d_Md_many_27 (by decide) ?_
      exact ih (k + 1) (by omega) ls (lv_re hl _ (by simp only [mny]; (first | rw [if_pos c_14] | rw [if_neg c_14]); rfl)) K
theorem c_Md_many4 (l : Launch) (G : Gx) (am : Nat → Nat) (σ : Sg) : MI l G (Ym G am) y_Md_many b_Md_many 3 (some .int) 0 σ [.ref (am 4)] (nI (mny (σ 4) 80)) σ := by
  refine go rfl (Nat.le_of_ble_eq_true rfl) (fun p e s m below meth c ls C h hl => ?_)
  have hx := C.1
  have hb := C.2.1
  refine lv_iconst (v := nI 0) hx hb d_Md_many_0 (by decide) ?_
  refine lv_istore_n hx hb d_Md_many_1 rfl hl (by decide) rfl (fun ls hl => ?_)
  refine lv_iconst (v := nI 0) hx hb d_Md_many_2 (by decide) ?_
  refine lv_istore_n hx hb d_Md_many_3 rfl hl (by decide) rfl (fun ls hl => ?_)
  refine lp_many4 C h 80 0 rfl ls (lv_re hl _ rfl) (fun ls hl => ?_)
  refine lv_iload_n hx hb d_Md_many_30 rfl (lk hl rfl) ?_
  exact x_iret C h d_Md_many_31 (rfl) (rfl)
theorem lp_mbegin (C : Cx G p s m args meth c R_Md b_Md_begin 2 ret) : ∀ (d k : Nat), k + d = 80 → ∀ (σ : Sg) (H : Heap) (locs : List Loc), Hp G (Ym G am) A H0 σ H locs → ∀ ls : Array Slot, lv_has ls 2 [(0, .ref (am 0)), (1, .int (nI k))] → (∀ (H : Heap) (locs : List Loc), Hp G (Ym G am) A H0 (itr (fun k σ => set1 σ 4 k 0) d k σ) H locs → ∀ ls : Array Slot, W p l e R s m args below meth c H locs cells slots Q (F0 m 47 ls [])) → W p l e R s m args below meth c H locs cells slots Q (F0 m 28 ls []) := by
  have hx := C.1
  have hb := C.2.1
  intro d
  induction d with
  | zero =>
    intro k hk σ H locs h ls hl K
    refine lv_iload_n hx hb d_Md_begin_28 rfl (lk hl rfl) ?_
    refine lv_bipush (v := nI 80) hx hb d_Md_begin_29 (by decide) ?_
    refine lv_icmp_ge (tgt := 47) hx hb d_Md_begin_31 (by decide) (fun c_31 => ?_) (fun c_31 => False.elim (f_nle c_31 (by omega) (by omega) (by omega)))
    exact K H locs h ls
  | succ d ih =>
    intro k hk σ H locs h ls hl K
    refine lv_iload_n hx hb d_Md_begin_28 rfl (lk hl rfl) ?_
    refine lv_bipush (v := nI 80) hx hb d_Md_begin_29 (by decide) ?_
    refine lv_icmp_ge (tgt := 47) hx hb d_Md_begin_31 (by decide) (fun c_31 => False.elim (f_le c_31 (by omega) (by omega) (by omega))) (fun c_31 => ?_)
    refine lv_aload_n hx hb d_Md_begin_34 rfl (lk hl rfl) ?_
    refine g_Md_21 C h d_Md_begin_35 ?_
    refine lv_iload_n hx hb d_Md_begin_38 rfl (lk hl rfl) ?_
    refine lv_iconst (v := 0) hx hb d_Md_begin_39 (by decide) ?_
    refine sn_m4 C h rfl (by omega) (by omega) d_Md_begin_40 (fun H locs h => ?_)
    refine x_iinc (v := nI (k + 1)) hx hb d_Md_begin_41 hl rfl (inc1 k) (by decide) (fun ls hl => ?_)
    refine lv_goto (tgt := 28) hx hb d_Md_begin_44 (by decide) ?_
    exact ih (k + 1) (by omega) _ H locs h ls (lv_re hl _ rfl) K
theorem c_Md_begin0 (l : Launch) (G : Gx) (am : Nat → Nat) (σ : Sg) (hno : th0 σ 0 8 = 0 ∨ th0 σ 0 9 ≠ 0) : MI l G (Ym G am) y_Md_begin b_Md_begin 2 (some .boolean) 0 σ [.ref (am 0)] 0 (th0 σ) := by
  refine go rfl (Nat.le_of_ble_eq_true rfl) (fun p e s m below meth c ls C h hl => ?_)
  have hx := C.1
  have hb := C.2.1
  refine lv_aload_n hx hb d_Md_begin_0 rfl (lk hl rfl) ?_
  refine lv_iconst (v := 0) hx hb d_Md_begin_1 (by decide) ?_
  refine p_Md_42 C h d_Md_begin_2 (fun H locs h => ?_)
  refine lv_aload_n hx hb d_Md_begin_5 rfl (lk hl rfl) ?_
  refine g_Md_28 C h d_Md_begin_6 ?_
  refine lv_if_eq (tgt := 19) hx hb d_Md_begin_9 (by decide) (fun c_9 => ?_) (fun c_9 => ?_)
  · refine lv_iconst (v := 0) hx hb d_Md_begin_19 (by decide) ?_
    exact x_zret C h d_Md_begin_20 rfl (rfl) (rfl)
  · refine lv_aload_n hx hb d_Md_begin_12 rfl (lk hl rfl) ?_
    refine g_Md_45 C h d_Md_begin_13 ?_
    refine lv_if_eq (tgt := 21) hx hb d_Md_begin_16 (by decide) (fun c_16 => ?_) (fun c_16 => ?_)
    · exact absurd hno (by rintro (q | q); exact c_9 q; exact q c_16)
    · refine lv_iconst (v := 0) hx hb d_Md_begin_19 (by decide) ?_
      exact x_zret C h d_Md_begin_20 rfl (rfl) (rfl)
theorem c_Md_begin1 (l : Launch) (G : Gx) (am : Nat → Nat) (σ : Sg) (h0 : th0 σ 0 8 ≠ 0) (h1 : th0 σ 0 9 = 0) : MI l G (Ym G am) y_Md_begin b_Md_begin 2 (some .boolean) 0 σ [.ref (am 0)] 1 (mbg σ) := by
  refine go rfl (Nat.le_of_ble_eq_true rfl) (fun p e s m below meth c ls C h hl => ?_)
  have hx := C.1
  have hb := C.2.1
  refine lv_aload_n hx hb d_Md_begin_0 rfl (lk hl rfl) ?_
  refine lv_iconst (v := 0) hx hb d_Md_begin_1 (by decide) ?_
  refine p_Md_42 C h d_Md_begin_2 (fun H locs h => ?_)
  refine lv_aload_n hx hb d_Md_begin_5 rfl (lk hl rfl) ?_
  refine g_Md_28 C h d_Md_begin_6 ?_
  refine lv_if_eq (tgt := 19) hx hb d_Md_begin_9 (by decide) (fun c_9 => False.elim (h0 c_9)) (fun c_9 => ?_)
  refine lv_aload_n hx hb d_Md_begin_12 rfl (lk hl rfl) ?_
  refine g_Md_45 C h d_Md_begin_13 ?_
  refine lv_if_eq (tgt := 21) hx hb d_Md_begin_16 (by decide) (fun c_16 => ?_) (fun c_16 => False.elim (c_16 h1))
  refine lv_aload_n hx hb d_Md_begin_21 rfl (lk hl rfl) ?_
  refine lv_iconst (v := 1) hx hb d_Md_begin_22 (by decide) ?_
  refine p_Md_45 C h d_Md_begin_23 rfl rfl (fun H locs h => ?_)
  refine lv_iconst (v := nI 0) hx hb d_Md_begin_26 (by decide) ?_
  refine lv_istore_n hx hb d_Md_begin_27 rfl hl (by decide) rfl (fun ls hl => ?_)
  refine lp_mbegin C 80 0 rfl _ _ _ h ls (lv_re hl _ rfl) (fun H locs h ls => ?_)
  refine lv_iconst (v := 1) hx hb d_Md_begin_47 (by decide) ?_
  exact x_zret C h d_Md_begin_48 rfl (rfl) (rfl)
theorem c_Md_written1 (l : Launch) (G : Gx) (am : Nat → Nat) (σ : Sg) (x : Int32) (hk : wrOk σ x) : MI l G (Ym G am) y_Md_written b_Md_written 2 (some .boolean) 0 σ [.ref (am 0), .int x] 1 (wr1 σ x) := by
  refine go rfl (Nat.le_of_ble_eq_true rfl) (fun p e s m below meth c ls C h hl => ?_)
  have hx := C.1
  have hb := C.2.1
  refine lv_aload_n hx hb d_Md_written_0 rfl (lk hl rfl) ?_
  refine g_Md_32 C h d_Md_written_1 ?_
  refine lv_if_lt (tgt := 15) hx hb d_Md_written_4 (by decide) (fun c_4 => ?_) (fun c_4 => ?_)
  · refine lv_aload_n hx hb d_Md_written_15 rfl (lk hl rfl) ?_
    refine lv_dup hx hb d_Md_written_16 rfl ?_
    refine g_Md_48 C h d_Md_written_17 ?_
    refine lv_iload_n hx hb d_Md_written_20 rfl (lk hl rfl) ?_
    refine lv_iadd hx hb d_Md_written_21 ?_
    refine p_Md_48 C h d_Md_written_22 (fun H locs h => ?_)
    refine lv_aload_n hx hb d_Md_written_25 rfl (lk hl rfl) ?_
    refine lv_aload_n hx hb d_Md_written_26 rfl (lk hl rfl) ?_
    refine g_Md_32 C h d_Md_written_27 ?_
    refine lv_if_ge (tgt := 40) hx hb d_Md_written_30 (by decide) (fun c_30 => ?_) (fun c_30 => ?_)
    · refine lv_aload_n hx hb d_Md_written_40 rfl (lk hl rfl) ?_
      refine g_Md_32 C h d_Md_written_41 ?_
      refine lv_iload_n hx hb d_Md_written_44 rfl (lk hl rfl) ?_
      refine lv_isub hx hb d_Md_written_45 ?_
      refine p_Md_32 C h d_Md_written_46 (fun H locs h => ?_)
      refine lv_iconst (v := 1) hx hb d_Md_written_49 (by decide) ?_
      exact x_zret C h d_Md_written_50 rfl (rfl) (by simp only [wr1]; first | rw [if_pos c_30] | rw [if_neg c_30])
    · refine lv_aload_n hx hb d_Md_written_33 rfl (lk hl rfl) ?_
      refine g_Md_32 C h d_Md_written_34 ?_
      refine lv_goto (tgt := 46) hx hb d_Md_written_37 (by decide) ?_
      refine p_Md_32 C h d_Md_written_46 (fun H locs h => ?_)
      refine lv_iconst (v := 1) hx hb d_Md_written_49 (by decide) ?_
      exact x_zret C h d_Md_written_50 rfl (rfl) (by simp only [wr1]; first | rw [if_pos c_30] | rw [if_neg c_30])
  · refine lv_aload_n hx hb d_Md_written_7 rfl (lk hl rfl) ?_
    refine g_Md_32 C h d_Md_written_8 ?_
    refine lv_iload_n hx hb d_Md_written_11 rfl (lk hl rfl) ?_
    refine lv_icmp_lt (tgt := 51) hx hb d_Md_written_12 (by decide) (fun c_12 => ?_) (fun c_12 => ?_)
    · exact absurd hk (by rintro (q | q); exact c_4 q; exact q c_12)
    · refine lv_aload_n hx hb d_Md_written_15 rfl (lk hl rfl) ?_
      refine lv_dup hx hb d_Md_written_16 rfl ?_
      refine g_Md_48 C h d_Md_written_17 ?_
      refine lv_iload_n hx hb d_Md_written_20 rfl (lk hl rfl) ?_
      refine lv_iadd hx hb d_Md_written_21 ?_
      refine p_Md_48 C h d_Md_written_22 (fun H locs h => ?_)
      refine lv_aload_n hx hb d_Md_written_25 rfl (lk hl rfl) ?_
      refine lv_aload_n hx hb d_Md_written_26 rfl (lk hl rfl) ?_
      refine g_Md_32 C h d_Md_written_27 ?_
      refine lv_if_ge (tgt := 40) hx hb d_Md_written_30 (by decide) (fun c_30 => ?_) (fun c_30 => ?_)
      · refine lv_aload_n hx hb d_Md_written_40 rfl (lk hl rfl) ?_
        refine g_Md_32 C h d_Md_written_41 ?_
        refine lv_iload_n hx hb d_Md_written_44 rfl (lk hl rfl) ?_
        refine lv_isub hx hb d_Md_written_45 ?_
        refine p_Md_32 C h d_Md_written_46 (fun H locs h => ?_)
        refine lv_iconst (v := 1) hx hb d_Md_written_49 (by decide) ?_
        exact x_zret C h d_Md_written_50 rfl (rfl) (by simp only [wr1]; first | rw [if_pos c_30] | rw [if_neg c_30])
      · refine lv_aload_n hx hb d_Md_written_33 rfl (lk hl rfl) ?_
        refine g_Md_32 C h d_Md_written_34 ?_
        refine lv_goto (tgt := 46) hx hb d_Md_written_37 (by decide) ?_
        refine p_Md_32 C h d_Md_written_46 (fun H locs h => ?_)
        refine lv_iconst (v := 1) hx hb d_Md_written_49 (by decide) ?_
        exact x_zret C h d_Md_written_50 rfl (rfl) (by simp only [wr1]; first | rw [if_pos c_30] | rw [if_neg c_30])
theorem c_Md_written0 (l : Launch) (G : Gx) (am : Nat → Nat) (σ : Sg) (x : Int32) (hk : ¬ wrOk σ x) : MI l G (Ym G am) y_Md_written b_Md_written 2 (some .boolean) 0 σ [.ref (am 0), .int x] 0 (wr0 σ) := by
  refine go rfl (Nat.le_of_ble_eq_true rfl) (fun p e s m below meth c ls C h hl => ?_)
  have hx := C.1
  have hb := C.2.1
  refine lv_aload_n hx hb d_Md_written_0 rfl (lk hl rfl) ?_
  refine g_Md_32 C h d_Md_written_1 ?_
  refine lv_if_lt (tgt := 15) hx hb d_Md_written_4 (by decide) (fun c_4 => ?_) (fun c_4 => ?_)
  · exact absurd (show wrOk σ x by first | exact Or.inl c_4 | exact Or.inr c_12) hk
  · refine lv_aload_n hx hb d_Md_written_7 rfl (lk hl rfl) ?_
    refine g_Md_32 C h d_Md_written_8 ?_
    refine lv_iload_n hx hb d_Md_written_11 rfl (lk hl rfl) ?_
    refine lv_icmp_lt (tgt := 51) hx hb d_Md_written_12 (by decide) (fun c_12 => ?_) (fun c_12 => ?_)
    · refine lv_aload_n hx hb d_Md_written_51 rfl (lk hl rfl) ?_
      refine lv_dup hx hb d_Md_written_52 rfl ?_
      refine g_Md_48 C h d_Md_written_53 ?_
      refine lv_aload_n hx hb d_Md_written_56 rfl (lk hl rfl) ?_
      refine g_Md_32 C h d_Md_written_57 ?_
      refine lv_iadd hx hb d_Md_written_60 ?_
      refine p_Md_48 C h d_Md_written_61 (fun H locs h => ?_)
      refine lv_aload_n hx hb d_Md_written_64 rfl (lk hl rfl) ?_
      refine lv_iconst (v := (-1)) hx hb d_Md_written_65 (by decide) ?_
      refine p_Md_32 C h d_Md_written_66 (fun H locs h => ?_)
      refine lv_aload_n hx hb d_Md_written_69 rfl (lk hl rfl) ?_
      refine lv_iconst (v := 0) hx hb d_Md_written_70 (by decide) ?_
      refine p_Md_28 C h d_Md_written_71 rfl rfl (fun H locs h => ?_)
      refine lv_iconst (v := 0) hx hb d_Md_written_74 (by decide) ?_
      exact x_zret C h d_Md_written_75 rfl (rfl) (rfl)
    · exact absurd (show wrOk σ x by first | exact Or.inl c_4 | exact Or.inr c_12) hk
theorem c_Md_ended1 (l : Launch) (G : Gx) (am : Nat → Nat) (σ : Sg) (hk : wrOk σ (σ 0 14 + 1)) : MI l G (Ym G am) y_Md_ended b_Md_ended 2 (some .boolean) 1 σ [.ref (am 0)] 1 (en1 σ) := by
  refine go rfl (Nat.le_of_ble_eq_true rfl) (fun p e s m below meth c ls C h hl => ?_)
  have hx := C.1
  have hb := C.2.1
  refine lv_aload_n hx hb d_Md_ended_0 rfl (lk hl rfl) ?_
  refine lv_aload_n hx hb d_Md_ended_1 rfl (lk hl rfl) ?_
  refine g_Md_36 C h d_Md_ended_2 ?_
  refine lv_iconst (v := 1) hx hb d_Md_ended_5 (by decide) ?_
  refine lv_iadd hx hb d_Md_ended_6 ?_
  refine x_callVi (Y := Ym G am) (q := 0) C h hl.1 (c_Md_written1 l G am σ (σ 0 14 + 1) hk) (Nat.le_of_ble_eq_true rfl) rfl rfl rfl cw_Md_55 rfl rfl (Nat.le_of_ble_eq_true rfl) ⟨Nat.le_of_ble_eq_true rfl, Nat.le_of_ble_eq_true rfl⟩ ⟨Nat.le_refl _, Nat.le_refl _⟩ d_Md_ended_7 (fun H locs h => ?_)
  refine lv_istore_n hx hb d_Md_ended_10 rfl hl (by decide) rfl (fun ls hl => ?_)
  refine lv_aload_n hx hb d_Md_ended_11 rfl (lk hl rfl) ?_
  refine lv_iload_n hx hb d_Md_ended_12 rfl (lk hl rfl) ?_
  refine lv_if_eq (tgt := 20) hx hb d_Md_ended_13 (by decide) (fun c_13 => False.elim (absurd c_13 (by decide))) (fun c_13 => ?_)
  refine lv_iconst (v := (-1)) hx hb d_Md_ended_16 (by decide) ?_
  refine lv_goto (tgt := 24) hx hb d_Md_ended_17 (by decide) ?_
  refine p_Md_36 C h d_Md_ended_24 (fun H locs h => ?_)
  refine lv_iload_n hx hb d_Md_ended_27 rfl (lk hl rfl) ?_
  exact x_zret C h d_Md_ended_28 rfl (rfl) (rfl)
theorem c_Md_ended0 (l : Launch) (G : Gx) (am : Nat → Nat) (σ : Sg) (hk : ¬ wrOk σ (σ 0 14 + 1)) : MI l G (Ym G am) y_Md_ended b_Md_ended 2 (some .boolean) 1 σ [.ref (am 0)] 0 (en0 σ) := by
  refine go rfl (Nat.le_of_ble_eq_true rfl) (fun p e s m below meth c ls C h hl => ?_)
  have hx := C.1
  have hb := C.2.1
  refine lv_aload_n hx hb d_Md_ended_0 rfl (lk hl rfl) ?_
  refine lv_aload_n hx hb d_Md_ended_1 rfl (lk hl rfl) ?_
  refine g_Md_36 C h d_Md_ended_2 ?_
  refine lv_iconst (v := 1) hx hb d_Md_ended_5 (by decide) ?_
  refine lv_iadd hx hb d_Md_ended_6 ?_
  refine x_callVi (Y := Ym G am) (q := 0) C h hl.1 (c_Md_written0 l G am σ (σ 0 14 + 1) hk) (Nat.le_of_ble_eq_true rfl) rfl rfl rfl cw_Md_55 rfl rfl (Nat.le_of_ble_eq_true rfl) ⟨Nat.le_of_ble_eq_true rfl, Nat.le_of_ble_eq_true rfl⟩ ⟨Nat.le_refl _, Nat.le_refl _⟩ d_Md_ended_7 (fun H locs h => ?_)
  refine lv_istore_n hx hb d_Md_ended_10 rfl hl (by decide) rfl (fun ls hl => ?_)
  refine lv_aload_n hx hb d_Md_ended_11 rfl (lk hl rfl) ?_
  refine lv_iload_n hx hb d_Md_ended_12 rfl (lk hl rfl) ?_
  refine lv_if_eq (tgt := 20) hx hb d_Md_ended_13 (by decide) (fun c_13 => ?_) (fun c_13 => False.elim (c_13 rfl))
  refine lv_aload_n hx hb d_Md_ended_20 rfl (lk hl rfl) ?_
  refine g_Md_36 C h d_Md_ended_21 ?_
  refine p_Md_36 C h d_Md_ended_24 (fun H locs h => ?_)
  refine lv_iload_n hx hb d_Md_ended_27 rfl (lk hl rfl) ?_
  exact x_zret C h d_Md_ended_28 rfl (rfl) (rfl)
theorem c_Md_commitX (l : Launch) (G : Gx) (am : Nat → Nat) (σ : Sg) (hk : ¬ wrOk σ (nI (mny (σ 3) 80) + 1)) : MI l G (Ym G am) y_Md_commit b_Md_commit 4 (some .boolean) 2 σ [.ref (am 0)] 0 (wr0 σ) := by
  refine go rfl (Nat.le_of_ble_eq_true rfl) (fun p e s m below meth c ls C h hl => ?_)
  have hx := C.1
  have hb := C.2.1
  refine lv_aload_n hx hb d_Md_commit_0 rfl (lk hl rfl) ?_
  refine g_Md_17 C h d_Md_commit_1 ?_
  refine x_callSi (Y := Ym G am) C h hl.1 (c_Md_many3 l G am σ) cs_Md_51 rfl rfl (Nat.le_of_ble_eq_true rfl) ⟨Nat.le_of_ble_eq_true rfl, Nat.le_of_ble_eq_true rfl⟩ ⟨Nat.le_refl _, Nat.le_refl _⟩ d_Md_commit_4 (fun H locs h => ?_)
  refine lv_istore_n hx hb d_Md_commit_7 rfl hl (by decide) rfl (fun ls hl => ?_)
  refine lv_aload_n hx hb d_Md_commit_8 rfl (lk hl rfl) ?_
  refine lv_iload_n hx hb d_Md_commit_9 rfl (lk hl rfl) ?_
  refine lv_iconst (v := 1) hx hb d_Md_commit_10 (by decide) ?_
  refine lv_iadd hx hb d_Md_commit_11 ?_
  refine x_callVi (Y := Ym G am) (q := 0) C h hl.1 (c_Md_written0 l G am σ (nI (mny (σ 3) 80) + 1) hk) (Nat.le_of_ble_eq_true rfl) rfl rfl rfl cw_Md_55 rfl rfl (Nat.le_of_ble_eq_true rfl) ⟨Nat.le_of_ble_eq_true rfl, Nat.le_of_ble_eq_true rfl⟩ ⟨Nat.le_refl _, Nat.le_refl _⟩ d_Md_commit_12 (fun H locs h => ?_)
  refine lv_if_ne (tgt := 20) hx hb d_Md_commit_15 (by decide) (fun c_15 => False.elim (c_15 rfl)) (fun c_15 => ?_)
  refine lv_iconst (v := 0) hx hb d_Md_commit_18 (by decide) ?_
  exact x_zret C h d_Md_commit_19 rfl (rfl) (rfl)
theorem lp_cin {b : Nat} {x1 : Int32} (C : Cx G p s m args meth c R_Md b_Md_commit 4 ret) (hbn : b < 80) : ∀ (d k : Nat), k + d = 1024 * b + 1024 → 1024 * b ≤ k → ∀ (σ : Sg) (H : Heap) (locs : List Loc), σ 3 b ≠ 0 → Hp G (Ym G am) A H0 σ H locs → ∀ ls : Array Slot, lv_has ls 4 [(0, .ref (am 0)), (1, .int x1), (2, .int (nI b)), (3, .int (nI k))] → (∀ (H : Heap) (locs : List Loc), Hp G (Ym G am) A H0 (itr (fun k σ => set1 σ 1 k (bt (σ 2 k))) d k σ) H locs → ∀ ls : Array Slot, lv_has ls 4 [(0, .ref (am 0)), (1, .int x1), (2, .int (nI b))] → W p l e R s m args below meth c H locs cells slots Q (F0 m 86 ls [])) → W p l e R s m args below meth c H locs cells slots Q (F0 m 46 ls []) := by
  have hx := C.1
  have hb := C.2.1
  intro d
  induction d with
  | zero =>
    intro k hk hk2 σ H locs hz h ls hl K
    refine lv_iload_n hx hb d_Md_commit_46 rfl (lk hl rfl) ?_
    refine lv_sipush (v := nI 1024) hx hb d_Md_commit_47 (by decide) ?_
    refine lv_iload_n hx hb d_Md_commit_50 rfl (lk hl rfl) ?_
    refine lv_imul hx hb d_Md_commit_51 ?_
    refine top (pk_mul 1024 b) ?_
    refine lv_sipush (v := nI 1024) hx hb d_Md_commit_52 (by decide) ?_
    refine lv_iadd hx hb d_Md_commit_55 ?_
    refine top (nI_add _ _) ?_
    refine lv_icmp_ge (tgt := 86) hx hb d_Md_commit_56 (by decide) (fun c_56 => ?_) (fun c_56 => False.elim (f_nle c_56 (by omega) (by omega) (by omega)))
    exact K H locs h ls (lv_re hl _ rfl)
  | succ d ih =>
    intro k hk hk2 σ H locs hz h ls hl K
    refine lv_iload_n hx hb d_Md_commit_46 rfl (lk hl rfl) ?_
    refine lv_sipush (v := nI 1024) hx hb d_Md_commit_47 (by decide) ?_
    refine lv_iload_n hx hb d_Md_commit_50 rfl (lk hl rfl) ?_
    refine lv_imul hx hb d_Md_commit_51 ?_
    refine top (pk_mul 1024 b) ?_
    refine lv_sipush (v := nI 1024) hx hb d_Md_commit_52 (by decide) ?_
    refine lv_iadd hx hb d_Md_commit_55 ?_
    refine top (nI_add _ _) ?_
    refine lv_icmp_ge (tgt := 86) hx hb d_Md_commit_56 (by decide) (fun c_56 => False.elim (f_le c_56 (by omega) (by omega) (by omega))) (fun c_56 => ?_)
    refine lv_aload_n hx hb d_Md_commit_59 rfl (lk hl rfl) ?_
    refine g_Md_17 C h d_Md_commit_60 ?_
    refine lv_iload_n hx hb d_Md_commit_63 rfl (lk hl rfl) ?_
    refine ln_m3 C h hbn (by omega) d_Md_commit_64 ?_
    refine lv_if_eq (tgt := 86) hx hb d_Md_commit_65 (by decide) (fun c_65 => False.elim (hz c_65)) (fun c_65 => ?_)
    refine lv_aload_n hx hb d_Md_commit_68 rfl (lk hl rfl) ?_
    refine g_Md_8 C h d_Md_commit_69 ?_
    refine lv_iload_n hx hb d_Md_commit_72 rfl (lk hl rfl) ?_
    refine lv_aload_n hx hb d_Md_commit_73 rfl (lk hl rfl) ?_
    refine g_Md_14 C h d_Md_commit_74 ?_
    refine lv_iload_n hx hb d_Md_commit_77 rfl (lk hl rfl) ?_
    refine ln_m2 C h (by omega) (by omega) d_Md_commit_78 ?_
    refine sn_m1 C h (by omega) (by omega) d_Md_commit_79 (fun H locs h => ?_)
    refine x_iinc (v := nI (k + 1)) hx hb d_Md_commit_80 hl rfl (inc1 k) (by decide) (fun ls hl => ?_)
    refine lv_goto (tgt := 46) hx hb d_Md_commit_83 (by decide) ?_
    exact ih (k + 1) (by omega) (by omega) _ H locs (by rw [st_ne (by decide)]; exact hz) h ls (lv_re hl _ rfl) K
theorem lp_cout {n : Nat} {x1 : Int32} (C : Cx G p s m args meth c R_Md b_Md_commit 4 ret) (hn : n ≤ 80) : ∀ (d b : Nat), b + d = n → ∀ (σ : Sg) (H : Heap) (locs : List Loc), σ 0 1 = nI n → Hp G (Ym G am) A H0 σ H locs → ∀ ls : Array Slot, lv_has ls 4 [(0, .ref (am 0)), (1, .int x1), (2, .int (nI b))] → (∀ (H : Heap) (locs : List Loc), Hp G (Ym G am) A H0 (itr cpb d b σ) H locs → ∀ ls : Array Slot, lv_has ls 4 [(0, .ref (am 0)), (1, .int x1)] → W p l e R s m args below meth c H locs cells slots Q (F0 m 99 ls [])) → W p l e R s m args below meth c H locs cells slots Q (F0 m 32 ls []) := by
  have hx := C.1
  have hb := C.2.1
  intro d
  induction d with
  | zero =>
    intro b hk σ H locs h1 h ls hl K
    refine lv_iload_n hx hb d_Md_commit_32 rfl (lk hl rfl) ?_
    refine lv_aload_n hx hb d_Md_commit_33 rfl (lk hl rfl) ?_
    refine g_Md_39 C h d_Md_commit_34 ?_
    refine top h1 ?_
    refine lv_icmp_ge (tgt := 99) hx hb d_Md_commit_37 (by decide) (fun c_37 => ?_) (fun c_37 => False.elim (f_nle c_37 (by omega) (by omega) (by omega)))
    exact K H locs h ls (lv_re hl _ rfl)
  | succ d ih =>
    intro b hk σ H locs h1 h ls hl K
    have h1' : cpb b σ 0 1 = nI n := by rw [cpb_0]; exact h1
    by_cases hz : σ 3 b = 0
    · refine lv_iload_n hx hb d_Md_commit_32 rfl (lk hl rfl) ?_
      refine lv_aload_n hx hb d_Md_commit_33 rfl (lk hl rfl) ?_
      refine g_Md_39 C h d_Md_commit_34 ?_
      refine top h1 ?_
      refine lv_icmp_ge (tgt := 99) hx hb d_Md_commit_37 (by decide) (fun c_37 => False.elim (f_le c_37 (by omega) (by omega) (by omega))) (fun c_37 => ?_)
      refine lv_sipush (v := nI 1024) hx hb d_Md_commit_40 (by decide) ?_
      refine lv_iload_n hx hb d_Md_commit_43 rfl (lk hl rfl) ?_
      refine lv_imul hx hb d_Md_commit_44 ?_
      refine top (pk_mul 1024 b) ?_
      refine lv_istore_n hx hb d_Md_commit_45 rfl hl (by decide) rfl (fun ls hl => ?_)
      refine lv_iload_n hx hb d_Md_commit_46 rfl (lk hl rfl) ?_
      refine lv_sipush (v := nI 1024) hx hb d_Md_commit_47 (by decide) ?_
      refine lv_iload_n hx hb d_Md_commit_50 rfl (lk hl rfl) ?_
      refine lv_imul hx hb d_Md_commit_51 ?_
      refine top (pk_mul 1024 b) ?_
      refine lv_sipush (v := nI 1024) hx hb d_Md_commit_52 (by decide) ?_
      refine lv_iadd hx hb d_Md_commit_55 ?_
      refine top (nI_add _ _) ?_
      refine lv_icmp_ge (tgt := 86) hx hb d_Md_commit_56 (by decide) (fun c_56 => False.elim (f_le c_56 (by omega) (by omega) (by omega))) (fun c_56 => ?_)
      refine lv_aload_n hx hb d_Md_commit_59 rfl (lk hl rfl) ?_
      refine g_Md_17 C h d_Md_commit_60 ?_
      refine lv_iload_n hx hb d_Md_commit_63 rfl (lk hl rfl) ?_
      refine ln_m3 C h (by omega) (by omega) d_Md_commit_64 ?_
      refine lv_if_eq (tgt := 86) hx hb d_Md_commit_65 (by decide) (fun c_65 => ?_) (fun c_65 => False.elim (c_65 hz))
      refine lv_aload_n hx hb d_Md_commit_86 rfl (lk hl rfl) ?_
      refine g_Md_17 C h d_Md_commit_87 ?_
      refine lv_iload_n hx hb d_Md_commit_90 rfl (lk hl rfl) ?_
      refine lv_iconst (v := 0) hx hb d_Md_commit_91 (by decide) ?_
      refine sn_m3 C h rfl (by omega) (by omega) d_Md_commit_92 (fun H locs h => ?_)
      refine x_iinc (v := nI (b + 1)) hx hb d_Md_commit_93 hl rfl (inc1 b) (by decide) (fun ls hl => ?_)
      refine lv_goto (tgt := 32) hx hb d_Md_commit_96 (by decide) ?_
      exact ih (b + 1) (by omega) (cpb b σ) H locs h1' (by rw [cpb, if_pos hz]; exact h) ls (lv_re hl _ rfl) K
    · refine lv_iload_n hx hb d_Md_commit_32 rfl (lk hl rfl) ?_
      refine lv_aload_n hx hb d_Md_commit_33 rfl (lk hl rfl) ?_
      refine g_Md_39 C h d_Md_commit_34 ?_
      refine top h1 ?_
      refine lv_icmp_ge (tgt := 99) hx hb d_Md_commit_37 (by decide) (fun c_37 => False.elim (f_le c_37 (by omega) (by omega) (by omega))) (fun c_37 => ?_)
      refine lv_sipush (v := nI 1024) hx hb d_Md_commit_40 (by decide) ?_
      refine lv_iload_n hx hb d_Md_commit_43 rfl (lk hl rfl) ?_
      refine lv_imul hx hb d_Md_commit_44 ?_
      refine top (pk_mul 1024 b) ?_
      refine lv_istore_n hx hb d_Md_commit_45 rfl hl (by decide) rfl (fun ls hl => ?_)
      refine lp_cin C (by omega) 1024 (1024 * b) (by omega) (by omega) σ _ _ hz h ls (lv_re hl _ rfl) (fun H locs h ls hl => ?_)
      refine lv_aload_n hx hb d_Md_commit_86 rfl (lk hl rfl) ?_
      refine g_Md_17 C h d_Md_commit_87 ?_
      refine lv_iload_n hx hb d_Md_commit_90 rfl (lk hl rfl) ?_
      refine lv_iconst (v := 0) hx hb d_Md_commit_91 (by decide) ?_
      refine sn_m3 C h rfl (by omega) (by omega) d_Md_commit_92 (fun H locs h => ?_)
      refine x_iinc (v := nI (b + 1)) hx hb d_Md_commit_93 hl rfl (inc1 b) (by decide) (fun ls hl => ?_)
      refine lv_goto (tgt := 32) hx hb d_Md_commit_96 (by decide) ?_
      exact ih (b + 1) (by omega) (cpb b σ) H locs h1' (by rw [cpb, if_neg hz]; exact h) ls (lv_re hl _ rfl) K
theorem c_Md_commit1 (l : Launch) (G : Gx) (am : Nat → Nat) (σ : Sg) (n : Nat) (hn : n ≤ 80) (h1 : σ 0 1 = nI n) (hk : wrOk σ (nI (mny (σ 3) 80) + 1)) (hk2 : wrOk (cm1 n σ) (cm1 n σ 0 14 + 1)) : MI l G (Ym G am) y_Md_commit b_Md_commit 4 (some .boolean) 2 σ [.ref (am 0)] 1 (en1 (cm1 n σ)) := by
  refine go rfl (Nat.le_of_ble_eq_true rfl) (fun p e s m below meth c ls C h hl => ?_)
  have hx := C.1
  have hb := C.2.1
  refine lv_aload_n hx hb d_Md_commit_0 rfl (lk hl rfl) ?_
  refine g_Md_17 C h d_Md_commit_1 ?_
  refine x_callSi (Y := Ym G am) C h hl.1 (c_Md_many3 l G am σ) cs_Md_51 rfl rfl (Nat.le_of_ble_eq_true rfl) ⟨Nat.le_of_ble_eq_true rfl, Nat.le_of_ble_eq_true rfl⟩ ⟨Nat.le_refl _, Nat.le_refl _⟩ d_Md_commit_4 (fun H locs h => ?_)
  refine lv_istore_n hx hb d_Md_commit_7 rfl hl (by decide) rfl (fun ls hl => ?_)
  refine lv_aload_n hx hb d_Md_commit_8 rfl (lk hl rfl) ?_
  refine lv_iload_n hx hb d_Md_commit_9 rfl (lk hl rfl) ?_
  refine lv_iconst (v := 1) hx hb d_Md_commit_10 (by decide) ?_
  refine lv_iadd hx hb d_Md_commit_11 ?_
  refine x_callVi (Y := Ym G am) (q := 0) C h hl.1 (c_Md_written1 l G am σ (nI (mny (σ 3) 80) + 1) hk) (Nat.le_of_ble_eq_true rfl) rfl rfl rfl cw_Md_55 rfl rfl (Nat.le_of_ble_eq_true rfl) ⟨Nat.le_of_ble_eq_true rfl, Nat.le_of_ble_eq_true rfl⟩ ⟨Nat.le_refl _, Nat.le_refl _⟩ d_Md_commit_12 (fun H locs h => ?_)
  refine lv_if_ne (tgt := 20) hx hb d_Md_commit_15 (by decide) (fun c_15 => ?_) (fun c_15 => False.elim (absurd c_15 (by decide)))
  refine lv_aload_n hx hb d_Md_commit_20 rfl (lk hl rfl) ?_
  refine lv_dup hx hb d_Md_commit_21 rfl ?_
  refine g_Md_59 C h d_Md_commit_22 ?_
  refine lv_iconst (v := 1) hx hb d_Md_commit_25 (by decide) ?_
  refine lv_iadd hx hb d_Md_commit_26 ?_
  refine p_Md_59 C h d_Md_commit_27 (fun H locs h => ?_)
  refine lv_iconst (v := nI 0) hx hb d_Md_commit_30 (by decide) ?_
  refine lv_istore_n hx hb d_Md_commit_31 rfl hl (by decide) rfl (fun ls hl => ?_)
  refine lp_cout C hn n 0 (by omega) _ _ _ (by rw [st_nk (by decide), wr1, st_nk (by decide), st_nk (by decide)]; exact h1) h ls (lv_re hl _ rfl) (fun H locs h ls hl => ?_)
  refine lv_aload_n hx hb d_Md_commit_99 rfl (lk hl rfl) ?_
  refine lv_iload_n hx hb d_Md_commit_100 rfl (lk hl rfl) ?_
  refine p_Md_36 C h d_Md_commit_101 (fun H locs h => ?_)
  refine lv_aload_n hx hb d_Md_commit_104 rfl (lk hl rfl) ?_
  refine x_callVi (Y := Ym G am) (q := 0) C h hl.1 (c_Md_ended1 l G am (cm1 n σ) hk2) (Nat.le_of_ble_eq_true rfl) rfl rfl rfl cw_Md_62 rfl rfl (Nat.le_of_ble_eq_true rfl) ⟨Nat.le_of_ble_eq_true rfl, Nat.le_of_ble_eq_true rfl⟩ ⟨Nat.le_refl _, Nat.le_refl _⟩ d_Md_commit_105 (fun H locs h => ?_)
  exact x_zret C h d_Md_commit_108 rfl (rfl) (rfl)
theorem c_Md_commit0 (l : Launch) (G : Gx) (am : Nat → Nat) (σ : Sg) (n : Nat) (hn : n ≤ 80) (h1 : σ 0 1 = nI n) (hk : wrOk σ (nI (mny (σ 3) 80) + 1)) (hk2 : ¬ wrOk (cm1 n σ) (cm1 n σ 0 14 + 1)) : MI l G (Ym G am) y_Md_commit b_Md_commit 4 (some .boolean) 2 σ [.ref (am 0)] 0 (en0 (cm1 n σ)) := by
  refine go rfl (Nat.le_of_ble_eq_true rfl) (fun p e s m below meth c ls C h hl => ?_)
  have hx := C.1
  have hb := C.2.1
  refine lv_aload_n hx hb d_Md_commit_0 rfl (lk hl rfl) ?_
  refine g_Md_17 C h d_Md_commit_1 ?_
  refine x_callSi (Y := Ym G am) C h hl.1 (c_Md_many3 l G am σ) cs_Md_51 rfl rfl (Nat.le_of_ble_eq_true rfl) ⟨Nat.le_of_ble_eq_true rfl, Nat.le_of_ble_eq_true rfl⟩ ⟨Nat.le_refl _, Nat.le_refl _⟩ d_Md_commit_4 (fun H locs h => ?_)
  refine lv_istore_n hx hb d_Md_commit_7 rfl hl (by decide) rfl (fun ls hl => ?_)
  refine lv_aload_n hx hb d_Md_commit_8 rfl (lk hl rfl) ?_
  refine lv_iload_n hx hb d_Md_commit_9 rfl (lk hl rfl) ?_
  refine lv_iconst (v := 1) hx hb d_Md_commit_10 (by decide) ?_
  refine lv_iadd hx hb d_Md_commit_11 ?_
  refine x_callVi (Y := Ym G am) (q := 0) C h hl.1 (c_Md_written1 l G am σ (nI (mny (σ 3) 80) + 1) hk) (Nat.le_of_ble_eq_true rfl) rfl rfl rfl cw_Md_55 rfl rfl (Nat.le_of_ble_eq_true rfl) ⟨Nat.le_of_ble_eq_true rfl, Nat.le_of_ble_eq_true rfl⟩ ⟨Nat.le_refl _, Nat.le_refl _⟩ d_Md_commit_12 (fun H locs h => ?_)
  refine lv_if_ne (tgt := 20) hx hb d_Md_commit_15 (by decide) (fun c_15 => ?_) (fun c_15 => False.elim (absurd c_15 (by decide)))
  refine lv_aload_n hx hb d_Md_commit_20 rfl (lk hl rfl) ?_
  refine lv_dup hx hb d_Md_commit_21 rfl ?_
  refine g_Md_59 C h d_Md_commit_22 ?_
  refine lv_iconst (v := 1) hx hb d_Md_commit_25 (by decide) ?_
  refine lv_iadd hx hb d_Md_commit_26 ?_
  refine p_Md_59 C h d_Md_commit_27 (fun H locs h => ?_)
  refine lv_iconst (v := nI 0) hx hb d_Md_commit_30 (by decide) ?_
  refine lv_istore_n hx hb d_Md_commit_31 rfl hl (by decide) rfl (fun ls hl => ?_)
  refine lp_cout C hn n 0 (by omega) _ _ _ (by rw [st_nk (by decide), wr1, st_nk (by decide), st_nk (by decide)]; exact h1) h ls (lv_re hl _ rfl) (fun H locs h ls hl => ?_)
  refine lv_aload_n hx hb d_Md_commit_99 rfl (lk hl rfl) ?_
  refine lv_iload_n hx hb d_Md_commit_100 rfl (lk hl rfl) ?_
  refine p_Md_36 C h d_Md_commit_101 (fun H locs h => ?_)
  refine lv_aload_n hx hb d_Md_commit_104 rfl (lk hl rfl) ?_
  refine x_callVi (Y := Ym G am) (q := 0) C h hl.1 (c_Md_ended0 l G am (cm1 n σ) hk2) (Nat.le_of_ble_eq_true rfl) rfl rfl rfl cw_Md_62 rfl rfl (Nat.le_of_ble_eq_true rfl) ⟨Nat.le_of_ble_eq_true rfl, Nat.le_of_ble_eq_true rfl⟩ ⟨Nat.le_refl _, Nat.le_refl _⟩ d_Md_commit_105 (fun H locs h => ?_)
  exact x_zret C h d_Md_commit_108 rfl (rfl) (rfl)
theorem c_Md_end0 (l : Launch) (G : Gx) (am : Nat → Nat) (σ : Sg) (hno : th0 σ 0 8 = 0 ∨ th0 σ 0 9 = 0) : MI l G (Ym G am) y_Md_end b_Md_end 2 (some .int) 3 σ [.ref (am 0)] (-1) (th0 σ) := by
  refine go rfl (Nat.le_of_ble_eq_true rfl) (fun p e s m below meth c ls C h hl => ?_)
  have hx := C.1
  have hb := C.2.1
  refine lv_aload_n hx hb d_Md_end_0 rfl (lk hl rfl) ?_
  refine lv_iconst (v := 0) hx hb d_Md_end_1 (by decide) ?_
  refine p_Md_42 C h d_Md_end_2 (fun H locs h => ?_)
  refine lv_aload_n hx hb d_Md_end_5 rfl (lk hl rfl) ?_
  refine g_Md_28 C h d_Md_end_6 ?_
  refine lv_if_eq (tgt := 19) hx hb d_Md_end_9 (by decide) (fun c_9 => ?_) (fun c_9 => ?_)
  · refine lv_iconst (v := (-1)) hx hb d_Md_end_19 (by decide) ?_
    exact x_iret C h d_Md_end_20 (rfl) (rfl)
  · refine lv_aload_n hx hb d_Md_end_12 rfl (lk hl rfl) ?_
    refine g_Md_45 C h d_Md_end_13 ?_
    refine lv_if_ne (tgt := 21) hx hb d_Md_end_16 (by decide) (fun c_16 => ?_) (fun c_16 => ?_)
    · exact absurd hno (by rintro (q | q); exact c_9 q; exact c_16 q)
    · refine lv_iconst (v := (-1)) hx hb d_Md_end_19 (by decide) ?_
      exact x_iret C h d_Md_end_20 (rfl) (rfl)
def me1 (τ : Sg) : Sg := set1 (th0 τ) 0 9 0
theorem c_Md_end1 (l : Launch) (G : Gx) (am : Nat → Nat) (σ : Sg) (h0 : th0 σ 0 8 ≠ 0) (h1 : th0 σ 0 9 ≠ 0) (hc : mny (me1 σ 3) 80 ≤ 20) : MI l G (Ym G am) y_Md_end b_Md_end 2 (some .int) 3 σ [.ref (am 0)] (nI (mny (me1 σ 3) 80)) (me1 σ) := by
  refine go rfl (Nat.le_of_ble_eq_true rfl) (fun p e s m below meth c ls C h hl => ?_)
  have hx := C.1
  have hb := C.2.1
  refine lv_aload_n hx hb d_Md_end_0 rfl (lk hl rfl) ?_
  refine lv_iconst (v := 0) hx hb d_Md_end_1 (by decide) ?_
  refine p_Md_42 C h d_Md_end_2 (fun H locs h => ?_)
  refine lv_aload_n hx hb d_Md_end_5 rfl (lk hl rfl) ?_
  refine g_Md_28 C h d_Md_end_6 ?_
  refine lv_if_eq (tgt := 19) hx hb d_Md_end_9 (by decide) (fun c_9 => False.elim (h0 c_9)) (fun c_9 => ?_)
  refine lv_aload_n hx hb d_Md_end_12 rfl (lk hl rfl) ?_
  refine g_Md_45 C h d_Md_end_13 ?_
  refine lv_if_ne (tgt := 21) hx hb d_Md_end_16 (by decide) (fun c_16 => ?_) (fun c_16 => False.elim (h1 c_16))
  refine lv_aload_n hx hb d_Md_end_21 rfl (lk hl rfl) ?_
  refine lv_iconst (v := 0) hx hb d_Md_end_22 (by decide) ?_
  refine p_Md_45 C h d_Md_end_23 rfl rfl (fun H locs h => ?_)
  refine lv_aload_n hx hb d_Md_end_26 rfl (lk hl rfl) ?_
  refine g_Md_17 C h d_Md_end_27 ?_
  refine x_callSi (Y := Ym G am) C h hl.1 (c_Md_many3 l G am (me1 σ)) cs_Md_51 rfl rfl (Nat.le_of_ble_eq_true rfl) ⟨Nat.le_of_ble_eq_true rfl, Nat.le_of_ble_eq_true rfl⟩ ⟨Nat.le_refl _, Nat.le_refl _⟩ d_Md_end_30 (fun H locs h => ?_)
  refine lv_istore_n hx hb d_Md_end_33 rfl hl (by decide) rfl (fun ls hl => ?_)
  refine lv_iload_n hx hb d_Md_end_34 rfl (lk hl rfl) ?_
  refine lv_bipush (v := nI 20) hx hb d_Md_end_35 (by decide) ?_
  refine lv_icmp_gt (tgt := 42) hx hb d_Md_end_37 (by decide) (fun c_37 => False.elim (f_lt c_37 (by omega) (by have := mny_le (me1 σ 3) 80; omega) hc)) (fun c_37 => ?_)
  refine lv_iload_n hx hb d_Md_end_40 rfl (lk hl rfl) ?_
  exact x_iret C h d_Md_end_41 (rfl) (rfl)
theorem c_Md_end2 (l : Launch) (G : Gx) (am : Nat → Nat) (σ : Sg) (n : Nat) (hn : n ≤ 80) (hb1 : me1 σ 0 1 = nI n) (h0 : th0 σ 0 8 ≠ 0) (h1 : th0 σ 0 9 ≠ 0) (hc : 20 < mny (me1 σ 3) 80) (hk : wrOk (me1 σ) (nI (mny (me1 σ 3) 80) + 1)) (hk2 : wrOk (cm1 n (me1 σ)) (cm1 n (me1 σ) 0 14 + 1)) : MI l G (Ym G am) y_Md_end b_Md_end 2 (some .int) 3 σ [.ref (am 0)] 0 (en1 (cm1 n (me1 σ))) := by
  refine go rfl (Nat.le_of_ble_eq_true rfl) (fun p e s m below meth c ls C h hl => ?_)
  have hx := C.1
  have hb := C.2.1
  refine lv_aload_n hx hb d_Md_end_0 rfl (lk hl rfl) ?_
  refine lv_iconst (v := 0) hx hb d_Md_end_1 (by decide) ?_
  refine p_Md_42 C h d_Md_end_2 (fun H locs h => ?_)
  refine lv_aload_n hx hb d_Md_end_5 rfl (lk hl rfl) ?_
  refine g_Md_28 C h d_Md_end_6 ?_
  refine lv_if_eq (tgt := 19) hx hb d_Md_end_9 (by decide) (fun c_9 => False.elim (h0 c_9)) (fun c_9 => ?_)
  refine lv_aload_n hx hb d_Md_end_12 rfl (lk hl rfl) ?_
  refine g_Md_45 C h d_Md_end_13 ?_
  refine lv_if_ne (tgt := 21) hx hb d_Md_end_16 (by decide) (fun c_16 => ?_) (fun c_16 => False.elim (h1 c_16))
  refine lv_aload_n hx hb d_Md_end_21 rfl (lk hl rfl) ?_
  refine lv_iconst (v := 0) hx hb d_Md_end_22 (by decide) ?_
  refine p_Md_45 C h d_Md_end_23 rfl rfl (fun H locs h => ?_)
  refine lv_aload_n hx hb d_Md_end_26 rfl (lk hl rfl) ?_
  refine g_Md_17 C h d_Md_end_27 ?_
  refine x_callSi (Y := Ym G am) C h hl.1 (c_Md_many3 l G am (me1 σ)) cs_Md_51 rfl rfl (Nat.le_of_ble_eq_true rfl) ⟨Nat.le_of_ble_eq_true rfl, Nat.le_of_ble_eq_true rfl⟩ ⟨Nat.le_refl _, Nat.le_refl _⟩ d_Md_end_30 (fun H locs h => ?_)
  refine lv_istore_n hx hb d_Md_end_33 rfl hl (by decide) rfl (fun ls hl => ?_)
  refine lv_iload_n hx hb d_Md_end_34 rfl (lk hl rfl) ?_
  refine lv_bipush (v := nI 20) hx hb d_Md_end_35 (by decide) ?_
  refine lv_icmp_gt (tgt := 42) hx hb d_Md_end_37 (by decide) (fun c_37 => ?_) (fun c_37 => False.elim (f_nlt c_37 (by omega) (by have := mny_le (me1 σ 3) 80; omega) hc))
  refine lv_aload_n hx hb d_Md_end_42 rfl (lk hl rfl) ?_
  refine x_callVi (Y := Ym G am) (q := 0) C h hl.1 (c_Md_commit1 l G am (me1 σ) n hn hb1 hk hk2) (Nat.le_of_ble_eq_true rfl) rfl rfl rfl cw_Md_66 rfl rfl (Nat.le_of_ble_eq_true rfl) ⟨Nat.le_of_ble_eq_true rfl, Nat.le_of_ble_eq_true rfl⟩ ⟨Nat.le_refl _, Nat.le_refl _⟩ d_Md_end_43 (fun H locs h => ?_)
  refine lv_if_eq (tgt := 53) hx hb d_Md_end_46 (by decide) (fun c_46 => False.elim (absurd c_46 (by decide))) (fun c_46 => ?_)
  refine lv_iconst (v := 0) hx hb d_Md_end_49 (by decide) ?_
  refine lv_goto (tgt := 54) hx hb d_Md_end_50 (by decide) ?_
  exact x_iret C h d_Md_end_54 (rfl) (rfl)
theorem c_Md_end3 (l : Launch) (G : Gx) (am : Nat → Nat) (σ : Sg) (n : Nat) (hn : n ≤ 80) (hb1 : me1 σ 0 1 = nI n) (h0 : th0 σ 0 8 ≠ 0) (h1 : th0 σ 0 9 ≠ 0) (hc : 20 < mny (me1 σ 3) 80) (hk : wrOk (me1 σ) (nI (mny (me1 σ 3) 80) + 1)) (hk2 : ¬ wrOk (cm1 n (me1 σ)) (cm1 n (me1 σ) 0 14 + 1)) : MI l G (Ym G am) y_Md_end b_Md_end 2 (some .int) 3 σ [.ref (am 0)] (-1) (en0 (cm1 n (me1 σ))) := by
  refine go rfl (Nat.le_of_ble_eq_true rfl) (fun p e s m below meth c ls C h hl => ?_)
  have hx := C.1
  have hb := C.2.1
  refine lv_aload_n hx hb d_Md_end_0 rfl (lk hl rfl) ?_
  refine lv_iconst (v := 0) hx hb d_Md_end_1 (by decide) ?_
  refine p_Md_42 C h d_Md_end_2 (fun H locs h => ?_)
  refine lv_aload_n hx hb d_Md_end_5 rfl (lk hl rfl) ?_
  refine g_Md_28 C h d_Md_end_6 ?_
  refine lv_if_eq (tgt := 19) hx hb d_Md_end_9 (by decide) (fun c_9 => False.elim (h0 c_9)) (fun c_9 => ?_)
  refine lv_aload_n hx hb d_Md_end_12 rfl (lk hl rfl) ?_
  refine g_Md_45 C h d_Md_end_13 ?_
  refine lv_if_ne (tgt := 21) hx hb d_Md_end_16 (by decide) (fun c_16 => ?_) (fun c_16 => False.elim (h1 c_16))
  refine lv_aload_n hx hb d_Md_end_21 rfl (lk hl rfl) ?_
  refine lv_iconst (v := 0) hx hb d_Md_end_22 (by decide) ?_
  refine p_Md_45 C h d_Md_end_23 rfl rfl (fun H locs h => ?_)
  refine lv_aload_n hx hb d_Md_end_26 rfl (lk hl rfl) ?_
  refine g_Md_17 C h d_Md_end_27 ?_
  refine x_callSi (Y := Ym G am) C h hl.1 (c_Md_many3 l G am (me1 σ)) cs_Md_51 rfl rfl (Nat.le_of_ble_eq_true rfl) ⟨Nat.le_of_ble_eq_true rfl, Nat.le_of_ble_eq_true rfl⟩ ⟨Nat.le_refl _, Nat.le_refl _⟩ d_Md_end_30 (fun H locs h => ?_)
  refine lv_istore_n hx hb d_Md_end_33 rfl hl (by decide) rfl (fun ls hl => ?_)
  refine lv_iload_n hx hb d_Md_end_34 rfl (lk hl rfl) ?_
  refine lv_bipush (v := nI 20) hx hb d_Md_end_35 (by decide) ?_
  refine lv_icmp_gt (tgt := 42) hx hb d_Md_end_37 (by decide) (fun c_37 => ?_) (fun c_37 => False.elim (f_nlt c_37 (by omega) (by have := mny_le (me1 σ 3) 80; omega) hc))
  refine lv_aload_n hx hb d_Md_end_42 rfl (lk hl rfl) ?_
  refine x_callVi (Y := Ym G am) (q := 0) C h hl.1 (c_Md_commit0 l G am (me1 σ) n hn hb1 hk hk2) (Nat.le_of_ble_eq_true rfl) rfl rfl rfl cw_Md_66 rfl rfl (Nat.le_of_ble_eq_true rfl) ⟨Nat.le_of_ble_eq_true rfl, Nat.le_of_ble_eq_true rfl⟩ ⟨Nat.le_refl _, Nat.le_refl _⟩ d_Md_end_43 (fun H locs h => ?_)
  refine lv_if_eq (tgt := 53) hx hb d_Md_end_46 (by decide) (fun c_46 => ?_) (fun c_46 => False.elim (c_46 rfl))
  refine lv_iconst (v := (-1)) hx hb d_Md_end_53 (by decide) ?_
  exact x_iret C h d_Md_end_54 (rfl) (rfl)
theorem c_Md_end4 (l : Launch) (G : Gx) (am : Nat → Nat) (σ : Sg) (n : Nat) (hn : n ≤ 80) (hb1 : me1 σ 0 1 = nI n) (h0 : th0 σ 0 8 ≠ 0) (h1 : th0 σ 0 9 ≠ 0) (hc : 20 < mny (me1 σ 3) 80) (hk : ¬ wrOk (me1 σ) (nI (mny (me1 σ 3) 80) + 1)) : MI l G (Ym G am) y_Md_end b_Md_end 2 (some .int) 3 σ [.ref (am 0)] (-1) (wr0 (me1 σ)) := by
  refine go rfl (Nat.le_of_ble_eq_true rfl) (fun p e s m below meth c ls C h hl => ?_)
  have hx := C.1
  have hb := C.2.1
  refine lv_aload_n hx hb d_Md_end_0 rfl (lk hl rfl) ?_
  refine lv_iconst (v := 0) hx hb d_Md_end_1 (by decide) ?_
  refine p_Md_42 C h d_Md_end_2 (fun H locs h => ?_)
  refine lv_aload_n hx hb d_Md_end_5 rfl (lk hl rfl) ?_
  refine g_Md_28 C h d_Md_end_6 ?_
  refine lv_if_eq (tgt := 19) hx hb d_Md_end_9 (by decide) (fun c_9 => False.elim (h0 c_9)) (fun c_9 => ?_)
  refine lv_aload_n hx hb d_Md_end_12 rfl (lk hl rfl) ?_
  refine g_Md_45 C h d_Md_end_13 ?_
  refine lv_if_ne (tgt := 21) hx hb d_Md_end_16 (by decide) (fun c_16 => ?_) (fun c_16 => False.elim (h1 c_16))
  refine lv_aload_n hx hb d_Md_end_21 rfl (lk hl rfl) ?_
  refine lv_iconst (v := 0) hx hb d_Md_end_22 (by decide) ?_
  refine p_Md_45 C h d_Md_end_23 rfl rfl (fun H locs h => ?_)
  refine lv_aload_n hx hb d_Md_end_26 rfl (lk hl rfl) ?_
  refine g_Md_17 C h d_Md_end_27 ?_
  refine x_callSi (Y := Ym G am) C h hl.1 (c_Md_many3 l G am (me1 σ)) cs_Md_51 rfl rfl (Nat.le_of_ble_eq_true rfl) ⟨Nat.le_of_ble_eq_true rfl, Nat.le_of_ble_eq_true rfl⟩ ⟨Nat.le_refl _, Nat.le_refl _⟩ d_Md_end_30 (fun H locs h => ?_)
  refine lv_istore_n hx hb d_Md_end_33 rfl hl (by decide) rfl (fun ls hl => ?_)
  refine lv_iload_n hx hb d_Md_end_34 rfl (lk hl rfl) ?_
  refine lv_bipush (v := nI 20) hx hb d_Md_end_35 (by decide) ?_
  refine lv_icmp_gt (tgt := 42) hx hb d_Md_end_37 (by decide) (fun c_37 => ?_) (fun c_37 => False.elim (f_nlt c_37 (by omega) (by have := mny_le (me1 σ 3) 80; omega) hc))
  refine lv_aload_n hx hb d_Md_end_42 rfl (lk hl rfl) ?_
  refine x_callVi (Y := Ym G am) (q := 0) C h hl.1 (c_Md_commitX l G am (me1 σ) hk) (Nat.le_of_ble_eq_true rfl) rfl rfl rfl cw_Md_66 rfl rfl (Nat.le_of_ble_eq_true rfl) ⟨Nat.le_of_ble_eq_true rfl, Nat.le_of_ble_eq_true rfl⟩ ⟨Nat.le_refl _, Nat.le_refl _⟩ d_Md_end_43 (fun H locs h => ?_)
  refine lv_if_eq (tgt := 53) hx hb d_Md_end_46 (by decide) (fun c_46 => ?_) (fun c_46 => False.elim (c_46 rfl))
  refine lv_iconst (v := (-1)) hx hb d_Md_end_53 (by decide) ?_
  exact x_iret C h d_Md_end_54 (rfl) (rfl)
theorem c_Md_flush0 (l : Launch) (G : Gx) (am : Nat → Nat) (σ : Sg) (hno : th0 σ 0 8 = 0 ∨ th0 σ 0 9 ≠ 0) : MI l G (Ym G am) y_Md_flush b_Md_flush 2 (some .int) 3 σ [.ref (am 0)] (-1) (th0 σ) := by
  refine go rfl (Nat.le_of_ble_eq_true rfl) (fun p e s m below meth c ls C h hl => ?_)
  have hx := C.1
  have hb := C.2.1
  refine lv_aload_n hx hb d_Md_flush_0 rfl (lk hl rfl) ?_
  refine lv_iconst (v := 0) hx hb d_Md_flush_1 (by decide) ?_
  refine p_Md_42 C h d_Md_flush_2 (fun H locs h => ?_)
  refine lv_aload_n hx hb d_Md_flush_5 rfl (lk hl rfl) ?_
  refine g_Md_28 C h d_Md_flush_6 ?_
  refine lv_if_eq (tgt := 19) hx hb d_Md_flush_9 (by decide) (fun c_9 => ?_) (fun c_9 => ?_)
  · refine lv_iconst (v := (-1)) hx hb d_Md_flush_19 (by decide) ?_
    exact x_iret C h d_Md_flush_20 (rfl) (rfl)
  · refine lv_aload_n hx hb d_Md_flush_12 rfl (lk hl rfl) ?_
    refine g_Md_45 C h d_Md_flush_13 ?_
    refine lv_if_eq (tgt := 21) hx hb d_Md_flush_16 (by decide) (fun c_16 => ?_) (fun c_16 => ?_)
    · exact absurd hno (by rintro (q | q); exact c_9 q; exact q c_16)
    · refine lv_iconst (v := (-1)) hx hb d_Md_flush_19 (by decide) ?_
      exact x_iret C h d_Md_flush_20 (rfl) (rfl)
theorem c_Md_flush1 (l : Launch) (G : Gx) (am : Nat → Nat) (σ : Sg) (h0 : th0 σ 0 8 ≠ 0) (h1 : th0 σ 0 9 = 0) (hc : mny (th0 σ 3) 80 = 0) : MI l G (Ym G am) y_Md_flush b_Md_flush 2 (some .int) 3 σ [.ref (am 0)] 0 (th0 σ) := by
  refine go rfl (Nat.le_of_ble_eq_true rfl) (fun p e s m below meth c ls C h hl => ?_)
  have hx := C.1
  have hb := C.2.1
  refine lv_aload_n hx hb d_Md_flush_0 rfl (lk hl rfl) ?_
  refine lv_iconst (v := 0) hx hb d_Md_flush_1 (by decide) ?_
  refine p_Md_42 C h d_Md_flush_2 (fun H locs h => ?_)
  refine lv_aload_n hx hb d_Md_flush_5 rfl (lk hl rfl) ?_
  refine g_Md_28 C h d_Md_flush_6 ?_
  refine lv_if_eq (tgt := 19) hx hb d_Md_flush_9 (by decide) (fun c_9 => False.elim (h0 c_9)) (fun c_9 => ?_)
  refine lv_aload_n hx hb d_Md_flush_12 rfl (lk hl rfl) ?_
  refine g_Md_45 C h d_Md_flush_13 ?_
  refine lv_if_eq (tgt := 21) hx hb d_Md_flush_16 (by decide) (fun c_16 => ?_) (fun c_16 => False.elim (c_16 h1))
  refine lv_aload_n hx hb d_Md_flush_21 rfl (lk hl rfl) ?_
  refine g_Md_17 C h d_Md_flush_22 ?_
  refine x_callSi (Y := Ym G am) C h hl.1 (c_Md_many3 l G am (th0 σ)) cs_Md_51 rfl rfl (Nat.le_of_ble_eq_true rfl) ⟨Nat.le_of_ble_eq_true rfl, Nat.le_of_ble_eq_true rfl⟩ ⟨Nat.le_refl _, Nat.le_refl _⟩ d_Md_flush_25 (fun H locs h => ?_)
  refine lv_istore_n hx hb d_Md_flush_28 rfl hl (by decide) rfl (fun ls hl => ?_)
  refine lv_iload_n hx hb d_Md_flush_29 rfl (lk hl rfl) ?_
  refine lv_if_eq (tgt := 40) hx hb d_Md_flush_30 (by decide) (fun c_30 => ?_) (fun c_30 => False.elim (c_30 (by rw [hc]; rfl)))
  refine lv_iload_n hx hb d_Md_flush_40 rfl (lk hl rfl) ?_
  refine lv_goto (tgt := 45) hx hb d_Md_flush_41 (by decide) ?_
  exact x_iret C h d_Md_flush_45 (by rw [hc]; rfl) (rfl)
theorem c_Md_flush2 (l : Launch) (G : Gx) (am : Nat → Nat) (σ : Sg) (n : Nat) (hn : n ≤ 80) (hb1 : th0 σ 0 1 = nI n) (h0 : th0 σ 0 8 ≠ 0) (h1 : th0 σ 0 9 = 0) (hc : 0 < mny (th0 σ 3) 80) (hk : wrOk (th0 σ) (nI (mny (th0 σ 3) 80) + 1)) (hk2 : wrOk (cm1 n (th0 σ)) (cm1 n (th0 σ) 0 14 + 1)) : MI l G (Ym G am) y_Md_flush b_Md_flush 2 (some .int) 3 σ [.ref (am 0)] (nI (mny (th0 σ 3) 80)) (en1 (cm1 n (th0 σ))) := by
  refine go rfl (Nat.le_of_ble_eq_true rfl) (fun p e s m below meth c ls C h hl => ?_)
  have hx := C.1
  have hb := C.2.1
  refine lv_aload_n hx hb d_Md_flush_0 rfl (lk hl rfl) ?_
  refine lv_iconst (v := 0) hx hb d_Md_flush_1 (by decide) ?_
  refine p_Md_42 C h d_Md_flush_2 (fun H locs h => ?_)
  refine lv_aload_n hx hb d_Md_flush_5 rfl (lk hl rfl) ?_
  refine g_Md_28 C h d_Md_flush_6 ?_
  refine lv_if_eq (tgt := 19) hx hb d_Md_flush_9 (by decide) (fun c_9 => False.elim (h0 c_9)) (fun c_9 => ?_)
  refine lv_aload_n hx hb d_Md_flush_12 rfl (lk hl rfl) ?_
  refine g_Md_45 C h d_Md_flush_13 ?_
  refine lv_if_eq (tgt := 21) hx hb d_Md_flush_16 (by decide) (fun c_16 => ?_) (fun c_16 => False.elim (c_16 h1))
  refine lv_aload_n hx hb d_Md_flush_21 rfl (lk hl rfl) ?_
  refine g_Md_17 C h d_Md_flush_22 ?_
  refine x_callSi (Y := Ym G am) C h hl.1 (c_Md_many3 l G am (th0 σ)) cs_Md_51 rfl rfl (Nat.le_of_ble_eq_true rfl) ⟨Nat.le_of_ble_eq_true rfl, Nat.le_of_ble_eq_true rfl⟩ ⟨Nat.le_refl _, Nat.le_refl _⟩ d_Md_flush_25 (fun H locs h => ?_)
  refine lv_istore_n hx hb d_Md_flush_28 rfl hl (by decide) rfl (fun ls hl => ?_)
  refine lv_iload_n hx hb d_Md_flush_29 rfl (lk hl rfl) ?_
  refine lv_if_eq (tgt := 40) hx hb d_Md_flush_30 (by decide) (fun c_30 => False.elim (nI_ne0 hc (by have := mny_le (th0 σ 3) 80; omega) c_30)) (fun c_30 => ?_)
  refine lv_aload_n hx hb d_Md_flush_33 rfl (lk hl rfl) ?_
  refine x_callVi (Y := Ym G am) (q := 0) C h hl.1 (c_Md_commit1 l G am (th0 σ) n hn hb1 hk hk2) (Nat.le_of_ble_eq_true rfl) rfl rfl rfl cw_Md_66 rfl rfl (Nat.le_of_ble_eq_true rfl) ⟨Nat.le_of_ble_eq_true rfl, Nat.le_of_ble_eq_true rfl⟩ ⟨Nat.le_refl _, Nat.le_refl _⟩ d_Md_flush_34 (fun H locs h => ?_)
  refine lv_if_eq (tgt := 44) hx hb d_Md_flush_37 (by decide) (fun c_37 => False.elim (absurd c_37 (by decide))) (fun c_37 => ?_)
  refine lv_iload_n hx hb d_Md_flush_40 rfl (lk hl rfl) ?_
  refine lv_goto (tgt := 45) hx hb d_Md_flush_41 (by decide) ?_
  exact x_iret C h d_Md_flush_45 (rfl) (rfl)
theorem c_Md_flush3 (l : Launch) (G : Gx) (am : Nat → Nat) (σ : Sg) (n : Nat) (hn : n ≤ 80) (hb1 : th0 σ 0 1 = nI n) (h0 : th0 σ 0 8 ≠ 0) (h1 : th0 σ 0 9 = 0) (hc : 0 < mny (th0 σ 3) 80) (hk : wrOk (th0 σ) (nI (mny (th0 σ 3) 80) + 1)) (hk2 : ¬ wrOk (cm1 n (th0 σ)) (cm1 n (th0 σ) 0 14 + 1)) : MI l G (Ym G am) y_Md_flush b_Md_flush 2 (some .int) 3 σ [.ref (am 0)] (-1) (en0 (cm1 n (th0 σ))) := by
  refine go rfl (Nat.le_of_ble_eq_true rfl) (fun p e s m below meth c ls C h hl => ?_)
  have hx := C.1
  have hb := C.2.1
  refine lv_aload_n hx hb d_Md_flush_0 rfl (lk hl rfl) ?_
  refine lv_iconst (v := 0) hx hb d_Md_flush_1 (by decide) ?_
  refine p_Md_42 C h d_Md_flush_2 (fun H locs h => ?_)
  refine lv_aload_n hx hb d_Md_flush_5 rfl (lk hl rfl) ?_
  refine g_Md_28 C h d_Md_flush_6 ?_
  refine lv_if_eq (tgt := 19) hx hb d_Md_flush_9 (by decide) (fun c_9 => False.elim (h0 c_9)) (fun c_9 => ?_)
  refine lv_aload_n hx hb d_Md_flush_12 rfl (lk hl rfl) ?_
  refine g_Md_45 C h d_Md_flush_13 ?_
  refine lv_if_eq (tgt := 21) hx hb d_Md_flush_16 (by decide) (fun c_16 => ?_) (fun c_16 => False.elim (c_16 h1))
  refine lv_aload_n hx hb d_Md_flush_21 rfl (lk hl rfl) ?_
  refine g_Md_17 C h d_Md_flush_22 ?_
  refine x_callSi (Y := Ym G am) C h hl.1 (c_Md_many3 l G am (th0 σ)) cs_Md_51 rfl rfl (Nat.le_of_ble_eq_true rfl) ⟨Nat.le_of_ble_eq_true rfl, Nat.le_of_ble_eq_true rfl⟩ ⟨Nat.le_refl _, Nat.le_refl _⟩ d_Md_flush_25 (fun H locs h => ?_)
  refine lv_istore_n hx hb d_Md_flush_28 rfl hl (by decide) rfl (fun ls hl => ?_)
  refine lv_iload_n hx hb d_Md_flush_29 rfl (lk hl rfl) ?_
  refine lv_if_eq (tgt := 40) hx hb d_Md_flush_30 (by decide) (fun c_30 => False.elim (nI_ne0 hc (by have := mny_le (th0 σ 3) 80; omega) c_30)) (fun c_30 => ?_)
  refine lv_aload_n hx hb d_Md_flush_33 rfl (lk hl rfl) ?_
  refine x_callVi (Y := Ym G am) (q := 0) C h hl.1 (c_Md_commit0 l G am (th0 σ) n hn hb1 hk hk2) (Nat.le_of_ble_eq_true rfl) rfl rfl rfl cw_Md_66 rfl rfl (Nat.le_of_ble_eq_true rfl) ⟨Nat.le_of_ble_eq_true rfl, Nat.le_of_ble_eq_true rfl⟩ ⟨Nat.le_refl _, Nat.le_refl _⟩ d_Md_flush_34 (fun H locs h => ?_)
  refine lv_if_eq (tgt := 44) hx hb d_Md_flush_37 (by decide) (fun c_37 => ?_) (fun c_37 => False.elim (c_37 rfl))
  refine lv_iconst (v := (-1)) hx hb d_Md_flush_44 (by decide) ?_
  exact x_iret C h d_Md_flush_45 (rfl) (rfl)
theorem c_Md_flush4 (l : Launch) (G : Gx) (am : Nat → Nat) (σ : Sg) (n : Nat) (hn : n ≤ 80) (hb1 : th0 σ 0 1 = nI n) (h0 : th0 σ 0 8 ≠ 0) (h1 : th0 σ 0 9 = 0) (hc : 0 < mny (th0 σ 3) 80) (hk : ¬ wrOk (th0 σ) (nI (mny (th0 σ 3) 80) + 1)) : MI l G (Ym G am) y_Md_flush b_Md_flush 2 (some .int) 3 σ [.ref (am 0)] (-1) (wr0 (th0 σ)) := by
  refine go rfl (Nat.le_of_ble_eq_true rfl) (fun p e s m below meth c ls C h hl => ?_)
  have hx := C.1
  have hb := C.2.1
  refine lv_aload_n hx hb d_Md_flush_0 rfl (lk hl rfl) ?_
  refine lv_iconst (v := 0) hx hb d_Md_flush_1 (by decide) ?_
  refine p_Md_42 C h d_Md_flush_2 (fun H locs h => ?_)
  refine lv_aload_n hx hb d_Md_flush_5 rfl (lk hl rfl) ?_
  refine g_Md_28 C h d_Md_flush_6 ?_
  refine lv_if_eq (tgt := 19) hx hb d_Md_flush_9 (by decide) (fun c_9 => False.elim (h0 c_9)) (fun c_9 => ?_)
  refine lv_aload_n hx hb d_Md_flush_12 rfl (lk hl rfl) ?_
  refine g_Md_45 C h d_Md_flush_13 ?_
  refine lv_if_eq (tgt := 21) hx hb d_Md_flush_16 (by decide) (fun c_16 => ?_) (fun c_16 => False.elim (c_16 h1))
  refine lv_aload_n hx hb d_Md_flush_21 rfl (lk hl rfl) ?_
  refine g_Md_17 C h d_Md_flush_22 ?_
  refine x_callSi (Y := Ym G am) C h hl.1 (c_Md_many3 l G am (th0 σ)) cs_Md_51 rfl rfl (Nat.le_of_ble_eq_true rfl) ⟨Nat.le_of_ble_eq_true rfl, Nat.le_of_ble_eq_true rfl⟩ ⟨Nat.le_refl _, Nat.le_refl _⟩ d_Md_flush_25 (fun H locs h => ?_)
  refine lv_istore_n hx hb d_Md_flush_28 rfl hl (by decide) rfl (fun ls hl => ?_)
  refine lv_iload_n hx hb d_Md_flush_29 rfl (lk hl rfl) ?_
  refine lv_if_eq (tgt := 40) hx hb d_Md_flush_30 (by decide) (fun c_30 => False.elim (nI_ne0 hc (by have := mny_le (th0 σ 3) 80; omega) c_30)) (fun c_30 => ?_)
  refine lv_aload_n hx hb d_Md_flush_33 rfl (lk hl rfl) ?_
  refine x_callVi (Y := Ym G am) (q := 0) C h hl.1 (c_Md_commitX l G am (th0 σ) hk) (Nat.le_of_ble_eq_true rfl) rfl rfl rfl cw_Md_66 rfl rfl (Nat.le_of_ble_eq_true rfl) ⟨Nat.le_of_ble_eq_true rfl, Nat.le_of_ble_eq_true rfl⟩ ⟨Nat.le_refl _, Nat.le_refl _⟩ d_Md_flush_34 (fun H locs h => ?_)
  refine lv_if_eq (tgt := 44) hx hb d_Md_flush_37 (by decide) (fun c_37 => ?_) (fun c_37 => False.elim (c_37 rfl))
  refine lv_iconst (v := (-1)) hx hb d_Md_flush_44 (by decide) ?_
  exact x_iret C h d_Md_flush_45 (rfl) (rfl)
theorem lp_look {b n : Nat} {σ : Sg} (C : Cx G p s m args meth c R_Md b_Md_look 5 ret) (h : Hp G (Ym G am) A H0 σ H locs) (hn : n ≤ 80) (h1 : σ 0 1 = nI n) : ∀ (d k : Nat), k + d = n → ∀ ls : Array Slot, lv_has ls 5 [(0, .ref (am 0)), (1, .int (nI b)), (2, .int (nI (lkN (σ 5) (σ 3) k).1)), (3, .int (lkN (σ 5) (σ 3) k).2), (4, .int (nI k))] → (∀ ls : Array Slot, lv_has ls 5 [(0, .ref (am 0)), (1, .int (nI b)), (2, .int (nI (lkN (σ 5) (σ 3) n).1)), (3, .int (lkN (σ 5) (σ 3) n).2), (4, .int (nI n))] → W p l e R s m args below meth c H locs cells slots Q (F0 m 102 ls [])) → W p l e R s m args below meth c H locs cells slots Q (F0 m 26 ls []) := by
  have hx := C.1
  have hb := C.2.1
  intro d
  induction d with
  | zero =>
    intro k hk ls hl K
    have hk : k = n := by omega
    subst hk
    refine lv_iload hx hb d_Md_look_26 (lk hl rfl) ?_
    refine lv_aload_n hx hb d_Md_look_28 rfl (lk hl rfl) ?_
    refine g_Md_39 C h d_Md_look_29 ?_
    refine top h1 ?_
    refine lv_icmp_ge (tgt := 102) hx hb d_Md_look_32 (by decide) (fun c_32 => ?_) (fun c_32 => False.elim (f_nle c_32 (by omega) (by omega) (by omega)))
    exact K ls (lv_re hl _ rfl)
  | succ d ih =>
    intro k hk ls hl K
    have hin : ¬ (lkN (σ 5) (σ 3) k).2 < 0 → vp_in (lkN (σ 5) (σ 3) k).2 80 := by
      intro q
      rcases lkN_in (σ 5) (σ 3) k with e | ⟨j, hj, e⟩
      · rw [e] at q; exact absurd q (by decide)
      · rw [e]; exact vp_in_nI (by omega) (by omega)
    refine lv_iload hx hb d_Md_look_26 (lk hl rfl) ?_
    refine lv_aload_n hx hb d_Md_look_28 rfl (lk hl rfl) ?_
    refine g_Md_39 C h d_Md_look_29 ?_
    refine top h1 ?_
    refine lv_icmp_ge (tgt := 102) hx hb d_Md_look_32 (by decide) (fun c_32 => False.elim (f_le c_32 (by omega) (by omega) (by omega))) (fun c_32 => ?_)
    refine lv_iload_n hx hb d_Md_look_35 rfl (lk hl rfl) ?_
    refine lv_aload_n hx hb d_Md_look_36 rfl (lk hl rfl) ?_
    refine g_Md_24 C h d_Md_look_37 ?_
    refine lv_iload hx hb d_Md_look_40 (lk hl rfl) ?_
    refine ln_m5 C h (by omega) (by omega) d_Md_look_42 ?_
    refine lv_if_le (tgt := 50) hx hb d_Md_look_43 (by decide) (fun c_43 => ?_) (fun c_43 => ?_)
    · refine lv_iconst (v := nI 0) hx hb d_Md_look_50 (by decide) ?_
      refine lv_iadd hx hb d_Md_look_51 ?_
      refine top (nI_add _ _) ?_
      refine lv_istore_n hx hb d_Md_look_52 rfl hl (by decide) rfl (fun ls hl => ?_)
      refine lv_aload_n hx hb d_Md_look_53 rfl (lk hl rfl) ?_
      refine g_Md_24 C h d_Md_look_54 ?_
      refine lv_iload hx hb d_Md_look_57 (lk hl rfl) ?_
      refine ln_m5 C h (by omega) (by omega) d_Md_look_59 ?_
      refine lv_if_le (tgt := 96) hx hb d_Md_look_60 (by decide) (fun c_60 => ?_) (fun c_60 => ?_)
      · refine x_iinc (v := nI (k + 1)) hx hb d_Md_look_96 hl rfl (inc1 k) (by decide) (fun ls hl => ?_)
        refine lv_goto (tgt := 26) hx hb d_Md_look_99 (by decide) ?_
        exact ih (k + 1) (by omega) ls (lv_re hl _ (by
          simp only [lkN]
          rw [if_neg (Int32.not_lt.mpr c_43)]
          rw [if_neg (fun q => absurd q.1 (Int32.not_lt.mpr c_60))]
          rfl)) K
      · refine lv_aload_n hx hb d_Md_look_63 rfl (lk hl rfl) ?_
        refine g_Md_17 C h d_Md_look_64 ?_
        refine lv_iload hx hb d_Md_look_67 (lk hl rfl) ?_
        refine ln_m3 C h (by omega) (by omega) d_Md_look_69 ?_
        refine lv_if_ne (tgt := 96) hx hb d_Md_look_70 (by decide) (fun c_70 => ?_) (fun c_70 => ?_)
        · refine x_iinc (v := nI (k + 1)) hx hb d_Md_look_96 hl rfl (inc1 k) (by decide) (fun ls hl => ?_)
          refine lv_goto (tgt := 26) hx hb d_Md_look_99 (by decide) ?_
          exact ih (k + 1) (by omega) ls (lv_re hl _ (by
            simp only [lkN]
            rw [if_neg (Int32.not_lt.mpr c_43)]
            rw [if_neg (fun q => c_70 q.2.1)]
            rfl)) K
        · refine lv_iload_n hx hb d_Md_look_73 rfl (lk hl rfl) ?_
          refine lv_if_lt (tgt := 93) hx hb d_Md_look_74 (by decide) (fun c_74 => ?_) (fun c_74 => ?_)
          · refine lv_iload hx hb d_Md_look_93 (lk hl rfl) ?_
            refine lv_istore_n hx hb d_Md_look_95 rfl hl (by decide) rfl (fun ls hl => ?_)
            refine x_iinc (v := nI (k + 1)) hx hb d_Md_look_96 hl rfl (inc1 k) (by decide) (fun ls hl => ?_)
            refine lv_goto (tgt := 26) hx hb d_Md_look_99 (by decide) ?_
            exact ih (k + 1) (by omega) ls (lv_re hl _ (by
              simp only [lkN]
              rw [if_neg (Int32.not_lt.mpr c_43)]
              rw [if_pos ⟨Int32.not_le.mp c_60, c_70, Or.inl c_74⟩]
              rfl)) K
          · refine lv_aload_n hx hb d_Md_look_77 rfl (lk hl rfl) ?_
            refine g_Md_24 C h d_Md_look_78 ?_
            refine lv_iload hx hb d_Md_look_81 (lk hl rfl) ?_
            refine ln_m5 C h (by omega) (by omega) d_Md_look_83 ?_
            refine lv_aload_n hx hb d_Md_look_84 rfl (lk hl rfl) ?_
            refine g_Md_24 C h d_Md_look_85 ?_
            refine lv_iload_n hx hb d_Md_look_88 rfl (lk hl rfl) ?_
            refine l_m5 C h (hin c_74) d_Md_look_89 ?_
            refine lv_icmp_ge (tgt := 96) hx hb d_Md_look_90 (by decide) (fun c_90 => ?_) (fun c_90 => ?_)
            · refine x_iinc (v := nI (k + 1)) hx hb d_Md_look_96 hl rfl (inc1 k) (by decide) (fun ls hl => ?_)
              refine lv_goto (tgt := 26) hx hb d_Md_look_99 (by decide) ?_
              exact ih (k + 1) (by omega) ls (lv_re hl _ (by
                simp only [lkN]
                rw [if_neg (Int32.not_lt.mpr c_43)]
                rw [if_neg (fun q => q.2.2.elim c_74 (Int32.not_lt.mpr c_90))]
                rfl)) K
            · refine lv_iload hx hb d_Md_look_93 (lk hl rfl) ?_
              refine lv_istore_n hx hb d_Md_look_95 rfl hl (by decide) rfl (fun ls hl => ?_)
              refine x_iinc (v := nI (k + 1)) hx hb d_Md_look_96 hl rfl (inc1 k) (by decide) (fun ls hl => ?_)
              refine lv_goto (tgt := 26) hx hb d_Md_look_99 (by decide) ?_
              exact ih (k + 1) (by omega) ls (lv_re hl _ (by
                simp only [lkN]
                rw [if_neg (Int32.not_lt.mpr c_43)]
                rw [if_pos ⟨Int32.not_le.mp c_60, c_70, Or.inr (Int32.not_le.mp c_90)⟩]
                rfl)) K
    · refine lv_iconst (v := nI 1) hx hb d_Md_look_46 (by decide) ?_
      refine lv_goto (tgt := 51) hx hb d_Md_look_47 (by decide) ?_
      refine lv_iadd hx hb d_Md_look_51 ?_
      refine top (nI_add _ _) ?_
      refine lv_istore_n hx hb d_Md_look_52 rfl hl (by decide) rfl (fun ls hl => ?_)
      refine lv_aload_n hx hb d_Md_look_53 rfl (lk hl rfl) ?_
      refine g_Md_24 C h d_Md_look_54 ?_
      refine lv_iload hx hb d_Md_look_57 (lk hl rfl) ?_
      refine ln_m5 C h (by omega) (by omega) d_Md_look_59 ?_
      refine lv_if_le (tgt := 96) hx hb d_Md_look_60 (by decide) (fun c_60 => ?_) (fun c_60 => ?_)
      · refine x_iinc (v := nI (k + 1)) hx hb d_Md_look_96 hl rfl (inc1 k) (by decide) (fun ls hl => ?_)
        refine lv_goto (tgt := 26) hx hb d_Md_look_99 (by decide) ?_
        exact ih (k + 1) (by omega) ls (lv_re hl _ (by
          simp only [lkN]
          rw [if_pos (Int32.not_le.mp c_43)]
          rw [if_neg (fun q => absurd q.1 (Int32.not_lt.mpr c_60))]
          rfl)) K
      · refine lv_aload_n hx hb d_Md_look_63 rfl (lk hl rfl) ?_
        refine g_Md_17 C h d_Md_look_64 ?_
        refine lv_iload hx hb d_Md_look_67 (lk hl rfl) ?_
        refine ln_m3 C h (by omega) (by omega) d_Md_look_69 ?_
        refine lv_if_ne (tgt := 96) hx hb d_Md_look_70 (by decide) (fun c_70 => ?_) (fun c_70 => ?_)
        · refine x_iinc (v := nI (k + 1)) hx hb d_Md_look_96 hl rfl (inc1 k) (by decide) (fun ls hl => ?_)
          refine lv_goto (tgt := 26) hx hb d_Md_look_99 (by decide) ?_
          exact ih (k + 1) (by omega) ls (lv_re hl _ (by
            simp only [lkN]
            rw [if_pos (Int32.not_le.mp c_43)]
            rw [if_neg (fun q => c_70 q.2.1)]
            rfl)) K
        · refine lv_iload_n hx hb d_Md_look_73 rfl (lk hl rfl) ?_
          refine lv_if_lt (tgt := 93) hx hb d_Md_look_74 (by decide) (fun c_74 => ?_) (fun c_74 => ?_)
          · refine lv_iload hx hb d_Md_look_93 (lk hl rfl) ?_
            refine lv_istore_n hx hb d_Md_look_95 rfl hl (by decide) rfl (fun ls hl => ?_)
            refine x_iinc (v := nI (k + 1)) hx hb d_Md_look_96 hl rfl (inc1 k) (by decide) (fun ls hl => ?_)
            refine lv_goto (tgt := 26) hx hb d_Md_look_99 (by decide) ?_
            exact ih (k + 1) (by omega) ls (lv_re hl _ (by
              simp only [lkN]
              rw [if_pos (Int32.not_le.mp c_43)]
              rw [if_pos ⟨Int32.not_le.mp c_60, c_70, Or.inl c_74⟩]
              rfl)) K
          · refine lv_aload_n hx hb d_Md_look_77 rfl (lk hl rfl) ?_
            refine g_Md_24 C h d_Md_look_78 ?_
            refine lv_iload hx hb d_Md_look_81 (lk hl rfl) ?_
            refine ln_m5 C h (by omega) (by omega) d_Md_look_83 ?_
            refine lv_aload_n hx hb d_Md_look_84 rfl (lk hl rfl) ?_
            refine g_Md_24 C h d_Md_look_85 ?_
            refine lv_iload_n hx hb d_Md_look_88 rfl (lk hl rfl) ?_
            refine l_m5 C h (hin c_74) d_Md_look_89 ?_
            refine lv_icmp_ge (tgt := 96) hx hb d_Md_look_90 (by decide) (fun c_90 => ?_) (fun c_90 => ?_)
            · refine x_iinc (v := nI (k + 1)) hx hb d_Md_look_96 hl rfl (inc1 k) (by decide) (fun ls hl => ?_)
              refine lv_goto (tgt := 26) hx hb d_Md_look_99 (by decide) ?_
              exact ih (k + 1) (by omega) ls (lv_re hl _ (by
                simp only [lkN]
                rw [if_pos (Int32.not_le.mp c_43)]
                rw [if_neg (fun q => q.2.2.elim c_74 (Int32.not_lt.mpr c_90))]
                rfl)) K
            · refine lv_iload hx hb d_Md_look_93 (lk hl rfl) ?_
              refine lv_istore_n hx hb d_Md_look_95 rfl hl (by decide) rfl (fun ls hl => ?_)
              refine x_iinc (v := nI (k + 1)) hx hb d_Md_look_96 hl rfl (inc1 k) (by decide) (fun ls hl => ?_)
              refine lv_goto (tgt := 26) hx hb d_Md_look_99 (by decide) ?_
              exact ih (k + 1) (by omega) ls (lv_re hl _ (by
                simp only [lkN]
                rw [if_pos (Int32.not_le.mp c_43)]
                rw [if_pos ⟨Int32.not_le.mp c_60, c_70, Or.inr (Int32.not_le.mp c_90)⟩]
                rfl)) K
theorem c_Md_look (l : Launch) (G : Gx) (am : Nat → Nat) (σ : Sg) (n b : Nat) (hn : n ≤ 80) (hbn : b < n) (h1 : σ 0 1 = nI n) (hold : σ 5 b = 0 → (lkN (σ 5) (σ 3) n).1 = 34 → (lkN (σ 5) (σ 3) n).2 ≠ -1) : MV l G (Ym G am) y_Md_look b_Md_look 5 none 0 σ [.ref (am 0), .int (nI b)] (lkS n b σ) := by
  refine go rfl (Nat.le_of_ble_eq_true rfl) (fun p e s m below meth c ls C h hl => ?_)
  have hx := C.1
  have hb := C.2.1
  by_cases hz : σ 5 b = 0
  · refine lv_aload_n hx hb d_Md_look_0 rfl (lk hl rfl) ?_
    refine g_Md_24 C h d_Md_look_1 ?_
    refine lv_iload_n hx hb d_Md_look_4 rfl (lk hl rfl) ?_
    refine ln_m5 C h (by omega) (by omega) d_Md_look_5 ?_
    refine lv_if_ne (tgt := 115) hx hb d_Md_look_6 (by decide) (fun c_6 => False.elim (c_6 hz)) (fun c_6 => ?_)
    refine lv_aload_n hx hb d_Md_look_9 rfl (lk hl rfl) ?_
    refine lv_dup hx hb d_Md_look_10 rfl ?_
    refine g_Md_69 C h d_Md_look_11 ?_
    refine lv_iconst (v := 1) hx hb d_Md_look_14 (by decide) ?_
    refine lv_iadd hx hb d_Md_look_15 ?_
    refine p_Md_69 C h d_Md_look_16 (fun H locs h => ?_)
    refine lv_iconst (v := nI 0) hx hb d_Md_look_19 (by decide) ?_
    refine lv_istore_n hx hb d_Md_look_20 rfl hl (by decide) rfl (fun ls hl => ?_)
    refine lv_iconst (v := (-1)) hx hb d_Md_look_21 (by decide) ?_
    refine lv_istore_n hx hb d_Md_look_22 rfl hl (by decide) rfl (fun ls hl => ?_)
    refine lv_iconst (v := nI 0) hx hb d_Md_look_23 (by decide) ?_
    refine lv_istore hx hb d_Md_look_24 hl (by decide) rfl (fun ls hl => ?_)
    refine lp_look C h hn (by rw [st_nk (by decide)]; exact h1) n 0 (by omega) ls (lv_re hl _ rfl) (fun ls hl => ?_)
    by_cases hq : (lkN ((set1 σ 0 12 (σ 0 12 + 1)) 5) ((set1 σ 0 12 (σ 0 12 + 1)) 3) n).1 = 34
    · have ho : vp_in (lkN ((set1 σ 0 12 (σ 0 12 + 1)) 5) ((set1 σ 0 12 (σ 0 12 + 1)) 3) n).2 80 := by
        rw [st_ne (by decide), st_ne (by decide)] at hq ⊢
        rcases lkN_in (σ 5) (σ 3) n with e | ⟨j, hj, e⟩
        · exact absurd e (hold hz hq)
        · rw [e]; exact vp_in_nI (by omega) (by omega)
      refine lv_iload_n hx hb d_Md_look_102 rfl (lk hl rfl) ?_
      refine lv_bipush (v := nI 34) hx hb d_Md_look_103 (by decide) ?_
      refine lv_icmp_ne (tgt := 115) hx hb d_Md_look_105 (by decide) (fun c_105 => False.elim (c_105 (by rw [hq]))) (fun c_105 => ?_)
      refine lv_aload_n hx hb d_Md_look_108 rfl (lk hl rfl) ?_
      refine g_Md_24 C h d_Md_look_109 ?_
      refine lv_iload_n hx hb d_Md_look_112 rfl (lk hl rfl) ?_
      refine lv_iconst (v := 0) hx hb d_Md_look_113 (by decide) ?_
      refine st_m5 C h ho d_Md_look_114 (fun H locs h => ?_)
      refine lv_aload_n hx hb d_Md_look_115 rfl (lk hl rfl) ?_
      refine lv_dup hx hb d_Md_look_116 rfl ?_
      refine g_Md_72 C h d_Md_look_117 ?_
      refine lv_iconst (v := 1) hx hb d_Md_look_120 (by decide) ?_
      refine lv_iadd hx hb d_Md_look_121 ?_
      refine p_Md_72 C h d_Md_look_122 (fun H locs h => ?_)
      refine lv_aload_n hx hb d_Md_look_125 rfl (lk hl rfl) ?_
      refine g_Md_24 C h d_Md_look_126 ?_
      refine lv_iload_n hx hb d_Md_look_129 rfl (lk hl rfl) ?_
      refine lv_aload_n hx hb d_Md_look_130 rfl (lk hl rfl) ?_
      refine g_Md_72 C h d_Md_look_131 ?_
      refine sn_m5 C h (by omega) (by omega) d_Md_look_134 (fun H locs h => ?_)
      exact x_vret C h d_Md_look_135 (by simp only [lkS, lk1]; rw [if_pos hz, if_pos hq])
    · refine lv_iload_n hx hb d_Md_look_102 rfl (lk hl rfl) ?_
      refine lv_bipush (v := nI 34) hx hb d_Md_look_103 (by decide) ?_
      refine lv_icmp_ne (tgt := 115) hx hb d_Md_look_105 (by decide) (fun c_105 => ?_) (fun c_105 => False.elim (f_eq c_105 (by have := lkN_le ((set1 σ 0 12 (σ 0 12 + 1)) 5) ((set1 σ 0 12 (σ 0 12 + 1)) 3) n; omega) (by omega) hq))
      refine lv_aload_n hx hb d_Md_look_115 rfl (lk hl rfl) ?_
      refine lv_dup hx hb d_Md_look_116 rfl ?_
      refine g_Md_72 C h d_Md_look_117 ?_
      refine lv_iconst (v := 1) hx hb d_Md_look_120 (by decide) ?_
      refine lv_iadd hx hb d_Md_look_121 ?_
      refine p_Md_72 C h d_Md_look_122 (fun H locs h => ?_)
      refine lv_aload_n hx hb d_Md_look_125 rfl (lk hl rfl) ?_
      refine g_Md_24 C h d_Md_look_126 ?_
      refine lv_iload_n hx hb d_Md_look_129 rfl (lk hl rfl) ?_
      refine lv_aload_n hx hb d_Md_look_130 rfl (lk hl rfl) ?_
      refine g_Md_72 C h d_Md_look_131 ?_
      refine sn_m5 C h (by omega) (by omega) d_Md_look_134 (fun H locs h => ?_)
      exact x_vret C h d_Md_look_135 (by simp only [lkS, lk1]; rw [if_pos hz, if_neg hq])
  · refine lv_aload_n hx hb d_Md_look_0 rfl (lk hl rfl) ?_
    refine g_Md_24 C h d_Md_look_1 ?_
    refine lv_iload_n hx hb d_Md_look_4 rfl (lk hl rfl) ?_
    refine ln_m5 C h (by omega) (by omega) d_Md_look_5 ?_
    refine lv_if_ne (tgt := 115) hx hb d_Md_look_6 (by decide) (fun c_6 => ?_) (fun c_6 => False.elim (hz c_6))
    refine lv_aload_n hx hb d_Md_look_115 rfl (lk hl rfl) ?_
    refine lv_dup hx hb d_Md_look_116 rfl ?_
    refine g_Md_72 C h d_Md_look_117 ?_
    refine lv_iconst (v := 1) hx hb d_Md_look_120 (by decide) ?_
    refine lv_iadd hx hb d_Md_look_121 ?_
    refine p_Md_72 C h d_Md_look_122 (fun H locs h => ?_)
    refine lv_aload_n hx hb d_Md_look_125 rfl (lk hl rfl) ?_
    refine g_Md_24 C h d_Md_look_126 ?_
    refine lv_iload_n hx hb d_Md_look_129 rfl (lk hl rfl) ?_
    refine lv_aload_n hx hb d_Md_look_130 rfl (lk hl rfl) ?_
    refine g_Md_72 C h d_Md_look_131 ?_
    refine sn_m5 C h (by omega) (by omega) d_Md_look_134 (fun H locs h => ?_)
    exact x_vret C h d_Md_look_135 (by simp only [lkS]; rw [if_neg hz])
end W26
end
section
section W27
variable {p : Program} {l : Launch} {e : Env} {R : Room} {s : State} {m : MethodId} {args : Array Value} {below : List Frame} {meth : Method} {c : Code} {H : Heap} {locs : List Loc} {cells slots : Nat} {Q : State → Prop}
variable {G : Gx} {n : Nat} {ad am : Nat → Nat} {A : Nat → Prop} {H0 : Heap} {ret : Option FieldType}
theorem c_Md_get0 (l : Launch) (G : Gx) (am : Nat → Nat) (σ : Sg) (b k : Int32) (hno : th0 σ 0 8 = 0 ∨ ibr (th0 σ 0 1) b = 0 ∨ k < 0 ∨ ¬ k ≤ 1023) : MI l G (Ym G am) y_Md_get b_Md_get 3 (some .int) 1 σ [.ref (am 0), .int b, .int k] (-1) (th0 σ) := by
  refine go rfl (Nat.le_of_ble_eq_true rfl) (fun p e s m below meth c ls C h hl => ?_)
  have hx := C.1
  have hb := C.2.1
  refine lv_aload_n hx hb d_Md_get_0 rfl (lk hl rfl) ?_
  refine lv_iconst (v := 0) hx hb d_Md_get_1 (by decide) ?_
  refine p_Md_42 C h d_Md_get_2 (fun H locs h => ?_)
  refine lv_aload_n hx hb d_Md_get_5 rfl (lk hl rfl) ?_
  refine g_Md_28 C h d_Md_get_6 ?_
  refine lv_if_eq (tgt := 31) hx hb d_Md_get_9 (by decide) (fun c_9 => ?_) (fun c_9 => ?_)
  · refine lv_iconst (v := (-1)) hx hb d_Md_get_31 (by decide) ?_
    exact x_iret C h d_Md_get_32 (rfl) (rfl)
  · refine lv_aload_n hx hb d_Md_get_12 rfl (lk hl rfl) ?_
    refine lv_iload_n hx hb d_Md_get_13 rfl (lk hl rfl) ?_
    refine x_callVi (Y := Ym G am) (q := 0) C h hl.1 (c_Md_isBlock l G am (th0 σ) b) (Nat.le_of_ble_eq_true rfl) rfl rfl rfl cw_Md_75 rfl rfl (Nat.le_of_ble_eq_true rfl) ⟨Nat.le_of_ble_eq_true rfl, Nat.le_of_ble_eq_true rfl⟩ ⟨Nat.le_refl _, Nat.le_refl _⟩ d_Md_get_14 (fun H locs h => ?_)
    refine lv_if_eq (tgt := 31) hx hb d_Md_get_17 (by decide) (fun c_17 => ?_) (fun c_17 => ?_)
    · refine lv_iconst (v := (-1)) hx hb d_Md_get_31 (by decide) ?_
      exact x_iret C h d_Md_get_32 (rfl) (rfl)
    · refine lv_iload_n hx hb d_Md_get_20 rfl (lk hl rfl) ?_
      refine lv_if_lt (tgt := 31) hx hb d_Md_get_21 (by decide) (fun c_21 => ?_) (fun c_21 => ?_)
      · refine lv_iconst (v := (-1)) hx hb d_Md_get_31 (by decide) ?_
        exact x_iret C h d_Md_get_32 (rfl) (rfl)
      · refine lv_iload_n hx hb d_Md_get_24 rfl (lk hl rfl) ?_
        refine lv_sipush (v := 1023) hx hb d_Md_get_25 (by decide) ?_
        refine lv_icmp_le (tgt := 33) hx hb d_Md_get_28 (by decide) (fun c_28 => ?_) (fun c_28 => ?_)
        · exact absurd hno (by rintro (q | q | q | q); exact c_9 q; exact c_17 q; exact c_21 q; exact q c_28)
        · refine lv_iconst (v := (-1)) hx hb d_Md_get_31 (by decide) ?_
          exact x_iret C h d_Md_get_32 (rfl) (rfl)
theorem c_Md_get1 (l : Launch) (G : Gx) (am : Nat → Nat) (σ : Sg) (n b : Nat) (hn : n ≤ 80) (hbn : b < n) (hb1 : th0 σ 0 1 = nI n) (hold : th0 σ 5 b = 0 → (lkN (th0 σ 5) (th0 σ 3) n).1 = 34 → (lkN (th0 σ 5) (th0 σ 3) n).2 ≠ -1) (k : Nat) (hk : k < 1024) (h0 : th0 σ 0 8 ≠ 0) (h1 : ibr (th0 σ 0 1) (nI b) ≠ 0) : MI l G (Ym G am) y_Md_get b_Md_get 3 (some .int) 1 σ [.ref (am 0), .int (nI b), .int (nI k)] (bt (lkS n b (th0 σ) 2 (1024 * b + k)) &&& 255) (lkS n b (th0 σ)) := by
  refine go rfl (Nat.le_of_ble_eq_true rfl) (fun p e s m below meth c ls C h hl => ?_)
  have hx := C.1
  have hb := C.2.1
  refine lv_aload_n hx hb d_Md_get_0 rfl (lk hl rfl) ?_
  refine lv_iconst (v := 0) hx hb d_Md_get_1 (by decide) ?_
  refine p_Md_42 C h d_Md_get_2 (fun H locs h => ?_)
  refine lv_aload_n hx hb d_Md_get_5 rfl (lk hl rfl) ?_
  refine g_Md_28 C h d_Md_get_6 ?_
  refine lv_if_eq (tgt := 31) hx hb d_Md_get_9 (by decide) (fun c_9 => False.elim (h0 c_9)) (fun c_9 => ?_)
  refine lv_aload_n hx hb d_Md_get_12 rfl (lk hl rfl) ?_
  refine lv_iload_n hx hb d_Md_get_13 rfl (lk hl rfl) ?_
  refine x_callVi (Y := Ym G am) (q := 0) C h hl.1 (c_Md_isBlock l G am (th0 σ) (nI b)) (Nat.le_of_ble_eq_true rfl) rfl rfl rfl cw_Md_75 rfl rfl (Nat.le_of_ble_eq_true rfl) ⟨Nat.le_of_ble_eq_true rfl, Nat.le_of_ble_eq_true rfl⟩ ⟨Nat.le_refl _, Nat.le_refl _⟩ d_Md_get_14 (fun H locs h => ?_)
  refine lv_if_eq (tgt := 31) hx hb d_Md_get_17 (by decide) (fun c_17 => False.elim (h1 c_17)) (fun c_17 => ?_)
  refine lv_iload_n hx hb d_Md_get_20 rfl (lk hl rfl) ?_
  refine lv_if_lt (tgt := 31) hx hb d_Md_get_21 (by decide) (fun c_21 => False.elim (nI_pos (by omega) c_21)) (fun c_21 => ?_)
  refine lv_iload_n hx hb d_Md_get_24 rfl (lk hl rfl) ?_
  refine lv_sipush (v := nI 1023) hx hb d_Md_get_25 (by decide) ?_
  refine lv_icmp_le (tgt := 33) hx hb d_Md_get_28 (by decide) (fun c_28 => ?_) (fun c_28 => False.elim (f_nle c_28 (by omega) (by omega) (by omega)))
  refine lv_aload_n hx hb d_Md_get_33 rfl (lk hl rfl) ?_
  refine lv_iload_n hx hb d_Md_get_34 rfl (lk hl rfl) ?_
  refine x_callVv (Y := Ym G am) (q := 0) C h hl.1 (c_Md_look l G am (th0 σ) n b hn hbn hb1 hold) (Nat.le_of_ble_eq_true rfl) rfl rfl rfl cw_Md_78 rfl rfl (Nat.le_of_ble_eq_true rfl) ⟨Nat.le_of_ble_eq_true rfl, Nat.le_of_ble_eq_true rfl⟩ ⟨Nat.le_refl _, Nat.le_refl _⟩ d_Md_get_35 (fun H locs h => ?_)
  refine lv_aload_n hx hb d_Md_get_38 rfl (lk hl rfl) ?_
  refine g_Md_14 C h d_Md_get_39 ?_
  refine lv_sipush (v := nI 1024) hx hb d_Md_get_42 (by decide) ?_
  refine lv_iload_n hx hb d_Md_get_45 rfl (lk hl rfl) ?_
  refine lv_imul hx hb d_Md_get_46 ?_
  refine top (pk_mul 1024 b) ?_
  refine lv_iload_n hx hb d_Md_get_47 rfl (lk hl rfl) ?_
  refine lv_iadd hx hb d_Md_get_48 ?_
  refine top (nI_add _ _) ?_
  refine ln_m2 C h (by omega) (by omega) d_Md_get_49 ?_
  refine lv_sipush (v := 255) hx hb d_Md_get_50 (by decide) ?_
  refine lv_iand hx hb d_Md_get_53 ?_
  exact x_iret C h d_Md_get_54 (rfl) (rfl)
theorem c_Md_fill0 (l : Launch) (G : Gx) (am : Nat → Nat) (σ : Sg) (n : Nat) (b k cn v : Int32) (hn : n ≤ 80) (hn2 : 40 ≤ n) (hb1 : th0 σ 0 1 = nI n) (hno : th0 σ 0 8 = 0 ∨ th0 σ 0 9 = 0 ∨ ibr (th0 σ 0 1) b = 0 ∨ cn < 1 ∨ 1024 < cn ∨ k < 0 ∨ ¬ k ≤ 1024 - cn ∨ (th0 σ 4 b.toNatClampNeg = 0 ∧ mny (th0 σ 4) 80 = 10)) : MI l G (Ym G am) y_Md_fill b_Md_fill 6 (some .boolean) 1 σ [.ref (am 0), .int b, .int k, .int cn, .int v] 0 (th0 σ) := by
  refine go rfl (Nat.le_of_ble_eq_true rfl) (fun p e s m below meth c ls C h hl => ?_)
  have hx := C.1
  have hb := C.2.1
  refine lv_aload_n hx hb d_Md_fill_0 rfl (lk hl rfl) ?_
  refine lv_iconst (v := 0) hx hb d_Md_fill_1 (by decide) ?_
  refine p_Md_42 C h d_Md_fill_2 (fun H locs h => ?_)
  refine lv_aload_n hx hb d_Md_fill_5 rfl (lk hl rfl) ?_
  refine g_Md_28 C h d_Md_fill_6 ?_
  refine lv_if_eq (tgt := 73) hx hb d_Md_fill_9 (by decide) (fun c_9 => ?_) (fun c_9 => ?_)
  · refine lv_iconst (v := 0) hx hb d_Md_fill_73 (by decide) ?_
    exact x_zret C h d_Md_fill_74 rfl (rfl) (rfl)
  · refine lv_aload_n hx hb d_Md_fill_12 rfl (lk hl rfl) ?_
    refine g_Md_45 C h d_Md_fill_13 ?_
    refine lv_if_eq (tgt := 73) hx hb d_Md_fill_16 (by decide) (fun c_16 => ?_) (fun c_16 => ?_)
    · refine lv_iconst (v := 0) hx hb d_Md_fill_73 (by decide) ?_
      exact x_zret C h d_Md_fill_74 rfl (rfl) (rfl)
    · refine lv_aload_n hx hb d_Md_fill_19 rfl (lk hl rfl) ?_
      refine lv_iload_n hx hb d_Md_fill_20 rfl (lk hl rfl) ?_
      refine x_callVi (Y := Ym G am) (q := 0) C h hl.1 (c_Md_isBlock l G am (th0 σ) b) (Nat.le_of_ble_eq_true rfl) rfl rfl rfl cw_Md_75 rfl rfl (Nat.le_of_ble_eq_true rfl) ⟨Nat.le_of_ble_eq_true rfl, Nat.le_of_ble_eq_true rfl⟩ ⟨Nat.le_refl _, Nat.le_refl _⟩ d_Md_fill_21 (fun H locs h => ?_)
      refine lv_if_eq (tgt := 73) hx hb d_Md_fill_24 (by decide) (fun c_24 => ?_) (fun c_24 => ?_)
      · refine lv_iconst (v := 0) hx hb d_Md_fill_73 (by decide) ?_
        exact x_zret C h d_Md_fill_74 rfl (rfl) (rfl)
      · refine lv_iload_n hx hb d_Md_fill_27 rfl (lk hl rfl) ?_
        refine lv_iconst (v := 1) hx hb d_Md_fill_28 (by decide) ?_
        refine lv_icmp_lt (tgt := 73) hx hb d_Md_fill_29 (by decide) (fun c_29 => ?_) (fun c_29 => ?_)
        · refine lv_iconst (v := 0) hx hb d_Md_fill_73 (by decide) ?_
          exact x_zret C h d_Md_fill_74 rfl (rfl) (rfl)
        · refine lv_iload_n hx hb d_Md_fill_32 rfl (lk hl rfl) ?_
          refine lv_sipush (v := 1024) hx hb d_Md_fill_33 (by decide) ?_
          refine lv_icmp_gt (tgt := 73) hx hb d_Md_fill_36 (by decide) (fun c_36 => ?_) (fun c_36 => ?_)
          · refine lv_iconst (v := 0) hx hb d_Md_fill_73 (by decide) ?_
            exact x_zret C h d_Md_fill_74 rfl (rfl) (rfl)
          · refine lv_iload_n hx hb d_Md_fill_39 rfl (lk hl rfl) ?_
            refine lv_if_lt (tgt := 73) hx hb d_Md_fill_40 (by decide) (fun c_40 => ?_) (fun c_40 => ?_)
            · refine lv_iconst (v := 0) hx hb d_Md_fill_73 (by decide) ?_
              exact x_zret C h d_Md_fill_74 rfl (rfl) (rfl)
            · refine lv_iload_n hx hb d_Md_fill_43 rfl (lk hl rfl) ?_
              refine lv_sipush (v := 1024) hx hb d_Md_fill_44 (by decide) ?_
              refine lv_iload_n hx hb d_Md_fill_47 rfl (lk hl rfl) ?_
              refine lv_isub hx hb d_Md_fill_48 ?_
              refine lv_icmp_gt (tgt := 73) hx hb d_Md_fill_49 (by decide) (fun c_49 => ?_) (fun c_49 => ?_)
              · refine lv_iconst (v := 0) hx hb d_Md_fill_73 (by decide) ?_
                exact x_zret C h d_Md_fill_74 rfl (rfl) (rfl)
              · refine lv_aload_n hx hb d_Md_fill_52 rfl (lk hl rfl) ?_
                refine g_Md_21 C h d_Md_fill_53 ?_
                refine lv_iload_n hx hb d_Md_fill_56 rfl (lk hl rfl) ?_
                refine l_m4 C h (by rw [(ibr_lt hn hn2 hb1 c_24).2]; exact vp_in_nI (by have := (ibr_lt hn hn2 hb1 c_24).1; omega) (by omega)) d_Md_fill_57 ?_
                refine lv_if_ne (tgt := 75) hx hb d_Md_fill_58 (by decide) (fun c_58 => ?_) (fun c_58 => ?_)
                · exact absurd hno (by rintro (q | q | q | q | q | q | q | q); exact c_9 q; exact c_16 q; exact c_24 q; exact c_29 q; exact c_36 q; exact c_40 q; exact q (Int32.not_lt.mp c_49); exact absurd q.1 c_58)
                · refine lv_aload_n hx hb d_Md_fill_61 rfl (lk hl rfl) ?_
                  refine g_Md_21 C h d_Md_fill_62 ?_
                  refine x_callSi (Y := Ym G am) C h hl.1 (c_Md_many4 l G am (th0 σ)) cs_Md_51 rfl rfl (Nat.le_of_ble_eq_true rfl) ⟨Nat.le_of_ble_eq_true rfl, Nat.le_of_ble_eq_true rfl⟩ ⟨Nat.le_refl _, Nat.le_refl _⟩ d_Md_fill_65 (fun H locs h => ?_)
                  refine lv_bipush (v := nI 10) hx hb d_Md_fill_68 (by decide) ?_
                  refine lv_icmp_ne (tgt := 75) hx hb d_Md_fill_70 (by decide) (fun c_70 => ?_) (fun c_70 => ?_)
                  · exact absurd hno (by rintro (q | q | q | q | q | q | q | q); exact c_9 q; exact c_16 q; exact c_24 q; exact c_29 q; exact c_36 q; exact c_40 q; exact q (Int32.not_lt.mp c_49); exact f_ne c_70 q.2)
                  · refine lv_iconst (v := 0) hx hb d_Md_fill_73 (by decide) ?_
                    exact x_zret C h d_Md_fill_74 rfl (rfl) (rfl)
def mf0 (n b : Nat) (τ : Sg) : Sg := set1 (set1 (lkS n b τ) 4 b 1) 3 b 1
theorem lp_mfill {b k cn : Nat} {v : Int32} (C : Cx G p s m args meth c R_Md b_Md_fill 6 ret) (hb8 : b < 80) (hkn : k + cn ≤ 1024) : ∀ (d j : Nat), j + d = cn → ∀ (σ : Sg) (H : Heap) (locs : List Loc), Hp G (Ym G am) A H0 σ H locs → ∀ ls : Array Slot, lv_has ls 6 [(0, .ref (am 0)), (1, .int (nI b)), (2, .int (nI k)), (3, .int (nI cn)), (4, .int v), (5, .int (nI j))] → (∀ (H : Heap) (locs : List Loc), Hp G (Ym G am) A H0 (itr (fun j σ => set1 σ 2 (1024 * b + k + j) (v + nI j).toInt8.toInt32) d j σ) H locs → ∀ ls : Array Slot, W p l e R s m args below meth c H locs cells slots Q (F0 m 130 ls [])) → W p l e R s m args below meth c H locs cells slots Q (F0 m 97 ls []) := by
  have hx := C.1
  have hb := C.2.1
  intro d
  induction d with
  | zero =>
    intro j hj σ H locs h ls hl K
    refine lv_iload hx hb d_Md_fill_97 (lk hl rfl) ?_
    refine lv_iload_n hx hb d_Md_fill_99 rfl (lk hl rfl) ?_
    refine lv_icmp_ge (tgt := 130) hx hb d_Md_fill_100 (by decide) (fun c_100 => ?_) (fun c_100 => False.elim (f_nle c_100 (by omega) (by omega) (by omega)))
    exact K H locs h ls
  | succ d ih =>
    intro j hj σ H locs h ls hl K
    refine lv_iload hx hb d_Md_fill_97 (lk hl rfl) ?_
    refine lv_iload_n hx hb d_Md_fill_99 rfl (lk hl rfl) ?_
    refine lv_icmp_ge (tgt := 130) hx hb d_Md_fill_100 (by decide) (fun c_100 => False.elim (f_le c_100 (by omega) (by omega) (by omega))) (fun c_100 => ?_)
    refine lv_aload_n hx hb d_Md_fill_103 rfl (lk hl rfl) ?_
    refine g_Md_14 C h d_Md_fill_104 ?_
    refine lv_sipush (v := nI 1024) hx hb d_Md_fill_107 (by decide) ?_
    refine lv_iload_n hx hb d_Md_fill_110 rfl (lk hl rfl) ?_
    refine lv_imul hx hb d_Md_fill_111 ?_
    refine top (pk_mul 1024 b) ?_
    refine lv_iload_n hx hb d_Md_fill_112 rfl (lk hl rfl) ?_
    refine lv_iadd hx hb d_Md_fill_113 ?_
    refine top (nI_add _ _) ?_
    refine lv_iload hx hb d_Md_fill_114 (lk hl rfl) ?_
    refine lv_iadd hx hb d_Md_fill_116 ?_
    refine top (nI_add _ _) ?_
    refine lv_iload hx hb d_Md_fill_117 (lk hl rfl) ?_
    refine lv_iload hx hb d_Md_fill_119 (lk hl rfl) ?_
    refine lv_iadd hx hb d_Md_fill_121 ?_
    refine lv_i2b hx hb d_Md_fill_122 rfl ?_
    refine sn_m2 C h (by omega) (by omega) d_Md_fill_123 (fun H locs h => ?_)
    refine x_iinc (v := nI (j + 1)) hx hb d_Md_fill_124 hl rfl (inc1 j) (by decide) (fun ls hl => ?_)
    refine lv_goto (tgt := 97) hx hb d_Md_fill_127 (by decide) ?_
    exact ih (j + 1) (by omega) _ H locs h ls (lv_re hl _ rfl) K
theorem c_Md_fill1 (l : Launch) (G : Gx) (am : Nat → Nat) (σ : Sg) (n b : Nat) (hn : n ≤ 80) (hbn : b < n) (hb1 : th0 σ 0 1 = nI n) (hold : th0 σ 5 b = 0 → (lkN (th0 σ 5) (th0 σ 3) n).1 = 34 → (lkN (th0 σ 5) (th0 σ 3) n).2 ≠ -1) (k cn : Nat) (v : Int32) (hc1 : 1 ≤ cn) (hkn : k + cn ≤ 1024) (h0 : th0 σ 0 8 ≠ 0) (h01 : th0 σ 0 9 ≠ 0) (h1 : ibr (th0 σ 0 1) (nI b) ≠ 0) (hch : th0 σ 4 b ≠ 0 ∨ mny (th0 σ 4) 80 ≠ 10) : MI l G (Ym G am) y_Md_fill b_Md_fill 6 (some .boolean) 1 σ [.ref (am 0), .int (nI b), .int (nI k), .int (nI cn), .int v] 1 (mfl n b k cn v (th0 σ)) := by
  refine go rfl (Nat.le_of_ble_eq_true rfl) (fun p e s m below meth c ls C h hl => ?_)
  have hx := C.1
  have hb := C.2.1
  by_cases hz : th0 σ 4 b = 0
  · refine lv_aload_n hx hb d_Md_fill_0 rfl (lk hl rfl) ?_
    refine lv_iconst (v := 0) hx hb d_Md_fill_1 (by decide) ?_
    refine p_Md_42 C h d_Md_fill_2 (fun H locs h => ?_)
    refine lv_aload_n hx hb d_Md_fill_5 rfl (lk hl rfl) ?_
    refine g_Md_28 C h d_Md_fill_6 ?_
    refine lv_if_eq (tgt := 73) hx hb d_Md_fill_9 (by decide) (fun c_9 => False.elim (h0 c_9)) (fun c_9 => ?_)
    refine lv_aload_n hx hb d_Md_fill_12 rfl (lk hl rfl) ?_
    refine g_Md_45 C h d_Md_fill_13 ?_
    refine lv_if_eq (tgt := 73) hx hb d_Md_fill_16 (by decide) (fun c_16 => False.elim (h01 c_16)) (fun c_16 => ?_)
    refine lv_aload_n hx hb d_Md_fill_19 rfl (lk hl rfl) ?_
    refine lv_iload_n hx hb d_Md_fill_20 rfl (lk hl rfl) ?_
    refine x_callVi (Y := Ym G am) (q := 0) C h hl.1 (c_Md_isBlock l G am (th0 σ) (nI b)) (Nat.le_of_ble_eq_true rfl) rfl rfl rfl cw_Md_75 rfl rfl (Nat.le_of_ble_eq_true rfl) ⟨Nat.le_of_ble_eq_true rfl, Nat.le_of_ble_eq_true rfl⟩ ⟨Nat.le_refl _, Nat.le_refl _⟩ d_Md_fill_21 (fun H locs h => ?_)
    refine lv_if_eq (tgt := 73) hx hb d_Md_fill_24 (by decide) (fun c_24 => False.elim (h1 c_24)) (fun c_24 => ?_)
    refine lv_iload_n hx hb d_Md_fill_27 rfl (lk hl rfl) ?_
    refine lv_iconst (v := nI 1) hx hb d_Md_fill_28 (by decide) ?_
    refine lv_icmp_lt (tgt := 73) hx hb d_Md_fill_29 (by decide) (fun c_29 => False.elim (f_lt c_29 (by omega) (by omega) hc1)) (fun c_29 => ?_)
    refine lv_iload_n hx hb d_Md_fill_32 rfl (lk hl rfl) ?_
    refine lv_sipush (v := nI 1024) hx hb d_Md_fill_33 (by decide) ?_
    refine lv_icmp_gt (tgt := 73) hx hb d_Md_fill_36 (by decide) (fun c_36 => False.elim (f_lt c_36 (by omega) (by omega) (by omega))) (fun c_36 => ?_)
    refine lv_iload_n hx hb d_Md_fill_39 rfl (lk hl rfl) ?_
    refine lv_if_lt (tgt := 73) hx hb d_Md_fill_40 (by decide) (fun c_40 => False.elim (nI_pos (by omega) c_40)) (fun c_40 => ?_)
    refine lv_iload_n hx hb d_Md_fill_43 rfl (lk hl rfl) ?_
    refine lv_sipush (v := nI 1024) hx hb d_Md_fill_44 (by decide) ?_
    refine lv_iload_n hx hb d_Md_fill_47 rfl (lk hl rfl) ?_
    refine lv_isub hx hb d_Md_fill_48 ?_
    refine top (pk_sub (by omega)) ?_
    refine lv_icmp_gt (tgt := 73) hx hb d_Md_fill_49 (by decide) (fun c_49 => False.elim (f_lt c_49 (by omega) (by omega) (by omega))) (fun c_49 => ?_)
    refine lv_aload_n hx hb d_Md_fill_52 rfl (lk hl rfl) ?_
    refine g_Md_21 C h d_Md_fill_53 ?_
    refine lv_iload_n hx hb d_Md_fill_56 rfl (lk hl rfl) ?_
    refine ln_m4 C h (by omega) (by omega) d_Md_fill_57 ?_
    refine lv_if_ne (tgt := 75) hx hb d_Md_fill_58 (by decide) (fun c_58 => False.elim (c_58 hz)) (fun c_58 => ?_)
    refine lv_aload_n hx hb d_Md_fill_61 rfl (lk hl rfl) ?_
    refine g_Md_21 C h d_Md_fill_62 ?_
    refine x_callSi (Y := Ym G am) C h hl.1 (c_Md_many4 l G am (th0 σ)) cs_Md_51 rfl rfl (Nat.le_of_ble_eq_true rfl) ⟨Nat.le_of_ble_eq_true rfl, Nat.le_of_ble_eq_true rfl⟩ ⟨Nat.le_refl _, Nat.le_refl _⟩ d_Md_fill_65 (fun H locs h => ?_)
    refine lv_bipush (v := nI 10) hx hb d_Md_fill_68 (by decide) ?_
    refine lv_icmp_ne (tgt := 75) hx hb d_Md_fill_70 (by decide) (fun c_70 => ?_) (fun c_70 => False.elim (f_eq c_70 (by have := mny_le (th0 σ 4) 80; omega) (by omega) (hch.resolve_left (fun q => q hz))))
    refine lv_aload_n hx hb d_Md_fill_75 rfl (lk hl rfl) ?_
    refine lv_iload_n hx hb d_Md_fill_76 rfl (lk hl rfl) ?_
    refine x_callVv (Y := Ym G am) (q := 0) C h hl.1 (c_Md_look l G am (th0 σ) n b hn hbn hb1 hold) (Nat.le_of_ble_eq_true rfl) rfl rfl rfl cw_Md_78 rfl rfl (Nat.le_of_ble_eq_true rfl) ⟨Nat.le_of_ble_eq_true rfl, Nat.le_of_ble_eq_true rfl⟩ ⟨Nat.le_refl _, Nat.le_refl _⟩ d_Md_fill_77 (fun H locs h => ?_)
    refine lv_aload_n hx hb d_Md_fill_80 rfl (lk hl rfl) ?_
    refine g_Md_21 C h d_Md_fill_81 ?_
    refine lv_iload_n hx hb d_Md_fill_84 rfl (lk hl rfl) ?_
    refine lv_iconst (v := 1) hx hb d_Md_fill_85 (by decide) ?_
    refine sn_m4 C h rfl (by omega) (by omega) d_Md_fill_86 (fun H locs h => ?_)
    refine lv_aload_n hx hb d_Md_fill_87 rfl (lk hl rfl) ?_
    refine g_Md_17 C h d_Md_fill_88 ?_
    refine lv_iload_n hx hb d_Md_fill_91 rfl (lk hl rfl) ?_
    refine lv_iconst (v := 1) hx hb d_Md_fill_92 (by decide) ?_
    refine sn_m3 C h rfl (by omega) (by omega) d_Md_fill_93 (fun H locs h => ?_)
    refine lv_iconst (v := nI 0) hx hb d_Md_fill_94 (by decide) ?_
    refine lv_istore hx hb d_Md_fill_95 hl (by decide) rfl (fun ls hl => ?_)
    refine lp_mfill C (by omega) hkn cn 0 (by omega) _ _ _ h ls (lv_re hl _ rfl) (fun H locs h ls => ?_)
    refine lv_iconst (v := 1) hx hb d_Md_fill_130 (by decide) ?_
    exact x_zret C h d_Md_fill_131 rfl (rfl) (rfl)
  · refine lv_aload_n hx hb d_Md_fill_0 rfl (lk hl rfl) ?_
    refine lv_iconst (v := 0) hx hb d_Md_fill_1 (by decide) ?_
    refine p_Md_42 C h d_Md_fill_2 (fun H locs h => ?_)
    refine lv_aload_n hx hb d_Md_fill_5 rfl (lk hl rfl) ?_
    refine g_Md_28 C h d_Md_fill_6 ?_
    refine lv_if_eq (tgt := 73) hx hb d_Md_fill_9 (by decide) (fun c_9 => False.elim (h0 c_9)) (fun c_9 => ?_)
    refine lv_aload_n hx hb d_Md_fill_12 rfl (lk hl rfl) ?_
    refine g_Md_45 C h d_Md_fill_13 ?_
    refine lv_if_eq (tgt := 73) hx hb d_Md_fill_16 (by decide) (fun c_16 => False.elim (h01 c_16)) (fun c_16 => ?_)
    refine lv_aload_n hx hb d_Md_fill_19 rfl (lk hl rfl) ?_
    refine lv_iload_n hx hb d_Md_fill_20 rfl (lk hl rfl) ?_
    refine x_callVi (Y := Ym G am) (q := 0) C h hl.1 (c_Md_isBlock l G am (th0 σ) (nI b)) (Nat.le_of_ble_eq_true rfl) rfl rfl rfl cw_Md_75 rfl rfl (Nat.le_of_ble_eq_true rfl) ⟨Nat.le_of_ble_eq_true rfl, Nat.le_of_ble_eq_true rfl⟩ ⟨Nat.le_refl _, Nat.le_refl _⟩ d_Md_fill_21 (fun H locs h => ?_)
    refine lv_if_eq (tgt := 73) hx hb d_Md_fill_24 (by decide) (fun c_24 => False.elim (h1 c_24)) (fun c_24 => ?_)
    refine lv_iload_n hx hb d_Md_fill_27 rfl (lk hl rfl) ?_
    refine lv_iconst (v := nI 1) hx hb d_Md_fill_28 (by decide) ?_
    refine lv_icmp_lt (tgt := 73) hx hb d_Md_fill_29 (by decide) (fun c_29 => False.elim (f_lt c_29 (by omega) (by omega) hc1)) (fun c_29 => ?_)
    refine lv_iload_n hx hb d_Md_fill_32 rfl (lk hl rfl) ?_
    refine lv_sipush (v := nI 1024) hx hb d_Md_fill_33 (by decide) ?_
    refine lv_icmp_gt (tgt := 73) hx hb d_Md_fill_36 (by decide) (fun c_36 => False.elim (f_lt c_36 (by omega) (by omega) (by omega))) (fun c_36 => ?_)
    refine lv_iload_n hx hb d_Md_fill_39 rfl (lk hl rfl) ?_
    refine lv_if_lt (tgt := 73) hx hb d_Md_fill_40 (by decide) (fun c_40 => False.elim (nI_pos (by omega) c_40)) (fun c_40 => ?_)
    refine lv_iload_n hx hb d_Md_fill_43 rfl (lk hl rfl) ?_
    refine lv_sipush (v := nI 1024) hx hb d_Md_fill_44 (by decide) ?_
    refine lv_iload_n hx hb d_Md_fill_47 rfl (lk hl rfl) ?_
    refine lv_isub hx hb d_Md_fill_48 ?_
    refine top (pk_sub (by omega)) ?_
    refine lv_icmp_gt (tgt := 73) hx hb d_Md_fill_49 (by decide) (fun c_49 => False.elim (f_lt c_49 (by omega) (by omega) (by omega))) (fun c_49 => ?_)
    refine lv_aload_n hx hb d_Md_fill_52 rfl (lk hl rfl) ?_
    refine g_Md_21 C h d_Md_fill_53 ?_
    refine lv_iload_n hx hb d_Md_fill_56 rfl (lk hl rfl) ?_
    refine ln_m4 C h (by omega) (by omega) d_Md_fill_57 ?_
    refine lv_if_ne (tgt := 75) hx hb d_Md_fill_58 (by decide) (fun c_58 => ?_) (fun c_58 => False.elim (hz c_58))
    refine lv_aload_n hx hb d_Md_fill_75 rfl (lk hl rfl) ?_
    refine lv_iload_n hx hb d_Md_fill_76 rfl (lk hl rfl) ?_
    refine x_callVv (Y := Ym G am) (q := 0) C h hl.1 (c_Md_look l G am (th0 σ) n b hn hbn hb1 hold) (Nat.le_of_ble_eq_true rfl) rfl rfl rfl cw_Md_78 rfl rfl (Nat.le_of_ble_eq_true rfl) ⟨Nat.le_of_ble_eq_true rfl, Nat.le_of_ble_eq_true rfl⟩ ⟨Nat.le_refl _, Nat.le_refl _⟩ d_Md_fill_77 (fun H locs h => ?_)
    refine lv_aload_n hx hb d_Md_fill_80 rfl (lk hl rfl) ?_
    refine g_Md_21 C h d_Md_fill_81 ?_
    refine lv_iload_n hx hb d_Md_fill_84 rfl (lk hl rfl) ?_
    refine lv_iconst (v := 1) hx hb d_Md_fill_85 (by decide) ?_
    refine sn_m4 C h rfl (by omega) (by omega) d_Md_fill_86 (fun H locs h => ?_)
    refine lv_aload_n hx hb d_Md_fill_87 rfl (lk hl rfl) ?_
    refine g_Md_17 C h d_Md_fill_88 ?_
    refine lv_iload_n hx hb d_Md_fill_91 rfl (lk hl rfl) ?_
    refine lv_iconst (v := 1) hx hb d_Md_fill_92 (by decide) ?_
    refine sn_m3 C h rfl (by omega) (by omega) d_Md_fill_93 (fun H locs h => ?_)
    refine lv_iconst (v := nI 0) hx hb d_Md_fill_94 (by decide) ?_
    refine lv_istore hx hb d_Md_fill_95 hl (by decide) rfl (fun ls hl => ?_)
    refine lp_mfill C (by omega) hkn cn 0 (by omega) _ _ _ h ls (lv_re hl _ rfl) (fun H locs h ls => ?_)
    refine lv_iconst (v := 1) hx hb d_Md_fill_130 (by decide) ?_
    exact x_zret C h d_Md_fill_131 rfl (rfl) (rfl)
theorem c_Md_cut0 (l : Launch) (G : Gx) (am : Nat → Nat) (σ : Sg) (k : Int32) (h0 : th0 σ 0 8 = 0) : MI l G (Ym G am) y_Md_cut b_Md_cut 2 (some .boolean) 0 σ [.ref (am 0), .int k] 0 (th0 σ) := by
  refine go rfl (Nat.le_of_ble_eq_true rfl) (fun p e s m below meth c ls C h hl => ?_)
  have hx := C.1
  have hb := C.2.1
  refine lv_aload_n hx hb d_Md_cut_0 rfl (lk hl rfl) ?_
  refine lv_iconst (v := 0) hx hb d_Md_cut_1 (by decide) ?_
  refine p_Md_42 C h d_Md_cut_2 (fun H locs h => ?_)
  refine lv_aload_n hx hb d_Md_cut_5 rfl (lk hl rfl) ?_
  refine g_Md_28 C h d_Md_cut_6 ?_
  refine lv_if_ne (tgt := 14) hx hb d_Md_cut_9 (by decide) (fun c_9 => False.elim (c_9 h0)) (fun c_9 => ?_)
  refine lv_iconst (v := 0) hx hb d_Md_cut_12 (by decide) ?_
  exact x_zret C h d_Md_cut_13 rfl (rfl) (rfl)
theorem c_Md_cut1 (l : Launch) (G : Gx) (am : Nat → Nat) (σ : Sg) (k : Int32) (h0 : th0 σ 0 8 ≠ 0) : MI l G (Ym G am) y_Md_cut b_Md_cut 2 (some .boolean) 0 σ [.ref (am 0), .int k] 1 (set1 (th0 σ) 0 10 (if 0 ≤ k then k else -1)) := by
  refine go rfl (Nat.le_of_ble_eq_true rfl) (fun p e s m below meth c ls C h hl => ?_)
  have hx := C.1
  have hb := C.2.1
  refine lv_aload_n hx hb d_Md_cut_0 rfl (lk hl rfl) ?_
  refine lv_iconst (v := 0) hx hb d_Md_cut_1 (by decide) ?_
  refine p_Md_42 C h d_Md_cut_2 (fun H locs h => ?_)
  have h : Hp G (Ym G am) (Aof (Ym G am)) s.heap (th0 σ) H locs := h
  refine lv_aload_n hx hb d_Md_cut_5 rfl (lk hl rfl) ?_
  refine g_Md_28 C h d_Md_cut_6 ?_
  refine lv_if_ne (tgt := 14) hx hb d_Md_cut_9 (by decide) (fun c_9 => ?_) (fun c_9 => False.elim (h0 c_9))
  refine lv_aload_n hx hb d_Md_cut_14 rfl (lk hl rfl) ?_
  refine lv_iload_n hx hb d_Md_cut_15 rfl (lk hl rfl) ?_
  refine lv_if_ge (tgt := 23) hx hb d_Md_cut_16 (by decide) (fun c_16 => ?_) (fun c_16 => ?_)
  · refine lv_iload_n hx hb d_Md_cut_23 rfl (lk hl rfl) ?_
    refine p_Md_32 C h d_Md_cut_24 (fun H locs h => ?_)
    refine lv_iconst (v := 1) hx hb d_Md_cut_27 (by decide) ?_
    exact x_zret C h d_Md_cut_28 rfl (rfl) (by first | rw [if_pos c_16] | rw [if_neg c_16])
  · refine lv_iconst (v := (-1)) hx hb d_Md_cut_19 (by decide) ?_
    refine lv_goto (tgt := 24) hx hb d_Md_cut_20 (by decide) ?_
    refine p_Md_32 C h d_Md_cut_24 (fun H locs h => ?_)
    refine lv_iconst (v := 1) hx hb d_Md_cut_27 (by decide) ?_
    exact x_zret C h d_Md_cut_28 rfl (rfl) (by first | rw [if_pos c_16] | rw [if_neg c_16])
theorem lp_mp1 {x1 : Int32} (C : Cx G p s m args meth c R_Md b_Md_power 3 ret) : ∀ (d k : Nat), k + d = 81920 → ∀ (σ : Sg) (H : Heap) (locs : List Loc), Hp G (Ym G am) A H0 σ H locs → ∀ ls : Array Slot, lv_has ls 3 [(0, .ref (am 0)), (1, .int x1), (2, .int (nI k))] → (∀ (H : Heap) (locs : List Loc), Hp G (Ym G am) A H0 (itr (fun k σ => set1 σ 2 k (bt (σ 1 k))) d k σ) H locs → ∀ ls : Array Slot, lv_has ls 3 [(0, .ref (am 0)), (1, .int x1)] → W p l e R s m args below meth c H locs cells slots Q (F0 m 63 ls [])) → W p l e R s m args below meth c H locs cells slots Q (F0 m 39 ls []) := by
  have hx := C.1
  have hb := C.2.1
  intro d
  induction d with
  | zero =>
    intro k hk σ H locs h ls hl K
    refine lv_iload_n hx hb d_Md_power_39 rfl (lk hl rfl) ?_
    refine lv_ldc hx hb C.2.2.2.1 (C.2.2.1 _ k_265) d_Md_power_40 ?_
    refine top (show (81920 : Int32) = nI 81920 by decide) ?_
    refine lv_icmp_ge (tgt := 63) hx hb d_Md_power_42 (by decide) (fun c_42 => ?_) (fun c_42 => False.elim (f_nle c_42 (by omega) (by omega) (by omega)))
    exact K H locs h ls (lv_re hl _ rfl)
  | succ d ih =>
    intro k hk σ H locs h ls hl K
    refine lv_iload_n hx hb d_Md_power_39 rfl (lk hl rfl) ?_
    refine lv_ldc hx hb C.2.2.2.1 (C.2.2.1 _ k_265) d_Md_power_40 ?_
    refine top (show (81920 : Int32) = nI 81920 by decide) ?_
    refine lv_icmp_ge (tgt := 63) hx hb d_Md_power_42 (by decide) (fun c_42 => False.elim (f_le c_42 (by omega) (by omega) (by omega))) (fun c_42 => ?_)
    refine lv_aload_n hx hb d_Md_power_45 rfl (lk hl rfl) ?_
    refine g_Md_14 C h d_Md_power_46 ?_
    refine lv_iload_n hx hb d_Md_power_49 rfl (lk hl rfl) ?_
    refine lv_aload_n hx hb d_Md_power_50 rfl (lk hl rfl) ?_
    refine g_Md_8 C h d_Md_power_51 ?_
    refine lv_iload_n hx hb d_Md_power_54 rfl (lk hl rfl) ?_
    refine ln_m1 C h (by omega) (by omega) d_Md_power_55 ?_
    refine sn_m2 C h (by omega) (by omega) d_Md_power_56 (fun H locs h => ?_)
    refine x_iinc (v := nI (k + 1)) hx hb d_Md_power_57 hl rfl (inc1 k) (by decide) (fun ls hl => ?_)
    refine lv_goto (tgt := 39) hx hb d_Md_power_60 (by decide) ?_
    exact ih (k + 1) (by omega) _ H locs h ls (lv_re hl _ rfl) K
theorem lp_mp2 {x1 : Int32} (C : Cx G p s m args meth c R_Md b_Md_power 3 ret) : ∀ (d k : Nat), k + d = 80 → ∀ (σ : Sg) (H : Heap) (locs : List Loc), Hp G (Ym G am) A H0 σ H locs → ∀ ls : Array Slot, lv_has ls 3 [(0, .ref (am 0)), (1, .int x1), (2, .int (nI k))] → (∀ (H : Heap) (locs : List Loc), Hp G (Ym G am) A H0 (itr (fun k σ => set1 (set1 σ 3 k 0) 5 k 0) d k σ) H locs → ∀ ls : Array Slot, lv_has ls 3 [(0, .ref (am 0)), (1, .int x1)] → W p l e R s m args below meth c H locs cells slots Q (F0 m 91 ls [])) → W p l e R s m args below meth c H locs cells slots Q (F0 m 65 ls []) := by
  have hx := C.1
  have hb := C.2.1
  intro d
  induction d with
  | zero =>
    intro k hk σ H locs h ls hl K
    refine lv_iload_n hx hb d_Md_power_65 rfl (lk hl rfl) ?_
    refine lv_bipush (v := nI 80) hx hb d_Md_power_66 (by decide) ?_
    refine lv_icmp_ge (tgt := 91) hx hb d_Md_power_68 (by decide) (fun c_68 => ?_) (fun c_68 => False.elim (f_nle c_68 (by omega) (by omega) (by omega)))
    exact K H locs h ls (lv_re hl _ rfl)
  | succ d ih =>
    intro k hk σ H locs h ls hl K
    refine lv_iload_n hx hb d_Md_power_65 rfl (lk hl rfl) ?_
    refine lv_bipush (v := nI 80) hx hb d_Md_power_66 (by decide) ?_
    refine lv_icmp_ge (tgt := 91) hx hb d_Md_power_68 (by decide) (fun c_68 => False.elim (f_le c_68 (by omega) (by omega) (by omega))) (fun c_68 => ?_)
    refine lv_aload_n hx hb d_Md_power_71 rfl (lk hl rfl) ?_
    refine g_Md_17 C h d_Md_power_72 ?_
    refine lv_iload_n hx hb d_Md_power_75 rfl (lk hl rfl) ?_
    refine lv_iconst (v := 0) hx hb d_Md_power_76 (by decide) ?_
    refine sn_m3 C h rfl (by omega) (by omega) d_Md_power_77 (fun H locs h => ?_)
    refine lv_aload_n hx hb d_Md_power_78 rfl (lk hl rfl) ?_
    refine g_Md_24 C h d_Md_power_79 ?_
    refine lv_iload_n hx hb d_Md_power_82 rfl (lk hl rfl) ?_
    refine lv_iconst (v := 0) hx hb d_Md_power_83 (by decide) ?_
    refine sn_m5 C h (by omega) (by omega) d_Md_power_84 (fun H locs h => ?_)
    refine x_iinc (v := nI (k + 1)) hx hb d_Md_power_85 hl rfl (inc1 k) (by decide) (fun ls hl => ?_)
    refine lv_goto (tgt := 65) hx hb d_Md_power_88 (by decide) ?_
    exact ih (k + 1) (by omega) _ H locs h ls (lv_re hl _ rfl) K
theorem c_Md_power0 (l : Launch) (G : Gx) (am : Nat → Nat) (σ : Sg) (k : Int32) (h0 : th0 σ 0 8 ≠ 0) : MI l G (Ym G am) y_Md_power b_Md_power 3 (some .int) 2 σ [.ref (am 0), .int k] (-1) (th0 σ) := by
  refine go rfl (Nat.le_of_ble_eq_true rfl) (fun p e s m below meth c ls C h hl => ?_)
  have hx := C.1
  have hb := C.2.1
  refine lv_aload_n hx hb d_Md_power_0 rfl (lk hl rfl) ?_
  refine lv_iconst (v := 0) hx hb d_Md_power_1 (by decide) ?_
  refine p_Md_42 C h d_Md_power_2 (fun H locs h => ?_)
  refine lv_aload_n hx hb d_Md_power_5 rfl (lk hl rfl) ?_
  refine g_Md_28 C h d_Md_power_6 ?_
  refine lv_if_eq (tgt := 14) hx hb d_Md_power_9 (by decide) (fun c_9 => False.elim (h0 c_9)) (fun c_9 => ?_)
  refine lv_iconst (v := (-1)) hx hb d_Md_power_12 (by decide) ?_
  exact x_iret C h d_Md_power_13 (rfl) (rfl)
theorem c_Md_power1 (l : Launch) (G : Gx) (am : Nat → Nat) (σ : Sg) (k : Int32) (h0 : th0 σ 0 8 = 0) (hu : mpw σ k 0 14 < 0) : MI l G (Ym G am) y_Md_power b_Md_power 3 (some .int) 2 σ [.ref (am 0), .int k] 0 (mpw σ k) := by
  refine go rfl (Nat.le_of_ble_eq_true rfl) (fun p e s m below meth c ls C h hl => ?_)
  have hx := C.1
  have hb := C.2.1
  by_cases hk : 0 ≤ k
  · refine lv_aload_n hx hb d_Md_power_0 rfl (lk hl rfl) ?_
    refine lv_iconst (v := 0) hx hb d_Md_power_1 (by decide) ?_
    refine p_Md_42 C h d_Md_power_2 (fun H locs h => ?_)
    refine lv_aload_n hx hb d_Md_power_5 rfl (lk hl rfl) ?_
    refine g_Md_28 C h d_Md_power_6 ?_
    refine lv_if_eq (tgt := 14) hx hb d_Md_power_9 (by decide) (fun c_9 => ?_) (fun c_9 => False.elim (c_9 h0))
    refine lv_aload_n hx hb d_Md_power_14 rfl (lk hl rfl) ?_
    refine lv_iconst (v := 1) hx hb d_Md_power_15 (by decide) ?_
    refine p_Md_28 C h d_Md_power_16 rfl rfl (fun H locs h => ?_)
    refine lv_aload_n hx hb d_Md_power_19 rfl (lk hl rfl) ?_
    refine lv_iconst (v := 0) hx hb d_Md_power_20 (by decide) ?_
    refine p_Md_45 C h d_Md_power_21 rfl rfl (fun H locs h => ?_)
    refine lv_aload_n hx hb d_Md_power_24 rfl (lk hl rfl) ?_
    refine lv_iload_n hx hb d_Md_power_25 rfl (lk hl rfl) ?_
    refine lv_if_ge (tgt := 33) hx hb d_Md_power_26 (by decide) (fun c_26 => ?_) (fun c_26 => False.elim (c_26 hk))
    refine lv_iload_n hx hb d_Md_power_33 rfl (lk hl rfl) ?_
    refine p_Md_32 C h d_Md_power_34 (fun H locs h => ?_)
    have h : Hp G (Ym G am) (Aof (Ym G am)) s.heap (set1 (set1 (set1 (th0 σ) 0 8 1) 0 9 0) 0 10 (if 0 ≤ k then k else -1)) H locs := by rw [if_pos hk]; exact h
    refine lv_iconst (v := nI 0) hx hb d_Md_power_37 (by decide) ?_
    refine lv_istore_n hx hb d_Md_power_38 rfl hl (by decide) rfl (fun ls hl => ?_)
    refine lp_mp1 C 81920 0 rfl _ _ _ h ls (lv_re hl _ rfl) (fun H locs h ls hl => ?_)
    refine lv_iconst (v := nI 0) hx hb d_Md_power_63 (by decide) ?_
    refine lv_istore_n hx hb d_Md_power_64 rfl hl (by decide) rfl (fun ls hl => ?_)
    refine lp_mp2 C 80 0 rfl _ _ _ h ls (lv_re hl _ rfl) (fun H locs h ls hl => ?_)
    have h : Hp G (Ym G am) (Aof (Ym G am)) s.heap (mpw σ k) H locs := h
    refine lv_aload_n hx hb d_Md_power_91 rfl (lk hl rfl) ?_
    refine g_Md_36 C h d_Md_power_92 ?_
    refine lv_istore_n hx hb d_Md_power_95 rfl hl (by decide) rfl (fun ls hl => ?_)
    refine lv_iload_n hx hb d_Md_power_96 rfl (lk hl rfl) ?_
    refine lv_if_ge (tgt := 102) hx hb d_Md_power_97 (by decide) (fun c_97 => False.elim (Int32.not_lt.mpr c_97 hu)) (fun c_97 => ?_)
    refine lv_iconst (v := 0) hx hb d_Md_power_100 (by decide) ?_
    exact x_iret C h d_Md_power_101 (rfl) (rfl)
  · refine lv_aload_n hx hb d_Md_power_0 rfl (lk hl rfl) ?_
    refine lv_iconst (v := 0) hx hb d_Md_power_1 (by decide) ?_
    refine p_Md_42 C h d_Md_power_2 (fun H locs h => ?_)
    refine lv_aload_n hx hb d_Md_power_5 rfl (lk hl rfl) ?_
    refine g_Md_28 C h d_Md_power_6 ?_
    refine lv_if_eq (tgt := 14) hx hb d_Md_power_9 (by decide) (fun c_9 => ?_) (fun c_9 => False.elim (c_9 h0))
    refine lv_aload_n hx hb d_Md_power_14 rfl (lk hl rfl) ?_
    refine lv_iconst (v := 1) hx hb d_Md_power_15 (by decide) ?_
    refine p_Md_28 C h d_Md_power_16 rfl rfl (fun H locs h => ?_)
    refine lv_aload_n hx hb d_Md_power_19 rfl (lk hl rfl) ?_
    refine lv_iconst (v := 0) hx hb d_Md_power_20 (by decide) ?_
    refine p_Md_45 C h d_Md_power_21 rfl rfl (fun H locs h => ?_)
    refine lv_aload_n hx hb d_Md_power_24 rfl (lk hl rfl) ?_
    refine lv_iload_n hx hb d_Md_power_25 rfl (lk hl rfl) ?_
    refine lv_if_ge (tgt := 33) hx hb d_Md_power_26 (by decide) (fun c_26 => False.elim (hk c_26)) (fun c_26 => ?_)
    refine lv_iconst (v := (-1)) hx hb d_Md_power_29 (by decide) ?_
    refine lv_goto (tgt := 34) hx hb d_Md_power_30 (by decide) ?_
    refine p_Md_32 C h d_Md_power_34 (fun H locs h => ?_)
    have h : Hp G (Ym G am) (Aof (Ym G am)) s.heap (set1 (set1 (set1 (th0 σ) 0 8 1) 0 9 0) 0 10 (if 0 ≤ k then k else -1)) H locs := by rw [if_neg hk]; exact h
    refine lv_iconst (v := nI 0) hx hb d_Md_power_37 (by decide) ?_
    refine lv_istore_n hx hb d_Md_power_38 rfl hl (by decide) rfl (fun ls hl => ?_)
    refine lp_mp1 C 81920 0 rfl _ _ _ h ls (lv_re hl _ rfl) (fun H locs h ls hl => ?_)
    refine lv_iconst (v := nI 0) hx hb d_Md_power_63 (by decide) ?_
    refine lv_istore_n hx hb d_Md_power_64 rfl hl (by decide) rfl (fun ls hl => ?_)
    refine lp_mp2 C 80 0 rfl _ _ _ h ls (lv_re hl _ rfl) (fun H locs h ls hl => ?_)
    have h : Hp G (Ym G am) (Aof (Ym G am)) s.heap (mpw σ k) H locs := h
    refine lv_aload_n hx hb d_Md_power_91 rfl (lk hl rfl) ?_
    refine g_Md_36 C h d_Md_power_92 ?_
    refine lv_istore_n hx hb d_Md_power_95 rfl hl (by decide) rfl (fun ls hl => ?_)
    refine lv_iload_n hx hb d_Md_power_96 rfl (lk hl rfl) ?_
    refine lv_if_ge (tgt := 102) hx hb d_Md_power_97 (by decide) (fun c_97 => False.elim (Int32.not_lt.mpr c_97 hu)) (fun c_97 => ?_)
    refine lv_iconst (v := 0) hx hb d_Md_power_100 (by decide) ?_
    exact x_iret C h d_Md_power_101 (rfl) (rfl)
theorem c_Md_power2 (l : Launch) (G : Gx) (am : Nat → Nat) (σ : Sg) (k : Int32) (h0 : th0 σ 0 8 = 0) (hu : ¬ mpw σ k 0 14 < 0) (hw : wrOk (mpw σ k) (mpw σ k 0 14 + 1)) : MI l G (Ym G am) y_Md_power b_Md_power 3 (some .int) 2 σ [.ref (am 0), .int k] (mpw σ k 0 14) (en1 (mpw σ k)) := by
  refine go rfl (Nat.le_of_ble_eq_true rfl) (fun p e s m below meth c ls C h hl => ?_)
  have hx := C.1
  have hb := C.2.1
  by_cases hk : 0 ≤ k
  · refine lv_aload_n hx hb d_Md_power_0 rfl (lk hl rfl) ?_
    refine lv_iconst (v := 0) hx hb d_Md_power_1 (by decide) ?_
    refine p_Md_42 C h d_Md_power_2 (fun H locs h => ?_)
    refine lv_aload_n hx hb d_Md_power_5 rfl (lk hl rfl) ?_
    refine g_Md_28 C h d_Md_power_6 ?_
    refine lv_if_eq (tgt := 14) hx hb d_Md_power_9 (by decide) (fun c_9 => ?_) (fun c_9 => False.elim (c_9 h0))
    refine lv_aload_n hx hb d_Md_power_14 rfl (lk hl rfl) ?_
    refine lv_iconst (v := 1) hx hb d_Md_power_15 (by decide) ?_
    refine p_Md_28 C h d_Md_power_16 rfl rfl (fun H locs h => ?_)
    refine lv_aload_n hx hb d_Md_power_19 rfl (lk hl rfl) ?_
    refine lv_iconst (v := 0) hx hb d_Md_power_20 (by decide) ?_
    refine p_Md_45 C h d_Md_power_21 rfl rfl (fun H locs h => ?_)
    refine lv_aload_n hx hb d_Md_power_24 rfl (lk hl rfl) ?_
    refine lv_iload_n hx hb d_Md_power_25 rfl (lk hl rfl) ?_
    refine lv_if_ge (tgt := 33) hx hb d_Md_power_26 (by decide) (fun c_26 => ?_) (fun c_26 => False.elim (c_26 hk))
    refine lv_iload_n hx hb d_Md_power_33 rfl (lk hl rfl) ?_
    refine p_Md_32 C h d_Md_power_34 (fun H locs h => ?_)
    have h : Hp G (Ym G am) (Aof (Ym G am)) s.heap (set1 (set1 (set1 (th0 σ) 0 8 1) 0 9 0) 0 10 (if 0 ≤ k then k else -1)) H locs := by rw [if_pos hk]; exact h
    refine lv_iconst (v := nI 0) hx hb d_Md_power_37 (by decide) ?_
    refine lv_istore_n hx hb d_Md_power_38 rfl hl (by decide) rfl (fun ls hl => ?_)
    refine lp_mp1 C 81920 0 rfl _ _ _ h ls (lv_re hl _ rfl) (fun H locs h ls hl => ?_)
    refine lv_iconst (v := nI 0) hx hb d_Md_power_63 (by decide) ?_
    refine lv_istore_n hx hb d_Md_power_64 rfl hl (by decide) rfl (fun ls hl => ?_)
    refine lp_mp2 C 80 0 rfl _ _ _ h ls (lv_re hl _ rfl) (fun H locs h ls hl => ?_)
    have h : Hp G (Ym G am) (Aof (Ym G am)) s.heap (mpw σ k) H locs := h
    refine lv_aload_n hx hb d_Md_power_91 rfl (lk hl rfl) ?_
    refine g_Md_36 C h d_Md_power_92 ?_
    refine lv_istore_n hx hb d_Md_power_95 rfl hl (by decide) rfl (fun ls hl => ?_)
    refine lv_iload_n hx hb d_Md_power_96 rfl (lk hl rfl) ?_
    refine lv_if_ge (tgt := 102) hx hb d_Md_power_97 (by decide) (fun c_97 => ?_) (fun c_97 => False.elim (c_97 (Int32.not_lt.mp hu)))
    refine lv_aload_n hx hb d_Md_power_102 rfl (lk hl rfl) ?_
    refine x_callVi (Y := Ym G am) (q := 0) C h hl.1 (c_Md_ended1 l G am (mpw σ k) hw) (Nat.le_of_ble_eq_true rfl) rfl rfl rfl cw_Md_62 rfl rfl (Nat.le_of_ble_eq_true rfl) ⟨Nat.le_of_ble_eq_true rfl, Nat.le_of_ble_eq_true rfl⟩ ⟨Nat.le_refl _, Nat.le_refl _⟩ d_Md_power_103 (fun H locs h => ?_)
    refine lv_if_eq (tgt := 113) hx hb d_Md_power_106 (by decide) (fun c_106 => False.elim (absurd c_106 (by decide))) (fun c_106 => ?_)
    refine lv_iload_n hx hb d_Md_power_109 rfl (lk hl rfl) ?_
    refine lv_goto (tgt := 114) hx hb d_Md_power_110 (by decide) ?_
    exact x_iret C h d_Md_power_114 (rfl) (rfl)
  · refine lv_aload_n hx hb d_Md_power_0 rfl (lk hl rfl) ?_
    refine lv_iconst (v := 0) hx hb d_Md_power_1 (by decide) ?_
    refine p_Md_42 C h d_Md_power_2 (fun H locs h => ?_)
    refine lv_aload_n hx hb d_Md_power_5 rfl (lk hl rfl) ?_
    refine g_Md_28 C h d_Md_power_6 ?_
    refine lv_if_eq (tgt := 14) hx hb d_Md_power_9 (by decide) (fun c_9 => ?_) (fun c_9 => False.elim (c_9 h0))
    refine lv_aload_n hx hb d_Md_power_14 rfl (lk hl rfl) ?_
    refine lv_iconst (v := 1) hx hb d_Md_power_15 (by decide) ?_
    refine p_Md_28 C h d_Md_power_16 rfl rfl (fun H locs h => ?_)
    refine lv_aload_n hx hb d_Md_power_19 rfl (lk hl rfl) ?_
    refine lv_iconst (v := 0) hx hb d_Md_power_20 (by decide) ?_
    refine p_Md_45 C h d_Md_power_21 rfl rfl (fun H locs h => ?_)
    refine lv_aload_n hx hb d_Md_power_24 rfl (lk hl rfl) ?_
    refine lv_iload_n hx hb d_Md_power_25 rfl (lk hl rfl) ?_
    refine lv_if_ge (tgt := 33) hx hb d_Md_power_26 (by decide) (fun c_26 => False.elim (hk c_26)) (fun c_26 => ?_)
    refine lv_iconst (v := (-1)) hx hb d_Md_power_29 (by decide) ?_
    refine lv_goto (tgt := 34) hx hb d_Md_power_30 (by decide) ?_
    refine p_Md_32 C h d_Md_power_34 (fun H locs h => ?_)
    have h : Hp G (Ym G am) (Aof (Ym G am)) s.heap (set1 (set1 (set1 (th0 σ) 0 8 1) 0 9 0) 0 10 (if 0 ≤ k then k else -1)) H locs := by rw [if_neg hk]; exact h
    refine lv_iconst (v := nI 0) hx hb d_Md_power_37 (by decide) ?_
    refine lv_istore_n hx hb d_Md_power_38 rfl hl (by decide) rfl (fun ls hl => ?_)
    refine lp_mp1 C 81920 0 rfl _ _ _ h ls (lv_re hl _ rfl) (fun H locs h ls hl => ?_)
    refine lv_iconst (v := nI 0) hx hb d_Md_power_63 (by decide) ?_
    refine lv_istore_n hx hb d_Md_power_64 rfl hl (by decide) rfl (fun ls hl => ?_)
    refine lp_mp2 C 80 0 rfl _ _ _ h ls (lv_re hl _ rfl) (fun H locs h ls hl => ?_)
    have h : Hp G (Ym G am) (Aof (Ym G am)) s.heap (mpw σ k) H locs := h
    refine lv_aload_n hx hb d_Md_power_91 rfl (lk hl rfl) ?_
    refine g_Md_36 C h d_Md_power_92 ?_
    refine lv_istore_n hx hb d_Md_power_95 rfl hl (by decide) rfl (fun ls hl => ?_)
    refine lv_iload_n hx hb d_Md_power_96 rfl (lk hl rfl) ?_
    refine lv_if_ge (tgt := 102) hx hb d_Md_power_97 (by decide) (fun c_97 => ?_) (fun c_97 => False.elim (c_97 (Int32.not_lt.mp hu)))
    refine lv_aload_n hx hb d_Md_power_102 rfl (lk hl rfl) ?_
    refine x_callVi (Y := Ym G am) (q := 0) C h hl.1 (c_Md_ended1 l G am (mpw σ k) hw) (Nat.le_of_ble_eq_true rfl) rfl rfl rfl cw_Md_62 rfl rfl (Nat.le_of_ble_eq_true rfl) ⟨Nat.le_of_ble_eq_true rfl, Nat.le_of_ble_eq_true rfl⟩ ⟨Nat.le_refl _, Nat.le_refl _⟩ d_Md_power_103 (fun H locs h => ?_)
    refine lv_if_eq (tgt := 113) hx hb d_Md_power_106 (by decide) (fun c_106 => False.elim (absurd c_106 (by decide))) (fun c_106 => ?_)
    refine lv_iload_n hx hb d_Md_power_109 rfl (lk hl rfl) ?_
    refine lv_goto (tgt := 114) hx hb d_Md_power_110 (by decide) ?_
    exact x_iret C h d_Md_power_114 (rfl) (rfl)
theorem c_Md_power3 (l : Launch) (G : Gx) (am : Nat → Nat) (σ : Sg) (k : Int32) (h0 : th0 σ 0 8 = 0) (hu : ¬ mpw σ k 0 14 < 0) (hw : ¬ wrOk (mpw σ k) (mpw σ k 0 14 + 1)) : MI l G (Ym G am) y_Md_power b_Md_power 3 (some .int) 2 σ [.ref (am 0), .int k] (-1) (en0 (mpw σ k)) := by
  refine go rfl (Nat.le_of_ble_eq_true rfl) (fun p e s m below meth c ls C h hl => ?_)
  have hx := C.1
  have hb := C.2.1
  by_cases hk : 0 ≤ k
  · refine lv_aload_n hx hb d_Md_power_0 rfl (lk hl rfl) ?_
    refine lv_iconst (v := 0) hx hb d_Md_power_1 (by decide) ?_
    refine p_Md_42 C h d_Md_power_2 (fun H locs h => ?_)
    refine lv_aload_n hx hb d_Md_power_5 rfl (lk hl rfl) ?_
    refine g_Md_28 C h d_Md_power_6 ?_
    refine lv_if_eq (tgt := 14) hx hb d_Md_power_9 (by decide) (fun c_9 => ?_) (fun c_9 => False.elim (c_9 h0))
    refine lv_aload_n hx hb d_Md_power_14 rfl (lk hl rfl) ?_
    refine lv_iconst (v := 1) hx hb d_Md_power_15 (by decide) ?_
    refine p_Md_28 C h d_Md_power_16 rfl rfl (fun H locs h => ?_)
    refine lv_aload_n hx hb d_Md_power_19 rfl (lk hl rfl) ?_
    refine lv_iconst (v := 0) hx hb d_Md_power_20 (by decide) ?_
    refine p_Md_45 C h d_Md_power_21 rfl rfl (fun H locs h => ?_)
    refine lv_aload_n hx hb d_Md_power_24 rfl (lk hl rfl) ?_
    refine lv_iload_n hx hb d_Md_power_25 rfl (lk hl rfl) ?_
    refine lv_if_ge (tgt := 33) hx hb d_Md_power_26 (by decide) (fun c_26 => ?_) (fun c_26 => False.elim (c_26 hk))
    refine lv_iload_n hx hb d_Md_power_33 rfl (lk hl rfl) ?_
    refine p_Md_32 C h d_Md_power_34 (fun H locs h => ?_)
    have h : Hp G (Ym G am) (Aof (Ym G am)) s.heap (set1 (set1 (set1 (th0 σ) 0 8 1) 0 9 0) 0 10 (if 0 ≤ k then k else -1)) H locs := by rw [if_pos hk]; exact h
    refine lv_iconst (v := nI 0) hx hb d_Md_power_37 (by decide) ?_
    refine lv_istore_n hx hb d_Md_power_38 rfl hl (by decide) rfl (fun ls hl => ?_)
    refine lp_mp1 C 81920 0 rfl _ _ _ h ls (lv_re hl _ rfl) (fun H locs h ls hl => ?_)
    refine lv_iconst (v := nI 0) hx hb d_Md_power_63 (by decide) ?_
    refine lv_istore_n hx hb d_Md_power_64 rfl hl (by decide) rfl (fun ls hl => ?_)
    refine lp_mp2 C 80 0 rfl _ _ _ h ls (lv_re hl _ rfl) (fun H locs h ls hl => ?_)
    have h : Hp G (Ym G am) (Aof (Ym G am)) s.heap (mpw σ k) H locs := h
    refine lv_aload_n hx hb d_Md_power_91 rfl (lk hl rfl) ?_
    refine g_Md_36 C h d_Md_power_92 ?_
    refine lv_istore_n hx hb d_Md_power_95 rfl hl (by decide) rfl (fun ls hl => ?_)
    refine lv_iload_n hx hb d_Md_power_96 rfl (lk hl rfl) ?_
    refine lv_if_ge (tgt := 102) hx hb d_Md_power_97 (by decide) (fun c_97 => ?_) (fun c_97 => False.elim (c_97 (Int32.not_lt.mp hu)))
    refine lv_aload_n hx hb d_Md_power_102 rfl (lk hl rfl) ?_
    refine x_callVi (Y := Ym G am) (q := 0) C h hl.1 (c_Md_ended0 l G am (mpw σ k) hw) (Nat.le_of_ble_eq_true rfl) rfl rfl rfl cw_Md_62 rfl rfl (Nat.le_of_ble_eq_true rfl) ⟨Nat.le_of_ble_eq_true rfl, Nat.le_of_ble_eq_true rfl⟩ ⟨Nat.le_refl _, Nat.le_refl _⟩ d_Md_power_103 (fun H locs h => ?_)
    refine lv_if_eq (tgt := 113) hx hb d_Md_power_106 (by decide) (fun c_106 => ?_) (fun c_106 => False.elim (c_106 rfl))
    refine lv_iconst (v := (-1)) hx hb d_Md_power_113 (by decide) ?_
    exact x_iret C h d_Md_power_114 (rfl) (rfl)
  · refine lv_aload_n hx hb d_Md_power_0 rfl (lk hl rfl) ?_
    refine lv_iconst (v := 0) hx hb d_Md_power_1 (by decide) ?_
    refine p_Md_42 C h d_Md_power_2 (fun H locs h => ?_)
    refine lv_aload_n hx hb d_Md_power_5 rfl (lk hl rfl) ?_
    refine g_Md_28 C h d_Md_power_6 ?_
    refine lv_if_eq (tgt := 14) hx hb d_Md_power_9 (by decide) (fun c_9 => ?_) (fun c_9 => False.elim (c_9 h0))
    refine lv_aload_n hx hb d_Md_power_14 rfl (lk hl rfl) ?_
    refine lv_iconst (v := 1) hx hb d_Md_power_15 (by decide) ?_
    refine p_Md_28 C h d_Md_power_16 rfl rfl (fun H locs h => ?_)
    refine lv_aload_n hx hb d_Md_power_19 rfl (lk hl rfl) ?_
    refine lv_iconst (v := 0) hx hb d_Md_power_20 (by decide) ?_
    refine p_Md_45 C h d_Md_power_21 rfl rfl (fun H locs h => ?_)
    refine lv_aload_n hx hb d_Md_power_24 rfl (lk hl rfl) ?_
    refine lv_iload_n hx hb d_Md_power_25 rfl (lk hl rfl) ?_
    refine lv_if_ge (tgt := 33) hx hb d_Md_power_26 (by decide) (fun c_26 => False.elim (hk c_26)) (fun c_26 => ?_)
    refine lv_iconst (v := (-1)) hx hb d_Md_power_29 (by decide) ?_
    refine lv_goto (tgt := 34) hx hb d_Md_power_30 (by decide) ?_
    refine p_Md_32 C h d_Md_power_34 (fun H locs h => ?_)
    have h : Hp G (Ym G am) (Aof (Ym G am)) s.heap (set1 (set1 (set1 (th0 σ) 0 8 1) 0 9 0) 0 10 (if 0 ≤ k then k else -1)) H locs := by rw [if_neg hk]; exact h
    refine lv_iconst (v := nI 0) hx hb d_Md_power_37 (by decide) ?_
    refine lv_istore_n hx hb d_Md_power_38 rfl hl (by decide) rfl (fun ls hl => ?_)
    refine lp_mp1 C 81920 0 rfl _ _ _ h ls (lv_re hl _ rfl) (fun H locs h ls hl => ?_)
    refine lv_iconst (v := nI 0) hx hb d_Md_power_63 (by decide) ?_
    refine lv_istore_n hx hb d_Md_power_64 rfl hl (by decide) rfl (fun ls hl => ?_)
    refine lp_mp2 C 80 0 rfl _ _ _ h ls (lv_re hl _ rfl) (fun H locs h ls hl => ?_)
    have h : Hp G (Ym G am) (Aof (Ym G am)) s.heap (mpw σ k) H locs := h
    refine lv_aload_n hx hb d_Md_power_91 rfl (lk hl rfl) ?_
    refine g_Md_36 C h d_Md_power_92 ?_
    refine lv_istore_n hx hb d_Md_power_95 rfl hl (by decide) rfl (fun ls hl => ?_)
    refine lv_iload_n hx hb d_Md_power_96 rfl (lk hl rfl) ?_
    refine lv_if_ge (tgt := 102) hx hb d_Md_power_97 (by decide) (fun c_97 => ?_) (fun c_97 => False.elim (c_97 (Int32.not_lt.mp hu)))
    refine lv_aload_n hx hb d_Md_power_102 rfl (lk hl rfl) ?_
    refine x_callVi (Y := Ym G am) (q := 0) C h hl.1 (c_Md_ended0 l G am (mpw σ k) hw) (Nat.le_of_ble_eq_true rfl) rfl rfl rfl cw_Md_62 rfl rfl (Nat.le_of_ble_eq_true rfl) ⟨Nat.le_of_ble_eq_true rfl, Nat.le_of_ble_eq_true rfl⟩ ⟨Nat.le_refl _, Nat.le_refl _⟩ d_Md_power_103 (fun H locs h => ?_)
    refine lv_if_eq (tgt := 113) hx hb d_Md_power_106 (by decide) (fun c_106 => ?_) (fun c_106 => False.elim (c_106 rfl))
    refine lv_iconst (v := (-1)) hx hb d_Md_power_113 (by decide) ?_
    exact x_iret C h d_Md_power_114 (rfl) (rfl)
theorem c_Md_count (l : Launch) (G : Gx) (am : Nat → Nat) (σ : Sg) (w : Int32) : MI l G (Ym G am) y_Md_count b_Md_count 2 (some .int) 1 σ [.ref (am 0), .int w] (mcnt (th0 σ) w) (th0 σ) := by
  refine go rfl (Nat.le_of_ble_eq_true rfl) (fun p e s m below meth c ls C h hl => ?_)
  have hx := C.1
  have hb := C.2.1
  refine lv_aload_n hx hb d_Md_count_0 rfl (lk hl rfl) ?_
  refine lv_iconst (v := 0) hx hb d_Md_count_1 (by decide) ?_
  refine p_Md_42 C h d_Md_count_2 (fun H locs h => ?_)
  have h : Hp G (Ym G am) (Aof (Ym G am)) s.heap (th0 σ) H locs := h
  refine lv_iload_n hx hb d_Md_count_5 rfl (lk hl rfl) ?_
  by_cases w0 : w = 0
  · subst w0
    refine lv_tableIn (tgt := 48) hx hb d_Md_count_6 (by decide) (by decide) rfl (by decide) ?_
    have ec : mcnt (th0 σ) 0 = (if th0 σ 0 8 = 0 then 0 else 1) := rfl
    refine lv_aload_n hx hb d_Md_count_48 rfl (lk hl rfl) ?_
    refine g_Md_28 C h d_Md_count_49 ?_
    refine lv_if_eq (tgt := 59) hx hb d_Md_count_52 (by decide) (fun c_52 => ?_) (fun c_52 => ?_)
    · refine lv_iconst (v := 0) hx hb d_Md_count_59 (by decide) ?_
      exact x_iret C h d_Md_count_60 (by rw [ec, if_pos c_52]) (rfl)
    · refine lv_iconst (v := 1) hx hb d_Md_count_55 (by decide) ?_
      refine lv_goto (tgt := 60) hx hb d_Md_count_56 (by decide) ?_
      exact x_iret C h d_Md_count_60 (by rw [ec, if_neg c_52]) (rfl)
  by_cases w1 : w = 1
  · subst w1
    refine lv_tableIn (tgt := 61) hx hb d_Md_count_6 (by decide) (by decide) rfl (by decide) ?_
    have ec : mcnt (th0 σ) 1 = th0 σ 0 1 := rfl
    refine lv_aload_n hx hb d_Md_count_61 rfl (lk hl rfl) ?_
    refine g_Md_39 C h d_Md_count_62 ?_
    exact x_iret C h d_Md_count_65 (rfl) (rfl)
  by_cases w2 : w = 2
  · subst w2
    refine lv_tableIn (tgt := 66) hx hb d_Md_count_6 (by decide) (by decide) rfl (by decide) ?_
    have ec : mcnt (th0 σ) 2 = (if th0 σ 0 8 = 0 then 0 else nI (mny (th0 σ 3) 80)) := rfl
    refine lv_aload_n hx hb d_Md_count_66 rfl (lk hl rfl) ?_
    refine g_Md_28 C h d_Md_count_67 ?_
    refine lv_if_eq (tgt := 83) hx hb d_Md_count_70 (by decide) (fun c_70 => ?_) (fun c_70 => ?_)
    · refine lv_iconst (v := 0) hx hb d_Md_count_83 (by decide) ?_
      exact x_iret C h d_Md_count_84 (by rw [ec, if_pos c_70]) (rfl)
    · refine lv_aload_n hx hb d_Md_count_73 rfl (lk hl rfl) ?_
      refine g_Md_17 C h d_Md_count_74 ?_
      refine x_callSi (Y := Ym G am) C h hl.1 (c_Md_many3 l G am (th0 σ)) cs_Md_51 rfl rfl (Nat.le_of_ble_eq_true rfl) ⟨Nat.le_of_ble_eq_true rfl, Nat.le_of_ble_eq_true rfl⟩ ⟨Nat.le_refl _, Nat.le_refl _⟩ d_Md_count_77 (fun H locs h => ?_)
      refine lv_goto (tgt := 84) hx hb d_Md_count_80 (by decide) ?_
      exact x_iret C h d_Md_count_84 (by rw [ec, if_neg c_70]) (rfl)
  by_cases w3 : w = 3
  · subst w3
    refine lv_tableIn (tgt := 85) hx hb d_Md_count_6 (by decide) (by decide) rfl (by decide) ?_
    have ec : mcnt (th0 σ) 3 = (if th0 σ 0 8 = 0 ∨ th0 σ 0 9 = 0 then -1 else nI (mny (th0 σ 4) 80)) := rfl
    refine lv_aload_n hx hb d_Md_count_85 rfl (lk hl rfl) ?_
    refine g_Md_28 C h d_Md_count_86 ?_
    refine lv_if_eq (tgt := 109) hx hb d_Md_count_89 (by decide) (fun c_89 => ?_) (fun c_89 => ?_)
    · refine lv_iconst (v := (-1)) hx hb d_Md_count_109 (by decide) ?_
      exact x_iret C h d_Md_count_110 (by rw [ec, if_pos (Or.inl c_89)]) (rfl)
    · refine lv_aload_n hx hb d_Md_count_92 rfl (lk hl rfl) ?_
      refine g_Md_45 C h d_Md_count_93 ?_
      refine lv_if_eq (tgt := 109) hx hb d_Md_count_96 (by decide) (fun c_96 => ?_) (fun c_96 => ?_)
      · refine lv_iconst (v := (-1)) hx hb d_Md_count_109 (by decide) ?_
        exact x_iret C h d_Md_count_110 (by rw [ec, if_pos (Or.inr c_96)]) (rfl)
      · refine lv_aload_n hx hb d_Md_count_99 rfl (lk hl rfl) ?_
        refine g_Md_21 C h d_Md_count_100 ?_
        refine x_callSi (Y := Ym G am) C h hl.1 (c_Md_many4 l G am (th0 σ)) cs_Md_51 rfl rfl (Nat.le_of_ble_eq_true rfl) ⟨Nat.le_of_ble_eq_true rfl, Nat.le_of_ble_eq_true rfl⟩ ⟨Nat.le_refl _, Nat.le_refl _⟩ d_Md_count_103 (fun H locs h => ?_)
        refine lv_goto (tgt := 110) hx hb d_Md_count_106 (by decide) ?_
        exact x_iret C h d_Md_count_110 (by rw [ec, if_neg (by rintro (q | q); exact c_89 q; exact c_96 q)]) (rfl)
  by_cases w4 : w = 4
  · subst w4
    refine lv_tableIn (tgt := 111) hx hb d_Md_count_6 (by decide) (by decide) rfl (by decide) ?_
    have ec : mcnt (th0 σ) 4 = th0 σ 0 11 := rfl
    refine lv_aload_n hx hb d_Md_count_111 rfl (lk hl rfl) ?_
    refine g_Md_48 C h d_Md_count_112 ?_
    exact x_iret C h d_Md_count_115 (rfl) (rfl)
  by_cases w5 : w = 5
  · subst w5
    refine lv_tableIn (tgt := 116) hx hb d_Md_count_6 (by decide) (by decide) rfl (by decide) ?_
    have ec : mcnt (th0 σ) 5 = th0 σ 0 12 := rfl
    refine lv_aload_n hx hb d_Md_count_116 rfl (lk hl rfl) ?_
    refine g_Md_69 C h d_Md_count_117 ?_
    exact x_iret C h d_Md_count_120 (rfl) (rfl)
  by_cases w6 : w = 6
  · subst w6
    refine lv_tableIn (tgt := 121) hx hb d_Md_count_6 (by decide) (by decide) rfl (by decide) ?_
    have ec : mcnt (th0 σ) 6 = th0 σ 0 13 := rfl
    refine lv_aload_n hx hb d_Md_count_121 rfl (lk hl rfl) ?_
    refine g_Md_59 C h d_Md_count_122 ?_
    exact x_iret C h d_Md_count_125 (rfl) (rfl)
  · refine lv_tableOut (tgt := 126) hx hb d_Md_count_6 (by have := cnt_out w0 w1 w2 w3 w4 w5 w6; omega) (by decide) ?_
    refine lv_iconst (v := (-1)) hx hb d_Md_count_126 (by decide) ?_
    exact x_iret C h d_Md_count_127 (by rw [mcnt, if_neg w0, if_neg w1, if_neg w2, if_neg w3, if_neg w4, if_neg w5, if_neg w6]) (rfl)
theorem c_Md_held (l : Launch) (G : Gx) (am : Nat → Nat) (σ : Sg) (n : Nat) (hn : n ≤ 80) (hn2 : 40 ≤ n) (hb1 : th0 σ 0 1 = nI n) (b : Int32) : MI l G (Ym G am) y_Md_held b_Md_held 2 (some .boolean) 1 σ [.ref (am 0), .int b] (mhld (th0 σ) b) (th0 σ) := by
  refine go rfl (Nat.le_of_ble_eq_true rfl) (fun p e s m below meth c ls C h hl => ?_)
  have hx := C.1
  have hb := C.2.1
  refine lv_aload_n hx hb d_Md_held_0 rfl (lk hl rfl) ?_
  refine lv_iconst (v := 0) hx hb d_Md_held_1 (by decide) ?_
  refine p_Md_42 C h d_Md_held_2 (fun H locs h => ?_)
  refine lv_aload_n hx hb d_Md_held_5 rfl (lk hl rfl) ?_
  refine g_Md_28 C h d_Md_held_6 ?_
  refine lv_if_eq (tgt := 33) hx hb d_Md_held_9 (by decide) (fun c_9 => ?_) (fun c_9 => ?_)
  · refine lv_iconst (v := 0) hx hb d_Md_held_33 (by decide) ?_
    exact x_zret C h d_Md_held_34 rfl (by rw [mhld, if_neg (fun q => q.1 c_9)]) (rfl)
  · refine lv_aload_n hx hb d_Md_held_12 rfl (lk hl rfl) ?_
    refine lv_iload_n hx hb d_Md_held_13 rfl (lk hl rfl) ?_
    refine x_callVi (Y := Ym G am) (q := 0) C h hl.1 (c_Md_isBlock l G am (th0 σ) b) (Nat.le_of_ble_eq_true rfl) rfl rfl rfl cw_Md_75 rfl rfl (Nat.le_of_ble_eq_true rfl) ⟨Nat.le_of_ble_eq_true rfl, Nat.le_of_ble_eq_true rfl⟩ ⟨Nat.le_refl _, Nat.le_refl _⟩ d_Md_held_14 (fun H locs h => ?_)
    refine lv_if_eq (tgt := 33) hx hb d_Md_held_17 (by decide) (fun c_17 => ?_) (fun c_17 => ?_)
    · refine lv_iconst (v := 0) hx hb d_Md_held_33 (by decide) ?_
      exact x_zret C h d_Md_held_34 rfl (by rw [mhld, if_neg (fun q => q.2.1 c_17)]) (rfl)
    · refine lv_aload_n hx hb d_Md_held_20 rfl (lk hl rfl) ?_
      refine g_Md_17 C h d_Md_held_21 ?_
      refine lv_iload_n hx hb d_Md_held_24 rfl (lk hl rfl) ?_
      refine l_m3 C h (by rw [(ibr_lt hn hn2 hb1 c_17).2]; exact vp_in_nI (by have := (ibr_lt hn hn2 hb1 c_17).1; omega) (by omega)) d_Md_held_25 ?_
      refine lv_if_eq (tgt := 33) hx hb d_Md_held_26 (by decide) (fun c_26 => ?_) (fun c_26 => ?_)
      · refine lv_iconst (v := 0) hx hb d_Md_held_33 (by decide) ?_
        exact x_zret C h d_Md_held_34 rfl (by rw [mhld, if_neg (fun q => q.2.2 c_26)]) (rfl)
      · refine lv_iconst (v := 1) hx hb d_Md_held_29 (by decide) ?_
        refine lv_goto (tgt := 34) hx hb d_Md_held_30 (by decide) ?_
        exact x_zret C h d_Md_held_34 rfl (by rw [mhld, if_pos ⟨c_9, c_17, c_26⟩]) (rfl)
theorem c_Md_cached (l : Launch) (G : Gx) (am : Nat → Nat) (σ : Sg) (n : Nat) (hn : n ≤ 80) (hn2 : 40 ≤ n) (hb1 : th0 σ 0 1 = nI n) (b : Int32) : MI l G (Ym G am) y_Md_cached b_Md_cached 2 (some .boolean) 1 σ [.ref (am 0), .int b] (mcch (th0 σ) b) (th0 σ) := by
  refine go rfl (Nat.le_of_ble_eq_true rfl) (fun p e s m below meth c ls C h hl => ?_)
  have hx := C.1
  have hb := C.2.1
  refine lv_aload_n hx hb d_Md_cached_0 rfl (lk hl rfl) ?_
  refine lv_iconst (v := 0) hx hb d_Md_cached_1 (by decide) ?_
  refine p_Md_42 C h d_Md_cached_2 (fun H locs h => ?_)
  refine lv_aload_n hx hb d_Md_cached_5 rfl (lk hl rfl) ?_
  refine g_Md_28 C h d_Md_cached_6 ?_
  refine lv_if_eq (tgt := 33) hx hb d_Md_cached_9 (by decide) (fun c_9 => ?_) (fun c_9 => ?_)
  · refine lv_iconst (v := 0) hx hb d_Md_cached_33 (by decide) ?_
    exact x_zret C h d_Md_cached_34 rfl (by rw [mcch, if_neg (fun q => q.1 c_9)]) (rfl)
  · refine lv_aload_n hx hb d_Md_cached_12 rfl (lk hl rfl) ?_
    refine lv_iload_n hx hb d_Md_cached_13 rfl (lk hl rfl) ?_
    refine x_callVi (Y := Ym G am) (q := 0) C h hl.1 (c_Md_isBlock l G am (th0 σ) b) (Nat.le_of_ble_eq_true rfl) rfl rfl rfl cw_Md_75 rfl rfl (Nat.le_of_ble_eq_true rfl) ⟨Nat.le_of_ble_eq_true rfl, Nat.le_of_ble_eq_true rfl⟩ ⟨Nat.le_refl _, Nat.le_refl _⟩ d_Md_cached_14 (fun H locs h => ?_)
    refine lv_if_eq (tgt := 33) hx hb d_Md_cached_17 (by decide) (fun c_17 => ?_) (fun c_17 => ?_)
    · refine lv_iconst (v := 0) hx hb d_Md_cached_33 (by decide) ?_
      exact x_zret C h d_Md_cached_34 rfl (by rw [mcch, if_neg (fun q => q.2.1 c_17)]) (rfl)
    · refine lv_aload_n hx hb d_Md_cached_20 rfl (lk hl rfl) ?_
      refine g_Md_24 C h d_Md_cached_21 ?_
      refine lv_iload_n hx hb d_Md_cached_24 rfl (lk hl rfl) ?_
      refine l_m5 C h (by rw [(ibr_lt hn hn2 hb1 c_17).2]; exact vp_in_nI (by have := (ibr_lt hn hn2 hb1 c_17).1; omega) (by omega)) d_Md_cached_25 ?_
      refine lv_if_le (tgt := 33) hx hb d_Md_cached_26 (by decide) (fun c_26 => ?_) (fun c_26 => ?_)
      · refine lv_iconst (v := 0) hx hb d_Md_cached_33 (by decide) ?_
        exact x_zret C h d_Md_cached_34 rfl (by rw [mcch, if_neg (fun q => Int32.not_lt.mpr c_26 q.2.2)]) (rfl)
      · refine lv_iconst (v := 1) hx hb d_Md_cached_29 (by decide) ?_
        refine lv_goto (tgt := 34) hx hb d_Md_cached_30 (by decide) ?_
        exact x_zret C h d_Md_cached_34 rfl (by rw [mcch, if_pos ⟨c_9, c_17, Int32.not_le.mp c_26⟩]) (rfl)
end W27
end
section
/-! THE RING of the cache's rows, as a list -/
theorem nd_rev {L : List Nat} (h : L.Nodup) : L.reverse.Nodup := List.pairwise_reverse.mpr (List.Pairwise.imp (fun q => Ne.symm q) h)
def Ch (f : Nat → Int32) : Nat → List Nat → Nat → Prop
  | x, [], y => f x = nI y
  | x, z :: t, y => f x = nI z ∧ Ch f z t y
def hdl : List Nat → Nat → Nat
  | [], y => y
  | z :: _, _ => z
def lst : Nat → List Nat → Nat
  | x, [] => x
  | _, z :: t => lst z t
theorem Ch.hd {f : Nat → Int32} {x y : Nat} {L : List Nat} (h : Ch f x L y) : f x = nI (hdl L y) := by
  cases L with
  | nil => exact h
  | cons z t => exact h.1
theorem hdl_app (A : List Nat) (z y : Nat) : hdl (A ++ [z]) y = hdl A z := by cases A <;> rfl
theorem hdl_rev : ∀ (L : List Nat) (y : Nat), hdl L.reverse y = lst y L
  | [], y => rfl
  | z :: t, y => by rw [List.reverse_cons, hdl_app, hdl_rev t z]; rfl
theorem lst_mem : ∀ (L : List Nat) (x : Nat), lst x L ∈ x :: L
  | [], x => List.mem_cons_self
  | z :: t, x => List.mem_cons_of_mem _ (lst_mem t z)
theorem hdl_mem (L : List Nat) (y : Nat) : hdl L y ∈ y :: L := by
  cases L with
  | nil => exact List.mem_cons_self
  | cons z t => exact List.mem_cons_of_mem _ List.mem_cons_self
theorem Ch.app {f : Nat → Int32} : ∀ {L1 : List Nat} {x z y : Nat} {L2 : List Nat}, Ch f x (L1 ++ z :: L2) y → Ch f x L1 z ∧ Ch f z L2 y
  | [], _, _, _, _, h => ⟨h.1, h.2⟩
  | _ :: _, _, _, _, _, h => ⟨⟨h.1, (Ch.app h.2).1⟩, (Ch.app h.2).2⟩
theorem Ch.frame {f : Nat → Int32} {p : Nat} {v : Int32} : ∀ {L : List Nat} {x y : Nat}, p ∉ x :: L → Ch f x L y → Ch (upd f p v) x L y
  | [], x, y, hp, h => by
    show upd f p v x = nI y
    rw [pk_un (fun e => hp (by rw [e]; exact List.mem_cons_self))]
    exact h
  | z :: t, x, y, hp, h => by
    refine ⟨?_, Ch.frame (fun q => hp (List.mem_cons_of_mem _ q)) h.2⟩
    rw [pk_un (fun e => hp (by rw [e]; exact List.mem_cons_self))]
    exact h.1
/-- k is taken out -/
theorem Ch.rm {f : Nat → Int32} {k : Nat} : ∀ {L1 : List Nat} {x y : Nat} {L2 : List Nat}, (x :: (L1 ++ k :: L2)).Nodup → Ch f x (L1 ++ k :: L2) y → Ch (upd f (lst x L1) (f k)) x (L1 ++ L2) y
  | [], x, y, L2, hn, h => by
    have h2 : Ch f k L2 y := h.2
    cases L2 with
    | nil =>
      show upd f x (f k) x = nI y
      rw [pk_us]; exact h2
    | cons z t =>
      refine ⟨?_, Ch.frame ?_ h2.2⟩
      · show upd f x (f k) x = nI z
        rw [pk_us]; exact h2.1
      · intro q
        rw [List.nodup_cons] at hn
        exact hn.1 (List.mem_cons_of_mem _ q)
  | w :: t, x, y, L2, hn, h => by
    have hn' := (List.nodup_cons.mp hn)
    have ih := Ch.rm (L1 := t) (x := w) hn'.2 h.2
    refine ⟨?_, ih⟩
    show upd f (lst w t) (f k) x = nI w
    rw [pk_un]
    · exact h.1
    · intro e
      apply hn'.1
      have := lst_mem t w
      rw [← e] at this
      rcases List.mem_cons.mp this with q | q
      · rw [q]; exact List.mem_cons_self
      · exact List.mem_cons_of_mem _ (List.mem_append_left _ q)
/-- k comes first -/
theorem Ch.ins {f : Nat → Int32} {k x y : Nat} {M : List Nat} (hn : x ∉ M) (hk : k ∉ x :: M) (h : Ch f x M y) : Ch (upd (upd f k (f x)) x (nI k)) x (k :: M) y := by
  have hkx : k ≠ x := fun e => hk (by rw [e]; exact List.mem_cons_self)
  refine ⟨pk_us, ?_⟩
  cases M with
  | nil =>
    show upd (upd f k (f x)) x (nI k) k = nI y
    rw [pk_un hkx, pk_us]; exact h
  | cons z t =>
    refine ⟨?_, Ch.frame (fun q => hn q) (Ch.frame (fun q => hk (List.mem_cons_of_mem _ q)) h.2)⟩
    rw [pk_un hkx, pk_us]; exact h.1
/-- k comes last -/
theorem Ch.snoc {f : Nat → Int32} {k : Nat} : ∀ {M : List Nat} {x y : Nat}, (x :: M).Nodup → k ∉ x :: M → Ch f x M y → Ch (upd (upd f k (nI y)) (lst x M) (nI k)) x (M ++ [k]) y
  | [], x, y, hn, hk, h => by
    have hkx : k ≠ x := fun e => hk (by rw [e]; exact List.mem_cons_self)
    refine ⟨pk_us, ?_⟩
    show upd (upd f k (nI y)) x (nI k) k = nI y
    rw [pk_un hkx, pk_us]
  | z :: t, x, y, hn, hk, h => by
    have hn' := List.nodup_cons.mp hn
    refine ⟨?_, Ch.snoc (M := t) hn'.2 (fun q => hk (List.mem_cons_of_mem _ q)) h.2⟩
    have h1 : x ≠ lst z t := fun e => hn'.1 (by rw [e]; exact lst_mem t z)
    have h2 : x ≠ k := fun e => hk (by rw [e]; exact List.mem_cons_self)
    show upd (upd f k (nI y)) (lst z t) (nI k) x = nI z
    rw [pk_un h1, pk_un h2]
    exact h.1
/-- the rows' list: from the latest used to the oldest -/
def RingL (a b : Nat → Int32) (L : List Nat) : Prop := Ch a 34 L 34 ∧ Ch b 34 L.reverse 34 ∧ L.Nodup ∧ ∀ x, x ∈ L ↔ x < 34
theorem RingL.nd {a b : Nat → Int32} {L : List Nat} (h : RingL a b L) : (34 :: L).Nodup := List.nodup_cons.mpr ⟨fun q => absurd ((h.2.2.2 34).mp q) (by omega), h.2.2.1⟩
theorem RingL.mem {a b : Nat → Int32} {L : List Nat} (h : RingL a b L) {x : Nat} (hx : x ∈ 34 :: L) : x < 35 := by
  rcases List.mem_cons.mp hx with e | e
  · omega
  · have := (h.2.2.2 x).mp e; omega
theorem RingL.vin {a b : Nat → Int32} {L : List Nat} (h : RingL a b L) : ∀ j, j < 35 → vp_in (a j) 35 ∧ vp_in (b j) 35 := by
  have key : ∀ (f : Nat → Int32) (M : List Nat) (x : Nat), Ch f x M 34 → (∀ z ∈ M, z < 35) → ∀ j ∈ x :: M, vp_in (f j) 35 := by
    intro f M
    induction M with
    | nil =>
      intro x hc hM j hj
      rcases List.mem_cons.mp hj with e | e
      · rw [e, show f x = nI 34 from hc]; exact vp_in_nI (by omega) (by omega)
      · cases e
    | cons z t ih =>
      intro x hc hM j hj
      rcases List.mem_cons.mp hj with e | e
      · rw [e, hc.1]; exact vp_in_nI (hM z List.mem_cons_self) (by omega)
      · exact ih z hc.2 (fun q hq => hM q (List.mem_cons_of_mem _ hq)) j e
  intro j hj
  have hm : j ∈ 34 :: L := by
    by_cases e : j = 34
    · rw [e]; exact List.mem_cons_self
    · exact List.mem_cons_of_mem _ ((h.2.2.2 j).mpr (by omega))
  have hm2 : j ∈ 34 :: L.reverse := by
    rcases List.mem_cons.mp hm with e | e
    · rw [e]; exact List.mem_cons_self
    · exact List.mem_cons_of_mem _ (List.mem_reverse.mpr e)
  exact ⟨key a L 34 h.1 (fun z hz => h.mem (List.mem_cons_of_mem _ hz)) j hm, key b L.reverse 34 h.2.1 (fun z hz => h.mem (List.mem_cons_of_mem _ (List.mem_reverse.mp hz))) j hm2⟩
theorem us_ne {σ : Sg} {k j : Nat} (h7 : j ≠ 7) (h8 : j ≠ 8) : us σ k j = σ j := by
  simp only [us]
  rw [st_ne h7, st_ne h8, st_ne h8, st_ne h7, st_ne h8, st_ne h7]
/-- a use of row k puts it first -/
theorem us_ring {σ : Sg} {k : Nat} {L1 L2 : List Nat} (h : RingL (σ 7) (σ 8) (L1 ++ k :: L2)) : RingL (us σ k 7) (us σ k 8) (k :: (L1 ++ L2)) := by
  have hnd := h.nd
  obtain ⟨ha, hb, hn, hm⟩ := h
  have hk : k < 34 := (hm k).mp (by simp)
  have hrev : (L1 ++ k :: L2).reverse = L2.reverse ++ k :: L1.reverse := by simp
  rw [hrev] at hb
  have hM : ∀ x, x ∈ L1 ++ L2 → x < 34 := fun x hx => (hm x).mp (by
    rcases List.mem_append.mp hx with q | q
    · exact List.mem_append_left _ q
    · exact List.mem_append_right _ (List.mem_cons_of_mem _ q))
  have hkM : k ∉ L1 ++ L2 := by
    intro q
    have hn2 := hn
    rw [List.nodup_append] at hn2
    obtain ⟨_, n2, n3⟩ := hn2
    rw [List.nodup_cons] at n2
    rcases List.mem_append.mp q with q | q
    · exact n3 k q k List.mem_cons_self rfl
    · exact n2.1 q
  have hnM : (L1 ++ L2).Nodup := by
    have : (L1 ++ L2).Sublist (L1 ++ k :: L2) := List.Sublist.append (List.Sublist.refl L1) (List.sublist_cons_self k L2)
    exact List.Nodup.sublist this hn
  have h34 : (34 : Nat) ∉ L1 ++ L2 := fun q => absurd (hM 34 q) (by omega)
  have hkc : k ∉ 34 :: (L1 ++ L2) := by
    intro q
    rcases List.mem_cons.mp q with e | e
    · omega
    · exact hkM e
  -- the numbers that are read
  have ebk : σ 8 k = nI (lst 34 L1) := by rw [(Ch.app hb).2.hd, hdl_rev]
  have eak : σ 7 k = nI (lst 34 L2.reverse) := by
    rw [(Ch.app ha).2.hd]
    have := hdl_rev L2.reverse 34
    rw [List.reverse_reverse] at this
    rw [this]
  have l1 : lst 34 L1 ∈ 34 :: L1 := lst_mem L1 34
  have l1lt : lst 34 L1 < 35 := by
    rcases List.mem_cons.mp l1 with e | e
    · omega
    · have := hM _ (List.mem_append_left _ e); omega
  have l1k : k ≠ lst 34 L1 := by
    intro e
    rcases List.mem_cons.mp l1 with q | q
    · omega
    · exact hkM (List.mem_append_left _ (by rw [e]; exact q))
  have l2 : lst 34 L2.reverse ∈ 34 :: L2.reverse := lst_mem _ 34
  have l2lt : lst 34 L2.reverse < 35 := by
    rcases List.mem_cons.mp l2 with e | e
    · omega
    · have := hM _ (List.mem_append_right _ (List.mem_reverse.mp e)); omega
  have l2k : k ≠ lst 34 L2.reverse := by
    intro e
    rcases List.mem_cons.mp l2 with q | q
    · omega
    · exact hkM (List.mem_append_right _ (by rw [e]; exact List.mem_reverse.mp q))
  have c1 : (σ 8 k).toNatClampNeg = lst 34 L1 := by rw [ebk, nI_clamp (by omega)]
  -- after
  have A1 : Ch (upd (σ 7) (lst 34 L1) (σ 7 k)) 34 (L1 ++ L2) 34 := Ch.rm hnd ha
  have B1 : Ch (upd (σ 8) (lst 34 L2.reverse) (σ 8 k)) 34 (L2.reverse ++ L1.reverse) 34 := by
    refine Ch.rm ?_ hb
    rw [← hrev]
    refine List.nodup_cons.mpr ⟨fun q => ?_, ?_⟩
    · exact absurd ((hm 34).mp (List.mem_reverse.mp q)) (by omega)
    · exact nd_rev hn
  have hr2 : L2.reverse ++ L1.reverse = (L1 ++ L2).reverse := by simp
  rw [hr2] at B1
  have A2 := Ch.ins h34 hkc A1
  have hhd : (upd (σ 7) (lst 34 L1) (σ 7 k)) 34 = nI (lst 34 (L1 ++ L2).reverse) := by
    rw [A1.hd]
    have := hdl_rev (L1 ++ L2).reverse 34
    rw [List.reverse_reverse] at this
    rw [this]
  have l3 : lst 34 (L1 ++ L2).reverse ∈ 34 :: (L1 ++ L2).reverse := lst_mem _ 34
  have l3lt : lst 34 (L1 ++ L2).reverse < 35 := by
    rcases List.mem_cons.mp l3 with e | e
    · omega
    · have := hM _ (List.mem_reverse.mp e); omega
  have B2 := Ch.snoc (f := upd (σ 8) (lst 34 L2.reverse) (σ 8 k)) (k := k) (M := (L1 ++ L2).reverse) (x := 34) (y := 34) (List.nodup_cons.mpr ⟨fun q => h34 (List.mem_reverse.mp q), nd_rev hnM⟩) (by
    intro q
    rcases List.mem_cons.mp q with e | e
    · omega
    · exact hkM (List.mem_reverse.mp e)) B1
  have e7 : us σ k 7 = upd (upd (upd (σ 7) (lst 34 L1) (σ 7 k)) k ((upd (σ 7) (lst 34 L1) (σ 7 k)) 34)) 34 (nI k) := by
    simp only [us]
    rw [st_self, st_ne (by decide), st_ne (by decide), st_self, st_ne (by decide), st_self, c1]
  have e8 : us σ k 8 = upd (upd (upd (σ 8) (lst 34 L2.reverse) (σ 8 k)) k (nI 34)) (lst 34 (L1 ++ L2).reverse) (nI k) := by
    simp only [us]
    rw [st_ne (by decide), st_self, st_self, st_ne (i := 7) (by decide), st_self, st_ne (i := 7) (by decide), st_self, st_ne (i := 8) (by decide), c1]
    rw [st_self, pk_un l1k, eak, nI_clamp (by omega)]
    rw [st_ne (i := 8) (by decide), st_self]
    have e34 : upd (upd (σ 7) (lst 34 L1) (nI (lst 34 L2.reverse))) k (upd (σ 7) (lst 34 L1) (nI (lst 34 L2.reverse)) 34) 34 = nI (lst 34 (L1 ++ L2).reverse) := by
      rw [pk_un (by omega), ← eak]
      exact hhd
    rw [e34, nI_clamp (by omega)]
  refine ⟨?_, ?_, List.nodup_cons.mpr ⟨hkM, hnM⟩, fun x => ?_⟩
  · rw [e7]; exact A2
  · rw [e8, List.reverse_cons]; exact B2
  · constructor
    · intro q
      rcases List.mem_cons.mp q with e | e
      · omega
      · exact hM x e
    · intro q
      have := (hm x).mpr q
      rcases List.mem_append.mp this with e | e
      · exact List.mem_cons_of_mem _ (List.mem_append_left _ e)
      · rcases List.mem_cons.mp e with e | e
        · rw [e]; exact List.mem_cons_self
        · exact List.mem_cons_of_mem _ (List.mem_append_right _ e)
/-- the first from the old end that isn't held -/
theorem Pth.of {f g : Nat → Int32} : ∀ {M : List Nat} {x y : Nat}, Ch f x M y → (∀ z ∈ M, z < 34) → (∃ v ∈ M, g v = 0) → ∃ (T : List Nat) (v : Nat) (S : List Nat), M = T ++ v :: S ∧ Pth f g x T v ∧ (∀ z ∈ T, g z ≠ 0) ∧ g v = 0
  | [], _, _, _, _, h => by obtain ⟨v, hv, -⟩ := h; cases hv
  | z :: t, x, y, hc, hM, hv => by
    by_cases hz : g z = 0
    · exact ⟨[], z, t, rfl, ⟨hc.1, hM z List.mem_cons_self, hz⟩, (fun _ q => by cases q), hz⟩
    · have : ∃ v ∈ t, g v = 0 := by
        obtain ⟨v, h1, h2⟩ := hv
        rcases List.mem_cons.mp h1 with e | e
        · rw [e] at h2; exact absurd h2 hz
        · exact ⟨v, e, h2⟩
      obtain ⟨T, v, S, e1, e2, e3, e4⟩ := Pth.of hc.2 (fun q hq => hM q (List.mem_cons_of_mem _ hq)) this
      refine ⟨z :: T, v, S, by rw [e1]; rfl, ⟨hc.1, hM z List.mem_cons_self, hz, e2⟩, fun q hq => ?_, e4⟩
      rcases List.mem_cons.mp hq with e | e
      · rw [e]; exact hz
      · exact e3 q e
end
section
/-! THE PLATTER: what sequences of writes do; the header's four-byte numbers -/
theorem cpy_blk {x g : Nat → Int32} {B b j : Nat} (hj : j < 1024) : va_cpy x g 0 (1024 * B) 1024 (1024 * b + j) = if b = B then x j else g (1024 * b + j) := by
  by_cases h : b = B
  · subst h
    rw [if_pos rfl, pk_cpy_in (by omega) (by omega)]
    congr 1
    omega
  · rw [if_neg h, pk_cpy_out (by omega)]
theorem prd_at {σ : Sg} {b i j : Nat} (hj : j < 1024) : prd σ b i i j = σ 2 (1024 * b + j) := by
  rw [prd, va_up_self, pk_cpy_in (by omega) (by omega)]
  congr 1
def lf (x : Int32) : Option Nat → Prop
  | none => x = -1
  | some m => m < 2 ^ 31 ∧ x = nI m
def dn (β : Option Nat) (q : Nat) : Option Nat := β.map (· - q)
theorem pw_no {σ : Sg} {b i : Nat} (h : σ 1 4 ≠ 0 ∨ σ 1 3 = 0) : pw σ b i = set1 σ 1 4 1 := by rw [pw, if_pos h]
theorem lf_ne {x : Int32} {β : Option Nat} (h : lf x β) (hβ : β ≠ some 0) : x ≠ 0 := by
  cases β with
  | none => rw [show x = -1 from h]; decide
  | some m =>
    rw [h.2]
    exact nI_ne0 (Nat.pos_of_ne_zero (fun e => hβ (by rw [e]))) h.1
theorem pw_go {σ : Sg} {b i : Nat} {β : Option Nat} (h4 : σ 1 4 = 0) (hl : lf (σ 1 3) β) (hβ : β ≠ some 0) (hi : 12 ≤ i) :
    pw σ b i 1 4 = 0 ∧ lf (pw σ b i 1 3) (dn β 1) ∧ pw σ b i 1 2 = σ 1 2 + 1 ∧ pw σ b i 2 = va_cpy (σ i) (σ 2) 0 (1024 * b) 1024 ∧ pw σ b i 1 1 = σ 1 1 := by
  have hne : ¬ (σ 1 4 ≠ 0 ∨ σ 1 3 = 0) := by
    rintro (q | q)
    · exact q h4
    · exact lf_ne hl hβ q
  have hc : lf (if 0 < σ 1 3 then σ 1 3 - 1 else σ 1 3) (dn β 1) := by
    cases β with
    | none =>
      have e : σ 1 3 = -1 := hl
      rw [e, if_neg (by decide)]
      rfl
    | some m =>
      have hm : 0 < m := Nat.pos_of_ne_zero (fun e => hβ (by rw [e]))
      obtain ⟨m, rfl⟩ : ∃ m', m = m' + 1 := ⟨m - 1, by omega⟩
      have h0 : (0 : Int32) < nI (m + 1) := by rw [← nI_0]; exact nI_lt hm hl.1
      rw [hl.2, if_pos h0, nI_pred]
      show m < 2 ^ 31 ∧ nI m = nI m
      exact ⟨by have := hl.1; omega, rfl⟩
  simp only [pw]
  rw [if_neg hne]
  refine ⟨?_, ?_, ?_, ?_, ?_⟩
  · rw [va_up_ne _ _ (by decide), st_nk (by decide), st_nk (by decide)]; exact h4
  · rw [va_up_ne _ _ (by decide), st_nk (by decide), st_eq]; exact hc
  · rw [va_up_ne _ _ (by decide), st_eq, st_nk (by decide)]
  · rw [va_up_self, st_ne (by omega), st_ne (by omega), st_ne (by decide), st_ne (by decide)]
  · rw [va_up_ne _ _ (by decide), st_nk (by decide), st_nk (by decide)]
theorem pw_st {σ : Sg} {b i : Nat} (h : σ 1 4 ≠ 0 ∨ σ 1 3 = 0) : pw σ b i 1 4 ≠ 0 ∧ pw σ b i 1 2 = σ 1 2 ∧ pw σ b i 2 = σ 2 ∧ pw σ b i 1 1 = σ 1 1 := by
  rw [pw_no h]
  refine ⟨?_, st_nk (by decide), st_ne (by decide), st_nk (by decide)⟩
  rw [st_eq]; decide
/-- q blocks, laid one by one -/
def wcp (B : Nat → Nat) (X : Nat → Nat → Int32) : Nat → Nat → (Nat → Int32) → (Nat → Int32)
  | 0, _, g => g
  | q + 1, k, g => wcp B X q (k + 1) (va_cpy (X k) g 0 (1024 * B k) 1024)
theorem wcp_out {B : Nat → Nat} {X : Nat → Nat → Int32} {b j : Nat} (hj : j < 1024) : ∀ (q k : Nat) (g : Nat → Int32), (∀ i, k ≤ i → i < k + q → B i ≠ b) → wcp B X q k g (1024 * b + j) = g (1024 * b + j) := by
  intro q
  induction q with
  | zero => intro k g _; rfl
  | succ q ih =>
    intro k g h
    rw [wcp, ih _ _ (fun i h1 h2 => h i (by omega) (by omega)), cpy_blk hj, if_neg (fun e => h k (by omega) (by omega) e.symm)]
theorem wcp_in {B : Nat → Nat} {X : Nat → Nat → Int32} {j : Nat} (hj : j < 1024) : ∀ (q k : Nat) (g : Nat → Int32), (∀ i i', k ≤ i → i < k + q → k ≤ i' → i' < k + q → B i = B i' → i = i') → ∀ i, k ≤ i → i < k + q → wcp B X q k g (1024 * B i + j) = X i j := by
  intro q
  induction q with
  | zero => intro k g _ i h1 h2; omega
  | succ q ih =>
    intro k g hB i h1 h2
    rw [wcp]
    by_cases hik : i = k
    · subst hik
      rw [wcp_out hj _ _ _ (fun i' a b e => absurd (hB i' i (by omega) (by omega) (by omega) (by omega) e) (by omega)), cpy_blk hj, if_pos rfl]
    · exact ih (k + 1) _ (fun i i' a b c d e => hB i i' (by omega) (by omega) (by omega) (by omega) e) i (by omega) (by omega)
section SEQ
variable {B I : Nat → Nat}
theorem seq_ne {j : Nat} (h1 : j ≠ 1) (h2 : j ≠ 2) (d k : Nat) (σ : Sg) : itr (fun k σ => pw σ (B k) (I k)) d k σ j = σ j := itr_ne (fun _ _ => pw_ne h1 h2) d k σ
theorem seq_off : ∀ (d k : Nat) (σ : Sg), σ 1 4 ≠ 0 → (itr (fun k σ => pw σ (B k) (I k)) d k σ) 1 4 ≠ 0 ∧ (itr (fun k σ => pw σ (B k) (I k)) d k σ) 1 2 = σ 1 2 ∧ (itr (fun k σ => pw σ (B k) (I k)) d k σ) 2 = σ 2 ∧ (itr (fun k σ => pw σ (B k) (I k)) d k σ) 1 1 = σ 1 1 := by
  intro d
  induction d with
  | zero => intro k σ h; exact ⟨h, rfl, rfl, rfl⟩
  | succ d ih =>
    intro k σ h
    obtain ⟨a1, a2, a3, a4⟩ := pw_st (b := B k) (i := I k) (Or.inl h)
    obtain ⟨b1, b2, b3, b4⟩ := ih (k + 1) (pw σ (B k) (I k)) a1
    rw [itr]
    exact ⟨b1, b2.trans a2, b3.trans a3, b4.trans a4⟩
theorem wcp_congr {X X' : Nat → Nat → Int32} (h : ∀ k, X k = X' k) : ∀ (q k : Nat) (g : Nat → Int32), wcp B X q k g = wcp B X' q k g := by
  rw [show X = X' from funext h]
  intros; rfl
theorem seq_all (hI : ∀ k, 12 ≤ I k) : ∀ (d k : Nat) (σ : Sg) (β : Option Nat), σ 1 4 = 0 → lf (σ 1 3) β → (∀ m, β = some m → d ≤ m) →
    (itr (fun k σ => pw σ (B k) (I k)) d k σ) 1 4 = 0 ∧ lf ((itr (fun k σ => pw σ (B k) (I k)) d k σ) 1 3) (dn β d) ∧ (itr (fun k σ => pw σ (B k) (I k)) d k σ) 1 2 = σ 1 2 + nI d ∧ (itr (fun k σ => pw σ (B k) (I k)) d k σ) 2 = wcp B (fun k => σ (I k)) d k (σ 2) ∧ (itr (fun k σ => pw σ (B k) (I k)) d k σ) 1 1 = σ 1 1 := by
  intro d
  induction d with
  | zero =>
    intro k σ β h4 hl hm
    refine ⟨h4, ?_, ?_, rfl, rfl⟩
    · cases β <;> exact hl
    · rw [nI_0, Int32.add_zero]; rfl
  | succ d ih =>
    intro k σ β h4 hl hm
    have hβ : β ≠ some 0 := fun e => absurd (hm 0 e) (by omega)
    obtain ⟨a1, a2, a3, a4, a5⟩ := pw_go (b := B k) h4 hl hβ (hI k)
    obtain ⟨b1, b2, b3, b4, b5⟩ := ih (k + 1) (pw σ (B k) (I k)) (dn β 1) a1 a2 (fun m e => by
      cases β with
      | none => cases e
      | some m0 =>
        have := hm m0 rfl
        have e : m0 - 1 = m := Option.some.inj e
        omega)
    rw [itr]
    refine ⟨b1, ?_, ?_, ?_, b5.trans a5⟩
    · cases β with
      | none => exact b2
      | some m0 =>
        have e : dn (dn (some m0) 1) d = dn (some m0) (d + 1) := by
          show some (m0 - 1 - d) = some (m0 - (d + 1))
          congr 1; omega
        rw [e] at b2
        exact b2
    · rw [b3, a3, nI_succ, Int32.add_assoc, Int32.add_comm 1]
    · rw [b4, a4, wcp]
      refine wcp_congr (fun k' => ?_) _ _ _
      have := hI k'
      rw [pw_ne (by omega) (by omega)]
theorem seq_stop (hI : ∀ k, 12 ≤ I k) : ∀ (d k : Nat) (σ : Sg) (m : Nat), σ 1 4 = 0 → lf (σ 1 3) (some m) → m < d →
    (itr (fun k σ => pw σ (B k) (I k)) d k σ) 1 4 ≠ 0 ∧ (itr (fun k σ => pw σ (B k) (I k)) d k σ) 1 2 = σ 1 2 + nI m ∧ (itr (fun k σ => pw σ (B k) (I k)) d k σ) 2 = wcp B (fun k => σ (I k)) m k (σ 2) ∧ (itr (fun k σ => pw σ (B k) (I k)) d k σ) 1 1 = σ 1 1 := by
  intro d
  induction d with
  | zero => intro k σ m _ _ h; omega
  | succ d ih =>
    intro k σ m h4 hl hm
    rw [itr]
    cases m with
    | zero =>
      have h0 : σ 1 3 = 0 := hl.2.trans nI_0
      obtain ⟨a1, a2, a3, a4⟩ := pw_st (b := B k) (i := I k) (Or.inr h0)
      obtain ⟨b1, b2, b3, b4⟩ := seq_off (B := B) (I := I) d (k + 1) (pw σ (B k) (I k)) a1
      refine ⟨b1, ?_, b3.trans a3, b4.trans a4⟩
      rw [b2, a2, nI_0, Int32.add_zero]
    | succ m =>
      obtain ⟨a1, a2, a3, a4, a5⟩ := pw_go (b := B k) h4 hl (fun e => by cases e) (hI k)
      obtain ⟨b1, b2, b3, b4⟩ := ih (k + 1) (pw σ (B k) (I k)) m a1 a2 (by omega)
      refine ⟨b1, ?_, ?_, b4.trans a5⟩
      · rw [b2, a3, nI_succ, Int32.add_assoc, Int32.add_comm 1]
      · rw [b3, a4, wcp]
        refine wcp_congr (fun k' => ?_) _ _ _
        have := hI k'
        rw [pw_ne (by omega) (by omega)]
end SEQ
theorem itr_congr {f g : Nat → Sg → Sg} {P : Sg → Prop} (h : ∀ k σ, P σ → f k σ = g k σ ∧ P (g k σ)) : ∀ (d k : Nat) (σ : Sg), P σ → itr f d k σ = itr g d k σ := by
  intro d
  induction d with
  | zero => intro k σ _; rfl
  | succ d ih =>
    intro k σ hP
    rw [itr, itr, (h k σ hP).1]
    exact ih _ _ (h k σ hP).2
-- numbers of four bytes
def hdr4 (f : Nat → Int32) (a : Nat) : Int32 := get4N f a 4 0
theorem hdr4_congr {f g : Nat → Int32} {a a' : Nat} (h : ∀ j, j < 4 → bt (f (a + j)) = bt (g (a' + j))) : hdr4 f a = hdr4 g a' := by
  simp only [hdr4, get4N]
  rw [h 0 (by omega), h 1 (by omega), h 2 (by omega), h 3 (by omega)]
def pb (v : Int32) (j : Nat) : Int32 := (v >>> ((8 * nI j) &&& 31)).toInt8.toInt32
theorem hdr_pb : ∀ x, x < 128 → hdr4 (pb (nI x)) 0 = nI x := by decide +kernel
theorem put4_in {i a j : Nat} {v : Int32} {σ : Sg} (hj : j < 4) : put4 i a v σ i (a + j) = pb v j := by
  simp only [put4, itr]
  match j, hj with
  | 0, _ => rw [st_nk (by omega), st_nk (by omega), st_nk (by omega)]; exact st_eq
  | 1, _ => rw [st_nk (by omega), st_nk (by omega)]; exact st_eq
  | 2, _ => rw [st_nk (by omega)]; exact st_eq
  | 3, _ => exact st_eq
theorem put4_out {i a p : Nat} {v : Int32} {σ : Sg} (hp : p < a ∨ a + 4 ≤ p) : put4 i a v σ i p = σ i p := by
  simp only [put4, itr]
  rw [st_nk (by omega), st_nk (by omega), st_nk (by omega), st_nk (by omega)]
theorem hdr_put {i a x : Nat} {σ : Sg} (hx : x < 128) : hdr4 (put4 i a (nI x) σ i) a = nI x := by
  refine (hdr4_congr (fun j hj => ?_)).trans (hdr_pb x hx)
  rw [put4_in hj, Nat.zero_add]
/-- the header's buffer, before it is written -/
def whb (σ : Sg) (u : Nat) : Sg := itr (fun k σ => put4 12 (4 + 4 * k) (σ 10 k) σ) u 0 (put4 12 0 (nI u) σ)
theorem wh_eq (σ : Sg) (u : Nat) : wh σ u = pw (whb σ u) 2 12 := rfl
theorem whb_ne {σ : Sg} {u j : Nat} (h : j ≠ 12) : whb σ u j = σ j := by rw [whb, itr_ne (fun _ _ => put4_ne h), put4_ne h]
theorem whl_out : ∀ (d k : Nat) (σ : Sg) (p : Nat), p < 4 + 4 * k → itr (fun k σ => put4 12 (4 + 4 * k) (σ 10 k) σ) d k σ 12 p = σ 12 p := by
  intro d
  induction d with
  | zero => intro k σ p _; rfl
  | succ d ih =>
    intro k σ p hp
    rw [itr, ih (k + 1) _ p (by omega), put4_out (by omega)]
theorem whl_in : ∀ (d k : Nat) (σ : Sg) (i x : Nat), k ≤ i → i < k + d → σ 10 i = nI x → x < 128 → hdr4 (itr (fun k σ => put4 12 (4 + 4 * k) (σ 10 k) σ) d k σ 12) (4 + 4 * i) = nI x := by
  intro d
  induction d with
  | zero => intro k σ i x h1 h2; omega
  | succ d ih =>
    intro k σ i x h1 h2 hx hx2
    rw [itr]
    by_cases hik : i = k
    · subst hik
      rw [← hdr_put (i := 12) (a := 4 + 4 * i) (σ := σ) hx2]
      refine hdr4_congr (fun j hj => ?_)
      rw [whl_out _ _ _ _ (by omega), hx]
    · exact ih (k + 1) _ i x (by omega) (by omega) (by rw [put4_ne (by decide)]; exact hx) hx2
theorem whb_0 {σ : Sg} {u : Nat} (hu : u < 128) : hdr4 (whb σ u 12) 0 = nI u := by
  rw [← hdr_put (i := 12) (a := 0) (σ := σ) hu]
  refine hdr4_congr (fun j hj => ?_)
  rw [whb, whl_out _ _ _ _ (by omega)]
theorem whb_i {σ : Sg} {u i x : Nat} (hi : i < u) (hx : σ 10 i = nI x) (hx2 : x < 128) : hdr4 (whb σ u 12) (4 + 4 * i) = nI x := whl_in u 0 _ i x (by omega) (by omega) (by rw [put4_ne (by decide)]; exact hx) hx2
/-- a number in the header on the platter -/
def hdk (g : Nat → Int32) (a : Nat) : Int32 := hdr4 (fun j => g (2048 + j)) a
theorem hdk_wr {x g : Nat → Int32} {a : Nat} (ha : a + 4 ≤ 1024) : hdk (va_cpy x g 0 (1024 * 2) 1024) a = hdr4 x a := by
  refine hdr4_congr (fun j hj => ?_)
  have := cpy_blk (x := x) (g := g) (B := 2) (b := 2) (j := a + j) (by omega)
  rw [if_pos rfl] at this
  rw [← this]
theorem hdk_congr {g g' : Nat → Int32} {a : Nat} (ha : a + 4 ≤ 1024) (h : ∀ j, j < 1024 → g (1024 * 2 + j) = g' (1024 * 2 + j)) : hdk g a = hdk g' a := by
  refine hdr4_congr (fun j hj => ?_)
  have := h (a + j) (by omega)
  show bt (g (2048 + (a + j))) = bt (g' (2048 + (a + j)))
  rw [show 2048 + (a + j) = 1024 * 2 + (a + j) by omega, this]
def ub (n b : Nat) : Prop := b < n ∧ (b < 2 ∨ 32 < b)
/-- the platter g against the blocks s as the latest commit left them, with u blocks (homes h) that the log has still to bring home -/
def DskOk (n u : Nat) (h : Nat → Nat) (g s : Nat → Int32) : Prop :=
  hdk g 0 = nI u ∧ (∀ i, i < u → ub n (h i) ∧ hdk g (4 + 4 * i) = nI (h i) ∧ (∀ j, j < u → h i = h j → i = j) ∧ ∀ j, j < 1024 → bt (g (1024 * (3 + i) + j)) = bt (s (1024 * h i + j))) ∧ ∀ b, ub n b → (∀ i, i < u → h i ≠ b) → ∀ j, j < 1024 → bt (g (1024 * b + j)) = bt (s (1024 * b + j))
end
section
/-! THE RELATION between the component's state and the model's -/
def cb (p : Nat → Bool) : Nat → Nat
  | 0 => 0
  | k + 1 => cb p k + (if p k = true then 1 else 0)
theorem cb_le (p : Nat → Bool) : ∀ N, cb p N ≤ N := by
  intro N
  induction N with
  | zero => exact Nat.le_refl _
  | succ N ih => simp only [cb]; split <;> omega
theorem cb_congr {p q : Nat → Bool} : ∀ N, (∀ k, k < N → p k = q k) → cb p N = cb q N := by
  intro N
  induction N with
  | zero => intro _; rfl
  | succ N ih => intro h; simp only [cb]; rw [ih (fun k hk => h k (by omega)), h N (by omega)]
theorem cb_set {p q : Nat → Bool} {j : Nat} (hp : p j = false) (hq : q j = true) (he : ∀ k, k ≠ j → p k = q k) : ∀ N, j < N → cb q N = cb p N + 1 := by
  intro N
  induction N with
  | zero => intro h; omega
  | succ N ih =>
    intro h
    simp only [cb]
    by_cases hj : j = N
    · subst hj
      rw [hp, hq, cb_congr j (fun k hk => he k (by omega))]
      simp
    · rw [ih (by omega), he N (fun e => hj e.symm)]
      omega
theorem cb_lt {p : Nat → Bool} {j : Nat} (hp : p j = false) : ∀ N, j < N → cb p N < N := by
  intro N
  induction N with
  | zero => intro h; omega
  | succ N ih =>
    intro h
    simp only [cb]
    by_cases hj : j = N
    · subst hj; rw [hp]; have := cb_le p j; simp; omega
    · have := ih (by omega); split <;> omega
theorem cb_full {p : Nat → Bool} : ∀ N, (∀ k, k < N → p k = true) → cb p N = N := by
  intro N
  induction N with
  | zero => intro _; rfl
  | succ N ih => intro h; simp only [cb]; rw [ih (fun k hk => h k (by omega)), h N (by omega)]; simp
theorem cb_zero {p : Nat → Bool} : ∀ N, (∀ k, k < N → p k = false) → cb p N = 0 := by
  intro N
  induction N with
  | zero => intro _; rfl
  | succ N ih => intro h; simp only [cb]; rw [ih (fun k hk => h k (by omega)), h N (by omega)]; simp
theorem mny_cb (f : Nat → Int32) : ∀ N, mny f N = cb (fun k => decide (f k ≠ 0)) N := by
  intro N
  induction N with
  | zero => rfl
  | succ N ih =>
    simp only [mny, cb, ih]
    by_cases h : f N = 0 <;> simp [h]
theorem mny_set {f : Nat → Int32} {j N : Nat} (hj : j < N) (h0 : f j = 0) : mny (upd f j 1) N = mny f N + 1 := by
  rw [mny_cb, mny_cb]
  refine cb_set (j := j) (by simp [h0]) (by rw [pk_us]; decide) (fun k hk => ?_) N hj
  rw [pk_un hk]
theorem mny_same {f : Nat → Int32} {j N : Nat} (h0 : f j ≠ 0) : mny (upd f j 1) N = mny f N := by
  rw [mny_cb, mny_cb]
  refine cb_congr N (fun k _ => ?_)
  by_cases hk : k = j
  · subst hk
    rw [pk_us, show decide (f k ≠ 0) = true from decide_eq_true h0]
    decide
  · rw [pk_un hk]
theorem mny_0 {f : Nat → Int32} {N : Nat} (h : ∀ k, k < N → f k = 0) : mny f N = 0 := by
  rw [mny_cb]
  exact cb_zero N (fun k hk => by simp [h k hk])
theorem mny_pos {f : Nat → Int32} {N : Nat} (h : mny f N = 0) : ∀ k, k < N → f k = 0 := by
  intro k hk
  apply Classical.byContradiction
  intro q
  have e : mny (upd f k 0) N + 1 = mny f N := by
    rw [mny_cb, mny_cb]
    refine (cb_set (j := k) (by rw [pk_us]; decide) (decide_eq_true q) (fun i hi => ?_) N hk).symm
    rw [pk_un hi]
  omega
-- the model's look over the stamps
theorem lkN_1 (st hd : Nat → Int32) : ∀ k, (lkN st hd k).1 = cb (fun b => decide (0 < st b)) k := by
  intro k
  induction k with
  | zero => rfl
  | succ k ih =>
    simp only [lkN, cb, ih]
    by_cases h : 0 < st k <;> simp [h]
theorem lkN_2 (st hd : Nat → Int32) : ∀ k, k ≤ 80 → ((lkN st hd k).2 = -1 ∧ ∀ b, b < k → 0 < st b → hd b ≠ 0) ∨ ∃ j, j < k ∧ (lkN st hd k).2 = nI j ∧ 0 < st j ∧ hd j = 0 ∧ ∀ b, b < k → 0 < st b → hd b = 0 → st j ≤ st b := by
  intro k
  induction k with
  | zero => intro _; exact Or.inl ⟨rfl, fun b hb => by omega⟩
  | succ k ih =>
    intro hk
    have ih := ih (by omega)
    simp only [lkN]
    by_cases hc : 0 < st k ∧ hd k = 0 ∧ ((lkN st hd k).2 < 0 ∨ st k < st (lkN st hd k).2.toNatClampNeg)
    · rw [if_pos hc]
      refine Or.inr ⟨k, by omega, rfl, hc.1, hc.2.1, fun b hb h1 h2 => ?_⟩
      by_cases hbk : b = k
      · rw [hbk]; exact Int32.le_refl _
      · rcases ih with ⟨e, h⟩ | ⟨j, hj, e, h3, h4, h5⟩
        · exact absurd h2 (h b (by omega) h1)
        · rw [e, nI_clamp (by omega)] at hc
          have h6 : st k < st j := hc.2.2.resolve_left (nI_pos (by omega))
          exact Int32.le_trans (Int32.le_of_lt h6) (h5 b (by omega) h1 h2)
    · rw [if_neg hc]
      rcases ih with ⟨e, h⟩ | ⟨j, hj, e, h3, h4, h5⟩
      · refine Or.inl ⟨e, fun b hb h1 h2 => ?_⟩
        by_cases hbk : b = k
        · subst hbk
          exact hc ⟨h1, h2, Or.inl (by rw [e]; decide)⟩
        · exact h b (by omega) h1 h2
      · refine Or.inr ⟨j, by omega, e, h3, h4, fun b hb h1 h2 => ?_⟩
        by_cases hbk : b = k
        · subst hbk
          apply Classical.byContradiction
          intro q
          exact hc ⟨h1, h2, Or.inr (by rw [e, nI_clamp (by omega)]; exact Int32.not_le.mp q)⟩
        · exact h5 b (by omega) h1 h2
-- where a block is
theorem fdN_spec (f : Nat → Int32) (b : Int32) : ∀ d k, (fdN f b d k < k + d → f (fdN f b d k) = b) ∧ ∀ j, k ≤ j → j < fdN f b d k → f j ≠ b := by
  intro d
  induction d with
  | zero => intro k; exact ⟨fun h => absurd h (by simp only [fdN]; omega), fun j h1 h2 => by simp only [fdN] at h2; omega⟩
  | succ d ih =>
    intro k
    simp only [fdN]
    by_cases h : f k = b
    · rw [if_pos h]
      exact ⟨fun _ => h, fun j h1 h2 => by omega⟩
    · rw [if_neg h]
      obtain ⟨i1, i2⟩ := ih (k + 1)
      refine ⟨fun q => i1 (by omega), fun j h1 h2 => ?_⟩
      by_cases hj : j = k
      · rw [hj]; exact h
      · exact i2 j (by omega) h2
theorem fd_at {σ : Sg} {b : Int32} (h : fd σ b < 34) : σ 5 (fd σ b) = b := (fdN_spec (σ 5) b 34 0).1 h
theorem fd_no {σ : Sg} {b : Int32} (h : ¬ fd σ b < 34) : ∀ k, k < 34 → σ 5 k ≠ b := fun k hk => (fdN_spec (σ 5) b 34 0).2 k (by omega) (by rw [fd] at h; omega)
def RowsOk (n : Nat) (f : Nat → Int32) : Prop := (∀ k, k < 34 → f k = -1 ∨ ∃ b, ub n b ∧ f k = nI b) ∧ ∀ k k', k < 34 → k' < 34 → f k = f k' → f k ≠ -1 → k = k'
def Cd (f : Nat → Int32) (b : Nat) : Prop := ∃ k, k < 34 ∧ f k = nI b
def StOk (t : Nat) (f g : Nat → Int32) : Prop := (∀ b, b < 80 → ∃ s, s ≤ t ∧ g b = nI s ∧ (0 < s ↔ Cd f b)) ∧ ∀ b b', b < 80 → b' < 80 → g b = g b' → g b ≠ 0 → b = b'
def CtOk (n : Nat) (f g : Nat → Int32) : Prop := cb (fun k => decide (f k ≠ -1)) 34 = cb (fun b => decide (0 < g b)) n
def LrO (f g : Nat → Int32) (L : List Nat) : Prop := L.Pairwise (fun x y => f y ≠ -1 → f x ≠ -1 ∧ g (f y).toNatClampNeg < g (f x).toNatClampNeg)
def ConOk (f : Nat → Int32) (R : Nat → Nat → Int32) (g2 : Nat → Int32) : Prop := ∀ k b, k < 34 → b < 80 → f k = nI b → ∀ j, j < 1024 → bt (R k j) = bt (g2 (1024 * b + j))
def ClnOk (n : Nat) (g3 g2 g1 : Nat → Int32) : Prop := ∀ b, ub n b → g3 b = 0 → ∀ j, j < 1024 → bt (g2 (1024 * b + j)) = bt (g1 (1024 * b + j))
def HldOk (f f6 g3 : Nat → Int32) : Prop := (∀ k, k < 34 → f k = -1 → f6 k = 0) ∧ (∀ k b, k < 34 → b < 80 → f k = nI b → (f6 k = 0 ↔ g3 b = 0)) ∧ ∀ b, b < 80 → g3 b ≠ 0 → Cd f b
def HomOk (n sz : Nat) (f10 f6 g3 : Nat → Int32) : Prop := mny g3 80 = sz ∧ mny f6 34 = sz ∧ (∀ i, i < sz → ∃ b, ub n b ∧ f10 i = nI b ∧ g3 b ≠ 0) ∧ (∀ i j, i < sz → j < sz → f10 i = f10 j → i = j) ∧ ∀ b, b < 80 → g3 b ≠ 0 → ∃ i, i < sz ∧ f10 i = nI b
def StpOk (n sz : Nat) (op chg : Int32) (f11 g4 g3 : Nat → Int32) : Prop := (op = 0 → sz ≤ 20) ∧ (op ≠ 0 → ∃ c, c ≤ 10 ∧ chg = nI c ∧ mny g4 80 = c ∧ sz ≤ 20 + c ∧ (∀ b, b < n → (f11 b = 0 ↔ g4 b = 0)) ∧ ∀ b, b < 80 → g4 b ≠ 0 → g3 b ≠ 0)
theorem nI_inj {a b : Nat} (ha : a < 2 ^ 31) (hb : b < 2 ^ 31) (h : nI a = nI b) : a = b := (nI_eq ha hb).mp h
section INST
variable {n t : Nat} {f g g' f6 g3 : Nat → Int32} {L1 L2 : List Nat} {v b : Nat}
theorem inst (hn : n ≤ 80) (ht : t < 2 ^ 30) (hv : v < 34) (hb : ub n b) (rows : RowsOk n f) (st : StOk t f g) (lr : LrO f g (L1 ++ v :: L2)) (mem : ∀ x, x ∈ L1 ++ v :: L2 → x < 34) (nd : (L1 ++ v :: L2).Nodup) (un : ∀ k, k < 34 → k ≠ v → f k ≠ nI b)
    (G1 : g' b = nI (t + 1)) (G2 : ∀ b', b' < 80 → b' ≠ b → f v = nI b' → g' b' = 0) (G3 : ∀ b', b' < 80 → b' ≠ b → f v ≠ nI b' → g' b' = g b') :
    RowsOk n (upd f v (nI b)) ∧ StOk (t + 1) (upd f v (nI b)) g' ∧ LrO (upd f v (nI b)) g' (v :: (L1 ++ L2)) := by
  have hb8 : b < 80 := by have := hb.1; omega
  have hcd : ∀ b', b' < 80 → (Cd (upd f v (nI b)) b' ↔ b' = b ∨ (b' ≠ b ∧ f v ≠ nI b' ∧ Cd f b')) := by
    intro b' hb'
    constructor
    · rintro ⟨k, hk, e⟩
      by_cases hkv : k = v
      · subst hkv
        rw [pk_us] at e
        exact Or.inl (nI_inj (by omega) (by omega) e).symm
      · rw [pk_un hkv] at e
        by_cases hbb : b' = b
        · exact Or.inl hbb
        · refine Or.inr ⟨hbb, fun q => ?_, k, hk, e⟩
          exact hkv (rows.2 k v hk hv (e.trans q.symm) (by rw [e]; exact m1_ne (by omega)))
    · rintro (rfl | ⟨h1, h2, k, hk, e⟩)
      · exact ⟨v, hv, pk_us⟩
      · have hkv : k ≠ v := fun q => h2 (by rw [← q]; exact e)
        exact ⟨k, hk, by rw [pk_un hkv]; exact e⟩
  have hg : ∀ b', b' < 80 → ∃ s, s ≤ t + 1 ∧ g' b' = nI s ∧ (0 < s ↔ Cd (upd f v (nI b)) b') ∧ (b' ≠ b → s ≤ t) := by
    intro b' hb'
    by_cases hbb : b' = b
    · subst hbb
      exact ⟨t + 1, Nat.le_refl _, G1, ⟨fun _ => (hcd b' hb').mpr (Or.inl rfl), fun _ => by omega⟩, fun q => absurd rfl q⟩
    · by_cases hfv : f v = nI b'
      · refine ⟨0, by omega, (G2 b' hb' hbb hfv).trans nI_0.symm, ⟨fun q => by omega, fun q => ?_⟩, fun _ => by omega⟩
        rcases (hcd b' hb').mp q with e | e
        · exact absurd e hbb
        · exact absurd hfv e.2.1
      · obtain ⟨s, h1, h2, h3⟩ := st.1 b' hb'
        refine ⟨s, by omega, (G3 b' hb' hbb hfv).trans h2, ⟨fun q => (hcd b' hb').mpr (Or.inr ⟨hbb, hfv, h3.mp q⟩), fun q => ?_⟩, fun _ => h1⟩
        rcases (hcd b' hb').mp q with e | e
        · exact absurd e hbb
        · exact h3.mpr e.2.2
  have hmM : ∀ x, x ∈ L1 ++ L2 → x < 34 ∧ x ≠ v := by
    intro x hx
    rw [List.nodup_append] at nd
    obtain ⟨_, n2, n3⟩ := nd
    rw [List.nodup_cons] at n2
    rcases List.mem_append.mp hx with q | q
    · exact ⟨mem x (List.mem_append_left _ q), fun e => n3 x q v List.mem_cons_self e⟩
    · exact ⟨mem x (List.mem_append_right _ (List.mem_cons_of_mem _ q)), fun e => n2.1 (by rw [← e]; exact q)⟩
  -- the stamp of a row other than v
  have hst : ∀ x, x < 34 → x ≠ v → f x ≠ -1 → ∃ b', b' < 80 ∧ b' ≠ b ∧ f x = nI b' ∧ g' b' = g b' := by
    intro x hx hxv hx1
    rcases rows.1 x hx with e | ⟨b', hb', e⟩
    · exact absurd e hx1
    · have h8 : b' < 80 := by have := hb'.1; omega
      have hbb : b' ≠ b := fun q => un x hx hxv (by rw [← q]; exact e)
      exact ⟨b', h8, hbb, e, G3 b' h8 hbb (fun q => hxv (rows.2 x v hx hv (e.trans q.symm) hx1))⟩
  refine ⟨⟨fun k hk => ?_, fun k k' hk hk' e e1 => ?_⟩, ⟨fun b' hb' => ?_, fun b1 b2 h1 h2 e e1 => ?_⟩, ?_⟩
  · by_cases hkv : k = v
    · subst hkv
      rw [pk_us]
      exact Or.inr ⟨b, hb, rfl⟩
    · rw [pk_un hkv]; exact rows.1 k hk
  · by_cases hkv : k = v
    · by_cases hkv' : k' = v
      · rw [hkv, hkv']
      · subst hkv
        rw [pk_us, pk_un hkv'] at e
        exact absurd e.symm (un k' hk' hkv')
    · by_cases hkv' : k' = v
      · subst hkv'
        rw [pk_us, pk_un hkv] at e
        exact absurd e (un k hk hkv)
      · rw [pk_un hkv, pk_un hkv'] at e
        rw [pk_un hkv] at e1
        exact rows.2 k k' hk hk' e e1
  · obtain ⟨s, q1, q2, q3, -⟩ := hg b' hb'
    exact ⟨s, q1, q2, q3⟩
  · by_cases hb1 : b1 = b
    · by_cases hb2 : b2 = b
      · rw [hb1, hb2]
      · obtain ⟨s, q1, q2, q3, q4⟩ := hg b2 h2
        rw [hb1, G1, q2] at e
        have := nI_inj (by omega) (by omega) e
        have := q4 hb2
        omega
    · by_cases hb2 : b2 = b
      · obtain ⟨s, q1, q2, q3, q4⟩ := hg b1 h1
        rw [hb2, G1, q2] at e
        have := nI_inj (by omega) (by omega) e
        have := q4 hb1
        omega
      · by_cases hf1 : f v = nI b1
        · exact absurd (G2 b1 h1 hb1 hf1) e1
        · by_cases hf2 : f v = nI b2
          · exact absurd (e.trans (G2 b2 h2 hb2 hf2)) e1
          · rw [G3 b1 h1 hb1 hf1, G3 b2 h2 hb2 hf2] at e
            rw [G3 b1 h1 hb1 hf1] at e1
            exact st.2 b1 b2 h1 h2 e e1
  · refine List.pairwise_cons.mpr ⟨fun y hy hy1 => ?_, ?_⟩
    · obtain ⟨h1, h2⟩ := hmM y hy
      rw [pk_us]
      rw [pk_un h2] at hy1 ⊢
      refine ⟨m1_ne (by omega), ?_⟩
      obtain ⟨b', h8, hbb, e, e2⟩ := hst y h1 h2 hy1
      rw [e, nI_clamp (by omega), nI_clamp (by omega), e2, G1]
      obtain ⟨s, q1, q2, -⟩ := st.1 b' h8
      rw [q2]
      exact nI_lt (by omega) (by omega)
    · have hsub : (L1 ++ L2).Pairwise (fun x y => f y ≠ -1 → f x ≠ -1 ∧ g (f y).toNatClampNeg < g (f x).toNatClampNeg) :=
        List.Pairwise.sublist (List.Sublist.append (List.Sublist.refl L1) (List.sublist_cons_self v L2)) lr
      refine List.Pairwise.imp_of_mem ?_ hsub
      intro x y hx hy hxy hy1
      obtain ⟨a1, a2⟩ := hmM x hx
      obtain ⟨b1, b2⟩ := hmM y hy
      rw [pk_un a2]
      rw [pk_un b2] at hy1 ⊢
      obtain ⟨c1, c2⟩ := hxy hy1
      refine ⟨c1, ?_⟩
      obtain ⟨by', y8, yb, ye, ye2⟩ := hst y b1 b2 hy1
      obtain ⟨bx', x8, xb, xe, xe2⟩ := hst x a1 a2 c1
      rw [ye, xe, nI_clamp (by omega), nI_clamp (by omega)] at c2 ⊢
      rw [ye2, xe2]
      exact c2
theorem inst_h (hn : n ≤ 80) (hv : v < 34) (hb : ub n b) (rows : RowsOk n f) (hl : HldOk f f6 g3) (un : ∀ k, k < 34 → k ≠ v → f k ≠ nI b) (h6 : f6 v = 0 ∧ g3 b = 0 ∨ f v = nI b) : HldOk (upd f v (nI b)) f6 g3 := by
  have hb8 : b < 80 := by have := hb.1; omega
  rcases h6 with ⟨h6, h3⟩ | h6
  · refine ⟨fun k hk e => ?_, fun k b' hk hb' e => ?_, fun b' hb' q => ?_⟩
    · by_cases hkv : k = v
      · rw [hkv]; exact h6
      · rw [pk_un hkv] at e; exact hl.1 k hk e
    · by_cases hkv : k = v
      · subst hkv
        rw [pk_us] at e
        rw [← nI_inj (by omega) (by omega) e]
        exact ⟨fun _ => h3, fun _ => h6⟩
      · rw [pk_un hkv] at e; exact hl.2.1 k b' hk hb' e
    · obtain ⟨k, hk, e⟩ := hl.2.2 b' hb' q
      have hkv : k ≠ v := by
        intro e2
        subst e2
        exact q ((hl.2.1 k b' hk hb' e).mp h6)
      exact ⟨k, hk, by rw [pk_un hkv]; exact e⟩
  · have e : upd f v (nI b) = f := by
      funext k
      by_cases hkv : k = v
      · rw [hkv, pk_us, h6]
      · rw [pk_un hkv]
    rw [e]; exact hl
theorem inst_c {R R' : Nat → Nat → Int32} {g2 : Nat → Int32} (hn : n ≤ 80) (hb : ub n b) (con : ConOk f R g2) (hR : ∀ k, k ≠ v → R' k = R k) (hv : ∀ j, j < 1024 → bt (R' v j) = bt (g2 (1024 * b + j))) : ConOk (upd f v (nI b)) R' g2 := by
  intro k b' hk hb' e j hj
  have hb8 : b < 80 := by have := hb.1; omega
  by_cases hkv : k = v
  · subst hkv
    rw [pk_us] at e
    rw [← nI_inj (by omega) (by omega) e]
    exact hv j hj
  · rw [pk_un hkv] at e
    rw [hR k hkv]
    exact con k b' hk hb' e j hj
end INST
end
section
/-! A TAKE of a block (component) against a LOOK (model) -/
theorem tk0_5 {σ : Sg} {b k : Nat} : tk0 σ b k 5 = upd (σ 5) k (nI b) := by
  simp only [tk0]
  rw [st_ne (by decide), prd_ne (by omega), st_self]
theorem tk0_row {σ : Sg} {b k j : Nat} (hj : j < 1024) : tk0 σ b k (k + 14) j = σ 2 (1024 * b + j) := by
  simp only [tk0]
  rw [st_ne (by omega), prd_at hj, st_ne (by decide)]
theorem tk0_36 {σ : Sg} {b k : Nat} : tk0 σ b k 3 6 = σ 3 6 + 1 := by
  simp only [tk0]
  rw [st_eq, prd_ne (by omega), st_ne (by decide)]
theorem tk0_ne {σ : Sg} {b k j : Nat} (h3 : j ≠ 3) (h5 : j ≠ 5) (hr : j ≠ k + 14) : tk0 σ b k j = σ j := by
  simp only [tk0]
  rw [st_ne h3, prd_ne hr, st_ne h5]
theorem lk1_0 {n k : Nat} {τ : Sg} (hk : k ≠ 12) : lk1 n τ 0 k = τ 0 k := by
  simp only [lk1]
  split
  · rw [st_ne (by decide), st_nk hk]
  · rw [st_nk hk]
theorem lk1_12 {n : Nat} {τ : Sg} : lk1 n τ 0 12 = τ 0 12 + 1 := by
  simp only [lk1]
  split
  · rw [st_ne (by decide), st_eq]
  · rw [st_eq]
theorem lk1_ne {n j : Nat} {τ : Sg} (h0 : j ≠ 0) (h5 : j ≠ 5) : lk1 n τ j = τ j := by
  simp only [lk1]
  split
  · rw [st_ne h5, st_ne h0]
  · rw [st_ne h0]
theorem lk1_5a {n : Nat} {τ : Sg} (h : (lkN (τ 5) (τ 3) n).1 = 34) : lk1 n τ 5 = upd (τ 5) (lkN (τ 5) (τ 3) n).2.toNatClampNeg 0 := by
  simp only [lk1]
  rw [st_ne (i := 0) (j := 5) (by decide), st_ne (i := 0) (j := 3) (by decide), if_pos h, st_self, st_ne (by decide)]
theorem lk1_5b {n : Nat} {τ : Sg} (h : ¬ (lkN (τ 5) (τ 3) n).1 = 34) : lk1 n τ 5 = τ 5 := by
  simp only [lk1]
  rw [st_ne (i := 0) (j := 5) (by decide), st_ne (i := 0) (j := 3) (by decide), if_neg h, st_ne (by decide)]
/-- the state behind a look, by the state s1 before its stamp is set -/
theorem lkS_of {n b : Nat} {τ s1 : Sg} (h : (if τ 5 b = 0 then lk1 n τ else τ) = s1) : lkS n b τ 5 = upd (s1 5) b (s1 0 7 + 1) ∧ lkS n b τ 0 7 = s1 0 7 + 1 ∧ (∀ k, k ≠ 7 → lkS n b τ 0 k = s1 0 k) ∧ ∀ j, j ≠ 0 → j ≠ 5 → lkS n b τ j = s1 j := by
  simp only [lkS]
  rw [h]
  refine ⟨?_, ?_, fun k hk => ?_, fun j h0 h5 => ?_⟩
  · rw [st_self, st_ne (by decide), st_eq]
  · rw [st_ne (by decide), st_eq]
  · rw [st_ne (by decide), st_nk hk]
  · rw [st_ne h5, st_ne h0]
def Cch (n t : Nat) (σ τ : Sg) (L : List Nat) : Prop := RingL (σ 7) (σ 8) L ∧ RowsOk n (σ 5) ∧ StOk t (σ 5) (τ 5) ∧ CtOk n (σ 5) (τ 5) ∧ LrO (σ 5) (τ 5) L ∧ ConOk (σ 5) (fun k => σ (k + 14)) (τ 2) ∧ HldOk (σ 5) (σ 6) (τ 3)
theorem take_ok {n t b : Nat} {σ τ : Sg} {L : List Nat} (hn : n ≤ 80) (ht : t < 2 ^ 30) (h7 : τ 0 7 = nI t) (hc : Cch n t σ τ L) (hb : ub n b) (hm : mny (σ 6) 34 ≤ 30) (hcl : ClnOk n (τ 3) (τ 2) (τ 1)) (hdk : ∀ j, j < 1024 → bt (σ 2 (1024 * b + j)) = bt (τ 1 (1024 * b + j))) :
    ∃ r M, r < 34 ∧ TR σ b r ∧ (τ 5 b = 0 → (lkN (τ 5) (τ 3) n).1 = 34 → (lkN (τ 5) (τ 3) n).2 ≠ -1) ∧ Cch n (t + 1) (tk σ b r) (lkS n b τ) (r :: M) ∧ tk σ b r 5 r = nI b ∧ (∀ j, j < 14 → j ≠ 3 → j ≠ 5 → j ≠ 7 → j ≠ 8 → tk σ b r j = σ j) ∧ (∀ j, j ≠ 0 → j ≠ 5 → lkS n b τ j = τ j) ∧ (∀ k, k ≠ 7 → k ≠ 12 → lkS n b τ 0 k = τ 0 k) ∧ lkS n b τ 0 7 = nI (t + 1) ∧ (σ 3 6 = τ 0 12 → tk σ b r 3 6 = lkS n b τ 0 12) := by
  have hb8 : b < 80 := by have := hb.1; omega
  obtain ⟨ring, rows, st, ct, lr, con, hl⟩ := hc
  by_cases hit : fd σ (nI b) < 34
  · -- in the cache
    have hr5 : σ 5 (fd σ (nI b)) = nI b := fd_at hit
    obtain ⟨r, hr⟩ : ∃ r, r = fd σ (nI b) := ⟨_, rfl⟩
    rw [← hr] at hit hr5
    obtain ⟨L1, L2, rfl⟩ := List.append_of_mem ((ring.2.2.2 r).mpr hit)
    have un : ∀ k, k < 34 → k ≠ r → σ 5 k ≠ nI b := fun k hk hkr e => hkr (rows.2 k r hk hit (e.trans hr5.symm) (by rw [e]; exact m1_ne (by omega)))
    have hcd : Cd (σ 5) b := ⟨r, hit, hr5⟩
    obtain ⟨s, hs1, hs2, hs3⟩ := st.1 b hb8
    have hs0 : 0 < s := hs3.mpr hcd
    have hz : ¬ τ 5 b = 0 := by rw [hs2]; exact nI_ne0 hs0 (by omega)
    obtain ⟨e5, e07, e0, ej⟩ := lkS_of (n := n) (b := b) (τ := τ) (s1 := τ) (by rw [if_neg hz])
    have et : τ 0 7 + 1 = nI (t + 1) := by rw [h7, nI_1]
    rw [et] at e5 e07
    have etk : tk σ b r = us σ r := by rw [tk, if_pos (by rw [← hr]; exact hit)]
    have hup : upd (σ 5) r (nI b) = σ 5 := by
      funext k
      by_cases hkr : k = r
      · rw [hkr, pk_us, hr5]
      · rw [pk_un hkr]
    obtain ⟨q1, q2, q3⟩ := inst (g' := lkS n b τ 5) hn ht hit hb rows st lr (fun x hx => (ring.2.2.2 x).mp hx) ring.2.2.1 un (by rw [e5, pk_us]) (fun b' hb' hbb e => absurd (nI_inj (by omega) (by omega) (e.symm.trans hr5)) hbb) (fun b' _ hbb _ => by rw [e5, pk_un hbb])
    rw [hup] at q1 q2 q3
    refine ⟨r, L1 ++ L2, hit, Or.inl ⟨by rw [← hr]; exact hit, hr⟩, fun q => absurd q hz, ?_, ?_, fun j _ _ _ j7 j8 => ?_, ej, fun k k7 _ => e0 k k7, e07, fun e => ?_⟩
    · rw [etk]
      refine ⟨us_ring ring, ?_⟩
      rw [us_ne (j := 5) (by decide) (by decide), us_ne (j := 6) (by decide) (by decide), ej 2 (by decide) (by decide), ej 3 (by decide) (by decide)]
      refine ⟨q1, q2, ?_, q3, ?_, hl⟩
      · rw [CtOk, ct]
        refine cb_congr n (fun b' _ => ?_)
        by_cases hbb : b' = b
        · subst hbb
          rw [e5, pk_us, hs2]
          have a1 : (0 : Int32) < nI s := by rw [← nI_0]; exact nI_lt hs0 (by omega)
          have a2 : (0 : Int32) < nI (t + 1) := by rw [← nI_0]; exact nI_lt (by omega) (by omega)
          rw [decide_eq_true a1, decide_eq_true a2]
        · rw [e5, pk_un hbb]
      · intro k b' hk hb' e j hj
        show bt (us σ r (k + 14) j) = _
        rw [us_ne (by omega) (by omega)]
        exact con k b' hk hb' e j hj
    · rw [etk, us_ne (by decide) (by decide)]; exact hr5
    · rw [etk, us_ne j7 j8]
    · rw [etk, us_ne (by decide) (by decide), e0 12 (by decide)]; exact e
  · -- not in the cache
    have hncd : ∀ k, k < 34 → σ 5 k ≠ nI b := fd_no hit
    have hncd' : ¬ Cd (σ 5) b := fun ⟨k, hk, e⟩ => hncd k hk e
    obtain ⟨s, hs1, hs2, hs3⟩ := st.1 b hb8
    have hs0 : s = 0 := by
      apply Classical.byContradiction
      intro q
      exact hncd' (hs3.mp (by omega))
    have hz : τ 5 b = 0 := by rw [hs2, hs0]; rfl
    have h3b : τ 3 b = 0 := by
      apply Classical.byContradiction
      intro q
      exact hncd' (hl.2.2 b hb8 q)
    obtain ⟨e5, e07, e0, ej⟩ := lkS_of (n := n) (b := b) (τ := τ) (s1 := lk1 n τ) (by rw [if_pos hz])
    have et : lk1 n τ 0 7 + 1 = nI (t + 1) := by rw [lk1_0 (by decide), h7, nI_1]
    rw [et] at e5 e07
    -- the row that is given away, and what its block's stamp becomes
    have hvic : ∃ v L1 L2, v < 34 ∧ Vc σ v ∧ L = L1 ++ v :: L2 ∧ σ 6 v = 0 ∧ ((lkN (τ 5) (τ 3) n).1 = 34 → (lkN (τ 5) (τ 3) n).2 ≠ -1) ∧ (∀ b', b' < 80 → b' ≠ b → σ 5 v = nI b' → lk1 n τ 5 b' = 0) ∧ (∀ b', b' < 80 → b' ≠ b → σ 5 v ≠ nI b' → lk1 n τ 5 b' = τ 5 b') ∧ cb (fun k => decide (upd (σ 5) v (nI b) k ≠ -1)) 34 = cb (fun b' => decide (0 < upd (lk1 n τ 5) b (nI (t + 1)) b')) n := by
      have a2 : (0 : Int32) < nI (t + 1) := by rw [← nI_0]; exact nI_lt (by omega) (by omega)
      by_cases hfree : fd σ (-1) < 34
      · have hv5 : σ 5 (fd σ (-1)) = -1 := fd_at hfree
        have hv6 := hl.1 _ hfree hv5
        obtain ⟨v, hv⟩ : ∃ v, v = fd σ (-1) := ⟨_, rfl⟩
        rw [← hv] at hv5 hv6
        have hv34 : v < 34 := by rw [hv]; exact hfree
        obtain ⟨L1, L2, hL⟩ := List.append_of_mem ((ring.2.2.2 v).mpr hv34)
        have hcnt : ¬ (lkN (τ 5) (τ 3) n).1 = 34 := by
          rw [lkN_1, ← ct]
          have := cb_lt (p := fun k => decide (σ 5 k ≠ -1)) (j := v) (by simp [hv5]) 34 hv34
          omega
        refine ⟨v, L1, L2, hv34, Or.inl ⟨hfree, hv⟩, hL, hv6, fun q => absurd q hcnt, fun b' hb' _ e => ?_, fun b' _ _ _ => by rw [lk1_5b hcnt], ?_⟩
        · rw [hv5] at e
          exact absurd e.symm (m1_ne (by omega))
        · rw [lk1_5b hcnt]
          rw [cb_set (p := fun k => decide (σ 5 k ≠ -1)) (j := v) (by simp [hv5]) (by rw [pk_us]; exact decide_eq_true (m1_ne (by omega))) (fun k hk => by rw [pk_un hk]) 34 hv34, ct]
          rw [cb_set (p := fun b' => decide (0 < τ 5 b')) (q := fun b' => decide (0 < upd (τ 5) b (nI (t + 1)) b')) (j := b) (by rw [hz]; decide) (by rw [pk_us]; exact decide_eq_true a2) (fun k hk => by rw [pk_un hk]) n hb.1]
      · have hused : ∀ k, k < 34 → σ 5 k ≠ -1 := fd_no hfree
        have hex : ∃ k, k < 34 ∧ σ 6 k = 0 := by
          apply Classical.byContradiction
          intro q
          have : mny (σ 6) 34 = 34 := by
            rw [mny_cb]
            exact cb_full 34 (fun k hk => decide_eq_true (fun e => q ⟨k, hk, e⟩))
          omega
        obtain ⟨k0, hk0, hk6⟩ := hex
        obtain ⟨T, v, S, hrev, hpth, hT, hv6⟩ := Pth.of (g := σ 6) ring.2.1 (fun z hz => (ring.2.2.2 z).mp (List.mem_reverse.mp hz)) ⟨k0, List.mem_reverse.mpr ((ring.2.2.2 k0).mpr hk0), hk6⟩
        have hL : L = S.reverse ++ v :: T.reverse := by
          have := congrArg List.reverse hrev
          rw [List.reverse_reverse] at this
          rw [this]
          simp
        have hv34 : v < 34 := (ring.2.2.2 v).mp (by rw [hL]; simp)
        obtain ⟨ob, hob, heb⟩ : ∃ ob, ub n ob ∧ σ 5 v = nI ob := by
          rcases rows.1 v hv34 with e | e
          · exact absurd e (hused v hv34)
          · exact e
        have hob8 : ob < 80 := by have := hob.1; omega
        have h3ob : τ 3 ob = 0 := (hl.2.1 v ob hv34 hob8 heb).mp hv6
        obtain ⟨so, so1, so2, so3⟩ := st.1 ob hob8
        have hso : 0 < so := so3.mpr ⟨v, hv34, heb⟩
        have hstp : (0 : Int32) < τ 5 ob := by rw [so2, ← nI_0]; exact nI_lt hso (by omega)
        have hcnt : (lkN (τ 5) (τ 3) n).1 = 34 := by
          rw [lkN_1, ← ct]
          exact cb_full 34 (fun k hk => decide_eq_true (hused k hk))
        have hold : (lkN (τ 5) (τ 3) n).2 = nI ob := by
          rcases lkN_2 (τ 5) (τ 3) n hn with ⟨-, q⟩ | ⟨j, hj, e, q1, q2, q3⟩
          · exact absurd h3ob (q ob hob.1 hstp)
          · have hj8 : j < 80 := by omega
            obtain ⟨sj, sj1, sj2, sj3⟩ := st.1 j hj8
            have hsj : 0 < sj := by
              apply Classical.byContradiction
              intro q
              have : sj = 0 := by omega
              rw [sj2, this] at q1
              exact absurd q1 (by decide)
            obtain ⟨kj, hkj, hkj5⟩ := sj3.mp hsj
            have hkj6 : σ 6 kj = 0 := (hl.2.1 kj j hkj hj8 hkj5).mpr q2
            have hmem : kj ∈ S.reverse ++ v :: T.reverse := by rw [← hL]; exact (ring.2.2.2 kj).mpr hkj
            rcases List.mem_append.mp hmem with hm1 | hm1
            · have lr2 := lr
              rw [hL, LrO, List.pairwise_append] at lr2
              have h9 := (lr2.2.2 kj hm1 v List.mem_cons_self (hused v hv34)).2
              rw [heb, hkj5, nI_clamp (by omega), nI_clamp (by omega)] at h9
              exact absurd h9 (Int32.not_lt.mpr (q3 ob hob.1 hstp h3ob))
            · rcases List.mem_cons.mp hm1 with e2 | e2
              · rw [e2] at hkj5
                rw [e, nI_inj (by omega) (by omega) (hkj5.symm.trans heb)]
              · exact absurd hkj6 (hT kj (List.mem_reverse.mp e2))
        have hbo : b ≠ ob := fun e => hncd v hv34 (by rw [e]; exact heb)
        have e5b : lk1 n τ 5 = upd (τ 5) ob 0 := by rw [lk1_5a hcnt, hold, nI_clamp (by omega)]
        refine ⟨v, S.reverse, T.reverse, hv34, Or.inr ⟨hfree, T, hpth⟩, hL, hv6, fun _ => by rw [hold]; exact m1_ne (by omega), fun b' hb' _ e => ?_, fun b' hb' _ e => ?_, ?_⟩
        · rw [e5b, ← nI_inj (by omega) (by omega) (heb.symm.trans e), pk_us]
        · rw [e5b, pk_un (fun q => e (by rw [q]; exact heb))]
        · rw [cb_full 34 (fun k hk => decide_eq_true (by
            by_cases hkv : k = v
            · rw [hkv, pk_us]; exact m1_ne (by omega)
            · rw [pk_un hkv]; exact hused k hk))]
          have c1 : cb (fun b' => decide (0 < τ 5 b')) n = 34 := by rw [← lkN_1 (τ 5) (τ 3)]; exact hcnt
          have c2 := cb_set (p := fun b' => decide (0 < lk1 n τ 5 b')) (q := fun b' => decide (0 < τ 5 b')) (j := ob) (by rw [e5b, pk_us]; decide) (decide_eq_true hstp) (fun k hk => by rw [e5b, pk_un hk]) n hob.1
          have c3 := cb_set (p := fun b' => decide (0 < lk1 n τ 5 b')) (q := fun b' => decide (0 < upd (lk1 n τ 5) b (nI (t + 1)) b')) (j := b) (by rw [e5b, pk_un hbo, hz]; decide) (by rw [pk_us]; exact decide_eq_true a2) (fun k hk => by rw [pk_un hk]) n hb.1
          omega
    obtain ⟨v, L1, L2, hv34, hVc, rfl, hv6, hold, G2, G3, hcnt⟩ := hvic
    have etk : tk σ b v = us (tk0 σ b v) v := by rw [tk, if_neg hit]
    obtain ⟨q1, q2, q3⟩ := inst (g' := lkS n b τ 5) hn ht hv34 hb rows st lr (fun x hx => (ring.2.2.2 x).mp hx) ring.2.2.1 (fun k hk _ => hncd k hk) (by rw [e5, pk_us]) (fun b' hb' hbb e => by rw [e5, pk_un hbb]; exact G2 b' hb' hbb e) (fun b' hb' hbb e => by rw [e5, pk_un hbb]; exact G3 b' hb' hbb e)
    have q4 := inst_h hn hv34 hb rows hl (fun k hk _ => hncd k hk) (Or.inl ⟨hv6, h3b⟩)
    have ring' : RingL (tk0 σ b v 7) (tk0 σ b v 8) (L1 ++ v :: L2) := by
      rw [tk0_ne (by decide) (by decide) (by omega), tk0_ne (by decide) (by decide) (by omega)]
      exact ring
    have ejj : ∀ j, j ≠ 0 → j ≠ 5 → lkS n b τ j = τ j := fun j j0 j5 => by rw [ej j j0 j5, lk1_ne j0 j5]
    refine ⟨v, L1 ++ L2, hv34, Or.inr ⟨hit, hVc⟩, fun _ => hold, ?_, ?_, fun j j14 j3 j5 j7 j8 => ?_, ejj, fun k k7 k12 => by rw [e0 k k7, lk1_0 k12], e07, fun e => ?_⟩
    · rw [etk]
      refine ⟨us_ring ring', ?_⟩
      rw [us_ne (j := 5) (by decide) (by decide), us_ne (j := 6) (by decide) (by decide), ejj 2 (by decide) (by decide), ejj 3 (by decide) (by decide), tk0_5, tk0_ne (j := 6) (by decide) (by decide) (by omega)]
      refine ⟨q1, q2, ?_, q3, ?_, q4⟩
      · rw [CtOk, e5]; exact hcnt
      · refine inst_c (R := fun k => σ (k + 14)) hn hb con (fun k hk => ?_) (fun j hj => ?_)
        · show us (tk0 σ b v) v (k + 14) = σ (k + 14)
          rw [us_ne (by omega) (by omega), tk0_ne (by omega) (by omega) (by omega)]
        · show bt (us (tk0 σ b v) v (v + 14) j) = _
          rw [us_ne (by omega) (by omega), tk0_row hj, hdk j hj, hcl b hb h3b j hj]
    · rw [etk, us_ne (by decide) (by decide), tk0_5, pk_us]
    · rw [etk, us_ne j7 j8, tk0_ne j3 j5 (by omega)]
    · rw [etk, us_ne (by decide) (by decide), tk0_36, e0 12 (by decide), lk1_12, e]
end
section
/-! THE RELATION, and the operations that write no platter -/
def Base (n t : Nat) (σ τ : Sg) : Prop := 40 ≤ n ∧ n ≤ 80 ∧ σ 1 1 = nI n ∧ τ 0 1 = nI n ∧ σ 1 2 = τ 0 11 ∧ σ 3 6 = τ 0 12 ∧ σ 9 8 = τ 0 13 ∧ τ 0 7 = nI t
def On (n t : Nat) (σ τ : Sg) : Prop := σ 1 4 = 0 ∧ τ 0 8 ≠ 0 ∧ τ 0 14 = -1 ∧ (∃ β, lf (σ 1 3) β) ∧ σ 1 3 = τ 0 10 ∧ σ 9 9 = τ 0 9 ∧ DskOk n 0 (fun _ => 0) (σ 2) (τ 1) ∧ ∃ L sz, sz ≤ 30 ∧ σ 9 6 = nI sz ∧ Cch n t σ τ L ∧ ClnOk n (τ 3) (τ 2) (τ 1) ∧ HomOk n sz (σ 10) (σ 6) (τ 3) ∧ StpOk n sz (τ 0 9) (σ 9 7) (σ 11) (τ 4) (τ 3)
def Off (n : Nat) (σ τ : Sg) : Prop := σ 1 4 ≠ 0 ∧ τ 0 8 = 0 ∧ (∃ L, RingL (σ 7) (σ 8) L) ∧ ∃ u h, u ≤ 30 ∧ DskOk n u h (σ 2) (τ 1) ∧ τ 0 14 = (if u = 0 then -1 else nI u)
def Rel (n N : Nat) (σ τ : Sg) : Prop := ∃ t, t ≤ N ∧ Base n t σ τ ∧ (On n t σ τ ∨ Off n σ τ)
theorem Rel.mono {n N N' : Nat} {σ τ : Sg} (h : Rel n N σ τ) (hN : N ≤ N') : Rel n N' σ τ := by
  obtain ⟨t, h1, h2⟩ := h
  exact ⟨t, by omega, h2⟩
theorem th_ne {τ : Sg} {i : Nat} (h : i ≠ 0) : th0 τ i = τ i := st_ne h
theorem th_0 {τ : Sg} {k : Nat} (h : k ≠ 0) : th0 τ 0 k = τ 0 k := st_nk h
theorem Rel.th {n N : Nat} {σ τ : Sg} (h : Rel n N σ τ) : Rel n N σ (th0 τ) := by
  have e1 : th0 τ 1 = τ 1 := th_ne (by decide)
  have e2 : th0 τ 2 = τ 2 := th_ne (by decide)
  have e3 : th0 τ 3 = τ 3 := th_ne (by decide)
  have e4 : th0 τ 4 = τ 4 := th_ne (by decide)
  have e5 : th0 τ 5 = τ 5 := th_ne (by decide)
  have f1 : th0 τ 0 1 = τ 0 1 := th_0 (by decide)
  have f7 : th0 τ 0 7 = τ 0 7 := th_0 (by decide)
  have f8 : th0 τ 0 8 = τ 0 8 := th_0 (by decide)
  have f9 : th0 τ 0 9 = τ 0 9 := th_0 (by decide)
  have f10 : th0 τ 0 10 = τ 0 10 := th_0 (by decide)
  have f11 : th0 τ 0 11 = τ 0 11 := th_0 (by decide)
  have f12 : th0 τ 0 12 = τ 0 12 := th_0 (by decide)
  have f13 : th0 τ 0 13 = τ 0 13 := th_0 (by decide)
  have f14 : th0 τ 0 14 = τ 0 14 := th_0 (by decide)
  simp only [Rel, Base, On, Off, Cch, e1, e2, e3, e4, e5, f1, f7, f8, f9, f10, f11, f12, f13, f14] at h ⊢
  exact h
theorem itr_fill {i : Nat} {v : Int32} : ∀ (d k : Nat) (σ : Sg) (p : Nat), itr (fun k σ => set1 σ i k v) d k σ i p = if k ≤ p ∧ p < k + d then v else σ i p := by
  intro d
  induction d with
  | zero => intro k σ p; rw [if_neg (by omega)]; rfl
  | succ d ih =>
    intro k σ p
    rw [itr, ih (k + 1)]
    by_cases h1 : p = k
    · subst h1
      rw [if_neg (by omega), if_pos (by omega), st_eq]
    · by_cases h2 : k + 1 ≤ p ∧ p < k + 1 + d
      · rw [if_pos h2, if_pos (by omega)]
      · rw [if_neg h2, if_neg (by omega), st_nk h1]
theorem ibr_ub {n : Nat} {b : Int32} (hn : n ≤ 80) (h : ¬ ibr (nI n) b = 0) : ∃ b', b = nI b' ∧ ub n b' := by
  have hc : ¬ b < 0 ∧ b < nI n ∧ (b < 2 ∨ 32 < b) := by
    apply Classical.byContradiction
    intro q
    rw [ibr, if_neg q] at h
    exact h rfl
  obtain ⟨j, hj, rfl⟩ := nI_of hc.1
  refine ⟨j, rfl, (nI_ltI hj (by omega)).mp hc.2.1, ?_⟩
  rcases hc.2.2 with q | q
  · exact Or.inl ((nI_ltI hj (by omega)).mp (show nI j < nI 2 from q))
  · exact Or.inr ((nI_ltI (by omega) hj).mp (show nI 32 < nI j from q))
-- begin
theorem op_begin {n N : Nat} {σ τ : Sg} (h : Rel n N σ τ) : ∃ rv σ' τ', (∀ l G ad, MI l G (Yc G n ad) y_BV_begin b_BV_begin 1 (some .boolean) 1 σ [.ref (ad 0)] rv σ') ∧ (∀ l G am, MI l G (Ym G am) y_Md_begin b_Md_begin 2 (some .boolean) 0 τ [.ref (am 0)] rv τ') ∧ Rel n N σ' τ' := by
  have hth := h.th
  obtain ⟨t, ht, hB, hon | hoff⟩ := id h
  · obtain ⟨h4, h8, h14, hβ, h3, h9, hdk, L, sz, hsz, h96, hc, hcl, hhom, hstp⟩ := hon
    by_cases hop : τ 0 9 = 0
    · have e9 : ∀ j, j ≠ 9 → j ≠ 11 → lgb n σ j = σ j := fun j a b => by
        rw [lgb, itr_ne (fun _ _ => st_ne b), st_ne a, st_ne a]
      have e9k : ∀ k, k ≠ 7 → k ≠ 9 → lgb n σ 9 k = σ 9 k := fun k a b => by
        rw [lgb, itr_ne (fun _ _ => st_ne (by decide)), st_nk a, st_nk b]
      have e97 : lgb n σ 9 7 = 0 := by rw [lgb, itr_ne (fun _ _ => st_ne (by decide)), st_eq]
      have e99 : lgb n σ 9 9 = 1 := by rw [lgb, itr_ne (fun _ _ => st_ne (by decide)), st_nk (by decide), st_eq]
      have e11 : ∀ b, b < n → lgb n σ 11 b = 0 := fun b hb => by rw [lgb, itr_fill, if_pos (by omega)]
      have m : ∀ j, j ≠ 0 → j ≠ 4 → mbg τ j = τ j := fun j a b => by
        rw [mbg, itr_ne (fun _ _ => st_ne b), st_ne a, th_ne a]
      have m0 : ∀ k, k ≠ 0 → k ≠ 9 → mbg τ 0 k = τ 0 k := fun k a b => by
        rw [mbg, itr_ne (fun _ _ => st_ne (by decide)), st_nk b, th_0 a]
      have m9 : mbg τ 0 9 = 1 := by rw [mbg, itr_ne (fun _ _ => st_ne (by decide)), st_eq]
      have m4 : ∀ b, b < 80 → mbg τ 4 b = 0 := fun b hb => by rw [mbg, itr_fill, if_pos (by omega)]
      obtain ⟨b1, b2, b3, b4, b5, b6, b7, b8⟩ := hB
      refine ⟨1, lgb n σ, mbg τ, fun l G ad => c_BV_begin1 l G n ad σ b2 h4 (by rw [h9]; exact hop), fun l G am => c_Md_begin1 l G am τ (by rw [th_0 (by decide)]; exact h8) (by rw [th_0 (by decide)]; exact hop), t, ht, ⟨b1, b2, ?_, ?_, ?_, ?_, ?_, ?_⟩, Or.inl ?_⟩
      · rw [e9 1 (by decide) (by decide)]; exact b3
      · rw [m0 1 (by decide) (by decide)]; exact b4
      · rw [e9 1 (by decide) (by decide), m0 11 (by decide) (by decide)]; exact b5
      · rw [e9 3 (by decide) (by decide), m0 12 (by decide) (by decide)]; exact b6
      · rw [e9k 8 (by decide) (by decide), m0 13 (by decide) (by decide)]; exact b7
      · rw [m0 7 (by decide) (by decide)]; exact b8
      · unfold On Cch
        simp only [e9 1 (by decide) (by decide), e9 2 (by decide) (by decide), e9 5 (by decide) (by decide), e9 6 (by decide) (by decide), e9 7 (by decide) (by decide), e9 8 (by decide) (by decide), e9 10 (by decide) (by decide), m 1 (by decide) (by decide), m 2 (by decide) (by decide), m 3 (by decide) (by decide), m 5 (by decide) (by decide), m0 8 (by decide) (by decide), m0 10 (by decide) (by decide), m0 14 (by decide) (by decide), e9k 6 (by decide) (by decide), e97, e99, m9]
        refine ⟨h4, h8, h14, hβ, h3, trivial, hdk, L, sz, hsz, h96, ?_, hcl, hhom, fun q => absurd q (by decide), fun _ => ⟨0, by omega, rfl, mny_0 m4, by have := hstp.1 hop; omega, fun b hb => ⟨fun _ => m4 b (by omega), fun _ => e11 b hb⟩, fun b hb q => absurd (m4 b hb) q⟩⟩
        refine ⟨hc.1, hc.2.1, hc.2.2.1, hc.2.2.2.1, hc.2.2.2.2.1, ?_, hc.2.2.2.2.2.2⟩
        intro k b hk hb e j hj
        show bt (lgb n σ (k + 14) j) = _
        rw [e9 (k + 14) (by omega) (by omega)]
        exact hc.2.2.2.2.2.1 k b hk hb e j hj
    · exact ⟨0, σ, th0 τ, fun l G ad => c_BV_begin0 l G n ad σ (Or.inr (by rw [h9]; exact hop)), fun l G am => c_Md_begin0 l G am τ (Or.inr (by rw [th_0 (by decide)]; exact hop)), hth⟩
  · exact ⟨0, σ, th0 τ, fun l G ad => c_BV_begin0 l G n ad σ (Or.inl hoff.1), fun l G am => c_Md_begin0 l G am τ (Or.inl (by rw [th_0 (by decide)]; exact hoff.2.1)), hth⟩
-- cut
theorem lf_of (k : Int32) : ∃ β, lf (if 0 ≤ k then k else -1) β := by
  by_cases h : 0 ≤ k
  · rw [if_pos h]
    obtain ⟨m, h1, h2⟩ := nI_of (Int32.not_lt.mpr h)
    exact ⟨some m, h1, h2⟩
  · rw [if_neg h]
    exact ⟨none, rfl⟩
theorem op_cut {n N : Nat} {σ τ : Sg} (h : Rel n N σ τ) (k : Int32) : ∃ rv σ' τ', (∀ l G ad, MI l G (Yc G n ad) y_BV_cut b_BV_cut 2 (some .boolean) 0 σ [.ref (ad 0), .int k] rv σ') ∧ (∀ l G am, MI l G (Ym G am) y_Md_cut b_Md_cut 2 (some .boolean) 0 τ [.ref (am 0), .int k] rv τ') ∧ Rel n N σ' τ' := by
  have hth := h.th
  obtain ⟨t, ht, hB, hon | hoff⟩ := id h
  · obtain ⟨h4, h8, h14, hβ, h3, h9, hdk, L, sz, hsz, h96, hc, hcl, hhom, hstp⟩ := hon
    obtain ⟨v, hv⟩ : ∃ v, v = (if 0 ≤ k then k else -1) := ⟨_, rfl⟩
    refine ⟨1, set1 σ 1 3 v, set1 (th0 τ) 0 10 v, fun l G ad => by rw [hv]; exact c_BV_cut1 l G n ad σ k h4, fun l G am => by rw [hv]; exact c_Md_cut1 l G am τ k (by rw [th_0 (by decide)]; exact h8), ?_⟩
    have s : ∀ j, j ≠ 1 → set1 σ 1 3 v j = σ j := fun j a => st_ne a
    have s1 : ∀ j, j ≠ 3 → set1 σ 1 3 v 1 j = σ 1 j := fun j a => st_nk a
    have m : ∀ j, j ≠ 0 → set1 (th0 τ) 0 10 v j = τ j := fun j a => by rw [st_ne a, th_ne a]
    have m0 : ∀ j, j ≠ 0 → j ≠ 10 → set1 (th0 τ) 0 10 v 0 j = τ 0 j := fun j a b => by rw [st_nk b, th_0 a]
    refine ⟨t, ht, ?_, Or.inl ?_⟩
    · unfold Base
      rw [s1 1 (by decide), s1 2 (by decide), s 3 (by decide), s 9 (by decide), m0 1 (by decide) (by decide), m0 11 (by decide) (by decide), m0 12 (by decide) (by decide), m0 13 (by decide) (by decide), m0 7 (by decide) (by decide)]
      exact hB
    · unfold On Cch
      simp only [s1 4 (by decide), s 2 (by decide), s 5 (by decide), s 6 (by decide), s 7 (by decide), s 8 (by decide), s 9 (by decide), s 10 (by decide), s 11 (by decide), m 1 (by decide), m 2 (by decide), m 3 (by decide), m 4 (by decide), m 5 (by decide), m0 8 (by decide) (by decide), m0 9 (by decide) (by decide), m0 14 (by decide) (by decide)]
      refine ⟨h4, h8, h14, ?_, by rw [st_eq, st_eq], h9, hdk, L, sz, hsz, h96, ?_, hcl, hhom, hstp⟩
      · rw [st_eq, hv]; exact lf_of k
      · refine ⟨hc.1, hc.2.1, hc.2.2.1, hc.2.2.2.1, hc.2.2.2.2.1, ?_, hc.2.2.2.2.2.2⟩
        intro k b hk hb e j hj
        show bt (set1 σ 1 3 v (k + 14) j) = _
        rw [s (k + 14) (by omega)]
        exact hc.2.2.2.2.2.1 k b hk hb e j hj
  · exact ⟨0, σ, th0 τ, fun l G ad => c_BV_cut0 l G n ad σ k hoff.1, fun l G am => c_Md_cut0 l G am τ k (by rw [th_0 (by decide)]; exact hoff.2.1), hth⟩
-- count
theorem op_count {n N : Nat} {σ τ : Sg} (h : Rel n N σ τ) (w : Int32) : ∃ rv σ' τ', (∀ l G ad, MI l G (Yc G n ad) y_BV_count b_BV_count 2 (some .int) 0 σ [.ref (ad 0), .int w] rv σ') ∧ (∀ l G am, MI l G (Ym G am) y_Md_count b_Md_count 2 (some .int) 1 τ [.ref (am 0), .int w] rv τ') ∧ Rel n N σ' τ' := by
  refine ⟨cnt σ w, σ, th0 τ, fun l G ad => c_BV_count l G n ad σ w, fun l G am => ?_, h.th⟩
  have e : cnt σ w = mcnt (th0 τ) w := by
    obtain ⟨t, ht, hB, hon | hoff⟩ := h
    · obtain ⟨h4, h8, h14, hβ, h3, h9, hdk, L, sz, hsz, h96, hc, hcl, hhom, hstp⟩ := hon
      obtain ⟨b1, b2, b3, b4, b5, b6, b7, b8⟩ := hB
      simp only [cnt, mcnt, th_0 (τ := τ) (k := 8) (by decide), th_0 (τ := τ) (k := 1) (by decide), th_0 (τ := τ) (k := 9) (by decide), th_0 (τ := τ) (k := 11) (by decide), th_0 (τ := τ) (k := 12) (by decide), th_0 (τ := τ) (k := 13) (by decide), th_ne (τ := τ) (i := 3) (by decide), th_ne (τ := τ) (i := 4) (by decide), h4, b3, b4, b5, b6, b7, h96, h9, hhom.1]
      rw [if_neg h8, if_neg h8]
      by_cases hop : τ 0 9 = 0
      · simp [hop]
      · obtain ⟨c, c1, c2, c3, -⟩ := hstp.2 hop
        simp [hop, h8, c2, c3]
    · obtain ⟨b1, b2, b3, b4, b5, b6, b7, b8⟩ := hB
      simp only [cnt, mcnt, th_0 (τ := τ) (k := 8) (by decide), th_0 (τ := τ) (k := 1) (by decide), th_0 (τ := τ) (k := 9) (by decide), th_0 (τ := τ) (k := 11) (by decide), th_0 (τ := τ) (k := 12) (by decide), th_0 (τ := τ) (k := 13) (by decide), hoff.2.1, b3, b4, b5, b6, b7]
      rw [if_neg hoff.1, if_neg hoff.1, if_pos (Or.inl hoff.1)]
      simp
  rw [e]
  exact c_Md_count l G am τ w
-- held, cached
theorem op_held {n N : Nat} {σ τ : Sg} (h : Rel n N σ τ) (b : Int32) : ∃ rv σ' τ', (∀ l G ad, MI l G (Yc G n ad) y_BV_held b_BV_held 2 (some .boolean) 1 σ [.ref (ad 0), .int b] rv σ') ∧ (∀ l G am, MI l G (Ym G am) y_Md_held b_Md_held 2 (some .boolean) 1 τ [.ref (am 0), .int b] rv τ') ∧ Rel n N σ' τ' := by
  refine ⟨hld σ b, σ, th0 τ, fun l G ad => c_BV_held l G n ad σ b, fun l G am => ?_, h.th⟩
  have hB : 40 ≤ n ∧ n ≤ 80 ∧ τ 0 1 = nI n := by
    obtain ⟨t, ht, hB, -⟩ := h
    exact ⟨hB.1, hB.2.1, hB.2.2.2.1⟩
  have e : hld σ b = mhld (th0 τ) b := by
    obtain ⟨t, ht, ⟨b1, b2, b3, b4, -⟩, hon | hoff⟩ := h
    · obtain ⟨h4, h8, h14, hβ, h3, h9, hdk, L, sz, hsz, h96, hc, hcl, hhom, hstp⟩ := hon
      have hl := hc.2.2.2.2.2.2
      rw [hld, mhld, th_0 (by decide), th_0 (by decide), th_ne (by decide), b3, b4]
      by_cases hib : ibr (nI n) b = 0
      · rw [if_neg (fun q => q.2.1 hib), if_neg (fun q => q.2.1 hib)]
      · obtain ⟨b', rfl, hb'⟩ := ibr_ub b2 hib
        have hb8 : b' < 80 := by have := hb'.1; omega
        rw [nI_clamp (by omega)]
        by_cases hf : fd σ (nI b') < 34
        · have := hl.2.1 _ b' hf hb8 (fd_at hf)
          by_cases h6 : σ 6 (fd σ (nI b')) = 0
          · rw [if_neg (fun q => q.2.2.2 h6), if_neg (fun q => q.2.2 (this.mp h6))]
          · rw [if_pos ⟨h4, hib, hf, h6⟩, if_pos ⟨h8, hib, fun q => h6 (this.mpr q)⟩]
        · have h3 : τ 3 b' = 0 := by
            apply Classical.byContradiction
            intro q
            obtain ⟨k, hk, e⟩ := hl.2.2 b' hb8 q
            exact fd_no hf k hk e
          rw [if_neg (fun q => hf q.2.2.1), if_neg (fun q => q.2.2 h3)]
    · rw [hld, mhld, th_0 (by decide), if_neg (fun q => hoff.1 q.1), if_neg (fun q => q.1 hoff.2.1)]
  rw [e]
  exact c_Md_held l G am τ n hB.2.1 hB.1 (by rw [th_0 (by decide)]; exact hB.2.2) b
theorem op_cached {n N : Nat} {σ τ : Sg} (hN : N < 2 ^ 29) (h : Rel n N σ τ) (b : Int32) : ∃ rv σ' τ', (∀ l G ad, MI l G (Yc G n ad) y_BV_cached b_BV_cached 2 (some .boolean) 1 σ [.ref (ad 0), .int b] rv σ') ∧ (∀ l G am, MI l G (Ym G am) y_Md_cached b_Md_cached 2 (some .boolean) 1 τ [.ref (am 0), .int b] rv τ') ∧ Rel n N σ' τ' := by
  refine ⟨cch σ b, σ, th0 τ, fun l G ad => c_BV_cached l G n ad σ b, fun l G am => ?_, h.th⟩
  have hB : 40 ≤ n ∧ n ≤ 80 ∧ τ 0 1 = nI n := by
    obtain ⟨t, ht, hB, -⟩ := h
    exact ⟨hB.1, hB.2.1, hB.2.2.2.1⟩
  have e : cch σ b = mcch (th0 τ) b := by
    obtain ⟨t, ht, ⟨b1, b2, b3, b4, -⟩, hon | hoff⟩ := h
    · obtain ⟨h4, h8, h14, hβ, h3, h9, hdk, L, sz, hsz, h96, hc, hcl, hhom, hstp⟩ := hon
      have hst := hc.2.2.1
      rw [cch, mcch, th_0 (by decide), th_0 (by decide), th_ne (by decide), b3, b4]
      by_cases hib : ibr (nI n) b = 0
      · rw [if_neg (fun q => q.2.1 hib), if_neg (fun q => q.2.1 hib)]
      · obtain ⟨b', rfl, hb'⟩ := ibr_ub b2 hib
        have hb8 : b' < 80 := by have := hb'.1; omega
        rw [nI_clamp (by omega)]
        obtain ⟨s, s1, s2, s3⟩ := hst.1 b' hb8
        by_cases hf : fd σ (nI b') < 34
        · have hs : 0 < s := s3.mpr ⟨_, hf, fd_at hf⟩
          rw [if_pos ⟨h4, hib, hf⟩, if_pos ⟨h8, hib, by rw [s2, ← nI_0]; exact nI_lt hs (by omega)⟩]
        · have hs : s = 0 := by
            apply Classical.byContradiction
            intro q
            obtain ⟨k, hk, e⟩ := s3.mp (by omega)
            exact fd_no hf k hk e
          rw [if_neg (fun q => hf q.2.2), if_neg (fun q => by
            have q := q.2.2
            rw [s2, hs] at q
            exact absurd q (by decide))]
    · rw [cch, mcch, th_0 (by decide), if_neg (fun q => hoff.1 q.1), if_neg (fun q => q.1 hoff.2.1)]
  rw [e]
  exact c_Md_cached l G am τ n hB.2.1 hB.1 (by rw [th_0 (by decide)]; exact hB.2.2) b
end
section
/-! get and fill -/
theorem k1023 {k : Int32} : k ≤ 1023 ↔ k < 1024 := by
  rw [Int32.le_iff_toInt_le, Int32.lt_iff_toInt_lt]
  have a : (1023 : Int32).toInt = 1023 := by decide
  have b : (1024 : Int32).toInt = 1024 := by decide
  omega
theorem op_get {n N : Nat} {σ τ : Sg} (hN : N < 2 ^ 29) (h : Rel n N σ τ) (b k : Int32) : ∃ rv σ' τ', (∀ l G ad, MI l G (Yc G n ad) y_BV_get b_BV_get 3 (some .int) 4 σ [.ref (ad 0), .int b, .int k] rv σ') ∧ (∀ l G am, MI l G (Ym G am) y_Md_get b_Md_get 3 (some .int) 1 τ [.ref (am 0), .int b, .int k] rv τ') ∧ Rel n (N + 1) σ' τ' := by
  have hth := h.th
  obtain ⟨t, ht, hB, hon | hoff⟩ := id hth
  · obtain ⟨b1, b2, b3, b4, b5, b6, b7, b8⟩ := hB
    obtain ⟨h4, h8, h14, hβ, h3, h9, hdk, L, sz, hsz, h96, hc, hcl, hhom, hstp⟩ := hon
    by_cases hno : ibr (nI n) b = 0 ∨ k < 0 ∨ ¬ k < 1024
    · refine ⟨-1, σ, th0 τ, fun l G ad => c_BV_get0 l G n ad σ b k (Or.inr (by rw [b3]; exact hno)), fun l G am => c_Md_get0 l G am τ b k (Or.inr ?_), hth.mono (by omega)⟩
      rw [b4]
      rcases hno with q | q | q
      · exact Or.inl q
      · exact Or.inr (Or.inl q)
      · exact Or.inr (Or.inr (fun q2 => q (k1023.mp q2)))
    · have hib : ¬ ibr (nI n) b = 0 := fun q => hno (Or.inl q)
      have hk0 : ¬ k < 0 := fun q => hno (Or.inr (Or.inl q))
      have hk1 : k < 1024 := Classical.byContradiction fun q => hno (Or.inr (Or.inr q))
      obtain ⟨b', rfl, hb'⟩ := ibr_ub b2 hib
      obtain ⟨k', hk', rfl⟩ := nI_of hk0
      have hk2 : k' < 1024 := (nI_ltI hk' (by omega)).mp (show nI k' < nI 1024 from hk1)
      have hb8 : b' < 80 := by have := hb'.1; omega
      obtain ⟨r, M, hr, hT, hold, hc', hr5, hfr, hmj, hm0, hm7, hrd⟩ := take_ok b2 (by omega) b8 hc hb' (by rw [hhom.2.1]; omega) hcl (fun j hj => hdk.2.2 b' hb' (fun i hi => by omega) j hj)
      refine ⟨bt (tk σ b' r (r + 14) k') &&& 255, tk σ b' r, lkS n b' (th0 τ), fun l G ad => c_BV_get1 l G n ad σ b' k' r b2 h4 (by rw [b3]; exact hib) hb'.1 hk2 hT hr hc.1.vin, fun l G am => ?_, t + 1, by omega, ?_, Or.inl ?_⟩
      · have e : bt (tk σ b' r (r + 14) k') = bt (lkS n b' (th0 τ) 2 (1024 * b' + k')) := hc'.2.2.2.2.2.1 r b' hr hb8 hr5 k' hk2
        rw [e]
        exact c_Md_get1 l G am τ n b' b2 hb'.1 b4 hold k' hk2 h8 (by rw [b4]; exact hib)
      · unfold Base
        rw [hfr 1 (by omega) (by decide) (by decide) (by decide) (by decide), hfr 9 (by omega) (by decide) (by decide) (by decide) (by decide), hm0 1 (by decide) (by decide), hm0 11 (by decide) (by decide), hm0 13 (by decide) (by decide)]
        exact ⟨b1, b2, b3, b4, b5, hrd b6, b7, hm7⟩
      · unfold On
        rw [hfr 1 (by omega) (by decide) (by decide) (by decide) (by decide), hfr 2 (by omega) (by decide) (by decide) (by decide) (by decide), hfr 6 (by omega) (by decide) (by decide) (by decide) (by decide), hfr 9 (by omega) (by decide) (by decide) (by decide) (by decide), hfr 10 (by omega) (by decide) (by decide) (by decide) (by decide), hfr 11 (by omega) (by decide) (by decide) (by decide) (by decide), hmj 1 (by decide) (by decide), hmj 2 (by decide) (by decide), hmj 3 (by decide) (by decide), hmj 4 (by decide) (by decide), hm0 8 (by decide) (by decide), hm0 14 (by decide) (by decide), hm0 10 (by decide) (by decide), hm0 9 (by decide) (by decide)]
        exact ⟨h4, h8, h14, hβ, h3, h9, hdk, r :: M, sz, hsz, h96, hc', hcl, hhom, hstp⟩
  · exact ⟨-1, σ, th0 τ, fun l G ad => c_BV_get0 l G n ad σ b k (Or.inl hoff.1), fun l G am => c_Md_get0 l G am τ b k (Or.inl hoff.2.1), hth.mono (by omega)⟩
theorem itr_fillF {i a : Nat} {w : Nat → Int32} : ∀ (d k : Nat) (σ : Sg) (p : Nat), itr (fun k σ => set1 σ i (a + k) (w k)) d k σ i p = if a + k ≤ p ∧ p < a + k + d then w (p - a) else σ i p := by
  intro d
  induction d with
  | zero => intro k σ p; rw [if_neg (by omega)]; rfl
  | succ d ih =>
    intro k σ p
    rw [itr, ih (k + 1)]
    by_cases h1 : p = a + k
    · subst h1
      rw [if_neg (by omega), if_pos (by omega), st_eq, Nat.add_sub_cancel_left]
    · by_cases h2 : a + (k + 1) ≤ p ∧ p < a + (k + 1) + d
      · rw [if_pos h2, if_pos (by omega)]
      · rw [if_neg h2, if_neg (by omega), st_nk h1]
theorem fl0_ne {σ : Sg} {r k cn j : Nat} {v : Int32} (h : j ≠ r + 14) : fl0 σ r k cn v j = σ j := itr_ne (fun _ _ => st_ne h) _ _ _
theorem fl0_at {σ : Sg} {r k cn p : Nat} {v : Int32} : fl0 σ r k cn v (r + 14) p = if k ≤ p ∧ p < k + cn then (v + nI (p - k)).toInt8.toInt32 else σ (r + 14) p := itr_fillF (w := fun j => (v + nI j).toInt8.toInt32) cn 0 σ p
section TCH
variable {σ X : Sg} {b k sz : Nat}
theorem tch_all (hX : tk σ b k = X) (h96 : X 9 6 = nI sz) (hsz : sz < 2 ^ 30) : tch σ b k 6 = (if X 6 k = 0 then upd (X 6) k 1 else X 6) ∧ tch σ b k 10 = (if X 6 k = 0 then upd (X 10) sz (nI b) else X 10) ∧ tch σ b k 9 6 = (if X 6 k = 0 then nI (sz + 1) else nI sz) ∧ tch σ b k 9 7 = (if X 11 b = 0 then X 9 7 + 1 else X 9 7) ∧ (∀ j, j ≠ 6 → j ≠ 7 → tch σ b k 9 j = X 9 j) ∧ tch σ b k 11 = (if X 11 b = 0 then upd (X 11) b 1 else X 11) ∧ ∀ j, j ≠ 6 → j ≠ 9 → j ≠ 10 → j ≠ 11 → tch σ b k j = X j := by
  have e11 : (if X 6 k = 0 then set1 (set1 (set1 X 6 k 1) 10 (set1 X 6 k 1 9 6).toNatClampNeg (nI b)) 9 6 (set1 (set1 X 6 k 1) 10 (set1 X 6 k 1 9 6).toNatClampNeg (nI b) 9 6 + 1) else X) 11 = X 11 := by
    split
    · rw [st_ne (by decide), st_ne (by decide), st_ne (by decide)]
    · rfl
  simp only [tch, hX]
  by_cases h6 : X 6 k = 0
  · rw [if_pos h6] at e11
    simp only [if_pos h6]
    have c1 : (set1 X 6 k 1 9 6).toNatClampNeg = sz := by rw [st_ne (by decide), h96, nI_clamp (by omega)]
    have c2 : set1 (set1 X 6 k 1) 10 sz (nI b) 9 6 + 1 = nI (sz + 1) := by rw [st_ne (by decide), st_ne (by decide), h96, nI_1]
    rw [c1] at e11 ⊢
    rw [c2] at e11 ⊢
    rw [e11]
    by_cases h11 : X 11 b = 0
    · simp only [if_pos h11]
      refine ⟨?_, ?_, ?_, ?_, fun j a c => ?_, ?_, fun j a c d e => ?_⟩
      · rw [st_ne (by decide), st_ne (by decide), st_ne (by decide), st_ne (by decide), st_self]
      · rw [st_ne (by decide), st_ne (by decide), st_ne (by decide), st_self, st_ne (by decide)]
      · rw [st_nk (by decide), st_ne (by decide), st_eq]
      · rw [st_eq, st_ne (by decide), st_nk (by decide), st_ne (by decide), st_ne (by decide)]
      · rw [st_nk c, st_ne (by decide), st_nk a, st_ne (by decide), st_ne (by decide)]
      · rw [st_ne (by decide), st_self, e11]
      · rw [st_ne c, st_ne e, st_ne c, st_ne d, st_ne a]
    · simp only [if_neg h11]
      refine ⟨?_, ?_, ?_, ?_, fun j a c => ?_, ?_, fun j a c d e => ?_⟩
      · rw [st_ne (by decide), st_ne (by decide), st_self]
      · rw [st_ne (by decide), st_self, st_ne (by decide)]
      · rw [st_eq]
      · rw [st_nk (by decide), st_ne (by decide), st_ne (by decide)]
      · rw [st_nk a, st_ne (by decide), st_ne (by decide)]
      · exact e11
      · rw [st_ne c, st_ne d, st_ne a]
  · simp only [if_neg h6]
    by_cases h11 : X 11 b = 0
    · simp only [if_pos h11]
      refine ⟨?_, ?_, ?_, ?_, fun j a c => ?_, ?_, fun j a c d e => ?_⟩
      · rw [st_ne (by decide), st_ne (by decide)]
      · rw [st_ne (by decide), st_ne (by decide)]
      · rw [st_nk (by decide), st_ne (by decide), h96]
      · rw [st_eq, st_ne (by decide)]
      · rw [st_nk c, st_ne (by decide)]
      · rw [st_ne (by decide), st_self]
      · rw [st_ne c, st_ne e]
    · simp only [if_neg h11]
      exact ⟨trivial, trivial, h96, trivial, fun _ _ _ => trivial, trivial, fun _ _ _ _ _ => trivial⟩
end TCH
theorem mfl_all {n b k cn : Nat} {v : Int32} {τ : Sg} : mfl n b k cn v τ 3 = upd (lkS n b τ 3) b 1 ∧ mfl n b k cn v τ 4 = upd (lkS n b τ 4) b 1 ∧ (∀ j, j ≠ 2 → j ≠ 3 → j ≠ 4 → mfl n b k cn v τ j = lkS n b τ j) ∧ ∀ p, mfl n b k cn v τ 2 p = if 1024 * b + k ≤ p ∧ p < 1024 * b + k + cn then (v + nI (p - (1024 * b + k))).toInt8.toInt32 else lkS n b τ 2 p := by
  refine ⟨?_, ?_, fun j a c d => ?_, fun p => ?_⟩
  · rw [mfl, itr_ne (fun _ _ => st_ne (by decide)), st_self, st_ne (by decide)]
  · rw [mfl, itr_ne (fun _ _ => st_ne (by decide)), st_ne (by decide), st_self]
  · rw [mfl, itr_ne (fun _ _ => st_ne a), st_ne c, st_ne d]
  · rw [mfl, itr_fillF (w := fun j => (v + nI j).toInt8.toInt32), st_ne (by decide), st_ne (by decide)]
    rfl
end
section
theorem op_fill {n N : Nat} {σ τ : Sg} (hN : N < 2 ^ 29) (h : Rel n N σ τ) (b k cn v : Int32) : ∃ rv σ' τ', (∀ l G ad, MI l G (Yc G n ad) y_BV_fill b_BV_fill 7 (some .boolean) 4 σ [.ref (ad 0), .int b, .int k, .int cn, .int v] rv σ') ∧ (∀ l G am, MI l G (Ym G am) y_Md_fill b_Md_fill 6 (some .boolean) 1 τ [.ref (am 0), .int b, .int k, .int cn, .int v] rv τ') ∧ Rel n (N + 1) σ' τ' := by
  have hth := h.th
  obtain ⟨t, ht, hB, hon | hoff⟩ := id hth
  · obtain ⟨b1, b2, b3, b4, b5, b6, b7, b8⟩ := hB
    obtain ⟨h4, h8, h14, hβ, h3, h9, hdk, L, sz, hsz, h96, hc, hcl, hhom, hstp⟩ := hon
    have refuse : (mtr σ b.toNatClampNeg = 0 ∨ cn < 1 ∨ 1024 < cn ∨ k < 0 ∨ ¬ k ≤ 1024 - cn ∨ ibr (nI n) b = 0) → (th0 τ 0 9 = 0 ∨ ibr (nI n) b = 0 ∨ cn < 1 ∨ 1024 < cn ∨ k < 0 ∨ ¬ k ≤ 1024 - cn ∨ (th0 τ 4 b.toNatClampNeg = 0 ∧ mny (th0 τ 4) 80 = 10)) → ∃ rv σ' τ', (∀ l G ad, MI l G (Yc G n ad) y_BV_fill b_BV_fill 7 (some .boolean) 4 σ [.ref (ad 0), .int b, .int k, .int cn, .int v] rv σ') ∧ (∀ l G am, MI l G (Ym G am) y_Md_fill b_Md_fill 6 (some .boolean) 1 τ [.ref (am 0), .int b, .int k, .int cn, .int v] rv τ') ∧ Rel n (N + 1) σ' τ' := by
      intro q1 q2
      refine ⟨0, σ, th0 τ, fun l G ad => c_BV_fill0 l G n ad σ b k cn v b2 b1 b3 ?_, fun l G am => c_Md_fill0 l G am τ n b k cn v b2 b1 b4 (Or.inr (by rw [b4]; exact q2)), hth.mono (by omega)⟩
      rw [b3]
      rcases q1 with q | q | q | q | q | q
      · exact Or.inr (Or.inr (Or.inl q))
      · exact Or.inr (Or.inr (Or.inr (Or.inl q)))
      · exact Or.inr (Or.inr (Or.inr (Or.inr (Or.inl q))))
      · exact Or.inr (Or.inr (Or.inr (Or.inr (Or.inr (Or.inl q)))))
      · exact Or.inr (Or.inr (Or.inr (Or.inr (Or.inr (Or.inr q)))))
      · exact Or.inr (Or.inl q)
    by_cases hib : ibr (nI n) b = 0
    · exact refuse (Or.inr (Or.inr (Or.inr (Or.inr (Or.inr hib))))) (Or.inr (Or.inl hib))
    by_cases hop : th0 τ 0 9 = 0
    · refine refuse (Or.inl ?_) (Or.inl hop)
      rw [mtr, if_neg (fun q => q.1 (by rw [h9]; exact hop))]
    by_cases c1 : cn < 1
    · exact refuse (Or.inr (Or.inl c1)) (Or.inr (Or.inr (Or.inl c1)))
    by_cases c2 : 1024 < cn
    · exact refuse (Or.inr (Or.inr (Or.inl c2))) (Or.inr (Or.inr (Or.inr (Or.inl c2))))
    by_cases c3 : k < 0
    · exact refuse (Or.inr (Or.inr (Or.inr (Or.inl c3)))) (Or.inr (Or.inr (Or.inr (Or.inr (Or.inl c3)))))
    by_cases c4 : k ≤ 1024 - cn
    case neg => exact refuse (Or.inr (Or.inr (Or.inr (Or.inr (Or.inl c4))))) (Or.inr (Or.inr (Or.inr (Or.inr (Or.inr (Or.inl c4))))))
    obtain ⟨b', rfl, hb'⟩ := ibr_ub b2 hib
    have hb8 : b' < 80 := by have := hb'.1; omega
    obtain ⟨c, hc10, hcc, hcm, hcs, hmine, hchh⟩ := hstp.2 hop
    have hcl' : (nI b').toNatClampNeg = b' := nI_clamp (by omega)
    by_cases c5 : th0 τ 4 b' = 0 ∧ c = 10
    · refine refuse (Or.inl ?_) (Or.inr (Or.inr (Or.inr (Or.inr (Or.inr (Or.inr (by rw [hcl', hcm]; exact c5)))))))
      rw [hcl', mtr, if_neg]
      rintro ⟨-, q | q⟩
      · exact q ((hmine b' hb'.1).mpr c5.1)
      · rw [hcc, c5.2] at q; exact absurd q (by decide)
    -- it is done
    have hmt : mtr σ b' ≠ 0 := by
      rw [mtr, if_pos]
      · decide
      · refine ⟨by rw [h9]; exact hop, ?_⟩
        by_cases q : th0 τ 4 b' = 0
        · have : c ≠ 10 := fun e => c5 ⟨q, e⟩
          exact Or.inr (by rw [hcc]; exact nI_lt (b := 10) (by omega) (by omega))
        · exact Or.inl (fun e => q ((hmine b' hb'.1).mp e))
    obtain ⟨cn', hcn', rfl⟩ := nI_of (x := cn) (fun q => c1 (Int32.lt_trans q (by decide)))
    obtain ⟨k', hk', rfl⟩ := nI_of c3
    have d1 : 1 ≤ cn' := by
      apply Classical.byContradiction
      intro q
      exact c1 (show nI cn' < nI 1 from nI_lt (by omega) (by omega))
    have d2 : cn' ≤ 1024 := by
      apply Classical.byContradiction
      intro q
      exact c2 (show nI 1024 < nI cn' from nI_lt (by omega) hcn')
    have d3 : k' + cn' ≤ 1024 := by
      have e : (1024 : Int32) - nI cn' = nI (1024 - cn') := pk_sub (a := 1024) d2
      rw [e] at c4
      have := (nI_leI hk' (by omega)).mp c4
      omega
    obtain ⟨r, M, hr, hT, hold, hc', hr5, hfr, hmj, hm0, hm7, hrd⟩ := take_ok b2 (by omega) b8 hc hb' (by rw [hhom.2.1]; omega) hcl (fun j hj => hdk.2.2 b' hb' (fun i hi => by omega) j hj)
    obtain ⟨s2, hs2⟩ : ∃ s2, s2 = fl0 (tk σ b' r) r k' cn' v := ⟨_, rfl⟩
    have e2 : ∀ j, j ≠ r + 14 → s2 j = tk σ b' r j := fun j hj => by rw [hs2]; exact fl0_ne hj
    have f2 : s2 5 = tk σ b' r 5 := e2 5 (by omega)
    have hfd : fd s2 (nI b') = r := by
      have hlt : fd s2 (nI b') < 34 := by
        apply Classical.byContradiction
        intro q
        exact fd_no q r hr (by rw [f2]; exact hr5)
      have ha := fd_at hlt
      rw [f2] at ha
      exact hc'.2.1.2 _ r hlt hr (ha.trans hr5.symm) (by rw [ha]; exact m1_ne (by omega))
    have hT2 : TR s2 b' r := Or.inl ⟨by rw [hfd]; exact hr, hfd.symm⟩
    have ring2 : RingL (s2 7) (s2 8) ([] ++ r :: M) := by rw [e2 7 (by omega), e2 8 (by omega)]; exact hc'.1
    have htk2 : tk s2 b' r = us s2 r := by rw [tk, if_pos (by rw [hfd]; exact hr)]
    have g : ∀ j, j < 14 → j ≠ 3 → j ≠ 5 → j ≠ 7 → j ≠ 8 → tk s2 b' r j = σ j := fun j a b c d e => by rw [htk2, us_ne d e, e2 j (by omega), hfr j a b c d e]
    have hX96 : tk s2 b' r 9 6 = nI sz := by rw [g 9 (by omega) (by decide) (by decide) (by decide) (by decide)]; exact h96
    obtain ⟨t6, t10, t96, t97, t9k, t11, tne⟩ := tch_all (σ := s2) (b := b') (k := r) rfl hX96 (by omega)
    rw [g 6 (by omega) (by decide) (by decide) (by decide) (by decide)] at t6 t10 t96
    rw [g 10 (by omega) (by decide) (by decide) (by decide) (by decide)] at t10
    rw [g 11 (by omega) (by decide) (by decide) (by decide) (by decide)] at t97 t11
    rw [g 9 (by omega) (by decide) (by decide) (by decide) (by decide)] at t97
    have t9k' : ∀ j, j ≠ 6 → j ≠ 7 → tch s2 b' r 9 j = σ 9 j := fun j a b => by rw [t9k j a b, g 9 (by omega) (by decide) (by decide) (by decide) (by decide)]
    obtain ⟨m3, m4, mj, m2⟩ := mfl_all (n := n) (b := b') (k := k') (cn := cn') (v := v) (τ := th0 τ)
    rw [hmj 3 (by decide) (by decide)] at m3
    rw [hmj 4 (by decide) (by decide)] at m4
    have m0 : ∀ j, j ≠ 7 → j ≠ 12 → mfl n b' k' cn' v (th0 τ) 0 j = th0 τ 0 j := fun j a b => by rw [mj 0 (by decide) (by decide) (by decide)]; exact hm0 j a b
    -- held or not
    have hheld : σ 6 r = 0 ↔ th0 τ 3 b' = 0 := by
      have := hc'.2.2.2.2.2.2.2.1 r b' hr hb8 hr5
      rw [hfr 6 (by omega) (by decide) (by decide) (by decide) (by decide), hmj 3 (by decide) (by decide)] at this
      exact this
    have hszlt : σ 6 r = 0 → sz < 30 := fun q => by
      have a1 : th0 τ 4 b' = 0 := by
        apply Classical.byContradiction
        intro q2
        exact hchh b' hb8 q2 (hheld.mp q)
      have : c ≠ 10 := fun e => c5 ⟨a1, e⟩
      omega
    refine ⟨1, tch s2 b' r, mfl n b' k' cn' v (th0 τ), fun l G ad => ?_, fun l G am => c_Md_fill1 l G am τ n b' b2 hb'.1 b4 hold k' cn' v d1 d3 h8 hop (by rw [b4]; exact hib) ?_, t + 1, by omega, ?_, Or.inl ?_⟩
    · rw [hs2]
      exact c_BV_fill1 l G n ad σ b' k' cn' r sz v b2 h4 (by rw [b3]; exact hib) hmt hb'.1 d1 d3 hT hr hc.1.vin (by rw [← hs2]; exact hT2) (by rw [← hs2]; exact ring2.vin) (by rw [← hs2]; exact hX96) (by rw [← hs2, g 6 (by omega) (by decide) (by decide) (by decide) (by decide)]; exact hszlt)
    · by_cases q : th0 τ 4 b' = 0
      · exact Or.inr (by rw [hcm]; exact fun e => c5 ⟨q, e⟩)
      · exact Or.inl q
    · unfold Base
      rw [tne 1 (by decide) (by decide) (by decide) (by decide), tne 3 (by decide) (by decide) (by decide) (by decide), g 1 (by omega) (by decide) (by decide) (by decide) (by decide), t9k' 8 (by decide) (by decide), m0 1 (by decide) (by decide), m0 11 (by decide) (by decide), m0 13 (by decide) (by decide), mj 0 (by decide) (by decide) (by decide)]
      refine ⟨b1, b2, b3, b4, b5, ?_, b7, hm7⟩
      rw [htk2, us_ne (by decide) (by decide), e2 3 (by omega)]
      exact hrd b6
    · unfold On
      rw [tne 1 (by decide) (by decide) (by decide) (by decide), tne 2 (by decide) (by decide) (by decide) (by decide), g 1 (by omega) (by decide) (by decide) (by decide) (by decide), g 2 (by omega) (by decide) (by decide) (by decide) (by decide), t9k' 9 (by decide) (by decide), m0 8 (by decide) (by decide), m0 14 (by decide) (by decide), m0 10 (by decide) (by decide), m0 9 (by decide) (by decide), mj 1 (by decide) (by decide) (by decide), hmj 1 (by decide) (by decide)]
      -- the new number of homes
      obtain ⟨sz', hsz', hsz2⟩ : ∃ sz', (if σ 6 r = 0 then sz + 1 else sz) = sz' ∧ sz' ≤ 30 := by
        refine ⟨_, rfl, ?_⟩
        by_cases q : σ 6 r = 0
        · rw [if_pos q]; have := hszlt q; omega
        · rw [if_neg q]; exact hsz
      have n5 : tch s2 b' r 5 = tk σ b' r 5 := by rw [tne 5 (by decide) (by decide) (by decide) (by decide), htk2, us_ne (by decide) (by decide), f2]
      refine ⟨h4, h8, h14, hβ, h3, h9, hdk, r :: M, sz', hsz2, ?_, ?_, ?_, ?_, ?_⟩
      · rw [t96, ← hsz']; split <;> rfl
      · -- the cache
        obtain ⟨a1, a2, a3, a4, a5, a6, a7⟩ := hc'
        unfold Cch
        rw [n5, mj 5 (by decide) (by decide) (by decide), tne 7 (by decide) (by decide) (by decide) (by decide), tne 8 (by decide) (by decide) (by decide) (by decide), htk2, m3]
        refine ⟨us_ring ring2, a2, a3, a4, a5, ?_, ?_, ?_, ?_⟩
        · intro k b hk hb e j hj
          show bt (tch s2 b' r (k + 14) j) = _
          rw [tne (k + 14) (by omega) (by omega) (by omega) (by omega), htk2, us_ne (by omega) (by omega), m2]
          by_cases hkr : k = r
          · subst hkr
            have hbb : b = b' := nI_inj (by omega) (by omega) (e.symm.trans hr5)
            subst hbb
            rw [hs2, fl0_at]
            by_cases q : k' ≤ j ∧ j < k' + cn'
            · rw [if_pos q, if_pos (by omega), show 1024 * b + j - (1024 * b + k') = j - k' by omega]
            · rw [if_neg q, if_neg (by omega)]
              exact a6 k b hk hb e j hj
          · rw [e2 (k + 14) (by omega)]
            have hbb : b ≠ b' := fun q => hkr (a2.2 k r hk hr (by rw [e, q]; exact hr5.symm) (by rw [e]; exact m1_ne (by omega)))
            rw [if_neg (by omega)]
            exact a6 k b hk hb e j hj
        · intro k hk e
          have hkr : k ≠ r := fun q => by
            rw [q, hr5] at e
            exact m1_ne (by omega) e
          have h0 := a7.1 k hk e
          rw [hfr 6 (by omega) (by decide) (by decide) (by decide) (by decide)] at h0
          rw [t6]
          split
          · rw [pk_un hkr]; exact h0
          · exact h0
        · intro k b hk hb e
          have h0 := a7.2.1 k b hk hb e
          rw [hfr 6 (by omega) (by decide) (by decide) (by decide) (by decide), hmj 3 (by decide) (by decide)] at h0
          by_cases hkr : k = r
          · subst hkr
            have hbb : b = b' := nI_inj (by omega) (by omega) (e.symm.trans hr5)
            subst hbb
            rw [t6, pk_us]
            by_cases q : σ 6 k = 0
            · rw [if_pos q, pk_us]
            · rw [if_neg q]
              exact ⟨fun q2 => absurd q2 q, fun q2 => absurd q2 (by decide)⟩
          · have hbb : b ≠ b' := fun q => hkr (a2.2 k r hk hr (by rw [e, q]; exact hr5.symm) (by rw [e]; exact m1_ne (by omega)))
            rw [pk_un hbb, t6]
            split
            · rw [pk_un hkr]; exact h0
            · exact h0
        · intro b hb q
          by_cases hbb : b = b'
          · rw [hbb]; exact ⟨r, hr, hr5⟩
          · rw [pk_un hbb] at q
            exact a7.2.2 b hb (by rw [hmj 3 (by decide) (by decide)]; exact q)
      · intro b hb e j hj
        rw [m3] at e
        have hbb : b ≠ b' := fun q => by rw [q, pk_us] at e; exact absurd e (by decide)
        rw [pk_un hbb] at e
        have hb80 : b < 80 := by have := hb.1; omega
        rw [m2, if_neg (by omega), hmj 2 (by decide) (by decide)]
        exact hcl b hb e j hj
      · -- the homes
        rw [m3, t6, t10]
        obtain ⟨o1, o2, o3, o4, o5⟩ := hhom
        by_cases q : σ 6 r = 0
        · rw [if_pos q] at hsz'
          simp only [if_pos q]
          have q3 := hheld.mp q
          subst hsz'
          refine ⟨by rw [mny_set hb8 q3, o1], by rw [mny_set hr q, o2], fun i hi => ?_, fun i j hi hj e => ?_, fun b hb e => ?_⟩
          · by_cases hi2 : i = sz
            · rw [hi2, pk_us]; exact ⟨b', hb', rfl, by rw [pk_us]; decide⟩
            · obtain ⟨b, p1, p2, p3⟩ := o3 i (by omega)
              refine ⟨b, p1, by rw [pk_un hi2]; exact p2, ?_⟩
              have hbb : b ≠ b' := fun q2 => p3 (by rw [q2]; exact q3)
              rw [pk_un hbb]; exact p3
          · have key : ∀ i, i < sz → σ 10 i ≠ nI b' := fun i hi e2 => by
              obtain ⟨b, p1, p2, p3⟩ := o3 i hi
              have : b = b' := nI_inj (by have := p1.1; omega) (by omega) (p2.symm.trans e2)
              exact p3 (by rw [this]; exact q3)
            by_cases hi2 : i = sz
            · by_cases hj2 : j = sz
              · rw [hi2, hj2]
              · rw [hi2, pk_us, pk_un hj2] at e
                exact absurd e.symm (key j (by omega))
            · by_cases hj2 : j = sz
              · rw [hj2, pk_us, pk_un hi2] at e
                exact absurd e (key i (by omega))
              · rw [pk_un hi2, pk_un hj2] at e
                exact o4 i j (by omega) (by omega) e
          · by_cases hbb : b = b'
            · exact ⟨sz, by omega, by rw [pk_us, hbb]⟩
            · rw [pk_un hbb] at e
              obtain ⟨i, hi, e2⟩ := o5 b hb e
              exact ⟨i, by omega, by rw [pk_un (by omega)]; exact e2⟩
        · rw [if_neg q] at hsz'
          simp only [if_neg q]
          subst hsz'
          have q3 : th0 τ 3 b' ≠ 0 := fun e => q (hheld.mpr e)
          refine ⟨by rw [mny_same q3, o1], o2, fun i hi => ?_, o4, fun b hb e => ?_⟩
          · obtain ⟨b, p1, p2, p3⟩ := o3 i hi
            refine ⟨b, p1, p2, ?_⟩
            by_cases hbb : b = b'
            · rw [hbb, pk_us]; decide
            · rw [pk_un hbb]; exact p3
          · by_cases hbb : b = b'
            · rw [hbb]; exact o5 b' hb8 q3
            · rw [pk_un hbb] at e
              exact o5 b hb e
      · -- the step
        rw [m3, m4, t97, t11]
        refine ⟨fun e => absurd e hop, fun _ => ?_⟩
        by_cases q : th0 τ 4 b' = 0
        · have q11 := (hmine b' hb'.1).mpr q
          simp only [if_pos q11]
          have hc9 : c ≠ 10 := fun e => c5 ⟨q, e⟩
          refine ⟨c + 1, by omega, by rw [hcc, nI_1], by rw [mny_set hb8 q, hcm], ?_, fun b hb => ?_, fun b hb e => ?_⟩
          · rw [← hsz']; split <;> omega
          · by_cases hbb : b = b'
            · rw [hbb, pk_us, pk_us]
            · rw [pk_un hbb, pk_un hbb]; exact hmine b hb
          · by_cases hbb : b = b'
            · rw [hbb, pk_us]; decide
            · rw [pk_un hbb] at e ⊢; exact hchh b hb e
        · have q11 : ¬ σ 11 b' = 0 := fun e => q ((hmine b' hb'.1).mp e)
          simp only [if_neg q11]
          have q6 : ¬ σ 6 r = 0 := fun e => hchh b' hb8 q (hheld.mp e)
          rw [if_neg q6] at hsz'
          refine ⟨c, hc10, hcc, by rw [mny_same q, hcm], by omega, fun b hb => ?_, fun b hb e => ?_⟩
          · by_cases hbb : b = b'
            · rw [hbb, pk_us]
              exact ⟨fun e => absurd e q11, fun e => absurd e (by decide)⟩
            · rw [pk_un hbb]; exact hmine b hb
          · by_cases hbb : b = b'
            · rw [hbb, pk_us]; decide
            · rw [pk_un hbb] at e ⊢; exact hchh b hb e
  · exact ⟨0, σ, th0 τ, fun l G ad => by
      obtain ⟨b1, b2, b3, -⟩ := hB
      exact c_BV_fill0 l G n ad σ b k cn v b2 b1 b3 (Or.inl hoff.1), fun l G am => by
      obtain ⟨b1, b2, b3, b4, -⟩ := hB
      exact c_Md_fill0 l G am τ n b k cn v b2 b1 b4 (Or.inl hoff.2.1), hth.mono (by omega)⟩
end
section
/-! A COMMIT, on both sides -/
section PH
variable {B I : Nat → Nat} {u w : Nat} {s : Sg} {β : Option Nat}
theorem ph_all (hI : ∀ k, 12 ≤ I k) (h4 : s 1 4 = 0) (hl : lf (s 1 3) β) (hm : ∀ m, β = some m → u + 1 ≤ m) :
    (wh (itr (fun k s => pw s (B k) (I k)) u 0 s) w) 1 4 = 0 ∧ lf ((wh (itr (fun k s => pw s (B k) (I k)) u 0 s) w) 1 3) (dn β (u + 1)) ∧ (wh (itr (fun k s => pw s (B k) (I k)) u 0 s) w) 1 2 = s 1 2 + (nI u + 1) ∧ (wh (itr (fun k s => pw s (B k) (I k)) u 0 s) w) 1 1 = s 1 1 ∧ (wh (itr (fun k s => pw s (B k) (I k)) u 0 s) w) 2 = va_cpy (whb (itr (fun k s => pw s (B k) (I k)) u 0 s) w 12) (wcp B (fun k => s (I k)) u 0 (s 2)) 0 (1024 * 2) 1024 := by
  obtain ⟨a1, a2, a3, a4, a5⟩ := seq_all (B := B) hI u 0 s β h4 hl (fun m e => by have := hm m e; omega)
  rw [wh_eq]
  have w1 := whb_ne (σ := itr (fun k s => pw s (B k) (I k)) u 0 s) (u := w) (j := 1) (by decide)
  have w2 := whb_ne (σ := itr (fun k s => pw s (B k) (I k)) u 0 s) (u := w) (j := 2) (by decide)
  obtain ⟨b1, b2, b3, b4, b5⟩ := pw_go (σ := whb (itr (fun k s => pw s (B k) (I k)) u 0 s) w) (b := 2) (i := 12) (β := dn β u) (by rw [w1]; exact a1) (by rw [w1]; exact a2) (by
    intro e
    cases β with
    | none => cases e
    | some m =>
      have e : m - u = 0 := Option.some.inj e
      have := hm m rfl
      omega) (by omega)
  refine ⟨b1, ?_, ?_, ?_, ?_⟩
  · cases β with
    | none => exact b2
    | some m =>
      have e : dn (dn (some m) u) 1 = dn (some m) (u + 1) := by
        show some (m - u - 1) = some (m - (u + 1))
        congr 1
      rw [e] at b2
      exact b2
  · rw [b3, w1, a3, Int32.add_assoc]
  · rw [b5, w1, a5]
  · rw [b4, w2, a4]
theorem ph_stop (hI : ∀ k, 12 ≤ I k) (h4 : s 1 4 = 0) {m : Nat} (hl : lf (s 1 3) (some m)) (hm : m < u + 1) :
    (wh (itr (fun k s => pw s (B k) (I k)) u 0 s) w) 1 4 ≠ 0 ∧ (wh (itr (fun k s => pw s (B k) (I k)) u 0 s) w) 1 2 = s 1 2 + nI m ∧ (wh (itr (fun k s => pw s (B k) (I k)) u 0 s) w) 1 1 = s 1 1 ∧ (wh (itr (fun k s => pw s (B k) (I k)) u 0 s) w) 2 = wcp B (fun k => s (I k)) m 0 (s 2) := by
  have w1 := whb_ne (σ := itr (fun k s => pw s (B k) (I k)) u 0 s) (u := w) (j := 1) (by decide)
  have w2 := whb_ne (σ := itr (fun k s => pw s (B k) (I k)) u 0 s) (u := w) (j := 2) (by decide)
  rw [wh_eq]
  by_cases hmu : m < u
  · obtain ⟨a1, a2, a3, a4⟩ := seq_stop (B := B) hI u 0 s m h4 hl hmu
    obtain ⟨b1, b2, b3, b4⟩ := pw_st (σ := whb (itr (fun k s => pw s (B k) (I k)) u 0 s) w) (b := 2) (i := 12) (Or.inl (by rw [w1]; exact a1))
    exact ⟨b1, by rw [b2, w1, a2], by rw [b4, w1, a4], by rw [b3, w2, a3]⟩
  · have hmu : m = u := by omega
    subst hmu
    obtain ⟨a1, a2, a3, a4, a5⟩ := seq_all (B := B) hI m 0 s (some m) h4 hl (fun m' e => by have e : m = m' := Option.some.inj e; omega)
    have a2' : (itr (fun k s => pw s (B k) (I k)) m 0 s) 1 3 = 0 := by
      have e : itr (fun k s => pw s (B k) (I k)) m 0 s 1 3 = nI (m - m) := a2.2
      rw [Nat.sub_self, nI_0] at e
      exact e
    obtain ⟨b1, b2, b3, b4⟩ := pw_st (σ := whb (itr (fun k s => pw s (B k) (I k)) m 0 s) w) (b := 2) (i := 12) (Or.inr (by rw [w1]; exact a2'))
    exact ⟨b1, by rw [b2, w1, a3], by rw [b4, w1, a5], by rw [b3, w2, a4]⟩
theorem ph_off (h4 : s 1 4 ≠ 0) :
    (wh (itr (fun k s => pw s (B k) (I k)) u 0 s) w) 1 4 ≠ 0 ∧ (wh (itr (fun k s => pw s (B k) (I k)) u 0 s) w) 1 2 = s 1 2 ∧ (wh (itr (fun k s => pw s (B k) (I k)) u 0 s) w) 1 1 = s 1 1 ∧ (wh (itr (fun k s => pw s (B k) (I k)) u 0 s) w) 2 = s 2 := by
  have w1 := whb_ne (σ := itr (fun k s => pw s (B k) (I k)) u 0 s) (u := w) (j := 1) (by decide)
  have w2 := whb_ne (σ := itr (fun k s => pw s (B k) (I k)) u 0 s) (u := w) (j := 2) (by decide)
  rw [wh_eq]
  obtain ⟨a1, a2, a3, a4⟩ := seq_off (B := B) (I := I) u 0 s h4
  obtain ⟨b1, b2, b3, b4⟩ := pw_st (σ := whb (itr (fun k s => pw s (B k) (I k)) u 0 s) w) (b := 2) (i := 12) (Or.inl (by rw [w1]; exact a1))
  exact ⟨b1, by rw [b2, w1, a2], by rw [b4, w1, a4], by rw [b3, w2, a3]⟩
theorem ph_ne {j : Nat} (h1 : j ≠ 1) (h2 : j ≠ 2) (h3 : j ≠ 12) : (wh (itr (fun k s => pw s (B k) (I k)) u 0 s) w) j = s j := by rw [wh_ne h1 h2 h3, seq_ne h1 h2]
end PH
/-- the four phases of a commit -/
def ph1 (σ : Sg) (u : Nat) : Sg := wh (itr (fun k s => pw s (3 + k) (rw_ σ k)) u 0 σ) u
def ph2 (σ : Sg) (u : Nat) : Sg := set1 (ph1 σ u) 9 8 (ph1 σ u 9 8 + (if ph1 σ u 1 4 = 0 then 1 else 0))
def ph3 (σ : Sg) (u : Nat) : Sg := wh (itr (fun k s => pw s (σ 10 k).toNatClampNeg (rw_ σ k)) u 0 (ph2 σ u)) 0
def ph4 (σ : Sg) (u : Nat) : Sg := itr (fun k s => set1 s 6 (fd σ (σ 10 k)) 0) u 0 (ph3 σ u)
theorem ph1_ne {σ : Sg} {u j : Nat} (h1 : j ≠ 1) (h2 : j ≠ 2) (h3 : j ≠ 12) : ph1 σ u j = σ j := ph_ne h1 h2 h3
theorem ph2_ne {σ : Sg} {u j : Nat} (h1 : j ≠ 1) (h2 : j ≠ 2) (h3 : j ≠ 12) (h9 : j ≠ 9) : ph2 σ u j = σ j := by rw [ph2, st_ne h9, ph1_ne h1 h2 h3]
theorem ph3_ne {σ : Sg} {u j : Nat} (h1 : j ≠ 1) (h2 : j ≠ 2) (h3 : j ≠ 12) (h9 : j ≠ 9) : ph3 σ u j = σ j := by rw [ph3, ph_ne h1 h2 h3, ph2_ne h1 h2 h3 h9]
theorem cmt_eq {σ : Sg} {u : Nat} (hu : u ≠ 0) : cmt σ u = set1 (ph4 σ u) 9 6 0 := by
  simp only [cmt]
  rw [if_neg hu]
  have e1 : itr (fun k σ => pw σ (3 + k) (rw_ σ k)) u 0 σ = itr (fun k s => pw s (3 + k) (rw_ σ k)) u 0 σ :=
    itr_congr (P := fun s => s 5 = σ 5 ∧ s 10 = σ 10) (fun k s hs => ⟨by rw [rw_, rw_, fd_congr hs.1, hs.2], by rw [pw_ne (by decide) (by decide)]; exact hs.1, by rw [pw_ne (by decide) (by decide)]; exact hs.2⟩) u 0 σ ⟨rfl, rfl⟩
  rw [e1]
  have e2 : wh (itr (fun k s => pw s (3 + k) (rw_ σ k)) u 0 σ) u = ph1 σ u := rfl
  rw [e2]
  have e3 : set1 (ph1 σ u) 9 8 (ph1 σ u 9 8 + (if ph1 σ u 1 4 = 0 then 1 else 0)) = ph2 σ u := rfl
  rw [e3]
  have e4 : itr (fun k σ => pw σ (σ 10 k).toNatClampNeg (rw_ σ k)) u 0 (ph2 σ u) = itr (fun k s => pw s (σ 10 k).toNatClampNeg (rw_ σ k)) u 0 (ph2 σ u) :=
    itr_congr (P := fun s => s 5 = σ 5 ∧ s 10 = σ 10) (fun k s hs => ⟨by rw [rw_, rw_, fd_congr hs.1, hs.2], by rw [pw_ne (by decide) (by decide)]; exact hs.1, by rw [pw_ne (by decide) (by decide)]; exact hs.2⟩) u 0 _ ⟨ph2_ne (by decide) (by decide) (by decide) (by decide), ph2_ne (by decide) (by decide) (by decide) (by decide)⟩
  rw [e4]
  have e5 : wh (itr (fun k s => pw s (σ 10 k).toNatClampNeg (rw_ σ k)) u 0 (ph2 σ u)) 0 = ph3 σ u := rfl
  rw [e5]
  have e6 : itr (fun k σ => set1 σ 6 (fd σ (σ 10 k)) 0) u 0 (ph3 σ u) = ph4 σ u :=
    itr_congr (P := fun s => s 5 = σ 5 ∧ s 10 = σ 10) (fun k s hs => ⟨by rw [fd_congr hs.1, hs.2], by rw [st_ne (by decide)]; exact hs.1, by rw [st_ne (by decide)]; exact hs.2⟩) u 0 _ ⟨ph3_ne (by decide) (by decide) (by decide) (by decide), ph3_ne (by decide) (by decide) (by decide) (by decide)⟩
  rw [e6]
theorem ph4_6 {σ : Sg} : ∀ (d k : Nat) (s : Sg) (p : Nat), ((∃ i, k ≤ i ∧ i < k + d ∧ fd σ (σ 10 i) = p) → itr (fun k s => set1 s 6 (fd σ (σ 10 k)) 0) d k s 6 p = 0) ∧ (s 6 p = 0 → itr (fun k s => set1 s 6 (fd σ (σ 10 k)) 0) d k s 6 p = 0) := by
  intro d
  induction d with
  | zero => intro k s p; exact ⟨fun ⟨i, h1, h2, _⟩ => by omega, fun h => h⟩
  | succ d ih =>
    intro k s p
    obtain ⟨i1, i2⟩ := ih (k + 1) (set1 s 6 (fd σ (σ 10 k)) 0) p
    rw [itr]
    constructor
    · rintro ⟨i, h1, h2, h3⟩
      by_cases hik : i = k
      · subst hik
        exact i2 (by rw [h3, st_eq])
      · exact i1 ⟨i, by omega, by omega, h3⟩
    · intro h
      refine i2 ?_
      by_cases hp : p = fd σ (σ 10 k)
      · rw [← hp, st_eq]
      · rw [st_nk hp]; exact h
-- the cells behind a commit
theorem cmt_ne {σ : Sg} {u j : Nat} (hu : u ≠ 0) (h1 : j ≠ 1) (h2 : j ≠ 2) (h6 : j ≠ 6) (h9 : j ≠ 9) (h12 : j ≠ 12) : cmt σ u j = σ j := by
  rw [cmt_eq hu, st_ne h9, ph4, itr_ne (fun _ _ => st_ne h6), ph3_ne h1 h2 h12 h9]
theorem cmt_9 {σ : Sg} {u k : Nat} (hu : u ≠ 0) (h6 : k ≠ 6) (h8 : k ≠ 8) : cmt σ u 9 k = σ 9 k := by
  rw [cmt_eq hu, st_nk h6, ph4, itr_ne (fun _ _ => st_ne (by decide)), ph3, ph_ne (by decide) (by decide) (by decide), ph2, st_nk h8, ph1_ne (by decide) (by decide) (by decide)]
theorem cmt_96 {σ : Sg} {u : Nat} (hu : u ≠ 0) : cmt σ u 9 6 = 0 := by rw [cmt_eq hu, st_eq]
theorem cmt_98 {σ : Sg} {u : Nat} (hu : u ≠ 0) : cmt σ u 9 8 = σ 9 8 + (if ph1 σ u 1 4 = 0 then 1 else 0) := by
  rw [cmt_eq hu, st_nk (by decide), ph4, itr_ne (fun _ _ => st_ne (by decide)), ph3, ph_ne (by decide) (by decide) (by decide), ph2, st_eq, ph1_ne (by decide) (by decide) (by decide)]
theorem cmt_12 {σ : Sg} {u j : Nat} (hu : u ≠ 0) (hj : j = 1 ∨ j = 2) : cmt σ u j = ph3 σ u j := by
  rw [cmt_eq hu, st_ne (by omega), ph4, itr_ne (fun _ _ => st_ne (by omega))]
-- the model's side
theorem itr_cp : ∀ (d k : Nat) (s : Sg) (p : Nat), itr (fun k σ => set1 σ 1 k (bt (σ 2 k))) d k s 1 p = if k ≤ p ∧ p < k + d then bt (s 2 p) else s 1 p := by
  intro d
  induction d with
  | zero => intro k s p; rw [if_neg (by omega)]; rfl
  | succ d ih =>
    intro k s p
    rw [itr, ih (k + 1), st_ne (by decide)]
    by_cases h1 : p = k
    · subst h1
      rw [if_neg (by omega), if_pos (by omega), st_eq]
    · by_cases h2 : k + 1 ≤ p ∧ p < k + 1 + d
      · rw [if_pos h2, if_pos (by omega)]
      · rw [if_neg h2, if_neg (by omega), st_nk h1]
theorem cpb_ne {b j : Nat} {s : Sg} (h1 : j ≠ 1) (h3 : j ≠ 3) : cpb b s j = s j := by
  rw [cpb, st_ne h3]
  split
  · rfl
  · rw [itr_ne (fun _ _ => st_ne h1)]
theorem cpb_3 {b : Nat} {s : Sg} : cpb b s 3 = upd (s 3) b 0 := by
  rw [cpb, st_self]
  split
  · rfl
  · rw [itr_ne (fun _ _ => st_ne (by decide))]
theorem cpb_1 {b b' j : Nat} {s : Sg} (hj : j < 1024) : cpb b s 1 (1024 * b' + j) = if b' = b ∧ s 3 b ≠ 0 then bt (s 2 (1024 * b' + j)) else s 1 (1024 * b' + j) := by
  rw [cpb, st_ne (by decide)]
  by_cases h : s 3 b = 0
  · rw [if_pos h, if_neg (fun q => q.2 h)]
  · rw [if_neg h, itr_cp]
    by_cases hb : b' = b
    · subst hb
      rw [if_pos (by omega), if_pos ⟨rfl, h⟩]
    · rw [if_neg (by omega), if_neg (fun q => hb q.1)]
theorem cpbs_ne {j : Nat} (h1 : j ≠ 1) (h3 : j ≠ 3) (d b : Nat) (s : Sg) : itr cpb d b s j = s j := itr_ne (fun _ _ => cpb_ne h1 h3) d b s
theorem cpbs_3 : ∀ (d b : Nat) (s : Sg) (p : Nat), itr cpb d b s 3 p = if b ≤ p ∧ p < b + d then 0 else s 3 p := by
  intro d
  induction d with
  | zero => intro b s p; rw [if_neg (by omega)]; rfl
  | succ d ih =>
    intro b s p
    rw [itr, ih (b + 1), cpb_3]
    by_cases h1 : p = b
    · subst h1
      rw [if_neg (by omega), if_pos (by omega), pk_us]
    · by_cases h2 : b + 1 ≤ p ∧ p < b + 1 + d
      · rw [if_pos h2, if_pos (by omega)]
      · rw [if_neg h2, if_neg (by omega), pk_un h1]
theorem cpbs_1 {b' j : Nat} (hj : j < 1024) : ∀ (d b : Nat) (s : Sg), itr cpb d b s 1 (1024 * b' + j) = if (b ≤ b' ∧ b' < b + d) ∧ s 3 b' ≠ 0 then bt (s 2 (1024 * b' + j)) else s 1 (1024 * b' + j) := by
  intro d
  induction d with
  | zero => intro b s; rw [if_neg (by omega)]; rfl
  | succ d ih =>
    intro b s
    rw [itr, ih (b + 1), cpb_ne (j := 2) (by decide) (by decide), cpb_1 hj, cpb_3]
    by_cases h1 : b' = b
    · subst h1
      rw [if_neg (by omega)]
      by_cases h2 : s 3 b' = 0
      · rw [if_neg (fun q => q.2 h2), if_neg (fun q => q.2 h2)]
      · rw [if_pos ⟨rfl, h2⟩, if_pos ⟨by omega, h2⟩]
    · rw [pk_un h1]
      have h3 : ¬ (b' = b ∧ s 3 b ≠ 0) := fun q => h1 q.1
      rw [if_neg h3]
      by_cases h2 : (b + 1 ≤ b' ∧ b' < b + 1 + d) ∧ s 3 b' ≠ 0
      · rw [if_pos h2, if_pos ⟨by omega, h2.2⟩]
      · rw [if_neg h2, if_neg (fun q => h2 ⟨by omega, q.2⟩)]
theorem wr1_ne {τ : Sg} {x : Int32} {j : Nat} (h : j ≠ 0) : wr1 τ x j = τ j := by simp only [wr1]; rw [st_ne h, st_ne h]
theorem wr1_0 {τ : Sg} {x : Int32} {k : Nat} (h : k ≠ 10) (h2 : k ≠ 11) : wr1 τ x 0 k = τ 0 k := by simp only [wr1]; rw [st_nk h, st_nk h2]
theorem wr1_11 {τ : Sg} {x : Int32} : wr1 τ x 0 11 = τ 0 11 + x := by simp only [wr1]; rw [st_nk (by decide), st_eq]
theorem wr1_10 {τ : Sg} {d : Nat} {β : Option Nat} (hl : lf (τ 0 10) β) (hd : d < 2 ^ 30) (hm : ∀ m, β = some m → d ≤ m) : lf (wr1 τ (nI d) 0 10) (dn β d) ∧ ∀ x : Int32, x = nI d → wr1 τ x 0 10 = wr1 τ (nI d) 0 10 := by
  refine ⟨?_, fun x e => by rw [e]⟩
  simp only [wr1]
  rw [st_eq, st_nk (by decide)]
  cases β with
  | none =>
    have e : τ 0 10 = -1 := hl
    rw [e, if_neg (by decide)]
    rfl
  | some m =>
    rw [hl.2, if_pos (nI_pos' hl.1), pk_sub (hm m rfl)]
    have := hl.1
    exact ⟨by show m - d < 2 ^ 31; omega, rfl⟩
theorem wr0_ne {τ : Sg} {j : Nat} (h : j ≠ 0) : wr0 τ j = τ j := by rw [wr0, st_ne h, st_ne h, st_ne h]
theorem wr0_0 {τ : Sg} {k : Nat} (h8 : k ≠ 8) (h10 : k ≠ 10) (h11 : k ≠ 11) : wr0 τ 0 k = τ 0 k := by rw [wr0, st_nk h8, st_nk h10, st_nk h11]
theorem wr0_8 {τ : Sg} : wr0 τ 0 8 = 0 := by rw [wr0, st_eq]
theorem wr0_11 {τ : Sg} : wr0 τ 0 11 = τ 0 11 + τ 0 10 := by rw [wr0, st_nk (by decide), st_nk (by decide), st_eq]
theorem wrOk_iff {τ : Sg} {d : Nat} {β : Option Nat} (hl : lf (τ 0 10) β) (hd : d < 2 ^ 30) : wrOk τ (nI d) ↔ ∀ m, β = some m → d ≤ m := by
  unfold wrOk
  cases β with
  | none =>
    have e : τ 0 10 = -1 := hl
    rw [e]
    exact ⟨fun _ m q => (by cases q), fun _ => Or.inl (by decide)⟩
  | some m =>
    rw [hl.2]
    constructor
    · rintro (q | q) m' e
      · exact absurd q (nI_pos hl.1)
      · have e : m = m' := Option.some.inj e
        subst e
        apply Classical.byContradiction
        intro q2
        exact q (nI_lt (by omega) (by omega))
    · intro q
      exact Or.inr (nI_nlt (q m rfl) hl.1)
theorem cm1_all {n c : Nat} {τ : Sg} (hc : mny (τ 3) 80 = c) : (∀ j, j ≠ 0 → j ≠ 1 → j ≠ 3 → cm1 n τ j = τ j) ∧ (∀ k, k ≠ 10 → k ≠ 11 → k ≠ 13 → k ≠ 14 → cm1 n τ 0 k = τ 0 k) ∧ cm1 n τ 0 10 = wr1 τ (nI (c + 1)) 0 10 ∧ cm1 n τ 0 11 = τ 0 11 + nI (c + 1) ∧ cm1 n τ 0 13 = τ 0 13 + 1 ∧ cm1 n τ 0 14 = nI c ∧ (∀ p, cm1 n τ 3 p = if p < n then 0 else τ 3 p) ∧ ∀ b j, j < 1024 → cm1 n τ 1 (1024 * b + j) = if b < n ∧ τ 3 b ≠ 0 then bt (τ 2 (1024 * b + j)) else τ 1 (1024 * b + j) := by
  have e : nI c + 1 = nI (c + 1) := nI_1 c
  simp only [cm1, hc, e]
  refine ⟨fun j h0 h1 h3 => ?_, fun k a b c d => ?_, ?_, ?_, ?_, ?_, fun p => ?_, fun b j hj => ?_⟩
  · rw [st_ne h0, cpbs_ne h1 h3, st_ne h0, wr1_ne h0]
  · rw [st_nk d, cpbs_ne (by decide) (by decide), st_nk c, wr1_0 a b]
  · rw [st_nk (by decide), cpbs_ne (by decide) (by decide), st_nk (by decide)]
  · rw [st_nk (by decide), cpbs_ne (by decide) (by decide), st_nk (by decide), wr1_11]
  · rw [st_nk (by decide), cpbs_ne (by decide) (by decide), st_eq, wr1_0 (by decide) (by decide)]
  · rw [st_eq]
  · rw [st_ne (by decide), cpbs_3, st_ne (by decide), wr1_ne (by decide)]
    by_cases h : p < n
    · rw [if_pos (by omega), if_pos h]
    · rw [if_neg (by omega), if_neg h]
  · rw [st_ne (by decide), cpbs_1 hj, st_ne (by decide), wr1_ne (by decide), st_ne (by decide), wr1_ne (by decide), st_ne (by decide), wr1_ne (by decide)]
    by_cases h : b < n ∧ τ 3 b ≠ 0
    · rw [if_pos ⟨by omega, h.2⟩, if_pos h]
    · rw [if_neg (fun q => h ⟨by omega, q.2⟩), if_neg h]
end
section
theorem lf_uniq {x y : Int32} {β : Option Nat} (hx : lf x β) (hy : lf y β) : x = y := by
  cases β with
  | none => exact Eq.trans (show x = -1 from hx) (show -1 = y from Eq.symm hy)
  | some m => rw [hx.2, hy.2]
theorem en1_ne {τ : Sg} {j : Nat} (h : j ≠ 0) : en1 τ j = τ j := by rw [en1, st_ne h, wr1_ne h]
theorem en1_0 {τ : Sg} {k : Nat} (h10 : k ≠ 10) (h11 : k ≠ 11) (h14 : k ≠ 14) : en1 τ 0 k = τ 0 k := by rw [en1, st_nk h14, wr1_0 h10 h11]
theorem en0_ne {τ : Sg} {j : Nat} (h : j ≠ 0) : en0 τ j = τ j := by simp only [en0]; rw [st_ne h, wr0_ne h]
theorem en0_0 {τ : Sg} {k : Nat} (h8 : k ≠ 8) (h10 : k ≠ 10) (h11 : k ≠ 11) : en0 τ 0 k = τ 0 k := by
  simp only [en0]
  by_cases h14 : k = 14
  · rw [h14, st_eq, wr0_0 (by decide) (by decide) (by decide)]
  · rw [st_nk h14, wr0_0 h8 h10 h11]
theorem en0_8 {τ : Sg} : en0 τ 0 8 = 0 := by simp only [en0]; rw [st_nk (by decide), wr0_8]
theorem en0_11 {τ : Sg} : en0 τ 0 11 = τ 0 11 + τ 0 10 := by simp only [en0]; rw [st_nk (by decide), wr0_11]
/-- what is on, but for the step's own bounds -/
def OnC (n t u : Nat) (σ τ : Sg) : Prop := σ 1 4 = 0 ∧ τ 0 8 ≠ 0 ∧ τ 0 14 = -1 ∧ (∃ β, lf (σ 1 3) β) ∧ σ 1 3 = τ 0 10 ∧ σ 9 9 = τ 0 9 ∧ DskOk n 0 (fun _ => 0) (σ 2) (τ 1) ∧ u ≤ 30 ∧ σ 9 6 = nI u ∧ (∃ L, Cch n t σ τ L) ∧ ClnOk n (τ 3) (τ 2) (τ 1) ∧ HomOk n u (σ 10) (σ 6) (τ 3)
theorem commit_ok {n t u : Nat} {σ τ : Sg} (hB : Base n t σ τ) (hon : OnC n t u σ τ) (hop : τ 0 9 = 0) (hu : 0 < u) :
    (wrOk τ (nI u + 1) ∧ wrOk (cm1 n τ) (cm1 n τ 0 14 + 1) ∧ cmt σ u 1 4 = 0 ∧ Base n t (cmt σ u) (en1 (cm1 n τ)) ∧ On n t (cmt σ u) (en1 (cm1 n τ))) ∨
    (wrOk τ (nI u + 1) ∧ ¬ wrOk (cm1 n τ) (cm1 n τ 0 14 + 1) ∧ cmt σ u 1 4 ≠ 0 ∧ Base n t (cmt σ u) (en0 (cm1 n τ)) ∧ Off n (cmt σ u) (en0 (cm1 n τ))) ∨
    (¬ wrOk τ (nI u + 1) ∧ cmt σ u 1 4 ≠ 0 ∧ Base n t (cmt σ u) (wr0 τ) ∧ Off n (cmt σ u) (wr0 τ)) := by
  obtain ⟨h4, h8, h14, ⟨β, hβ⟩, h3, h99, hdsk, hu30, h96, ⟨L, hc⟩, hcl, hhom⟩ := hon
  obtain ⟨b1, b2, b3, b4, b5, b6, b7, b8⟩ := hB
  have hu0 : u ≠ 0 := by omega
  have hrows := hc.2.1
  have hcon := hc.2.2.2.2.2.1
  have hhld := hc.2.2.2.2.2.2
  obtain ⟨o1, o2, o3, o4, o5⟩ := hhom
  obtain ⟨h, hh⟩ : ∃ h : Nat → Nat, ∀ i, h i = (σ 10 i).toNatClampNeg := ⟨fun i => (σ 10 i).toNatClampNeg, fun _ => rfl⟩
  have Hh : ∀ i, i < u → ub n (h i) ∧ σ 10 i = nI (h i) ∧ τ 3 (h i) ≠ 0 := by
    intro i hi
    obtain ⟨b, p1, p2, p3⟩ := o3 i hi
    have e : h i = b := by rw [hh, p2, nI_clamp (by have := p1.1; omega)]
    rw [e]
    exact ⟨p1, p2, p3⟩
  have h80 : ∀ i, i < u → h i < 80 := fun i hi => by have := (Hh i hi).1.1; omega
  have hinj : ∀ i j, i < u → j < u → h i = h j → i = j := fun i j hi hj e => o4 i j hi hj (by rw [(Hh i hi).2.1, (Hh j hj).2.1, e])
  have hsur : ∀ b, b < 80 → τ 3 b ≠ 0 → ∃ i, i < u ∧ h i = b := by
    intro b hb q
    obtain ⟨i, hi, e⟩ := o5 b hb q
    exact ⟨i, hi, nI_inj (by have := h80 i hi; omega) (by omega) ((Hh i hi).2.1.symm.trans e)⟩
  have hfd : ∀ i, i < u → fd σ (σ 10 i) < 34 ∧ σ 5 (fd σ (σ 10 i)) = nI (h i) := by
    intro i hi
    have hlt : fd σ (σ 10 i) < 34 := by
      apply Classical.byContradiction
      intro q
      obtain ⟨k, hk, e⟩ := hhld.2.2 (h i) (h80 i hi) (Hh i hi).2.2
      exact fd_no q k hk (by rw [e, (Hh i hi).2.1])
    exact ⟨hlt, by rw [fd_at hlt, (Hh i hi).2.1]⟩
  have hX : ∀ i, i < u → ∀ j, j < 1024 → bt (σ (rw_ σ i) j) = bt (τ 2 (1024 * h i + j)) := fun i hi j hj => hcon _ (h i) (hfd i hi).1 (h80 i hi) (hfd i hi).2 j hj
  have hI : ∀ k, 12 ≤ rw_ σ k := fun k => by rw [rw_]; omega
  have hug : u + 1 < 2 ^ 30 := by omega
  have eu : nI u + 1 = nI (u + 1) := nI_1 u
  -- the model's side
  have hβm : lf (τ 0 10) β := by rw [← h3]; exact hβ
  obtain ⟨c1, c2, c3, c4, c5, c6, c7, c8⟩ := cm1_all (n := n) o1
  have hno3 : ∀ b, b < 80 → n ≤ b → τ 3 b = 0 := by
    intro b hb hnb
    apply Classical.byContradiction
    intro q
    obtain ⟨i, hi, e⟩ := hsur b hb q
    have := (Hh i hi).1.1
    omega
  -- the blocks as the commit leaves them
  have hsafe : ∀ b, ub n b → ∀ j, j < 1024 → bt (cm1 n τ 1 (1024 * b + j)) = bt (τ 2 (1024 * b + j)) := by
    intro b hb j hj
    rw [c8 b j hj]
    by_cases q : τ 3 b = 0
    · rw [if_neg (fun q2 => q2.2 q)]
      exact (hcl b hb q j hj).symm
    · rw [if_pos ⟨hb.1, q⟩, bt_bt]
  have hsafe0 : ∀ b, ub n b → τ 3 b = 0 → ∀ j, j < 1024 → bt (cm1 n τ 1 (1024 * b + j)) = bt (τ 1 (1024 * b + j)) := by
    intro b hb q j hj
    rw [c8 b j hj, if_neg (fun q2 => q2.2 q)]
  have hd0 : ∀ b, ub n b → ∀ j, j < 1024 → bt (σ 2 (1024 * b + j)) = bt (τ 1 (1024 * b + j)) := fun b hb j hj => hdsk.2.2 b hb (fun i hi => by omega) j hj
  have hcell : ∀ j, j ≠ 1 → j ≠ 2 → j ≠ 6 → j ≠ 9 → j ≠ 12 → cmt σ u j = σ j := fun j a b c d e => cmt_ne hu0 a b c d e
  have hrow : ∀ k, cmt σ u (k + 14) = σ (k + 14) := fun k => hcell (k + 14) (by omega) (by omega) (by omega) (by omega) (by omega)
  by_cases okA : ∀ m, β = some m → u + 1 ≤ m
  · -- the log is written, and counts
    obtain ⟨p1, p2, p3, p4, p5⟩ := ph_all (B := fun k => 3 + k) (I := rw_ σ) (u := u) (w := u) (s := σ) hI h4 hβ okA
    change ph1 σ u 1 4 = 0 at p1
    change lf (ph1 σ u 1 3) (dn β (u + 1)) at p2
    change ph1 σ u 1 2 = _ at p3
    change ph1 σ u 1 1 = _ at p4
    change ph1 σ u 2 = _ at p5
    have hw1 : wrOk τ (nI u + 1) := by rw [eu]; exact (wrOk_iff hβm hug).mpr okA
    have hl10 : lf (cm1 n τ 0 10) (dn β (u + 1)) := by rw [c3]; exact (wr1_10 hβm hug okA).1
    have ec : cm1 n τ 0 14 + 1 = nI (u + 1) := by rw [c6, nI_1]
    -- what the platter holds then
    have D1 : hdk (ph1 σ u 2) 0 = nI u := by
      rw [p5, hdk_wr (by omega)]
      exact whb_0 (by omega)
    have D1i : ∀ i, i < u → hdk (ph1 σ u 2) (4 + 4 * i) = nI (h i) := by
      intro i hi
      rw [p5, hdk_wr (by omega)]
      exact whb_i hi (by rw [seq_ne (by decide) (by decide)]; exact (Hh i hi).2.1) (by have := h80 i hi; omega)
    have D2 : ∀ i, i < u → ∀ j, j < 1024 → ph1 σ u 2 (1024 * (3 + i) + j) = σ (rw_ σ i) j := by
      intro i hi j hj
      rw [p5, cpy_blk hj, if_neg (by omega)]
      exact wcp_in (B := fun k => 3 + k) hj u 0 (σ 2) (fun i i' _ _ _ _ (e : 3 + i = 3 + i') => by omega) i (by omega) (by omega)
    have D3 : ∀ b, ub n b → ∀ j, j < 1024 → ph1 σ u 2 (1024 * b + j) = σ 2 (1024 * b + j) := by
      intro b hb j hj
      have hbu := hb.2
      rw [p5, cpy_blk hj, if_neg (by omega)]
      exact wcp_out (B := fun k => 3 + k) hj u 0 (σ 2) (fun i _ h2 (e : 3 + i = b) => by omega)
    -- the blocks go home
    have q1 : ph2 σ u 1 = ph1 σ u 1 := by rw [ph2, st_ne (by decide)]
    have q2 : ph2 σ u 2 = ph1 σ u 2 := by rw [ph2, st_ne (by decide)]
    have qr : ∀ k, ph2 σ u (rw_ σ k) = σ (rw_ σ k) := fun k => by
      have := hI k
      exact ph2_ne (by omega) (by omega) (by rw [rw_]; omega) (by omega)
    have hhB : (fun k => (σ 10 k).toNatClampNeg) = h := funext (fun i => (hh i).symm)
    have W3 : ∀ q g b j, q ≤ u → j < 1024 → (∀ i, i < u → h i ≠ b) → wcp h (fun k => ph2 σ u (rw_ σ k)) q 0 g (1024 * b + j) = g (1024 * b + j) := fun q g b j hq hj hb => wcp_out hj q 0 g (fun i _ h2 => hb i (by omega))
    have e98 : cmt σ u 9 8 = σ 9 8 + 1 := by rw [cmt_98 hu0, if_pos p1]
    by_cases okB : ∀ m, dn β (u + 1) = some m → u + 1 ≤ m
    · -- all of them
      refine Or.inl ⟨hw1, ?_, ?_⟩
      · rw [ec]; exact (wrOk_iff hl10 hug).mpr okB
      obtain ⟨r1, r2, r3, r4, r5⟩ := ph_all (B := fun k => (σ 10 k).toNatClampNeg) (I := rw_ σ) (u := u) (w := 0) (s := ph2 σ u) hI (by rw [q1]; exact p1) (by rw [q1]; exact p2) okB
      change ph3 σ u 1 4 = 0 at r1
      change lf (ph3 σ u 1 3) _ at r2
      change ph3 σ u 1 2 = _ at r3
      change ph3 σ u 1 1 = _ at r4
      change ph3 σ u 2 = _ at r5
      have hl2 : lf (en1 (cm1 n τ) 0 10) (dn (dn β (u + 1)) (u + 1)) := by
        rw [en1, st_nk (by decide), ec]
        exact (wr1_10 hl10 hug okB).1
      have e14 : cmt σ u 1 = ph3 σ u 1 := cmt_12 hu0 (Or.inl rfl)
      have e2 : cmt σ u 2 = ph3 σ u 2 := cmt_12 hu0 (Or.inr rfl)
      have z3 : ∀ b, b < 80 → en1 (cm1 n τ) 3 b = 0 := by
        intro b hb
        rw [en1_ne (by decide), c7]
        by_cases q : b < n
        · rw [if_pos q]
        · rw [if_neg q]; exact hno3 b hb (by omega)
      have z6 : ∀ k, k < 34 → cmt σ u 6 k = 0 := by
        intro k hk
        rw [cmt_eq hu0, st_ne (by decide), ph4]
        obtain ⟨i1, i2⟩ := ph4_6 (σ := σ) u 0 (ph3 σ u) k
        by_cases q : σ 6 k = 0
        · exact i2 (by rw [ph3_ne (by decide) (by decide) (by decide) (by decide)]; exact q)
        · rcases hrows.1 k hk with e | ⟨b, hb, e⟩
          · exact absurd (hhld.1 k hk e) q
          · have hb80 : b < 80 := by have := hb.1; omega
            obtain ⟨i, hi, e3⟩ := hsur b hb80 (fun q3 => q ((hhld.2.1 k b hk hb80 e).mpr q3))
            refine i1 ⟨i, by omega, by omega, ?_⟩
            exact hrows.2 _ k (hfd i hi).1 hk (by rw [(hfd i hi).2, e, e3]) (by rw [(hfd i hi).2]; exact m1_ne (by have := h80 i hi; omega))
      refine ⟨by rw [e14]; exact r1, ⟨b1, b2, ?_, ?_, ?_, ?_, ?_, ?_⟩, ?_⟩
      · rw [e14, r4, q1, p4]; exact b3
      · rw [en1_0 (by decide) (by decide) (by decide), c2 1 (by decide) (by decide) (by decide) (by decide)]; exact b4
      · rw [e14, r3, q1, p3, b5]
        rw [en1, st_nk (by decide), wr1_11, ec, c4, eu]
      · rw [hcell 3 (by decide) (by decide) (by decide) (by decide) (by decide), en1_0 (by decide) (by decide) (by decide), c2 12 (by decide) (by decide) (by decide) (by decide)]; exact b6
      · rw [e98, en1_0 (by decide) (by decide) (by decide), c5, b7]
      · rw [en1_0 (by decide) (by decide) (by decide), c2 7 (by decide) (by decide) (by decide) (by decide)]; exact b8
      · unfold On
        rw [e14, e2, en1_0 (k := 8) (by decide) (by decide) (by decide), c2 8 (by decide) (by decide) (by decide) (by decide), en1_0 (k := 9) (by decide) (by decide) (by decide), c2 9 (by decide) (by decide) (by decide) (by decide), en1_ne (j := 1) (by decide), en1_ne (j := 2) (by decide), c1 2 (by decide) (by decide) (by decide), cmt_9 hu0 (by decide) (by decide)]
        refine ⟨r1, h8, by rw [en1, st_eq], ⟨_, r2⟩, lf_uniq r2 hl2, h99, ?_, L, 0, by omega, by rw [cmt_96 hu0]; rfl, ?_, ?_, ?_, ?_⟩
        · refine ⟨?_, fun i hi => by omega, fun b hb _ j hj => ?_⟩
          · rw [r5, hdk_wr (by omega)]
            exact whb_0 (by omega)
          · have hbu := hb.2
            rw [r5, cpy_blk hj, if_neg (by omega), hhB, q2, hsafe b hb j hj]
            by_cases q : τ 3 b = 0
            · rw [W3 u _ b j (Nat.le_refl _) hj (fun i hi e => (Hh i hi).2.2 (by rw [e]; exact q)), D3 b hb j hj, hd0 b hb j hj]
              exact (hcl b hb q j hj).symm
            · obtain ⟨i, hi, e⟩ := hsur b (by have := hb.1; omega) q
              rw [← e]
              have := wcp_in (B := h) (X := fun k => ph2 σ u (rw_ σ k)) hj u 0 (ph1 σ u 2) (fun i i' _ h1 _ h2 e => hinj i i' (by omega) (by omega) e) i (by omega) (by omega)
              rw [this, qr]
              exact hX i hi j hj
        · obtain ⟨a1, a2, a3, a4, a5, a6, a7⟩ := hc
          unfold Cch
          rw [hcell 7 (by decide) (by decide) (by decide) (by decide) (by decide), hcell 8 (by decide) (by decide) (by decide) (by decide) (by decide), hcell 5 (by decide) (by decide) (by decide) (by decide) (by decide), en1_ne (j := 5) (by decide), c1 5 (by decide) (by decide) (by decide), en1_ne (j := 2) (by decide), c1 2 (by decide) (by decide) (by decide)]
          refine ⟨a1, a2, a3, a4, a5, ?_, fun k hk _ => z6 k hk, fun k b hk hb _ => ⟨fun _ => z3 b hb, fun _ => z6 k hk⟩, fun b hb q => absurd (z3 b hb) q⟩
          intro k b hk hb e j hj
          show bt (cmt σ u (k + 14) j) = _
          rw [hrow]
          exact a6 k b hk hb e j hj
        · intro b hb _ j hj
          exact (hsafe b hb j hj).symm
        · exact ⟨mny_0 z3, mny_0 z6, fun i hi => by omega, fun i j hi => by omega, fun b hb q => absurd (z3 b hb) q⟩
        · exact ⟨fun _ => by omega, fun q => absurd hop q⟩
    · -- the power goes on the way home
      obtain ⟨m, hm1, hm2⟩ : ∃ m, dn β (u + 1) = some m ∧ m < u + 1 := by
        apply Classical.byContradiction
        intro q
        exact okB (fun m e => Nat.le_of_not_lt (fun q2 => q ⟨m, e, q2⟩))
      refine Or.inr (Or.inl ⟨hw1, ?_, ?_⟩)
      · rw [ec]; exact fun q => okB ((wrOk_iff hl10 hug).mp q)
      rw [hm1] at p2 hl10
      obtain ⟨r1, r2, r3, r4⟩ := ph_stop (B := fun k => (σ 10 k).toNatClampNeg) (I := rw_ σ) (u := u) (w := 0) (s := ph2 σ u) hI (by rw [q1]; exact p1) (by rw [q1]; exact p2) hm2
      change ph3 σ u 1 4 ≠ 0 at r1
      change ph3 σ u 1 2 = _ at r2
      change ph3 σ u 1 1 = _ at r3
      change ph3 σ u 2 = _ at r4
      have e14 : cmt σ u 1 = ph3 σ u 1 := cmt_12 hu0 (Or.inl rfl)
      have e2 : cmt σ u 2 = ph3 σ u 2 := cmt_12 hu0 (Or.inr rfl)
      refine ⟨by rw [e14]; exact r1, ⟨b1, b2, ?_, ?_, ?_, ?_, ?_, ?_⟩, ?_⟩
      · rw [e14, r3, q1, p4]; exact b3
      · rw [en0_0 (by decide) (by decide) (by decide), c2 1 (by decide) (by decide) (by decide) (by decide)]; exact b4
      · rw [e14, r2, q1, p3, b5, en0_11, c4, eu, hl10.2]
      · rw [hcell 3 (by decide) (by decide) (by decide) (by decide) (by decide), en0_0 (by decide) (by decide) (by decide), c2 12 (by decide) (by decide) (by decide) (by decide)]; exact b6
      · rw [e98, en0_0 (by decide) (by decide) (by decide), c5, b7]
      · rw [en0_0 (by decide) (by decide) (by decide), c2 7 (by decide) (by decide) (by decide) (by decide)]; exact b8
      · refine ⟨by rw [e14]; exact r1, en0_8, ⟨L, ?_⟩, u, h, hu30, ?_, ?_⟩
        · rw [hcell 7 (by decide) (by decide) (by decide) (by decide) (by decide), hcell 8 (by decide) (by decide) (by decide) (by decide) (by decide)]
          exact hc.1
        · rw [e2, r4, hhB, q2, en0_ne (by decide)]
          have hlog : ∀ i, i < u → ∀ a, a + 4 ≤ 1024 → hdk (wcp h (fun k => ph2 σ u (rw_ σ k)) m 0 (ph1 σ u 2)) a = hdk (ph1 σ u 2) a := fun _ _ a ha => hdk_congr ha (fun j hj => W3 m _ 2 j (by omega) hj (fun i hi e => by have := (Hh i hi).1.2; omega))
          refine ⟨by rw [hlog 0 hu 0 (by omega)]; exact D1, fun i hi => ⟨(Hh i hi).1, by rw [hlog i hi _ (by omega)]; exact D1i i hi, fun j hj e => hinj i j hi hj e, fun j hj => ?_⟩, fun b hb hnb j hj => ?_⟩
          · rw [W3 m _ (3 + i) j (by omega) hj (fun i' hi' e => by have := (Hh i' hi').1.2; omega), D2 i hi j hj, hX i hi j hj, hsafe (h i) (Hh i hi).1 j hj]
          · have q : τ 3 b = 0 := by
              apply Classical.byContradiction
              intro q
              obtain ⟨i, hi, e⟩ := hsur b (by have := hb.1; omega) q
              exact hnb i hi e
            rw [W3 m _ b j (by omega) hj hnb, D3 b hb j hj, hd0 b hb j hj, hsafe0 b hb q j hj]
        · rw [if_neg hu0, en0_0 (by decide) (by decide) (by decide), c6]
  · -- the power goes before the commit counts
    obtain ⟨m, hm1, hm2⟩ : ∃ m, β = some m ∧ m < u + 1 := by
      apply Classical.byContradiction
      intro q
      exact okA (fun m e => Nat.le_of_not_lt (fun q2 => q ⟨m, e, q2⟩))
    refine Or.inr (Or.inr ⟨?_, ?_⟩)
    · rw [eu]; exact fun q => okA ((wrOk_iff hβm hug).mp q)
    rw [hm1] at hβ hβm
    obtain ⟨p1, p2, p3, p4⟩ := ph_stop (B := fun k => 3 + k) (I := rw_ σ) (u := u) (w := u) (s := σ) hI h4 hβ hm2
    change ph1 σ u 1 4 ≠ 0 at p1
    change ph1 σ u 1 2 = _ at p2
    change ph1 σ u 1 1 = _ at p3
    change ph1 σ u 2 = _ at p4
    have q1 : ph2 σ u 1 = ph1 σ u 1 := by rw [ph2, st_ne (by decide)]
    have q2 : ph2 σ u 2 = ph1 σ u 2 := by rw [ph2, st_ne (by decide)]
    obtain ⟨r1, r2, r3, r4⟩ := ph_off (B := fun k => (σ 10 k).toNatClampNeg) (I := rw_ σ) (u := u) (w := 0) (s := ph2 σ u) (by rw [q1]; exact p1)
    change ph3 σ u 1 4 ≠ 0 at r1
    change ph3 σ u 1 2 = _ at r2
    change ph3 σ u 1 1 = _ at r3
    change ph3 σ u 2 = _ at r4
    have e14 : cmt σ u 1 = ph3 σ u 1 := cmt_12 hu0 (Or.inl rfl)
    have e2 : cmt σ u 2 = ph3 σ u 2 := cmt_12 hu0 (Or.inr rfl)
    refine ⟨by rw [e14]; exact r1, ⟨b1, b2, ?_, ?_, ?_, ?_, ?_, ?_⟩, ?_⟩
    · rw [e14, r3, q1, p3]; exact b3
    · rw [wr0_0 (by decide) (by decide) (by decide)]; exact b4
    · rw [e14, r2, q1, p2, b5, wr0_11, hβm.2]
    · rw [hcell 3 (by decide) (by decide) (by decide) (by decide) (by decide), wr0_0 (by decide) (by decide) (by decide)]; exact b6
    · rw [cmt_98 hu0, if_neg p1, wr0_0 (by decide) (by decide) (by decide), b7, Int32.add_zero]
    · rw [wr0_0 (by decide) (by decide) (by decide)]; exact b8
    · refine ⟨by rw [e14]; exact r1, wr0_8, ⟨L, ?_⟩, 0, fun _ => 0, by omega, ?_, ?_⟩
      · rw [hcell 7 (by decide) (by decide) (by decide) (by decide) (by decide), hcell 8 (by decide) (by decide) (by decide) (by decide) (by decide)]
        exact hc.1
      · rw [e2, r4, q2, p4, wr0_ne (by decide)]
        have W1 : ∀ b j, j < 1024 → (b < 3 ∨ 32 < b) → wcp (fun k => 3 + k) (fun k => σ (rw_ σ k)) m 0 (σ 2) (1024 * b + j) = σ 2 (1024 * b + j) := fun b j hj hb => wcp_out (B := fun k => 3 + k) hj m 0 (σ 2) (fun i _ h2 (e : 3 + i = b) => by omega)
        refine ⟨?_, fun i hi => by omega, fun b hb _ j hj => ?_⟩
        · rw [hdk_congr (by omega) (fun j hj => W1 2 j hj (by omega))]
          exact hdsk.1
        · rw [W1 b j hj (by have := hb.2; omega)]
          exact hd0 b hb j hj
      · rw [if_pos rfl, wr0_0 (by decide) (by decide) (by decide)]; exact h14
end
section
/-! end and flush -/
theorem homeOk_of {n t sz : Nat} {σ τ : Sg} {L : List Nat} (hn : n ≤ 80) (h96 : σ 9 6 = nI sz) (hc : Cch n t σ τ L) (hhom : HomOk n sz (σ 10) (σ 6) (τ 3)) : HomeOk n sz σ := by
  refine ⟨h96, fun k hk => ?_⟩
  obtain ⟨b, p1, p2, p3⟩ := hhom.2.2.1 k hk
  refine ⟨?_, b, p1.1, p2⟩
  apply Classical.byContradiction
  intro q
  obtain ⟨i, hi, e⟩ := hc.2.2.2.2.2.2.2.2 b (by have := p1.1; omega) p3
  exact fd_no q i hi (by rw [e, p2])
theorem op_flush {n N : Nat} {σ τ : Sg} (h : Rel n N σ τ) : ∃ rv σ' τ', (∀ l G ad, MI l G (Yc G n ad) y_BV_flush b_BV_flush 2 (some .int) 4 σ [.ref (ad 0)] rv σ') ∧ (∀ l G am, MI l G (Ym G am) y_Md_flush b_Md_flush 2 (some .int) 3 τ [.ref (am 0)] rv τ') ∧ Rel n N σ' τ' := by
  have hth := h.th
  obtain ⟨t, ht, hB, hon | hoff⟩ := id hth
  · have hB0 := hB
    obtain ⟨b1, b2, b3, b4, b5, b6, b7, b8⟩ := hB
    obtain ⟨h4, h8, h14, hβ, h3, h9, hdk, L, sz, hsz, h96, hc, hcl, hhom, hstp⟩ := hon
    by_cases hop : th0 τ 0 9 = 0
    · have ho := homeOk_of b2 h96 hc hhom
      by_cases hz : sz = 0
      · refine ⟨0, σ, th0 τ, fun l G ad => ?_, fun l G am => c_Md_flush1 l G am τ h8 hop (by rw [hhom.1]; exact hz), hth⟩
        have := c_BV_flush1 l G n ad σ sz hsz b2 b1 ho h4 (by rw [h9]; exact hop)
        rw [cmt, if_pos hz, if_pos h4, h96, hz] at this
        exact this
      · have hC : OnC n t sz σ (th0 τ) := ⟨h4, h8, h14, hβ, h3, h9, hdk, hsz, h96, ⟨L, hc⟩, hcl, hhom⟩
        have hcc := fun l G ad => c_BV_flush1 l G n ad σ sz hsz b2 b1 ho h4 (by rw [h9]; exact hop)
        have ec : mny (th0 τ 3) 80 = sz := hhom.1
        rcases commit_ok hB0 hC hop (by omega) with ⟨w1, w2, w3, w4, w5⟩ | ⟨w1, w2, w3, w4, w5⟩ | ⟨w1, w3, w4, w5⟩
        · refine ⟨nI sz, cmt σ sz, en1 (cm1 n (th0 τ)), fun l G ad => ?_, fun l G am => ?_, t, ht, w4, Or.inl w5⟩
          · have := hcc l G ad
            rw [if_pos w3, h96] at this
            exact this
          · have := c_Md_flush2 l G am τ n b2 b4 h8 hop (by rw [ec]; omega) (by rw [ec]; exact w1) w2
            rw [ec] at this
            exact this
        · refine ⟨-1, cmt σ sz, en0 (cm1 n (th0 τ)), fun l G ad => ?_, fun l G am => c_Md_flush3 l G am τ n b2 b4 h8 hop (by rw [ec]; omega) (by rw [ec]; exact w1) w2, t, ht, w4, Or.inr w5⟩
          have := hcc l G ad
          rw [if_neg w3] at this
          exact this
        · refine ⟨-1, cmt σ sz, wr0 (th0 τ), fun l G ad => ?_, fun l G am => c_Md_flush4 l G am τ n b2 b4 h8 hop (by rw [ec]; omega) (by rw [ec]; exact w1), t, ht, w4, Or.inr w5⟩
          have := hcc l G ad
          rw [if_neg w3] at this
          exact this
    · exact ⟨-1, σ, th0 τ, fun l G ad => c_BV_flush0 l G n ad σ (Or.inr (by rw [h9]; exact hop)), fun l G am => c_Md_flush0 l G am τ (Or.inr hop), hth⟩
  · exact ⟨-1, σ, th0 τ, fun l G ad => c_BV_flush0 l G n ad σ (Or.inl hoff.1), fun l G am => c_Md_flush0 l G am τ (Or.inl hoff.2.1), hth⟩
theorem op_end {n N : Nat} {σ τ : Sg} (h : Rel n N σ τ) : ∃ rv σ' τ', (∀ l G ad, MI l G (Yc G n ad) y_BV_end b_BV_end 1 (some .int) 5 σ [.ref (ad 0)] rv σ') ∧ (∀ l G am, MI l G (Ym G am) y_Md_end b_Md_end 2 (some .int) 3 τ [.ref (am 0)] rv τ') ∧ Rel n N σ' τ' := by
  have hth := h.th
  obtain ⟨t, ht, hB, hon | hoff⟩ := id hth
  · obtain ⟨b1, b2, b3, b4, b5, b6, b7, b8⟩ := hB
    obtain ⟨h4, h8, h14, hβ, h3, h9, hdk, L, sz, hsz, h96, hc, hcl, hhom, hstp⟩ := hon
    by_cases hop : th0 τ 0 9 = 0
    · exact ⟨-1, σ, th0 τ, fun l G ad => c_BV_end0 l G n ad σ (Or.inr (by rw [h9]; exact hop)), fun l G am => c_Md_end0 l G am τ (Or.inr hop), hth⟩
    · have ho := homeOk_of b2 h96 hc hhom
      have s : ∀ j, j ≠ 9 → set1 σ 9 9 0 j = σ j := fun j a => st_ne a
      have s9 : ∀ k, k ≠ 9 → set1 σ 9 9 0 9 k = σ 9 k := fun k a => st_nk a
      have m : ∀ j, j ≠ 0 → me1 τ j = th0 τ j := fun j a => st_ne a
      have m0 : ∀ k, k ≠ 9 → me1 τ 0 k = th0 τ 0 k := fun k a => st_nk a
      have m9 : me1 τ 0 9 = 0 := st_eq
      have hB1 : Base n t (set1 σ 9 9 0) (me1 τ) := by
        unfold Base
        rw [s 1 (by decide), s 3 (by decide), s9 8 (by decide), m0 1 (by decide), m0 11 (by decide), m0 12 (by decide), m0 13 (by decide), m0 7 (by decide)]
        exact ⟨b1, b2, b3, b4, b5, b6, b7, b8⟩
      have hc1 : Cch n t (set1 σ 9 9 0) (me1 τ) L := by
        unfold Cch
        rw [s 5 (by decide), s 6 (by decide), s 7 (by decide), s 8 (by decide), m 2 (by decide), m 3 (by decide), m 5 (by decide)]
        refine ⟨hc.1, hc.2.1, hc.2.2.1, hc.2.2.2.1, hc.2.2.2.2.1, ?_, hc.2.2.2.2.2.2⟩
        intro k b hk hb e j hj
        show bt (set1 σ 9 9 0 (k + 14) j) = _
        rw [s (k + 14) (by omega)]
        exact hc.2.2.2.2.2.1 k b hk hb e j hj
      have ec : mny (me1 τ 3) 80 = sz := by rw [m 3 (by decide)]; exact hhom.1
      have eb : me1 τ 0 1 = nI n := by rw [m0 1 (by decide)]; exact b4
      have hcc := fun l G ad => c_BV_end1 l G n ad σ sz hsz b2 b1 ho h4 (by rw [h9]; exact hop)
      by_cases hz : 20 < sz
      · have hC : OnC n t sz (set1 σ 9 9 0) (me1 τ) := by
          unfold OnC
          rw [s 1 (by decide), s 2 (by decide), s 6 (by decide), s 10 (by decide), s9 6 (by decide), m 1 (by decide), m 2 (by decide), m 3 (by decide), m0 8 (by decide), m0 14 (by decide), m0 10 (by decide), m9, st_eq]
          exact ⟨h4, h8, h14, hβ, h3, rfl, hdk, hsz, h96, ⟨L, hc1⟩, hcl, hhom⟩
        have el : lend σ sz = cmt (set1 σ 9 9 0) sz := by simp only [lend]; rw [if_pos hz]
        rw [el] at hcc
        rcases commit_ok hB1 hC m9 (by omega) with ⟨w1, w2, w3, w4, w5⟩ | ⟨w1, w2, w3, w4, w5⟩ | ⟨w1, w3, w4, w5⟩
        · refine ⟨0, cmt (set1 σ 9 9 0) sz, en1 (cm1 n (me1 τ)), fun l G ad => ?_, fun l G am => c_Md_end2 l G am τ n b2 eb h8 hop (by rw [ec]; exact hz) (by rw [ec]; exact w1) w2, t, ht, w4, Or.inl w5⟩
          have := hcc l G ad
          rw [if_pos w3, cmt_96 (by omega)] at this
          exact this
        · refine ⟨-1, cmt (set1 σ 9 9 0) sz, en0 (cm1 n (me1 τ)), fun l G ad => ?_, fun l G am => c_Md_end3 l G am τ n b2 eb h8 hop (by rw [ec]; exact hz) (by rw [ec]; exact w1) w2, t, ht, w4, Or.inr w5⟩
          have := hcc l G ad
          rw [if_neg w3] at this
          exact this
        · refine ⟨-1, cmt (set1 σ 9 9 0) sz, wr0 (me1 τ), fun l G ad => ?_, fun l G am => c_Md_end4 l G am τ n b2 eb h8 hop (by rw [ec]; exact hz) (by rw [ec]; exact w1), t, ht, w4, Or.inr w5⟩
          have := hcc l G ad
          rw [if_neg w3] at this
          exact this
      · have el : lend σ sz = set1 σ 9 9 0 := by simp only [lend]; rw [if_neg hz]
        rw [el] at hcc
        refine ⟨nI sz, set1 σ 9 9 0, me1 τ, fun l G ad => ?_, fun l G am => ?_, t, ht, hB1, Or.inl ?_⟩
        · have := hcc l G ad
          rw [s 1 (by decide), if_pos h4, s9 6 (by decide), h96] at this
          exact this
        · have := c_Md_end1 l G am τ h8 hop (by rw [ec]; omega)
          rw [ec] at this
          exact this
        · unfold On
          rw [s 1 (by decide), s 2 (by decide), s 6 (by decide), s 10 (by decide), s 11 (by decide), s9 6 (by decide), s9 7 (by decide), m 1 (by decide), m 2 (by decide), m 3 (by decide), m 4 (by decide), m0 8 (by decide), m0 14 (by decide), m0 10 (by decide), m9, st_eq]
          exact ⟨h4, h8, h14, hβ, h3, rfl, hdk, L, sz, hsz, h96, hc1, hcl, hhom, fun _ => by omega, fun q => absurd rfl q⟩
  · exact ⟨-1, σ, th0 τ, fun l G ad => c_BV_end0 l G n ad σ (Or.inl hoff.1), fun l G am => c_Md_end0 l G am τ (Or.inl hoff.2.1), hth⟩
end
section
/-! power: the log is gone over again -/
theorem cpy_congr {x y g : Nat → Int32} {D : Nat} (h : ∀ j, j < 1024 → x j = y j) : va_cpy x g 0 D 1024 = va_cpy y g 0 D 1024 := by
  funext k
  simp only [va_cpy]
  by_cases q : D ≤ k ∧ k < D + 1024
  · rw [if_pos q, if_pos q]
    exact h _ (by omega)
  · rw [if_neg q, if_neg q]
def rst (k : Nat) (s : Sg) : Sg := pw (prd (set1 s 10 k (get4 s 12 (4 + 4 * k))) (3 + k) 13) ((prd (set1 s 10 k (get4 s 12 (4 + 4 * k))) (3 + k) 13) 10 k).toNatClampNeg 13
theorem rst_ne {k j : Nat} {s : Sg} (h1 : j ≠ 1) (h2 : j ≠ 2) (h10 : j ≠ 10) (h13 : j ≠ 13) : rst k s j = s j := by rw [rst, pw_ne h1 h2, prd_ne h13, st_ne h10]
section RC2
variable {u n : Nat} {h : Nat → Nat} {F g0 : Nat → Int32}
def RP (u : Nat) (F g0 : Nat → Int32) (s : Sg) : Prop := s 12 = F ∧ ∀ i, i < u → ∀ j, j < 1024 → s 2 (1024 * (3 + i) + j) = g0 (1024 * (3 + i) + j)
theorem rst_go (hF : ∀ i, i < u → ub n (h i) ∧ hdr4 F (4 + 4 * i) = nI (h i)) (hn : n ≤ 80) (hu : u ≤ 30) {k : Nat} (hk : k < u) {s : Sg} {β : Option Nat} (hP : RP u F g0 s) (h4 : s 1 4 = 0) (hl : lf (s 1 3) β) (hβ : β ≠ some 0) :
    rst k s 1 4 = 0 ∧ lf (rst k s 1 3) (dn β 1) ∧ rst k s 1 2 = s 1 2 + 1 ∧ rst k s 2 = va_cpy (fun j => g0 (1024 * (3 + k) + j)) (s 2) 0 (1024 * h k) 1024 ∧ rst k s 1 1 = s 1 1 ∧ RP u F g0 (rst k s) := by
  have e1 : prd (set1 s 10 k (get4 s 12 (4 + 4 * k))) (3 + k) 13 1 = s 1 := by rw [prd_ne (by decide), st_ne (by decide)]
  have e2 : prd (set1 s 10 k (get4 s 12 (4 + 4 * k))) (3 + k) 13 2 = s 2 := by rw [prd_ne (by decide), st_ne (by decide)]
  have e10 : (prd (set1 s 10 k (get4 s 12 (4 + 4 * k))) (3 + k) 13 10 k).toNatClampNeg = h k := by
    rw [prd_ne (by decide), st_eq]
    have : get4 s 12 (4 + 4 * k) = nI (h k) := by
      show hdr4 (s 12) (4 + 4 * k) = nI (h k)
      rw [hP.1]; exact (hF k hk).2
    rw [this, nI_clamp (by have := (hF k hk).1.1; omega)]
  have e13 : ∀ j, j < 1024 → prd (set1 s 10 k (get4 s 12 (4 + 4 * k))) (3 + k) 13 13 j = g0 (1024 * (3 + k) + j) := fun j hj => by
    rw [prd_at hj, st_ne (by decide)]
    exact hP.2 k hk j hj
  obtain ⟨a1, a2, a3, a4, a5⟩ := pw_go (σ := prd (set1 s 10 k (get4 s 12 (4 + 4 * k))) (3 + k) 13) (b := h k) (i := 13) (β := β) (by rw [e1]; exact h4) (by rw [e1]; exact hl) hβ (by omega)
  rw [rst, e10]
  rw [e1] at a3 a5
  rw [e2, cpy_congr e13] at a4
  refine ⟨a1, a2, a3, a4, a5, ?_, fun i hi j hj => ?_⟩
  · rw [pw_ne (by decide) (by decide), prd_ne (by decide), st_ne (by decide)]; exact hP.1
  · rw [a4, cpy_blk hj, if_neg (by have := (hF k hk).1.2; omega)]
    exact hP.2 i hi j hj
theorem rst_st {k : Nat} {s : Sg} (hP : RP u F g0 s) (hs : s 1 4 ≠ 0 ∨ s 1 3 = 0) : rst k s 1 4 ≠ 0 ∧ rst k s 1 2 = s 1 2 ∧ rst k s 2 = s 2 ∧ rst k s 1 1 = s 1 1 ∧ RP u F g0 (rst k s) := by
  have e1 : prd (set1 s 10 k (get4 s 12 (4 + 4 * k))) (3 + k) 13 1 = s 1 := by rw [prd_ne (by decide), st_ne (by decide)]
  have e2 : prd (set1 s 10 k (get4 s 12 (4 + 4 * k))) (3 + k) 13 2 = s 2 := by rw [prd_ne (by decide), st_ne (by decide)]
  obtain ⟨a1, a2, a3, a4⟩ := pw_st (σ := prd (set1 s 10 k (get4 s 12 (4 + 4 * k))) (3 + k) 13) (b := (prd (set1 s 10 k (get4 s 12 (4 + 4 * k))) (3 + k) 13 10 k).toNatClampNeg) (i := 13) (by rw [e1]; exact hs)
  rw [e1] at a2 a4
  rw [e2] at a3
  refine ⟨a1, a2, a3, a4, ?_, fun i hi j hj => ?_⟩
  · rw [rst, pw_ne (by decide) (by decide), prd_ne (by decide), st_ne (by decide)]; exact hP.1
  · rw [show rst k s 2 = s 2 from a3]; exact hP.2 i hi j hj
theorem rst_off : ∀ (d k : Nat) (s : Sg), RP u F g0 s → s 1 4 ≠ 0 → itr rst d k s 1 4 ≠ 0 ∧ itr rst d k s 1 2 = s 1 2 ∧ itr rst d k s 2 = s 2 ∧ itr rst d k s 1 1 = s 1 1 := by
  intro d
  induction d with
  | zero => intro k s _ h; exact ⟨h, rfl, rfl, rfl⟩
  | succ d ih =>
    intro k s hP h
    obtain ⟨a1, a2, a3, a4, a5⟩ := rst_st (k := k) hP (Or.inl h)
    obtain ⟨b1, b2, b3, b4⟩ := ih (k + 1) (rst k s) a5 a1
    rw [itr]
    exact ⟨b1, b2.trans a2, b3.trans a3, b4.trans a4⟩
theorem rst_all (hF : ∀ i, i < u → ub n (h i) ∧ hdr4 F (4 + 4 * i) = nI (h i)) (hn : n ≤ 80) (hu : u ≤ 30) : ∀ (d k : Nat) (s : Sg) (β : Option Nat), k + d ≤ u → RP u F g0 s → s 1 4 = 0 → lf (s 1 3) β → (∀ m, β = some m → d ≤ m) →
    itr rst d k s 1 4 = 0 ∧ lf (itr rst d k s 1 3) (dn β d) ∧ itr rst d k s 1 2 = s 1 2 + nI d ∧ itr rst d k s 2 = wcp h (fun i j => g0 (1024 * (3 + i) + j)) d k (s 2) ∧ itr rst d k s 1 1 = s 1 1 := by
  intro d
  induction d with
  | zero =>
    intro k s β _ _ h4 hl hm
    refine ⟨h4, ?_, ?_, rfl, rfl⟩
    · cases β <;> exact hl
    · rw [nI_0, Int32.add_zero]; rfl
  | succ d ih =>
    intro k s β hk hP h4 hl hm
    have hβ : β ≠ some 0 := fun e => absurd (hm 0 e) (by omega)
    obtain ⟨a1, a2, a3, a4, a5, a6⟩ := rst_go hF hn hu (k := k) (by omega) hP h4 hl hβ
    obtain ⟨b1, b2, b3, b4, b5⟩ := ih (k + 1) (rst k s) (dn β 1) (by omega) a6 a1 a2 (fun m e => by
      cases β with
      | none => cases e
      | some m0 =>
        have := hm m0 rfl
        have e : m0 - 1 = m := Option.some.inj e
        omega)
    rw [itr]
    refine ⟨b1, ?_, ?_, ?_, b5.trans a5⟩
    · cases β with
      | none => exact b2
      | some m0 =>
        have e : dn (dn (some m0) 1) d = dn (some m0) (d + 1) := by
          show some (m0 - 1 - d) = some (m0 - (d + 1))
          congr 1; omega
        rw [e] at b2
        exact b2
    · rw [b3, a3, nI_succ, Int32.add_assoc, Int32.add_comm 1]
    · rw [b4, a4, wcp]
theorem rst_stop (hF : ∀ i, i < u → ub n (h i) ∧ hdr4 F (4 + 4 * i) = nI (h i)) (hn : n ≤ 80) (hu : u ≤ 30) : ∀ (d k : Nat) (s : Sg) (m : Nat), k + d ≤ u → RP u F g0 s → s 1 4 = 0 → lf (s 1 3) (some m) → m < d →
    itr rst d k s 1 4 ≠ 0 ∧ itr rst d k s 1 2 = s 1 2 + nI m ∧ itr rst d k s 2 = wcp h (fun i j => g0 (1024 * (3 + i) + j)) m k (s 2) ∧ itr rst d k s 1 1 = s 1 1 := by
  intro d
  induction d with
  | zero => intro k s m _ _ _ _ h; omega
  | succ d ih =>
    intro k s m hk hP h4 hl hm
    rw [itr]
    cases m with
    | zero =>
      have h0 : s 1 3 = 0 := hl.2.trans nI_0
      obtain ⟨a1, a2, a3, a4, a5⟩ := rst_st (k := k) hP (Or.inr h0)
      obtain ⟨b1, b2, b3, b4⟩ := rst_off (F := F) (g0 := g0) (u := u) d (k + 1) (rst k s) a5 a1
      refine ⟨b1, ?_, b3.trans a3, b4.trans a4⟩
      rw [b2, a2, nI_0, Int32.add_zero]
    | succ m =>
      obtain ⟨a1, a2, a3, a4, a5, a6⟩ := rst_go hF hn hu (k := k) (by omega) hP h4 hl (fun e => by cases e)
      obtain ⟨b1, b2, b3, b4⟩ := ih (k + 1) (rst k s) m (by omega) a6 a1 a2 (by omega)
      refine ⟨b1, ?_, ?_, b4.trans a5⟩
      · rw [b2, a3, nI_succ, Int32.add_assoc, Int32.add_comm 1]
      · rw [b3, a4, wcp]
end RC2
theorem itr_two {a b : Nat} {x y : Int32} (hab : a ≠ b) : ∀ (d k : Nat) (s : Sg), (∀ p, itr (fun k σ => set1 (set1 σ a k x) b k y) d k s a p = if k ≤ p ∧ p < k + d then x else s a p) ∧ ∀ p, itr (fun k σ => set1 (set1 σ a k x) b k y) d k s b p = if k ≤ p ∧ p < k + d then y else s b p := by
  intro d
  induction d with
  | zero => intro k s; exact ⟨fun p => by rw [if_neg (by omega)]; rfl, fun p => by rw [if_neg (by omega)]; rfl⟩
  | succ d ih =>
    intro k s
    obtain ⟨i1, i2⟩ := ih (k + 1) (set1 (set1 s a k x) b k y)
    constructor
    · intro p
      rw [itr, i1 p, st_ne hab]
      by_cases h1 : p = k
      · subst h1
        rw [if_neg (by omega), if_pos (by omega), st_eq]
      · by_cases h2 : k + 1 ≤ p ∧ p < k + 1 + d
        · rw [if_pos h2, if_pos (by omega)]
        · rw [if_neg h2, if_neg (by omega), st_nk h1]
    · intro p
      rw [itr, i2 p]
      by_cases h1 : p = k
      · subst h1
        rw [if_neg (by omega), if_pos (by omega), st_eq]
      · by_cases h2 : k + 1 ≤ p ∧ p < k + 1 + d
        · rw [if_pos h2, if_pos (by omega)]
        · rw [if_neg h2, if_neg (by omega), st_nk h1, st_ne (Ne.symm hab)]
theorem itr_cp2 : ∀ (d k : Nat) (s : Sg) (p : Nat), itr (fun k σ => set1 σ 2 k (bt (σ 1 k))) d k s 2 p = if k ≤ p ∧ p < k + d then bt (s 1 p) else s 2 p := by
  intro d
  induction d with
  | zero => intro k s p; rw [if_neg (by omega)]; rfl
  | succ d ih =>
    intro k s p
    rw [itr, ih (k + 1), st_ne (by decide)]
    by_cases h1 : p = k
    · subst h1
      rw [if_neg (by omega), if_pos (by omega), st_eq]
    · by_cases h2 : k + 1 ≤ p ∧ p < k + 1 + d
      · rw [if_pos h2, if_pos (by omega)]
      · rw [if_neg h2, if_neg (by omega), st_nk h1]
theorem mpw_all {τ : Sg} {k : Int32} : mpw τ k 1 = τ 1 ∧ mpw τ k 4 = τ 4 ∧ (∀ p, p < 81920 → mpw τ k 2 p = bt (τ 1 p)) ∧ (∀ b, b < 80 → mpw τ k 3 b = 0) ∧ (∀ b, b < 80 → mpw τ k 5 b = 0) ∧ mpw τ k 0 8 = 1 ∧ mpw τ k 0 9 = 0 ∧ mpw τ k 0 10 = (if 0 ≤ k then k else -1) ∧ ∀ j, j ≠ 0 → j ≠ 8 → j ≠ 9 → j ≠ 10 → mpw τ k 0 j = τ 0 j := by
  simp only [mpw]
  refine ⟨?_, ?_, fun p hp => ?_, fun b hb => ?_, fun b hb => ?_, ?_, ?_, ?_, fun j a b c d => ?_⟩
  · rw [itr_ne (fun _ _ => by rw [st_ne (by decide), st_ne (by decide)]), itr_ne (fun _ _ => st_ne (by decide)), st_ne (by decide), st_ne (by decide), st_ne (by decide), th_ne (by decide)]
  · rw [itr_ne (fun _ _ => by rw [st_ne (by decide), st_ne (by decide)]), itr_ne (fun _ _ => st_ne (by decide)), st_ne (by decide), st_ne (by decide), st_ne (by decide), th_ne (by decide)]
  · rw [itr_ne (fun _ _ => by rw [st_ne (by decide), st_ne (by decide)]), itr_cp2, if_pos (by omega), st_ne (by decide), st_ne (by decide), st_ne (by decide), th_ne (by decide)]
  · rw [(itr_two (by decide) 80 0 _).1, if_pos (by omega)]
  · rw [(itr_two (by decide) 80 0 _).2, if_pos (by omega)]
  · rw [itr_ne (fun _ _ => by rw [st_ne (by decide), st_ne (by decide)]), itr_ne (fun _ _ => st_ne (by decide)), st_nk (by decide), st_nk (by decide), st_eq]
  · rw [itr_ne (fun _ _ => by rw [st_ne (by decide), st_ne (by decide)]), itr_ne (fun _ _ => st_ne (by decide)), st_nk (by decide), st_eq]
  · rw [itr_ne (fun _ _ => by rw [st_ne (by decide), st_ne (by decide)]), itr_ne (fun _ _ => st_ne (by decide)), st_eq]
  · rw [itr_ne (fun _ _ => by rw [st_ne (by decide), st_ne (by decide)]), itr_ne (fun _ _ => st_ne (by decide)), st_nk d, st_nk c, st_nk b, th_0 a]
-- the component's state when the log is about to be gone over
theorem rcv0_all {σ : Sg} : (∀ j, j ≠ 5 → j ≠ 6 → j ≠ 9 → j ≠ 12 → rcv0 σ j = σ j) ∧ (∀ p, p < 34 → rcv0 σ 5 p = -1) ∧ (∀ p, p < 34 → rcv0 σ 6 p = 0) ∧ rcv0 σ 9 6 = 0 ∧ rcv0 σ 9 9 = 0 ∧ (∀ k, k ≠ 6 → k ≠ 9 → rcv0 σ 9 k = σ 9 k) ∧ ∀ j, j < 1024 → rcv0 σ 12 j = σ 2 (1024 * 2 + j) := by
  have cn : ∀ j, j ≠ 5 → j ≠ 6 → clr σ j = σ j := fun j a b => by rw [clr, itr_ne (fun _ _ => by rw [st_ne b, st_ne a])]
  refine ⟨fun j a b c d => ?_, fun p hp => ?_, fun p hp => ?_, ?_, ?_, fun k a b => ?_, fun j hj => ?_⟩
  · rw [rcv0, prd_ne d, st_ne c, st_ne c, cn j a b]
  · rw [rcv0, prd_ne (by decide), st_ne (by decide), st_ne (by decide), clr, (itr_two (by decide) 34 0 _).1, if_pos (by omega)]
  · rw [rcv0, prd_ne (by decide), st_ne (by decide), st_ne (by decide), clr, (itr_two (by decide) 34 0 _).2, if_pos (by omega)]
  · rw [rcv0, prd_ne (by decide), st_eq]
  · rw [rcv0, prd_ne (by decide), st_nk (by decide), st_eq]
  · rw [rcv0, prd_ne (by decide), st_nk a, st_nk b, cn 9 (by decide) (by decide)]
  · rw [rcv0, prd_at hj, st_ne (by decide), st_ne (by decide), cn 2 (by decide) (by decide)]
end
section
theorem on_fresh {n t : Nat} {Z T : Sg} {L : List Nat} (hn : n ≤ 80) (h4 : Z 1 4 = 0) (h8 : T 0 8 ≠ 0) (h14 : T 0 14 = -1) (hβ : ∃ β, lf (Z 1 3) β) (h3 : Z 1 3 = T 0 10) (h99 : Z 9 9 = 0) (h09 : T 0 9 = 0) (hdk : DskOk n 0 (fun _ => 0) (Z 2) (T 1)) (ring : RingL (Z 7) (Z 8) L) (z5 : ∀ p, p < 34 → Z 5 p = -1) (z6 : ∀ p, p < 34 → Z 6 p = 0) (h96 : Z 9 6 = 0) (t3 : ∀ b, b < 80 → T 3 b = 0) (t5 : ∀ b, b < 80 → T 5 b = 0) (hcl : ∀ b, ub n b → ∀ j, j < 1024 → bt (T 2 (1024 * b + j)) = bt (T 1 (1024 * b + j))) : On n t Z T := by
  have ncd : ∀ b, b < 80 → ¬ Cd (Z 5) b := fun b hb ⟨k, hk, e⟩ => by
    rw [z5 k hk] at e
    exact m1_ne (by omega) e.symm
  refine ⟨h4, h8, h14, hβ, h3, by rw [h99, h09], hdk, L, 0, by omega, by rw [h96]; rfl, ⟨ring, ⟨fun k hk => Or.inl (z5 k hk), fun k k' hk _ _ q => absurd (z5 k hk) q⟩, ⟨fun b hb => ⟨0, by omega, by rw [t5 b hb]; rfl, ⟨fun q => by omega, fun q => absurd q (ncd b hb)⟩⟩, fun b b' hb _ _ q => absurd (t5 b hb) q⟩, ?_, ?_, ?_, ?_⟩, fun b hb _ j hj => hcl b hb j hj, ⟨mny_0 t3, mny_0 z6, fun i hi => by omega, fun i j hi => by omega, fun b hb q => absurd (t3 b hb) q⟩, ⟨fun _ => by omega, fun q => absurd h09 q⟩⟩
  · rw [CtOk, cb_zero 34 (fun k hk => by rw [z5 k hk]; decide), cb_zero n (fun b hb => by rw [t5 b (by omega)]; decide)]
  · refine List.Pairwise.imp_of_mem ?_ ring.2.2.1
    intro x y _ hy _ q
    exact absurd (z5 y ((ring.2.2.2 y).mp hy)) q
  · intro k b hk hb e
    exact absurd ⟨k, hk, e⟩ (ncd b hb)
  · exact ⟨fun k hk _ => z6 k hk, fun k b hk hb e => absurd ⟨k, hk, e⟩ (ncd b hb), fun b hb q => absurd (t3 b hb) q⟩
theorem rcv_eq (σ : Sg) (u : Nat) : rcv σ u = if u = 0 then itr rst u 0 (rcv0 σ) else wh (itr rst u 0 (rcv0 σ)) 0 := rfl
theorem rsts_ne {j : Nat} (h1 : j ≠ 1) (h2 : j ≠ 2) (h10 : j ≠ 10) (h13 : j ≠ 13) (d k : Nat) (s : Sg) : itr rst d k s j = s j := itr_ne (fun _ _ => rst_ne h1 h2 h10 h13) d k s
theorem rcv_ne {σ : Sg} {u j : Nat} (h1 : j ≠ 1) (h2 : j ≠ 2) (h10 : j ≠ 10) (h12 : j ≠ 12) (h13 : j ≠ 13) : rcv σ u j = rcv0 σ j := by
  rw [rcv_eq]
  split
  · exact rsts_ne h1 h2 h10 h13 _ _ _
  · rw [wh_ne h1 h2 h12, rsts_ne h1 h2 h10 h13]
section RP2
variable {u n : Nat} {h : Nat → Nat} {F g0 : Nat → Int32} {s : Sg} {β : Option Nat}
theorem rp_all (hF : ∀ i, i < u → ub n (h i) ∧ hdr4 F (4 + 4 * i) = nI (h i)) (hn : n ≤ 80) (hu : u ≤ 30) (hP : RP u F g0 s) (h4 : s 1 4 = 0) (hl : lf (s 1 3) β) (hm : ∀ m, β = some m → u + 1 ≤ m) :
    (wh (itr rst u 0 s) 0) 1 4 = 0 ∧ lf ((wh (itr rst u 0 s) 0) 1 3) (dn β (u + 1)) ∧ (wh (itr rst u 0 s) 0) 1 2 = s 1 2 + nI (u + 1) ∧ (wh (itr rst u 0 s) 0) 1 1 = s 1 1 ∧ (wh (itr rst u 0 s) 0) 2 = va_cpy (whb (itr rst u 0 s) 0 12) (wcp h (fun i j => g0 (1024 * (3 + i) + j)) u 0 (s 2)) 0 (1024 * 2) 1024 := by
  obtain ⟨a1, a2, a3, a4, a5⟩ := rst_all hF hn hu u 0 s β (by omega) hP h4 hl (fun m e => by have := hm m e; omega)
  rw [wh_eq]
  have w1 := whb_ne (σ := itr rst u 0 s) (u := 0) (j := 1) (by decide)
  have w2 := whb_ne (σ := itr rst u 0 s) (u := 0) (j := 2) (by decide)
  obtain ⟨b1, b2, b3, b4, b5⟩ := pw_go (σ := whb (itr rst u 0 s) 0) (b := 2) (i := 12) (β := dn β u) (by rw [w1]; exact a1) (by rw [w1]; exact a2) (by
    intro e
    cases β with
    | none => cases e
    | some m =>
      have e : m - u = 0 := Option.some.inj e
      have := hm m rfl
      omega) (by omega)
  refine ⟨b1, ?_, ?_, ?_, ?_⟩
  · cases β with
    | none => exact b2
    | some m =>
      have e : dn (dn (some m) u) 1 = dn (some m) (u + 1) := by
        show some (m - u - 1) = some (m - (u + 1))
        congr 1
      rw [e] at b2
      exact b2
  · rw [b3, w1, a3, Int32.add_assoc, nI_1]
  · rw [b5, w1, a5]
  · rw [b4, w2, a4]
theorem rp_stop (hF : ∀ i, i < u → ub n (h i) ∧ hdr4 F (4 + 4 * i) = nI (h i)) (hn : n ≤ 80) (hu : u ≤ 30) (hP : RP u F g0 s) (h4 : s 1 4 = 0) {m : Nat} (hl : lf (s 1 3) (some m)) (hm : m < u + 1) :
    (wh (itr rst u 0 s) 0) 1 4 ≠ 0 ∧ (wh (itr rst u 0 s) 0) 1 2 = s 1 2 + nI m ∧ (wh (itr rst u 0 s) 0) 1 1 = s 1 1 ∧ (wh (itr rst u 0 s) 0) 2 = wcp h (fun i j => g0 (1024 * (3 + i) + j)) m 0 (s 2) := by
  have w1 := whb_ne (σ := itr rst u 0 s) (u := 0) (j := 1) (by decide)
  have w2 := whb_ne (σ := itr rst u 0 s) (u := 0) (j := 2) (by decide)
  rw [wh_eq]
  by_cases hmu : m < u
  · obtain ⟨a1, a2, a3, a4⟩ := rst_stop hF hn hu u 0 s m (by omega) hP h4 hl hmu
    obtain ⟨b1, b2, b3, b4⟩ := pw_st (σ := whb (itr rst u 0 s) 0) (b := 2) (i := 12) (Or.inl (by rw [w1]; exact a1))
    exact ⟨b1, by rw [b2, w1, a2], by rw [b4, w1, a4], by rw [b3, w2, a3]⟩
  · have hmu : m = u := by omega
    subst hmu
    obtain ⟨a1, a2, a3, a4, a5⟩ := rst_all hF hn hu m 0 s (some m) (by omega) hP h4 hl (fun m' e => by have e : m = m' := Option.some.inj e; omega)
    have a2' : itr rst m 0 s 1 3 = 0 := by
      have e : itr rst m 0 s 1 3 = nI (m - m) := a2.2
      rw [Nat.sub_self, nI_0] at e
      exact e
    obtain ⟨b1, b2, b3, b4⟩ := pw_st (σ := whb (itr rst m 0 s) 0) (b := 2) (i := 12) (Or.inr (by rw [w1]; exact a2'))
    exact ⟨b1, by rw [b2, w1, a3], by rw [b4, w1, a5], by rw [b3, w2, a4]⟩
end RP2
theorem op_power {n N : Nat} {σ τ : Sg} (hr : Rel n N σ τ) (k : Int32) : ∃ rv σ' τ', (∀ l G ad, MI l G (Yc G n ad) y_BV_power b_BV_power 3 (some .int) 4 σ [.ref (ad 0), .int k] rv σ') ∧ (∀ l G am, MI l G (Ym G am) y_Md_power b_Md_power 3 (some .int) 2 τ [.ref (am 0), .int k] rv τ') ∧ Rel n N σ' τ' := by
  have hth := hr.th
  obtain ⟨t, ht, hB, hon | hoff⟩ := id hr
  · exact ⟨-1, σ, th0 τ, fun l G ad => c_BV_power0 l G n ad σ k hon.1, fun l G am => c_Md_power0 l G am τ k (by rw [th_0 (by decide)]; exact hon.2.1), hth⟩
  · obtain ⟨b1, b2, b3, b4, b5, b6, b7, b8⟩ := hB
    obtain ⟨h4, h8, ⟨L, ring⟩, u, h, hu, hdsk, h14⟩ := hoff
    have h08 : th0 τ 0 8 = 0 := by rw [th_0 (by decide)]; exact h8
    obtain ⟨β, hβ⟩ := lf_of k
    -- the component before the log is gone over
    have p13 : pwr0 σ k 1 3 = (if 0 ≤ k then k else -1) := by rw [pwr0, st_eq]
    have p14 : pwr0 σ k 1 4 = 0 := by rw [pwr0, st_nk (by decide), st_eq]
    have p1 : ∀ j, j ≠ 3 → j ≠ 4 → pwr0 σ k 1 j = σ 1 j := fun j a b => by rw [pwr0, st_nk a, st_nk b]
    have pj : ∀ j, j ≠ 1 → pwr0 σ k j = σ j := fun j a => by rw [pwr0, st_ne a, st_ne a]
    obtain ⟨r0, r5, r6, r96, r99, r9, r12⟩ := rcv0_all (σ := pwr0 σ k)
    have e1 : rcv0 (pwr0 σ k) 1 = pwr0 σ k 1 := r0 1 (by decide) (by decide) (by decide) (by decide)
    have e2 : rcv0 (pwr0 σ k) 2 = σ 2 := by rw [r0 2 (by decide) (by decide) (by decide) (by decide), pj 2 (by decide)]
    have hF : ∀ a, a + 4 ≤ 1024 → hdr4 (rcv0 (pwr0 σ k) 12) a = hdk (σ 2) a := by
      intro a ha
      refine hdr4_congr (fun j hj => ?_)
      rw [r12 _ (by omega), pj 2 (by decide), show 1024 * 2 + (a + j) = 2048 + (a + j) by omega]
    have hg : get4 (rcv0 (pwr0 σ k)) 12 0 = nI u := (hF 0 (by omega)).trans hdsk.1
    have ho : ∀ j, j < u → ∃ b, b < n ∧ get4 (rcv0 (pwr0 σ k)) 12 (4 + 4 * j) = nI b := fun j hj => ⟨h j, (hdsk.2.1 j hj).1.1, (hF (4 + 4 * j) (by omega)).trans (hdsk.2.1 j hj).2.1⟩
    have hcc := fun l G ad => c_BV_power1 l G n ad σ k u h4 hu b2 b1 hg ho
    -- the cells behind it, whatever the platter did
    have z : ∀ j, j ≠ 1 → j ≠ 2 → j ≠ 5 → j ≠ 6 → j ≠ 9 → j ≠ 10 → j ≠ 12 → j ≠ 13 → rcv (pwr0 σ k) u j = σ j := fun j a b c d e f g i => by
      rw [rcv_ne a b f g i, r0 j c d e g, pj j a]
    have z9 : rcv (pwr0 σ k) u 9 = rcv0 (pwr0 σ k) 9 := rcv_ne (by decide) (by decide) (by decide) (by decide) (by decide)
    have z5 : rcv (pwr0 σ k) u 5 = rcv0 (pwr0 σ k) 5 := rcv_ne (by decide) (by decide) (by decide) (by decide) (by decide)
    have z6 : rcv (pwr0 σ k) u 6 = rcv0 (pwr0 σ k) 6 := rcv_ne (by decide) (by decide) (by decide) (by decide) (by decide)
    have z98 : rcv (pwr0 σ k) u 9 8 = σ 9 8 := by rw [z9, r9 8 (by decide) (by decide), pj 9 (by decide)]
    have ringZ : RingL (rcv (pwr0 σ k) u 7) (rcv (pwr0 σ k) u 8) L := by
      rw [z 7 (by decide) (by decide) (by decide) (by decide) (by decide) (by decide) (by decide) (by decide), z 8 (by decide) (by decide) (by decide) (by decide) (by decide) (by decide) (by decide) (by decide)]
      exact ring
    obtain ⟨m1, m4, m2, m3, m5, m08, m09, m10, m0⟩ := mpw_all (τ := τ) (k := k)
    have em14 : mpw τ k 0 14 = (if u = 0 then -1 else nI u) := by rw [m0 14 (by decide) (by decide) (by decide) (by decide)]; exact h14
    have hcln : ∀ b, ub n b → ∀ j, j < 1024 → bt (mpw τ k 2 (1024 * b + j)) = bt (mpw τ k 1 (1024 * b + j)) := by
      intro b hb j hj
      rw [m2 _ (by have := hb.1; omega), bt_bt, m1]
    by_cases hz : u = 0
    · -- nothing to be done
      have eR : rcv (pwr0 σ k) u = rcv0 (pwr0 σ k) := by rw [rcv_eq, if_pos hz, hz]; rfl
      have er4 : rcv (pwr0 σ k) u 1 4 = 0 := by rw [eR, e1]; exact p14
      rw [if_pos hz] at em14
      refine ⟨0, rcv (pwr0 σ k) u, mpw τ k, fun l G ad => ?_, fun l G am => c_Md_power1 l G am τ k h08 (by rw [em14]; decide), t, ht, ⟨b1, b2, ?_, ?_, ?_, ?_, ?_, ?_⟩, Or.inl ?_⟩
      · have := hcc l G ad
        rw [if_pos er4, hz, nI_0] at this
        rw [hz]
        exact this
      · rw [eR, e1, p1 1 (by decide) (by decide)]; exact b3
      · rw [m0 1 (by decide) (by decide) (by decide) (by decide)]; exact b4
      · rw [eR, e1, p1 2 (by decide) (by decide), m0 11 (by decide) (by decide) (by decide) (by decide)]; exact b5
      · rw [z 3 (by decide) (by decide) (by decide) (by decide) (by decide) (by decide) (by decide) (by decide), m0 12 (by decide) (by decide) (by decide) (by decide)]; exact b6
      · rw [z98, m0 13 (by decide) (by decide) (by decide) (by decide)]; exact b7
      · rw [m0 7 (by decide) (by decide) (by decide) (by decide)]; exact b8
      · refine on_fresh b2 er4 (by rw [m08]; decide) em14 ⟨β, ?_⟩ ?_ (by rw [z9]; exact r99) m09 ?_ ringZ (fun p hp => by rw [z5]; exact r5 p hp) (fun p hp => by rw [z6]; exact r6 p hp) (by rw [z9]; exact r96) m3 m5 hcln
        · rw [eR, e1, p13]; exact hβ
        · rw [eR, e1, p13, m10]
        · rw [eR, e2, m1]
          rw [hz] at hdsk
          exact ⟨hdsk.1, fun i hi => by omega, fun b hb _ j hj => hdsk.2.2 b hb (fun i hi => by omega) j hj⟩
    · have hup : 0 < u := by omega
      rw [if_neg hz] at em14
      have hnl : ¬ mpw τ k 0 14 < 0 := by rw [em14]; exact nI_pos (by omega)
      have eR : rcv (pwr0 σ k) u = wh (itr rst u 0 (rcv0 (pwr0 σ k))) 0 := by rw [rcv_eq, if_neg hz]
      have hFF : ∀ i, i < u → ub n (h i) ∧ hdr4 (rcv0 (pwr0 σ k) 12) (4 + 4 * i) = nI (h i) := fun i hi => ⟨(hdsk.2.1 i hi).1, (hF _ (by omega)).trans (hdsk.2.1 i hi).2.1⟩
      have hP : RP u (rcv0 (pwr0 σ k) 12) (σ 2) (rcv0 (pwr0 σ k)) := ⟨rfl, fun i hi j hj => by rw [e2]⟩
      have s4 : rcv0 (pwr0 σ k) 1 4 = 0 := by rw [e1]; exact p14
      have s3 : lf (rcv0 (pwr0 σ k) 1 3) β := by rw [e1, p13]; exact hβ
      have hl10 : lf (mpw τ k 0 10) β := by rw [m10]; exact hβ
      have ec : mpw τ k 0 14 + 1 = nI (u + 1) := by rw [em14, nI_1]
      have hinj : ∀ i j, i < u → j < u → h i = h j → i = j := fun i j hi hj e => (hdsk.2.1 i hi).2.2.1 j hj e
      have W3 : ∀ q b j, q ≤ u → j < 1024 → (∀ i, i < u → h i ≠ b) → wcp h (fun i j => σ 2 (1024 * (3 + i) + j)) q 0 (σ 2) (1024 * b + j) = σ 2 (1024 * b + j) := fun q b j hq hj hb => wcp_out hj q 0 (σ 2) (fun i _ h2 => hb i (by omega))
      by_cases ok : ∀ m, β = some m → u + 1 ≤ m
      · obtain ⟨q1, q2, q3, q4, q5⟩ := rp_all hFF b2 hu hP s4 s3 ok
        rw [← eR] at q1 q2 q3 q4 q5
        have hl2 : lf (en1 (mpw τ k) 0 10) (dn β (u + 1)) := by
          rw [en1, st_nk (by decide), ec]
          exact (wr1_10 hl10 (by omega) ok).1
        refine ⟨nI u, rcv (pwr0 σ k) u, en1 (mpw τ k), fun l G ad => ?_, fun l G am => ?_, t, ht, ⟨b1, b2, ?_, ?_, ?_, ?_, ?_, ?_⟩, Or.inl ?_⟩
        · have := hcc l G ad
          rw [if_pos q1] at this
          exact this
        · have := c_Md_power2 l G am τ k h08 hnl (by rw [ec]; exact (wrOk_iff hl10 (by omega)).mpr ok)
          rw [em14] at this
          exact this
        · rw [q4, e1, p1 1 (by decide) (by decide)]; exact b3
        · rw [en1_0 (by decide) (by decide) (by decide), m0 1 (by decide) (by decide) (by decide) (by decide)]; exact b4
        · rw [q3, e1, p1 2 (by decide) (by decide), b5, en1, st_nk (by decide), wr1_11, ec, m0 11 (by decide) (by decide) (by decide) (by decide)]
        · rw [z 3 (by decide) (by decide) (by decide) (by decide) (by decide) (by decide) (by decide) (by decide), en1_0 (by decide) (by decide) (by decide), m0 12 (by decide) (by decide) (by decide) (by decide)]; exact b6
        · rw [z98, en1_0 (by decide) (by decide) (by decide), m0 13 (by decide) (by decide) (by decide) (by decide)]; exact b7
        · rw [en1_0 (by decide) (by decide) (by decide), m0 7 (by decide) (by decide) (by decide) (by decide)]; exact b8
        · refine on_fresh b2 q1 (by rw [en1_0 (by decide) (by decide) (by decide), m08]; decide) (by rw [en1, st_eq]) ⟨_, q2⟩ (lf_uniq q2 hl2) (by rw [z9]; exact r99) (by rw [en1_0 (by decide) (by decide) (by decide)]; exact m09) ?_ ringZ (fun p hp => by rw [z5]; exact r5 p hp) (fun p hp => by rw [z6]; exact r6 p hp) (by rw [z9]; exact r96) (fun b hb => by rw [en1_ne (by decide)]; exact m3 b hb) (fun b hb => by rw [en1_ne (by decide)]; exact m5 b hb) (fun b hb j hj => by rw [en1_ne (by decide), en1_ne (by decide)]; exact hcln b hb j hj)
          rw [en1_ne (by decide), m1, q5, e2]
          refine ⟨?_, fun i hi => by omega, fun b hb _ j hj => ?_⟩
          · rw [hdk_wr (by omega)]
            exact whb_0 (by omega)
          · have hbu := hb.2
            rw [cpy_blk hj, if_neg (by omega)]
            by_cases q : ∃ i, i < u ∧ h i = b
            · obtain ⟨i, hi, e⟩ := q
              rw [← e]
              have := wcp_in (B := h) (X := fun i j => σ 2 (1024 * (3 + i) + j)) hj u 0 (σ 2) (fun i i' _ h1 _ h2 e => hinj i i' (by omega) (by omega) e) i (by omega) (by omega)
              rw [this]
              exact (hdsk.2.1 i hi).2.2.2 j hj
            · have q' : ∀ i, i < u → h i ≠ b := fun i hi e => q ⟨i, hi, e⟩
              rw [W3 u b j (Nat.le_refl _) hj q']
              exact hdsk.2.2 b hb q' j hj
      · obtain ⟨m, hm1, hm2⟩ : ∃ m, β = some m ∧ m < u + 1 := by
          apply Classical.byContradiction
          intro q
          exact ok (fun m e => Nat.le_of_not_lt (fun q2 => q ⟨m, e, q2⟩))
        have hnw : ¬ wrOk (mpw τ k) (mpw τ k 0 14 + 1) := by rw [ec]; exact fun q => ok ((wrOk_iff hl10 (by omega)).mp q)
        rw [hm1] at s3 hl10
        obtain ⟨q1, q2, q3, q4⟩ := rp_stop hFF b2 hu hP s4 s3 hm2
        rw [← eR] at q1 q2 q3 q4
        refine ⟨-1, rcv (pwr0 σ k) u, en0 (mpw τ k), fun l G ad => ?_, fun l G am => c_Md_power3 l G am τ k h08 hnl hnw, t, ht, ⟨b1, b2, ?_, ?_, ?_, ?_, ?_, ?_⟩, Or.inr ?_⟩
        · have := hcc l G ad
          rw [if_neg q1] at this
          exact this
        · rw [q3, e1, p1 1 (by decide) (by decide)]; exact b3
        · rw [en0_0 (by decide) (by decide) (by decide), m0 1 (by decide) (by decide) (by decide) (by decide)]; exact b4
        · rw [q2, e1, p1 2 (by decide) (by decide), b5, en0_11, m0 11 (by decide) (by decide) (by decide) (by decide), hl10.2]
        · rw [z 3 (by decide) (by decide) (by decide) (by decide) (by decide) (by decide) (by decide) (by decide), en0_0 (by decide) (by decide) (by decide), m0 12 (by decide) (by decide) (by decide) (by decide)]; exact b6
        · rw [z98, en0_0 (by decide) (by decide) (by decide), m0 13 (by decide) (by decide) (by decide) (by decide)]; exact b7
        · rw [en0_0 (by decide) (by decide) (by decide), m0 7 (by decide) (by decide) (by decide) (by decide)]; exact b8
        · refine ⟨q1, en0_8, ⟨L, ringZ⟩, u, h, hu, ?_, by rw [if_neg hz, en0_0 (by decide) (by decide) (by decide)]; exact em14⟩
          rw [q4, e2, en0_ne (by decide), m1]
          have hlog : ∀ a, a + 4 ≤ 1024 → hdk (wcp h (fun i j => σ 2 (1024 * (3 + i) + j)) m 0 (σ 2)) a = hdk (σ 2) a := fun a ha => hdk_congr ha (fun j hj => W3 m 2 j (by omega) hj (fun i hi e => by have := (hdsk.2.1 i hi).1.2; omega))
          refine ⟨by rw [hlog 0 (by omega)]; exact hdsk.1, fun i hi => ⟨(hdsk.2.1 i hi).1, by rw [hlog _ (by omega)]; exact (hdsk.2.1 i hi).2.1, (hdsk.2.1 i hi).2.2.1, fun j hj => ?_⟩, fun b hb hnb j hj => ?_⟩
          · rw [W3 m (3 + i) j (by omega) hj (fun i' hi' e => by have := (hdsk.2.1 i' hi').1.2; omega)]
            exact (hdsk.2.1 i hi).2.2.2 j hj
          · rw [W3 m b j (by omega) hj hnb]
            exact hdsk.2.2 b hb hnb j hj
end
section
/-! THE CLAIM OUT OF ONE WALK OF THE LAW'S BODY. Your part is whole_start (and what it stands on); all else here is the same for every law, but numbers. -/
def lw_P (b : Addr) (xs : List Int32) (args : Array Value) (s : State) : Prop := args = #[.ref b] ∧ s.IntsAt b xs ∧ xs.length ≤ 2561 ∧ (Jvm.Cond.and given_1 narrow_1).before args s = true
def lw_Q (_ : Array Value) (s : State) (o : Outcome) (t : State) : Prop := o = .returned (some (.int 1)) ∧ Framed s o t [] 600000 7302250
def lw_Z (below : List Frame) (a : Array Value) (s : State) : State → Prop := fun t => ∃ o, t.status = .running ∧ Ended t below o ∧ lw_Q a s o t
/-- the law's own end, with 1 on the stack, nothing written that was there before, its room as the claim has it -/
theorem lw_ret {p : Program} {l : Launch} {e : Env} {s : State} {m : MethodId} {below : List Frame} {meth : Method} {c : Code} {b : Nat} (hx : p.tables.exec = Jvm.exec) (hb : c.code = code) (hr : meth.sig.returnType = ret) (hlocks : meth.locks = false) {pc : Nat} {H : Heap} {ls : Array Slot} (hdg : decode code pc = .ok (.ireturn, 1)) : W p l e room_1 s m #[Value.ref b] below meth c H [] 600000 7302250 (lw_Z below #[Value.ref b] s) (F0 m pc ls [.int 1]) := by
  intro T hT X
  obtain ⟨fs, hret, hrun, hended, hW, hframe⟩ := X.leave (v := some (.int 1)) (hlocks := hlocks) (fun h => by rw [hr] at h; cases h)
  have hmeth' : T.vm.method? m = some meth := X.method'
  refine ⟨T.setFrames fs, ?_, .returned (some (.int 1)), hrun, hended, rfl, ⟨_, rfl⟩, hW, hframe⟩
  jvm_step X.here [X.here.top, hx, hb, hdg, hmeth', hr, ret, narrow_b1]
  (try refine ⟨rfl, ?_⟩); (try refine ⟨rfl, ?_⟩)
  first | (intro acts; rw [hret _ acts rfl rfl rfl]) | rw [hret _ _ rfl rfl rfl]
  exact Steps.refl _
/-- what holds at the law's entry: the machine, the code, the tables' words (any of lw_tbl by 'hts w (by decide +kernel)'), the script of L ints xs at the cell b, what the Statement gives of the start (any of its parts by flat_of_before) -/
def lw_At (p : Program) (s : State) (m : MethodId) (meth : Method) (c : Code) (b L : Nat) (xs : Nat → Int32) : Prop :=
  p.tables.exec = Jvm.exec ∧ c.code = code ∧ meth.sig.returnType = ret ∧ c.maxLocals = 4 ∧ s.vm.findClass R_law = some m.cls ∧ (∀ w ∈ lw_tbl, w.before #[Value.ref b] s = true) ∧ va_X b L xs s s.heap ∧ b < s.heap.size ∧ meth.locks = false ∧ (Jvm.Cond.and given_1 narrow_1).before #[Value.ref b] s = true
end
section
theorem keepY {D : va_G} {Y : Sy} {τ : Sg} {B : Nat → Prop} {H H1 : Heap} (hP : va_P D classes (wx Y τ) H) (hk : ∀ q : Nat, q < H.size → ¬ B q → H1[q]? = H[q]?) (hB : ∀ i, i < Y.1 → ¬ B (Y.2.1 i)) : va_P D classes (wx Y τ) H1 := by
  refine hP.kept (fun k q hq => ?_)
  have hlt := (hP k q hq).lt
  obtain ⟨h1, rfl⟩ := wx_inv hq
  exact hk _ hlt (hB k h1)
/-- the two systems beside each other, in the law's frame -/
def Two (G : Gx) (n : Nat) (ad am : Nat → Nat) (s : State) (σ τ : Sg) (H : Heap) (locs : List Loc) : Prop := va_P G.1 classes (wx (Yc G n ad) σ) H ∧ va_P G.1 classes (wx (Ym G am) τ) H ∧ va_S (fun q : Nat => s.heap.size ≤ q) s.heap H locs
def Apart (G : Gx) (n : Nat) (ad am : Nat → Nat) (s : State) : Prop := (∀ σ, va_D (fun q : Nat => s.heap.size ≤ q) (wx (Yc G n ad) σ)) ∧ (∀ τ, va_D (fun q : Nat => s.heap.size ≤ q) (wx (Ym G am) τ)) ∧ ∀ i j, i < 48 → j < 6 → ad i ≠ am j
theorem not_m {G : Gx} {n : Nat} {ad am : Nat → Nat} {s : State} (h : Apart G n ad am s) : ∀ i, i < (Ym G am).1 → ¬ Aof (Yc G n ad) ((Ym G am).2.1 i) := by
  rintro i hi ⟨j, hj, e⟩
  exact h.2.2 j i hj hi e.symm
theorem not_c {G : Gx} {n : Nat} {ad am : Nat → Nat} {s : State} (h : Apart G n ad am s) : ∀ i, i < (Yc G n ad).1 → ¬ Aof (Ym G am) ((Yc G n ad).2.1 i) := by
  rintro i hi ⟨j, hj, e⟩
  exact h.2.2 i j hi hj e
set_option maxHeartbeats 4000000 in
/-- THE LAW'S LOOP -/
theorem law_loop {p : Program} {l : Launch} {e : Env} {s : State} {m : MethodId} {below : List Frame} {meth : Method} {c : Code} {b L n : Nat} {xs : Nat → Int32} {G : Gx} {ad am : Nat → Nat} (hL : L ≤ 2561) (C0 : lw_At p s m meth c b L xs) (Kk : Kx G s) (hap : Apart G n ad am s) : ∀ (f i : Nat), L + 6 ≤ i + f → i ≤ L + 5 → ∀ (σ τ : Sg) (H : Heap) (locs : List Loc), Rel n i σ τ → Two G n ad am s σ τ H locs → ∀ ls : Array Slot, lv_has ls 4 [(0, .ref b), (1, .ref (ad 0)), (2, .ref (am 0)), (3, .int (nI i))] → W p l e room_1 s m #[Value.ref b] below meth c H locs 600000 7302250 (lw_Z below #[Value.ref b] s) (F0 m 28 ls []) := by
  obtain ⟨hx, hb, hr, hml, hown, hts, hX, hbl, hlocks, hgv⟩ := C0
  have hts' : ∀ w ∈ gt, w.before #[Value.ref b] s = true := fun w hw => hts w (gt_tbl hw)
  have S : p.tables.exec = Jvm.exec ∧ c.code = code ∧ c.maxLocals = 4 ∧ s.vm.findClass R_law = some m.cls ∧ ∀ w ∈ gt, w.before #[Value.ref b] s = true := ⟨hx, hb, hml, hown, hts'⟩
  have hbA : ¬ (fun q : Nat => s.heap.size ≤ q) b := Nat.not_le.mpr hbl
  intro f
  induction f with
  | zero =>
    intro i h1 h2
    exact absurd h1 (by omega)
  | succ f ih =>
    intro i hi1 hi2 σ τ H locs hrel htwo ls hl
    obtain ⟨hPc, hPm, hS⟩ := htwo
    have esub : (nI L - nI 5).toInt = (L : Int) - 5 := pk_sub_toInt (by omega) (by omega)
    have eii : (nI i).toInt = (i : Int) := nI_toInt (by omega)
    refine lv_iload_n hx hb d_law_28 rfl (lk hl rfl) ?_
    refine lv_aload_n hx hb d_law_29 rfl (lk hl rfl) ?_
    refine va_slen hx hb hX hbl hbA hS d_law_30 ?_
    refine lv_iconst (v := nI 5) hx hb d_law_31 (by decide) ?_
    refine lv_isub hx hb d_law_32 ?_
    refine lv_icmp_gt (tgt := 342) hx hb d_law_33 (by decide) (fun c_33 => ?_) (fun c_33 => ?_)
    · refine lv_iconst (v := 1) hx hb d_law_342 (by decide) ?_
      refine va_forget (fun q hq => hS.2.2 q hq) ?_
      exact lw_ret hx hb hr hlocks d_law_343
    · have hlt : i + 5 ≤ L := by
        apply Classical.byContradiction
        intro q
        apply c_33
        rw [Int32.lt_iff_toInt_lt]
        have e5 : (Int32.ofNat L - nI 5).toInt = (L : Int) - 5 := esub
        rw [e5, eii]
        omega
      have vin : ∀ k, k < 5 → vp_in (nI (i + k)) L := fun k hk => vp_in_nI (by omega) (by omega)
      have K336 : ∀ (σ τ : Sg) (H : Heap) (locs : List Loc), Rel n (i + 1) σ τ → Two G n ad am s σ τ H locs → ∀ ls : Array Slot, lv_has ls 4 [(0, .ref b), (1, .ref (ad 0)), (2, .ref (am 0)), (3, .int (nI i))] → W p l e room_1 s m #[Value.ref b] below meth c H locs 600000 7302250 (lw_Z below #[Value.ref b] s) (F0 m 336 ls []) := by
        intro σ τ H locs hrel htwo ls hl
        refine x_iinc (v := nI (i + 5)) hx hb d_law_336 hl rfl (nI_add i 5) (by decide) (fun ls hl => ?_)
        refine lv_goto (tgt := 28) hx hb d_law_339 (by decide) ?_
        exact ih (i + 5) (by omega) (by omega) σ τ H locs (hrel.mono (by omega)) htwo ls (lv_re hl _ rfl)
      refine lv_aload_n hx hb d_law_36 rfl (lk hl rfl) ?_
      refine lv_iload_n hx hb d_law_37 rfl (lk hl rfl) ?_
      refine va_sld hx hb hX hbl hbA hS (vin 0 (by omega)) d_law_38 ?_
      refine lv_bipush (v := 15) hx hb d_law_39 (by decide) ?_
      refine lv_iand hx hb d_law_41 ?_
      obtain ⟨j, hj, ej⟩ := pk_andE (xs (nI i).toNatClampNeg) (m := 15) 4 (by decide)
      refine top ej ?_
      rcases (show j = 0 ∨ j = 1 ∨ j = 2 ∨ j = 3 ∨ j = 4 ∨ j = 5 ∨ j = 6 ∨ j = 7 ∨ j = 8 ∨ j = 9 ∨ 10 ≤ j by omega) with rfl | rfl | rfl | rfl | rfl | rfl | rfl | rfl | rfl | rfl | hj10
      · obtain ⟨rv, σ', τ', hcM, hmM, hrel2⟩ := op_begin hrel 
        refine lv_tableIn (tgt := 96) hx hb d_law_42 (by decide) (by decide) rfl (by decide) ?_
        refine lv_aload_n hx hb d_law_96 rfl (lk hl rfl) ?_
        refine y_callVi (Y := Yc G n ad) (q := 0) S Kk hPc (hap.1 σ) hS hl.1 (hcM l G ad) (Nat.le_of_ble_eq_true rfl) rfl rfl rfl cw_law_21 rfl rfl (Nat.le_of_ble_eq_true rfl) ⟨Nat.le_of_ble_eq_true rfl, Nat.le_of_ble_eq_true rfl⟩ ⟨Nat.le_refl _, Nat.le_refl _⟩ d_law_97 (fun H1 locs hP1 hz1 hk1 hS => ?_)
        replace hPm := keepY hPm hk1 (not_m hap)
        replace hPc := hP1
        clear hP1 hz1 hk1
        refine lv_aload_n hx hb d_law_100 rfl (lk hl rfl) ?_
        refine y_callVi (Y := Ym G am) (q := 0) S Kk hPm (hap.2.1 τ) hS hl.1 (hmM l G am) (Nat.le_of_ble_eq_true rfl) rfl rfl rfl cw_law_25 rfl rfl (Nat.le_of_ble_eq_true rfl) ⟨Nat.le_of_ble_eq_true rfl, Nat.le_of_ble_eq_true rfl⟩ ⟨Nat.le_refl _, Nat.le_refl _⟩ d_law_101 (fun H1 locs hP1 hz1 hk1 hS => ?_)
        replace hPc := keepY hPc hk1 (not_c hap)
        replace hPm := hP1
        refine lv_icmp_eq (tgt := 336) hx hb d_law_104 (by decide) (fun c_104 => ?_) (fun c_104 => False.elim (c_104 rfl))
        exact K336 σ' τ' _ _ (hrel2.mono (by omega)) ⟨hPc, hPm, hS⟩ ls hl
      · obtain ⟨rv, σ', τ', hcM, hmM, hrel2⟩ := op_end hrel 
        refine lv_tableIn (tgt := 109) hx hb d_law_42 (by decide) (by decide) rfl (by decide) ?_
        refine lv_aload_n hx hb d_law_109 rfl (lk hl rfl) ?_
        refine y_callVi (Y := Yc G n ad) (q := 0) S Kk hPc (hap.1 σ) hS hl.1 (hcM l G ad) (Nat.le_of_ble_eq_true rfl) rfl rfl rfl cw_law_26 rfl rfl (Nat.le_of_ble_eq_true rfl) ⟨Nat.le_of_ble_eq_true rfl, Nat.le_of_ble_eq_true rfl⟩ ⟨Nat.le_refl _, Nat.le_refl _⟩ d_law_110 (fun H1 locs hP1 hz1 hk1 hS => ?_)
        replace hPm := keepY hPm hk1 (not_m hap)
        replace hPc := hP1
        clear hP1 hz1 hk1
        refine lv_aload_n hx hb d_law_113 rfl (lk hl rfl) ?_
        refine y_callVi (Y := Ym G am) (q := 0) S Kk hPm (hap.2.1 τ) hS hl.1 (hmM l G am) (Nat.le_of_ble_eq_true rfl) rfl rfl rfl cw_law_30 rfl rfl (Nat.le_of_ble_eq_true rfl) ⟨Nat.le_of_ble_eq_true rfl, Nat.le_of_ble_eq_true rfl⟩ ⟨Nat.le_refl _, Nat.le_refl _⟩ d_law_114 (fun H1 locs hP1 hz1 hk1 hS => ?_)
        replace hPc := keepY hPc hk1 (not_c hap)
        replace hPm := hP1
        refine lv_icmp_eq (tgt := 336) hx hb d_law_117 (by decide) (fun c_117 => ?_) (fun c_117 => False.elim (c_117 rfl))
        exact K336 σ' τ' _ _ (hrel2.mono (by omega)) ⟨hPc, hPm, hS⟩ ls hl
      · obtain ⟨rv, σ', τ', hcM, hmM, hrel2⟩ := op_flush hrel 
        refine lv_tableIn (tgt := 122) hx hb d_law_42 (by decide) (by decide) rfl (by decide) ?_
        refine lv_aload_n hx hb d_law_122 rfl (lk hl rfl) ?_
        refine y_callVi (Y := Yc G n ad) (q := 0) S Kk hPc (hap.1 σ) hS hl.1 (hcM l G ad) (Nat.le_of_ble_eq_true rfl) rfl rfl rfl cw_law_31 rfl rfl (Nat.le_of_ble_eq_true rfl) ⟨Nat.le_of_ble_eq_true rfl, Nat.le_of_ble_eq_true rfl⟩ ⟨Nat.le_refl _, Nat.le_refl _⟩ d_law_123 (fun H1 locs hP1 hz1 hk1 hS => ?_)
        replace hPm := keepY hPm hk1 (not_m hap)
        replace hPc := hP1
        clear hP1 hz1 hk1
        refine lv_aload_n hx hb d_law_126 rfl (lk hl rfl) ?_
        refine y_callVi (Y := Ym G am) (q := 0) S Kk hPm (hap.2.1 τ) hS hl.1 (hmM l G am) (Nat.le_of_ble_eq_true rfl) rfl rfl rfl cw_law_34 rfl rfl (Nat.le_of_ble_eq_true rfl) ⟨Nat.le_of_ble_eq_true rfl, Nat.le_of_ble_eq_true rfl⟩ ⟨Nat.le_refl _, Nat.le_refl _⟩ d_law_127 (fun H1 locs hP1 hz1 hk1 hS => ?_)
        replace hPc := keepY hPc hk1 (not_c hap)
        replace hPm := hP1
        refine lv_icmp_eq (tgt := 336) hx hb d_law_130 (by decide) (fun c_130 => ?_) (fun c_130 => False.elim (c_130 rfl))
        exact K336 σ' τ' _ _ (hrel2.mono (by omega)) ⟨hPc, hPm, hS⟩ ls hl
      · obtain ⟨rv, σ', τ', hcM, hmM, hrel2⟩ := op_get (by omega) hrel (xs (nI (i + 1)).toNatClampNeg) (xs (nI (i + 2)).toNatClampNeg)
        refine lv_tableIn (tgt := 135) hx hb d_law_42 (by decide) (by decide) rfl (by decide) ?_
        refine lv_aload_n hx hb d_law_135 rfl (lk hl rfl) ?_
        refine lv_aload_n hx hb d_law_136 rfl (lk hl rfl) ?_
        refine lv_iload_n hx hb d_law_137 rfl (lk hl rfl) ?_
        refine lv_iconst (v := nI 1) hx hb d_law_138 (by decide) ?_
        refine lv_iadd hx hb d_law_139 ?_
        refine top (nI_add i 1) ?_
        refine va_sld hx hb hX hbl hbA hS (vin 1 (by omega)) d_law_140 ?_
        refine lv_aload_n hx hb d_law_141 rfl (lk hl rfl) ?_
        refine lv_iload_n hx hb d_law_142 rfl (lk hl rfl) ?_
        refine lv_iconst (v := nI 2) hx hb d_law_143 (by decide) ?_
        refine lv_iadd hx hb d_law_144 ?_
        refine top (nI_add i 2) ?_
        refine va_sld hx hb hX hbl hbA hS (vin 2 (by omega)) d_law_145 ?_
        refine y_callVi (Y := Yc G n ad) (q := 0) S Kk hPc (hap.1 σ) hS hl.1 (hcM l G ad) (Nat.le_of_ble_eq_true rfl) rfl rfl rfl cw_law_35 rfl rfl (Nat.le_of_ble_eq_true rfl) ⟨Nat.le_of_ble_eq_true rfl, Nat.le_of_ble_eq_true rfl⟩ ⟨Nat.le_refl _, Nat.le_refl _⟩ d_law_146 (fun H1 locs hP1 hz1 hk1 hS => ?_)
        replace hPm := keepY hPm hk1 (not_m hap)
        replace hPc := hP1
        clear hP1 hz1 hk1
        refine lv_aload_n hx hb d_law_149 rfl (lk hl rfl) ?_
        refine lv_aload_n hx hb d_law_150 rfl (lk hl rfl) ?_
        refine lv_iload_n hx hb d_law_151 rfl (lk hl rfl) ?_
        refine lv_iconst (v := nI 1) hx hb d_law_152 (by decide) ?_
        refine lv_iadd hx hb d_law_153 ?_
        refine top (nI_add i 1) ?_
        refine va_sld hx hb hX hbl hbA hS (vin 1 (by omega)) d_law_154 ?_
        refine lv_aload_n hx hb d_law_155 rfl (lk hl rfl) ?_
        refine lv_iload_n hx hb d_law_156 rfl (lk hl rfl) ?_
        refine lv_iconst (v := nI 2) hx hb d_law_157 (by decide) ?_
        refine lv_iadd hx hb d_law_158 ?_
        refine top (nI_add i 2) ?_
        refine va_sld hx hb hX hbl hbA hS (vin 2 (by omega)) d_law_159 ?_
        refine y_callVi (Y := Ym G am) (q := 0) S Kk hPm (hap.2.1 τ) hS hl.1 (hmM l G am) (Nat.le_of_ble_eq_true rfl) rfl rfl rfl cw_law_39 rfl rfl (Nat.le_of_ble_eq_true rfl) ⟨Nat.le_of_ble_eq_true rfl, Nat.le_of_ble_eq_true rfl⟩ ⟨Nat.le_refl _, Nat.le_refl _⟩ d_law_160 (fun H1 locs hP1 hz1 hk1 hS => ?_)
        replace hPc := keepY hPc hk1 (not_c hap)
        replace hPm := hP1
        refine lv_icmp_eq (tgt := 336) hx hb d_law_163 (by decide) (fun c_163 => ?_) (fun c_163 => False.elim (c_163 rfl))
        exact K336 σ' τ' _ _ hrel2 ⟨hPc, hPm, hS⟩ ls hl
      · obtain ⟨rv, σ', τ', hcM, hmM, hrel2⟩ := op_fill (by omega) hrel (xs (nI (i + 1)).toNatClampNeg) (xs (nI (i + 2)).toNatClampNeg) (xs (nI (i + 3)).toNatClampNeg) (xs (nI (i + 4)).toNatClampNeg)
        refine lv_tableIn (tgt := 168) hx hb d_law_42 (by decide) (by decide) rfl (by decide) ?_
        refine lv_aload_n hx hb d_law_168 rfl (lk hl rfl) ?_
        refine lv_aload_n hx hb d_law_169 rfl (lk hl rfl) ?_
        refine lv_iload_n hx hb d_law_170 rfl (lk hl rfl) ?_
        refine lv_iconst (v := nI 1) hx hb d_law_171 (by decide) ?_
        refine lv_iadd hx hb d_law_172 ?_
        refine top (nI_add i 1) ?_
        refine va_sld hx hb hX hbl hbA hS (vin 1 (by omega)) d_law_173 ?_
        refine lv_aload_n hx hb d_law_174 rfl (lk hl rfl) ?_
        refine lv_iload_n hx hb d_law_175 rfl (lk hl rfl) ?_
        refine lv_iconst (v := nI 2) hx hb d_law_176 (by decide) ?_
        refine lv_iadd hx hb d_law_177 ?_
        refine top (nI_add i 2) ?_
        refine va_sld hx hb hX hbl hbA hS (vin 2 (by omega)) d_law_178 ?_
        refine lv_aload_n hx hb d_law_179 rfl (lk hl rfl) ?_
        refine lv_iload_n hx hb d_law_180 rfl (lk hl rfl) ?_
        refine lv_iconst (v := nI 3) hx hb d_law_181 (by decide) ?_
        refine lv_iadd hx hb d_law_182 ?_
        refine top (nI_add i 3) ?_
        refine va_sld hx hb hX hbl hbA hS (vin 3 (by omega)) d_law_183 ?_
        refine lv_aload_n hx hb d_law_184 rfl (lk hl rfl) ?_
        refine lv_iload_n hx hb d_law_185 rfl (lk hl rfl) ?_
        refine lv_iconst (v := nI 4) hx hb d_law_186 (by decide) ?_
        refine lv_iadd hx hb d_law_187 ?_
        refine top (nI_add i 4) ?_
        refine va_sld hx hb hX hbl hbA hS (vin 4 (by omega)) d_law_188 ?_
        refine y_callVi (Y := Yc G n ad) (q := 0) S Kk hPc (hap.1 σ) hS hl.1 (hcM l G ad) (Nat.le_of_ble_eq_true rfl) rfl rfl rfl cw_law_40 rfl rfl (Nat.le_of_ble_eq_true rfl) ⟨Nat.le_of_ble_eq_true rfl, Nat.le_of_ble_eq_true rfl⟩ ⟨Nat.le_refl _, Nat.le_refl _⟩ d_law_189 (fun H1 locs hP1 hz1 hk1 hS => ?_)
        replace hPm := keepY hPm hk1 (not_m hap)
        replace hPc := hP1
        clear hP1 hz1 hk1
        refine lv_aload_n hx hb d_law_192 rfl (lk hl rfl) ?_
        refine lv_aload_n hx hb d_law_193 rfl (lk hl rfl) ?_
        refine lv_iload_n hx hb d_law_194 rfl (lk hl rfl) ?_
        refine lv_iconst (v := nI 1) hx hb d_law_195 (by decide) ?_
        refine lv_iadd hx hb d_law_196 ?_
        refine top (nI_add i 1) ?_
        refine va_sld hx hb hX hbl hbA hS (vin 1 (by omega)) d_law_197 ?_
        refine lv_aload_n hx hb d_law_198 rfl (lk hl rfl) ?_
        refine lv_iload_n hx hb d_law_199 rfl (lk hl rfl) ?_
        refine lv_iconst (v := nI 2) hx hb d_law_200 (by decide) ?_
        refine lv_iadd hx hb d_law_201 ?_
        refine top (nI_add i 2) ?_
        refine va_sld hx hb hX hbl hbA hS (vin 2 (by omega)) d_law_202 ?_
        refine lv_aload_n hx hb d_law_203 rfl (lk hl rfl) ?_
        refine lv_iload_n hx hb d_law_204 rfl (lk hl rfl) ?_
        refine lv_iconst (v := nI 3) hx hb d_law_205 (by decide) ?_
        refine lv_iadd hx hb d_law_206 ?_
        refine top (nI_add i 3) ?_
        refine va_sld hx hb hX hbl hbA hS (vin 3 (by omega)) d_law_207 ?_
        refine lv_aload_n hx hb d_law_208 rfl (lk hl rfl) ?_
        refine lv_iload_n hx hb d_law_209 rfl (lk hl rfl) ?_
        refine lv_iconst (v := nI 4) hx hb d_law_210 (by decide) ?_
        refine lv_iadd hx hb d_law_211 ?_
        refine top (nI_add i 4) ?_
        refine va_sld hx hb hX hbl hbA hS (vin 4 (by omega)) d_law_212 ?_
        refine y_callVi (Y := Ym G am) (q := 0) S Kk hPm (hap.2.1 τ) hS hl.1 (hmM l G am) (Nat.le_of_ble_eq_true rfl) rfl rfl rfl cw_law_44 rfl rfl (Nat.le_of_ble_eq_true rfl) ⟨Nat.le_of_ble_eq_true rfl, Nat.le_of_ble_eq_true rfl⟩ ⟨Nat.le_refl _, Nat.le_refl _⟩ d_law_213 (fun H1 locs hP1 hz1 hk1 hS => ?_)
        replace hPc := keepY hPc hk1 (not_c hap)
        replace hPm := hP1
        refine lv_icmp_eq (tgt := 336) hx hb d_law_216 (by decide) (fun c_216 => ?_) (fun c_216 => False.elim (c_216 rfl))
        exact K336 σ' τ' _ _ hrel2 ⟨hPc, hPm, hS⟩ ls hl
      · obtain ⟨rv, σ', τ', hcM, hmM, hrel2⟩ := op_cut hrel (xs (nI (i + 1)).toNatClampNeg)
        refine lv_tableIn (tgt := 221) hx hb d_law_42 (by decide) (by decide) rfl (by decide) ?_
        refine lv_aload_n hx hb d_law_221 rfl (lk hl rfl) ?_
        refine lv_aload_n hx hb d_law_222 rfl (lk hl rfl) ?_
        refine lv_iload_n hx hb d_law_223 rfl (lk hl rfl) ?_
        refine lv_iconst (v := nI 1) hx hb d_law_224 (by decide) ?_
        refine lv_iadd hx hb d_law_225 ?_
        refine top (nI_add i 1) ?_
        refine va_sld hx hb hX hbl hbA hS (vin 1 (by omega)) d_law_226 ?_
        refine y_callVi (Y := Yc G n ad) (q := 0) S Kk hPc (hap.1 σ) hS hl.1 (hcM l G ad) (Nat.le_of_ble_eq_true rfl) rfl rfl rfl cw_law_45 rfl rfl (Nat.le_of_ble_eq_true rfl) ⟨Nat.le_of_ble_eq_true rfl, Nat.le_of_ble_eq_true rfl⟩ ⟨Nat.le_refl _, Nat.le_refl _⟩ d_law_227 (fun H1 locs hP1 hz1 hk1 hS => ?_)
        replace hPm := keepY hPm hk1 (not_m hap)
        replace hPc := hP1
        clear hP1 hz1 hk1
        refine lv_aload_n hx hb d_law_230 rfl (lk hl rfl) ?_
        refine lv_aload_n hx hb d_law_231 rfl (lk hl rfl) ?_
        refine lv_iload_n hx hb d_law_232 rfl (lk hl rfl) ?_
        refine lv_iconst (v := nI 1) hx hb d_law_233 (by decide) ?_
        refine lv_iadd hx hb d_law_234 ?_
        refine top (nI_add i 1) ?_
        refine va_sld hx hb hX hbl hbA hS (vin 1 (by omega)) d_law_235 ?_
        refine y_callVi (Y := Ym G am) (q := 0) S Kk hPm (hap.2.1 τ) hS hl.1 (hmM l G am) (Nat.le_of_ble_eq_true rfl) rfl rfl rfl cw_law_49 rfl rfl (Nat.le_of_ble_eq_true rfl) ⟨Nat.le_of_ble_eq_true rfl, Nat.le_of_ble_eq_true rfl⟩ ⟨Nat.le_refl _, Nat.le_refl _⟩ d_law_236 (fun H1 locs hP1 hz1 hk1 hS => ?_)
        replace hPc := keepY hPc hk1 (not_c hap)
        replace hPm := hP1
        refine lv_icmp_eq (tgt := 336) hx hb d_law_239 (by decide) (fun c_239 => ?_) (fun c_239 => False.elim (c_239 rfl))
        exact K336 σ' τ' _ _ (hrel2.mono (by omega)) ⟨hPc, hPm, hS⟩ ls hl
      · obtain ⟨rv, σ', τ', hcM, hmM, hrel2⟩ := op_power hrel (xs (nI (i + 1)).toNatClampNeg)
        refine lv_tableIn (tgt := 244) hx hb d_law_42 (by decide) (by decide) rfl (by decide) ?_
        refine lv_aload_n hx hb d_law_244 rfl (lk hl rfl) ?_
        refine lv_aload_n hx hb d_law_245 rfl (lk hl rfl) ?_
        refine lv_iload_n hx hb d_law_246 rfl (lk hl rfl) ?_
        refine lv_iconst (v := nI 1) hx hb d_law_247 (by decide) ?_
        refine lv_iadd hx hb d_law_248 ?_
        refine top (nI_add i 1) ?_
        refine va_sld hx hb hX hbl hbA hS (vin 1 (by omega)) d_law_249 ?_
        refine y_callVi (Y := Yc G n ad) (q := 0) S Kk hPc (hap.1 σ) hS hl.1 (hcM l G ad) (Nat.le_of_ble_eq_true rfl) rfl rfl rfl cw_law_50 rfl rfl (Nat.le_of_ble_eq_true rfl) ⟨Nat.le_of_ble_eq_true rfl, Nat.le_of_ble_eq_true rfl⟩ ⟨Nat.le_refl _, Nat.le_refl _⟩ d_law_250 (fun H1 locs hP1 hz1 hk1 hS => ?_)
        replace hPm := keepY hPm hk1 (not_m hap)
        replace hPc := hP1
        clear hP1 hz1 hk1
        refine lv_aload_n hx hb d_law_253 rfl (lk hl rfl) ?_
        refine lv_aload_n hx hb d_law_254 rfl (lk hl rfl) ?_
        refine lv_iload_n hx hb d_law_255 rfl (lk hl rfl) ?_
        refine lv_iconst (v := nI 1) hx hb d_law_256 (by decide) ?_
        refine lv_iadd hx hb d_law_257 ?_
        refine top (nI_add i 1) ?_
        refine va_sld hx hb hX hbl hbA hS (vin 1 (by omega)) d_law_258 ?_
        refine y_callVi (Y := Ym G am) (q := 0) S Kk hPm (hap.2.1 τ) hS hl.1 (hmM l G am) (Nat.le_of_ble_eq_true rfl) rfl rfl rfl cw_law_54 rfl rfl (Nat.le_of_ble_eq_true rfl) ⟨Nat.le_of_ble_eq_true rfl, Nat.le_of_ble_eq_true rfl⟩ ⟨Nat.le_refl _, Nat.le_refl _⟩ d_law_259 (fun H1 locs hP1 hz1 hk1 hS => ?_)
        replace hPc := keepY hPc hk1 (not_c hap)
        replace hPm := hP1
        refine lv_icmp_eq (tgt := 336) hx hb d_law_262 (by decide) (fun c_262 => ?_) (fun c_262 => False.elim (c_262 rfl))
        exact K336 σ' τ' _ _ (hrel2.mono (by omega)) ⟨hPc, hPm, hS⟩ ls hl
      · obtain ⟨rv, σ', τ', hcM, hmM, hrel2⟩ := op_count hrel (xs (nI (i + 1)).toNatClampNeg)
        refine lv_tableIn (tgt := 267) hx hb d_law_42 (by decide) (by decide) rfl (by decide) ?_
        refine lv_aload_n hx hb d_law_267 rfl (lk hl rfl) ?_
        refine lv_aload_n hx hb d_law_268 rfl (lk hl rfl) ?_
        refine lv_iload_n hx hb d_law_269 rfl (lk hl rfl) ?_
        refine lv_iconst (v := nI 1) hx hb d_law_270 (by decide) ?_
        refine lv_iadd hx hb d_law_271 ?_
        refine top (nI_add i 1) ?_
        refine va_sld hx hb hX hbl hbA hS (vin 1 (by omega)) d_law_272 ?_
        refine y_callVi (Y := Yc G n ad) (q := 0) S Kk hPc (hap.1 σ) hS hl.1 (hcM l G ad) (Nat.le_of_ble_eq_true rfl) rfl rfl rfl cw_law_55 rfl rfl (Nat.le_of_ble_eq_true rfl) ⟨Nat.le_of_ble_eq_true rfl, Nat.le_of_ble_eq_true rfl⟩ ⟨Nat.le_refl _, Nat.le_refl _⟩ d_law_273 (fun H1 locs hP1 hz1 hk1 hS => ?_)
        replace hPm := keepY hPm hk1 (not_m hap)
        replace hPc := hP1
        clear hP1 hz1 hk1
        refine lv_aload_n hx hb d_law_276 rfl (lk hl rfl) ?_
        refine lv_aload_n hx hb d_law_277 rfl (lk hl rfl) ?_
        refine lv_iload_n hx hb d_law_278 rfl (lk hl rfl) ?_
        refine lv_iconst (v := nI 1) hx hb d_law_279 (by decide) ?_
        refine lv_iadd hx hb d_law_280 ?_
        refine top (nI_add i 1) ?_
        refine va_sld hx hb hX hbl hbA hS (vin 1 (by omega)) d_law_281 ?_
        refine y_callVi (Y := Ym G am) (q := 0) S Kk hPm (hap.2.1 τ) hS hl.1 (hmM l G am) (Nat.le_of_ble_eq_true rfl) rfl rfl rfl cw_law_58 rfl rfl (Nat.le_of_ble_eq_true rfl) ⟨Nat.le_of_ble_eq_true rfl, Nat.le_of_ble_eq_true rfl⟩ ⟨Nat.le_refl _, Nat.le_refl _⟩ d_law_282 (fun H1 locs hP1 hz1 hk1 hS => ?_)
        replace hPc := keepY hPc hk1 (not_c hap)
        replace hPm := hP1
        refine lv_icmp_eq (tgt := 336) hx hb d_law_285 (by decide) (fun c_285 => ?_) (fun c_285 => False.elim (c_285 rfl))
        exact K336 σ' τ' _ _ (hrel2.mono (by omega)) ⟨hPc, hPm, hS⟩ ls hl
      · obtain ⟨rv, σ', τ', hcM, hmM, hrel2⟩ := op_held hrel (xs (nI (i + 1)).toNatClampNeg)
        refine lv_tableIn (tgt := 290) hx hb d_law_42 (by decide) (by decide) rfl (by decide) ?_
        refine lv_aload_n hx hb d_law_290 rfl (lk hl rfl) ?_
        refine lv_aload_n hx hb d_law_291 rfl (lk hl rfl) ?_
        refine lv_iload_n hx hb d_law_292 rfl (lk hl rfl) ?_
        refine lv_iconst (v := nI 1) hx hb d_law_293 (by decide) ?_
        refine lv_iadd hx hb d_law_294 ?_
        refine top (nI_add i 1) ?_
        refine va_sld hx hb hX hbl hbA hS (vin 1 (by omega)) d_law_295 ?_
        refine y_callVi (Y := Yc G n ad) (q := 0) S Kk hPc (hap.1 σ) hS hl.1 (hcM l G ad) (Nat.le_of_ble_eq_true rfl) rfl rfl rfl cw_law_59 rfl rfl (Nat.le_of_ble_eq_true rfl) ⟨Nat.le_of_ble_eq_true rfl, Nat.le_of_ble_eq_true rfl⟩ ⟨Nat.le_refl _, Nat.le_refl _⟩ d_law_296 (fun H1 locs hP1 hz1 hk1 hS => ?_)
        replace hPm := keepY hPm hk1 (not_m hap)
        replace hPc := hP1
        clear hP1 hz1 hk1
        refine lv_aload_n hx hb d_law_299 rfl (lk hl rfl) ?_
        refine lv_aload_n hx hb d_law_300 rfl (lk hl rfl) ?_
        refine lv_iload_n hx hb d_law_301 rfl (lk hl rfl) ?_
        refine lv_iconst (v := nI 1) hx hb d_law_302 (by decide) ?_
        refine lv_iadd hx hb d_law_303 ?_
        refine top (nI_add i 1) ?_
        refine va_sld hx hb hX hbl hbA hS (vin 1 (by omega)) d_law_304 ?_
        refine y_callVi (Y := Ym G am) (q := 0) S Kk hPm (hap.2.1 τ) hS hl.1 (hmM l G am) (Nat.le_of_ble_eq_true rfl) rfl rfl rfl cw_law_62 rfl rfl (Nat.le_of_ble_eq_true rfl) ⟨Nat.le_of_ble_eq_true rfl, Nat.le_of_ble_eq_true rfl⟩ ⟨Nat.le_refl _, Nat.le_refl _⟩ d_law_305 (fun H1 locs hP1 hz1 hk1 hS => ?_)
        replace hPc := keepY hPc hk1 (not_c hap)
        replace hPm := hP1
        refine lv_icmp_eq (tgt := 336) hx hb d_law_308 (by decide) (fun c_308 => ?_) (fun c_308 => False.elim (c_308 rfl))
        exact K336 σ' τ' _ _ (hrel2.mono (by omega)) ⟨hPc, hPm, hS⟩ ls hl
      · obtain ⟨rv, σ', τ', hcM, hmM, hrel2⟩ := op_cached (by omega) hrel (xs (nI (i + 1)).toNatClampNeg)
        refine lv_tableIn (tgt := 313) hx hb d_law_42 (by decide) (by decide) rfl (by decide) ?_
        refine lv_aload_n hx hb d_law_313 rfl (lk hl rfl) ?_
        refine lv_aload_n hx hb d_law_314 rfl (lk hl rfl) ?_
        refine lv_iload_n hx hb d_law_315 rfl (lk hl rfl) ?_
        refine lv_iconst (v := nI 1) hx hb d_law_316 (by decide) ?_
        refine lv_iadd hx hb d_law_317 ?_
        refine top (nI_add i 1) ?_
        refine va_sld hx hb hX hbl hbA hS (vin 1 (by omega)) d_law_318 ?_
        refine y_callVi (Y := Yc G n ad) (q := 0) S Kk hPc (hap.1 σ) hS hl.1 (hcM l G ad) (Nat.le_of_ble_eq_true rfl) rfl rfl rfl cw_law_63 rfl rfl (Nat.le_of_ble_eq_true rfl) ⟨Nat.le_of_ble_eq_true rfl, Nat.le_of_ble_eq_true rfl⟩ ⟨Nat.le_refl _, Nat.le_refl _⟩ d_law_319 (fun H1 locs hP1 hz1 hk1 hS => ?_)
        replace hPm := keepY hPm hk1 (not_m hap)
        replace hPc := hP1
        clear hP1 hz1 hk1
        refine lv_aload_n hx hb d_law_322 rfl (lk hl rfl) ?_
        refine lv_aload_n hx hb d_law_323 rfl (lk hl rfl) ?_
        refine lv_iload_n hx hb d_law_324 rfl (lk hl rfl) ?_
        refine lv_iconst (v := nI 1) hx hb d_law_325 (by decide) ?_
        refine lv_iadd hx hb d_law_326 ?_
        refine top (nI_add i 1) ?_
        refine va_sld hx hb hX hbl hbA hS (vin 1 (by omega)) d_law_327 ?_
        refine y_callVi (Y := Ym G am) (q := 0) S Kk hPm (hap.2.1 τ) hS hl.1 (hmM l G am) (Nat.le_of_ble_eq_true rfl) rfl rfl rfl cw_law_66 rfl rfl (Nat.le_of_ble_eq_true rfl) ⟨Nat.le_of_ble_eq_true rfl, Nat.le_of_ble_eq_true rfl⟩ ⟨Nat.le_refl _, Nat.le_refl _⟩ d_law_328 (fun H1 locs hP1 hz1 hk1 hS => ?_)
        replace hPc := keepY hPc hk1 (not_c hap)
        replace hPm := hP1
        refine lv_icmp_eq (tgt := 336) hx hb d_law_331 (by decide) (fun c_331 => ?_) (fun c_331 => False.elim (c_331 rfl))
        exact K336 σ' τ' _ _ (hrel2.mono (by omega)) ⟨hPc, hPm, hS⟩ ls hl
      · refine lv_tableOut (tgt := 336) hx hb d_law_42 (Or.inr (by rw [nI_toInt (by omega)]; omega)) (by decide) ?_
        exact K336 σ τ _ _ (hrel.mono (by omega)) ⟨hPc, hPm, hS⟩ ls hl
end
section
/-! multianewarray of two dimensions (an array of N byte arrays of M bytes): its row -/
def mnOut (cA : ClassId) (N h i : Nat) : Cell := arrV cA N (fun j => va_rf (if j < i then some (h + 1 + j) else none))
def mnIn (cB : ClassId) (M : Nat) : Cell := arrV cB M (fun _ => .int 0)
def mnS (T : State) (cA cB : ClassId) (N M : Nat) : Nat → State
  | 0 => T.pushCell (mnOut cA N T.heap.size 0)
  | i + 1 => ((mnS T cA cB N M i).pushCell (mnIn cB M)).setCell T.heap.size (mnOut cA N T.heap.size (i + 1))
theorem mnOut_set (cA : ClassId) (N h i : Nat) : (mnOut cA N h i).setSlot i (.ref (h + 1 + i)) = mnOut cA N h (i + 1) := by
  rw [mnOut, arrV_store, mnOut]
  congr 1
  funext j
  by_cases e : j = i
  · subst e
    simp [updV, va_rf]
  · by_cases q : j < i
    · simp [updV, e, q, Nat.lt_succ_of_lt q]
    · have q2 : ¬ j < i + 1 := by omega
      simp [updV, e, q, q2]
section MN
variable {T : State} {cA cB : ClassId} {N M : Nat}
theorem mn_size : ∀ i, (mnS T cA cB N M i).heap.size = T.heap.size + 1 + i
  | 0 => by simp [mnS]
  | i + 1 => by rw [mnS, size_setCell, size_pushCell, mn_size i]; omega
theorem mn_vm : ∀ i, (mnS T cA cB N M i).vm = T.vm
  | 0 => rfl
  | i + 1 => by simp [mnS, mn_vm i]
theorem mn_used : ∀ i, (mnS T cA cB N M i).slotsUsed = T.slotsUsed + N + i * M
  | 0 => by simp [mnS, mnOut, arrV_size]
  | i + 1 => by
    have h := mn_used i
    simp only [mnS, State.slotsUsed_setCell, State.slotsUsed_pushCell, h, mnIn, arrV_size, Nat.succ_mul]
    omega
theorem mn_out : ∀ i, (mnS T cA cB N M i).heap[T.heap.size]? = some (mnOut cA N T.heap.size i)
  | 0 => State.heap_pushCell_size _ _
  | i + 1 => by
    have hlt : T.heap.size < (mnS T cA cB N M i).heap.size := by rw [mn_size]; omega
    exact State.heap_setCell_self (c := mnOut cA N T.heap.size i) (by rw [State.heap_pushCell_of_lt (h := hlt)]; exact mn_out i)
theorem mn_old {a : Nat} (ha : a < T.heap.size) : ∀ i, (mnS T cA cB N M i).heap[a]? = T.heap[a]?
  | 0 => State.heap_pushCell_of_lt _ _ ha
  | i + 1 => by
    have hlt : a < (mnS T cA cB N M i).heap.size := by rw [mn_size]; omega
    rw [mnS, State.heap_setCell_other (Nat.ne_of_gt ha), State.heap_pushCell_of_lt (h := hlt)]
    exact mn_old ha i
theorem mn_in : ∀ i j, j < i → (mnS T cA cB N M i).heap[T.heap.size + 1 + j]? = some (mnIn cB M)
  | 0, _, h => absurd h (Nat.not_lt_zero _)
  | i + 1, j, h => by
    rw [mnS, State.heap_setCell_other (show T.heap.size ≠ T.heap.size + 1 + j by omega)]
    by_cases e : j < i
    · have hlt : T.heap.size + 1 + j < (mnS T cA cB N M i).heap.size := by rw [mn_size]; omega
      rw [State.heap_pushCell_of_lt (h := hlt)]
      exact mn_in i j e
    · have e2 : j = i := by omega
      subst e2
      rw [← mn_size (T := T) (cA := cA) (cB := cB) (N := N) (M := M) j]
      exact State.heap_pushCell_size _ _
theorem mn_top (f : JFrame) : ∀ i, mnS (T.setTop f) cA cB N M i = (mnS T cA cB N M i).setTop f
  | 0 => rfl
  | i + 1 => by simp only [mnS, mn_top f i, State.heap_setTop, State.pushCell_setTop, State.setCell_setTop]
end MN
section MNW
variable {E : CtlPost} {e : Env} {d : Bool} {acts : List Action} {s : State}
theorem mn_wp1 {cB c0 : ClassId} {kB : Class} {m : Int32} {M : Nat} (hk : s.vm.classes[cB]? = some kB) (hkind : kB.kind = .array c0 .byte) (hm : ¬ m < 0) (hM : m.toNatClampNeg = M) (hl : ¬ M > e.platform.arrayLengthLimit) (hh : ¬ M * 1 > e.platform.maxHeapBytes) (h1 : s.heap.size < e.platform.maxCells) (h2 : s.slotsUsed + M ≤ e.platform.maxSlots) {Q : Addr → _root_.Jvm.Pre} (hq : ∀ acts', Q s.heap.size d acts' (s.pushCell (mnIn cB M))) :
    wp (Jvm.Op.multianewarray.make cB [m]) Q E e d acts s := by
  subst hM
  rw [Jvm.Op.multianewarray.make]
  simp only [wp_bind', _root_.Jvm.W.ite, hm, if_false, wp_pure', _root_.Jvm.W.theClass, hk, hkind, Option.some.injEq, exists_eq_left']
  refine _root_.Jvm.W.newArray_of hk hkind hl hh h1 h2 rfl (fun acts' => ?_)
  have := hq acts'
  rw [mnIn, ← arrV_new] at this
  exact this
theorem mn_wp2 {cA cB c0 : ClassId} {kA kB : Class} {n m : Int32} {N M : Nat} (hkA : s.vm.classes[cA]? = some kA) (hkindA : kA.kind = .array cB (.array .byte)) (hkB : s.vm.classes[cB]? = some kB) (hkindB : kB.kind = .array c0 .byte) (hn : ¬ n < 0) (hn0 : ¬ (n == 0) = true) (hN : n.toNatClampNeg = N) (hm : ¬ m < 0) (hM : m.toNatClampNeg = M) (hl : ¬ N > e.platform.arrayLengthLimit) (hh : ¬ N * 4 > e.platform.maxHeapBytes) (hl2 : ¬ M > e.platform.arrayLengthLimit) (hh2 : ¬ M * 1 > e.platform.maxHeapBytes) (hc : s.heap.size + 1 + N ≤ e.platform.maxCells) (hs : s.slotsUsed + N + N * M ≤ e.platform.maxSlots) {Q : Addr → _root_.Jvm.Pre} (hq : ∀ d' acts', Q s.heap.size d' acts' (mnS s cA cB N M N)) :
    wp (Jvm.Op.multianewarray.make cA [n, m]) Q E e d acts s := by
  subst hN
  rw [Jvm.Op.multianewarray.make]
  simp only [wp_bind', _root_.Jvm.W.ite, hn, if_false, wp_pure', _root_.Jvm.W.theClass, hkA, hkindA, Option.some.injEq, exists_eq_left']
  refine _root_.Jvm.W.newArray_of hkA hkindA hl hh (by omega) (by have := Nat.zero_le (n.toNatClampNeg * M); omega) rfl (fun acts' => ?_)
  rw [if_neg hn0, wp_bind', Std.Legacy.Range.forIn_eq_forIn_range']
  have hsz : ([:n.toNatClampNeg] : Std.Legacy.Range).size = n.toNatClampNeg := by simp [Std.Legacy.Range.size]
  rw [hsz]
  have e0 : s.pushCell { cls := cA, slots := Array.replicate n.toNatClampNeg .null } = mnS s cA cB n.toNatClampNeg M 0 := by
    rw [mnS, mnOut]
    congr 1
    exact arrV_new cA n.toNatClampNeg .null
  rw [e0]
  refine wp_forIn_inv (fun rest s' => ∃ i, i ≤ n.toNatClampNeg ∧ rest = List.range' i (n.toNatClampNeg - i) ∧ s' = mnS s cA cB n.toNatClampNeg M i) _ _ ⟨0, Nat.zero_le _, rfl, rfl⟩ ?_ ?_
  · rintro x rest s' d' acts'' Q' ⟨i, hi, hl', rfl⟩ hnext
    have hlt : i < n.toNatClampNeg := by
      apply Classical.byContradiction
      intro q
      have : n.toNatClampNeg - i = 0 := by omega
      rw [this] at hl'
      cases hl'
    have hx : x = i ∧ rest = List.range' (i + 1) (n.toNatClampNeg - (i + 1)) := by
      have e1 : n.toNatClampNeg - i = (n.toNatClampNeg - (i + 1)) + 1 := by omega
      rw [e1, List.range'_succ] at hl'
      injection hl' with a1 a2
      exact ⟨a1, a2⟩
    obtain ⟨rfl, hrest⟩ := hx
    have hmul : x * M + M ≤ n.toNatClampNeg * M := by
      have := Nat.mul_le_mul_right M (show x + 1 ≤ n.toNatClampNeg from hlt)
      rw [Nat.succ_mul] at this
      exact this
    have f1 := mn_size (T := s) (cA := cA) (cB := cB) (N := n.toNatClampNeg) (M := M) x
    have f3 := mn_vm (T := s) (cA := cA) (cB := cB) (N := n.toNatClampNeg) (M := M) x
    have f4 := mn_used (T := s) (cA := cA) (cB := cB) (N := n.toNatClampNeg) (M := M) x
    have f2 := mn_out (T := s) (cA := cA) (cB := cB) (N := n.toNatClampNeg) (M := M) x
    simp only [wp_bind']
    refine mn_wp1 (by rw [f3]; exact hkB) hkindB hm hM hl2 hh2 (by rw [f1]; omega) (by rw [f4]; omega) (fun acts3 => ?_)
    have hlt0 : s.heap.size < (mnS s cA cB n.toNatClampNeg M x).heap.size := by rw [f1]; omega
    simp only [wp_bind', _root_.Jvm.W.writeLoc, wp_pure']
    refine ⟨mnOut cA n.toNatClampNeg s.heap.size x, by rw [State.heap_pushCell_of_lt (h := hlt0)]; exact f2, (fun q => by cases q), (by show x < (arrV _ _ _).slots.size; rw [arrV_size]; exact hlt), ?_, hnext _ _ _ ⟨x + 1, hlt, hrest, ?_⟩⟩
    · show State.fitsSlot _ cA .none x _ = true
      simp [State.fitsSlot, State.slotType?, f3, hkA, hkindA, fits]
    · rw [f1, mnOut_set]; rfl
  · rintro s' d' acts'' ⟨i, hi, hl', rfl⟩
    have hiN : i = n.toNatClampNeg := by
      apply Classical.byContradiction
      intro q
      have e1 : n.toNatClampNeg - i = (n.toNatClampNeg - (i + 1)) + 1 := by omega
      rw [e1, List.range'_succ] at hl'
      cases hl'
    subst hiN
    simp only [wp_pure']
    exact hq _ _
end MNW
/-- the class of byte[][] is an array over the class of byte[] -/
def QA (G : Gx) (U : State) : Prop := ∃ k : Class, U.vm.classes[G.2.2.2.2]? = some k ∧ k.kind = .array G.2.1 (.array .byte)
theorem QA.moved {G : Gx} {u U : State} (hvm : u.vm.Alike U.vm) (h : QA G u) : QA G U := by
  obtain ⟨k, h1, h2⟩ := h
  obtain ⟨k', hk', he⟩ := hvm.2.2 _ _ h1
  exact ⟨k', hk', by rw [he]; exact h2⟩
section MNS
variable {p : Program} {l : Launch} {e : Env} {R : Room} {s : State} {m : MethodId} {args : Array Value} {below : List Frame} {meth : Method} {c : Code} {T : State} {locs : List Loc} {cells slots : Nat}
theorem mn_stand (X : Stand p l e R s m args below meth c T locs cells slots) (cA cB : ClassId) (N M : Nat) : ∀ i, Stand p l e R s m args below meth c (mnS T cA cB N M i) (locs ++ (List.range i).map fun j => ⟨T.heap.size, j⟩) (cells + 1 + i) (slots + N + i * M)
  | 0 => by
    have h := X.pushed (mnOut cA N T.heap.size 0)
    have e : (mnOut cA N T.heap.size 0).slots.size = N := arrV_size _ _ _
    rw [e] at h
    simpa [mnS] using h
  | i + 1 => by
    have Xi := mn_stand X cA cB N M i
    have hlt0 : T.heap.size < (mnS T cA cB N M i).heap.size := by rw [mn_size]; omega
    have hcell : ((mnS T cA cB N M i).pushCell (mnIn cB M)).heap[T.heap.size]? = some (mnOut cA N T.heap.size i) := by rw [State.heap_pushCell_of_lt (h := hlt0)]; exact mn_out i
    have h := (Xi.pushed (mnIn cB M)).stored hcell i (.ref (T.heap.size + 1 + i))
    have e1 : (mnIn cB M).slots.size = M := arrV_size _ _ _
    rw [e1, mnOut_set] at h
    have e2 : (locs ++ (List.range (i + 1)).map fun j => (⟨T.heap.size, j⟩ : Loc)) = (locs ++ (List.range i).map fun j => (⟨T.heap.size, j⟩ : Loc)) ++ [⟨T.heap.size, i⟩] := by simp [List.range_succ, List.append_assoc]
    have e3 : slots + N + (i + 1) * M = slots + N + i * M + M := by rw [Nat.succ_mul]; omega
    rw [e2, e3]
    exact h
theorem mn_step (X : Stand p l e R s m args below meth c T locs cells slots) (hexec : p.tables.exec = Jvm.exec) {G : Gx} {own : String} {index : Nat} (hown : s.vm.findClass own = some m.cls) (hclink : (Cond.classLink own index "[[B").before args s = true) (hK : va_K G.1 classes (tysG G) s) (hQ : QA G s)
    {g : JFrame} (hg : g.method = m) (hdg : decode c.code g.pc = .ok (.multianewarray index 2, 4)) {n k : Int32} {N M : Nat} {rest : List Value} (hstack : g.stack = .int k :: .int n :: rest)
    (hn : ¬ n < 0) (hn0 : ¬ (n == 0) = true) (hN : n.toNatClampNeg = N) (hk : ¬ k < 0) (hM : k.toNatClampNeg = M) (hN4 : N * 4 ≤ 536870912) (hM4 : M ≤ 536870912) (hcells : cells + (1 + N) ≤ R.cells) (hslots : slots + (N + N * M) ≤ R.slots) :
    ∃ vm₁ : Vm, Stand p l e R s m args below meth c (mnS (T.setVm vm₁) G.2.2.2.2 G.2.1 N M N) (locs ++ (List.range N).map fun j => ⟨T.heap.size, j⟩) (cells + 1 + N) (slots + N + N * M) ∧
      ∀ target, Steps p.tables e below ((mnS (T.setVm vm₁) G.2.2.2.2 G.2.1 N M N).setTop { g with pc := g.pc + 4, stack := .ref T.heap.size :: rest }) target → Steps p.tables e below (T.setTop g) target := by
  subst hg
  have hpl : e.platform.magicAccessors = ({} : Platform).magicAccessors := by rw [X.admits.platform]
  obtain ⟨kA, hkA, hkindA⟩ := hQ
  have hnameA : s.vm.findClass "[[B" = some G.2.2.2.2 := (hK.2 3 (G.2.2.2.2, .array .byte) rfl).2
  obtain ⟨-, kB, hkB, c0, hkindB⟩ := (hK.2 0 (G.2.1, .byte) rfl).1 0 (fun _ => .null)
  obtain ⟨cl, hfc, hcl⟩ := Cond.classLink_spec hown hclink e.platform hpl
  cases hnameA.symm.trans hfc
  obtain ⟨hg₁, hwarm₁, hready₁⟩ := State.classEntry (e := e) X.warmed hcl
  generalize T.vm.noted g.method.cls index (.cls G.2.2.2.2) = vm₁ at hg₁ hwarm₁ hready₁
  obtain ⟨kA₁, hkA₁, heA⟩ := hwarm₁.alike.2.2 _ _ hkA
  obtain ⟨kB₁, hkB₁, heB⟩ := hwarm₁.alike.2.2 _ _ hkB
  have hkindA₁ : kA₁.kind = .array G.2.1 (.array .byte) := by rw [heA]; exact hkindA
  have hkindB₁ : kB₁.kind = .array c0 .byte := by rw [heB]; exact hkindB
  have X₁ := X.noted hwarm₁
  obtain ⟨hr1, hr2⟩ := X.roomAbove hcells hslots
  have XF := mn_stand X₁ G.2.2.2.2 G.2.1 N M N
  refine ⟨vm₁, XF, fun target hrest => ?_⟩
  have hl1 : ¬ N > e.platform.arrayLengthLimit := by rw [Launch.admits_arrayLengthLimit X.admits]; omega
  have hh1 : ¬ N * 4 > e.platform.maxHeapBytes := by rw [Launch.admits_maxHeapBytes X.admits]; omega
  have hl2 : ¬ M > e.platform.arrayLengthLimit := by rw [Launch.admits_arrayLengthLimit X.admits]; omega
  have hh2 : ¬ M * 1 > e.platform.maxHeapBytes := by rw [Launch.admits_maxHeapBytes X.admits]; omega
  jvm_step X.here [hexec, hdg]
  simp only [Jvm.Op.multianewarray.sem, wp_bind', _root_.Jvm.W.resolveClassAt_links (State.method?_setTop g X.here.top) hg₁]
  rw [_root_.Jvm.W.popN, if_neg (by decide)]
  refine ⟨g, State.topJava?_setTop' (s := T.setVm vm₁) g X.here.top, [.int n, .int k], rest, rfl, hstack, ?_⟩
  simp only [List.mapM_cons, List.mapM_nil, wp_bind', wp_pure']
  have eS : ((T.setTop g).setVm vm₁).setTop { g with stack := rest } = (T.setVm vm₁).setTop { g with stack := rest } := by
    show ((T.setVm vm₁).setTop g).setTop _ = _
    rw [State.setTop_setTop]
  rw [eS]
  refine mn_wp2 (kA := kA₁) (kB := kB₁) (cB := G.2.1) (c0 := c0) hkA₁ hkindA₁ hkB₁ hkindB₁ hn hn0 hN hk hM hl1 hh1 hl2 hh2 (by show T.heap.size + 1 + _ ≤ _; omega) (by show T.slotsUsed + _ + _ ≤ _; omega) (fun d' acts' => ?_)
  rw [mn_top]
  simp only [wp_bind', _root_.Jvm.W.mark, _root_.Jvm.W.pushRef, State.topJava?_setTop' _ XF.here.top, Option.some.injEq, exists_eq_left', State.setTop_setTop, State.heap_setTop]
  intro acts
  simp [jvm, XF.here.top]
  exact hrest
end MNS
end
section
/-! rows for constructors: new arrays of known classes, the array of arrays; the script's first int -/
theorem arrV_congr {cA : ClassId} {N : Nat} {f g : Nat → Value} (h : ∀ j, j < N → f j = g j) : arrV cA N f = arrV cA N g := by
  unfold arrV
  congr 2
  funext j
  exact h j.val j.isLt
def rE (G : Gx) (q i : Nat) : va_E := if i = 0 then .inl (G.2.2.2.2, 34, .inr (.inr (.inr (.inr (fun k => some (q + 1 + k)))))) else .inl (G.2.1, 1024, .inl (fun _ => 0))
/-- the array of arrays, and its arrays behind it -/
def rl (G : Gx) (q : Nat) : va_W := (List.range 35).map fun i => (q + i, rE G q i)
theorem rl_at {G : Gx} {q i : Nat} (h : i < 35) : (rl G q)[i]? = some (q + i, rE G q i) := by simp [rl, h]
theorem rl_inv {G : Gx} {q i : Nat} {x : Nat × va_E} (h : (rl G q)[i]? = some x) : i < 35 ∧ x = (q + i, rE G q i) := by
  have h1 : i < 35 := by
    have := (List.getElem?_eq_some_iff.mp h).1
    simpa [rl] using this
  rw [rl_at h1] at h
  exact ⟨h1, (Option.some.inj h).symm⟩
section NW
variable {p : Program} {l : Launch} {e : Env} {R : Room} {s : State} {m : MethodId} {args : Array Value} {below : List Frame} {meth : Method} {c : Code} {H : Heap} {locs : List Loc} {cells slots : Nat} {Q : State → Prop}
variable {cc : ByteArray} {pc : Nat} {ls : Array Slot} {rest : List Value} {G : Gx} {A : Nat → Prop} {H0 : Heap} {ws : va_W}
theorem x_mna {own : String} {index : Nat} (hexec : p.tables.exec = Jvm.exec) (hb : c.code = cc) (hown : s.vm.findClass own = some m.cls) (hclink : (Cond.classLink own index "[[B").before args s = true) (K : Kx G s) (hQ : QA G s) (hP : va_P G.1 classes ws H) (hD : va_D A ws) (hS : va_S A H0 H locs) (hA : ∀ q, H0.size ≤ q → A q) (hcells : cells + (1 + 34) ≤ R.cells) (hslots : slots + (34 + 34 * 1024) ≤ R.slots) (hdg : decode cc pc = .ok (.multianewarray index 2, 4))
    (kk : ∀ (q : Nat) (H1 : Heap) (locs1 : List Loc), va_P G.1 classes (ws ++ rl G q) H1 → va_D A (ws ++ rl G q) → va_S A H0 H1 locs1 → W p l e R s m args below meth c H1 locs1 (cells + 35) (slots + 34850) Q (F0 m (pc + 4) ls (.ref q :: rest))) : W p l e R s m args below meth c H locs cells slots Q (F0 m pc ls (.int (nI 1024) :: .int (nI 34) :: rest)) := by
  intro T hT X
  obtain ⟨vm₁, X', step⟩ := mn_step X hexec hown hclink K.1 hQ (g := F0 m pc ls (.int (nI 1024) :: .int (nI 34) :: rest)) rfl (by rw [hb]; exact hdg) (n := nI 34) (k := nI 1024) (N := 34) (M := 1024) (rest := rest) rfl (by decide) (by decide) (by decide) (by decide) (by decide) (by decide) (by decide) hcells hslots
  have hh : (T.setVm vm₁).heap = H := hT
  have hz : T.heap.size = H.size := by rw [hT]
  generalize hU : mnS (T.setVm vm₁) G.2.2.2.2 G.2.1 34 1024 34 = U at X' step
  have f1 : U.heap.size = H.size + 35 := by rw [← hU, mn_size, hh]
  have f2 : U.heap[H.size]? = some (mnOut G.2.2.2.2 34 H.size 34) := by
    have := mn_out (T := T.setVm vm₁) (cA := G.2.2.2.2) (cB := G.2.1) (N := 34) (M := 1024) 34
    rw [hU, hh] at this
    exact this
  have f3 : ∀ a, a < H.size → U.heap[a]? = H[a]? := by
    intro a ha
    have := mn_old (T := T.setVm vm₁) (cA := G.2.2.2.2) (cB := G.2.1) (N := 34) (M := 1024) (a := a) (by rw [hh]; exact ha) 34
    rw [hU, hh] at this
    exact this
  have f4 : ∀ j, j < 34 → U.heap[H.size + 1 + j]? = some (mnIn G.2.1 1024) := by
    intro j hj
    have := mn_in (T := T.setVm vm₁) (cA := G.2.2.2.2) (cB := G.2.1) (N := 34) (M := 1024) 34 j hj
    rw [hU, hh] at this
    exact this
  have hPn : va_P G.1 classes (rl G H.size) U.heap := by
    intro i x hx
    obtain ⟨hi, rfl⟩ := rl_inv hx
    by_cases h0 : i = 0
    · subst h0
      show U.heap[H.size + 0]? = some (vp_cell _ _)
      rw [Nat.add_zero, f2, vp_cell_q, mnOut]
      congr 1
    · have e1 : rE G H.size i = .inl (G.2.1, 1024, .inl (fun _ => 0)) := by rw [rE, if_neg h0]
      show va_at G.1 classes (H.size + i, rE G H.size i) U.heap
      rw [e1]
      show U.heap[H.size + i]? = some (vp_cell _ _)
      have := f4 (i - 1) (by omega)
      rw [show H.size + 1 + (i - 1) = H.size + i by omega] at this
      rw [this, vp_cell_i, mnIn]
  have hPo : va_P G.1 classes ws U.heap := hP.kept (fun k x hx => f3 x.1 (hP k x hx).lt)
  have hDn : va_D A (rl G H.size) := by
    refine ⟨fun i j x y hx hy exy => ?_, fun k x hx => ?_⟩
    · obtain ⟨-, rfl⟩ := rl_inv hx
      obtain ⟨-, rfl⟩ := rl_inv hy
      have exy : H.size + i = H.size + j := exy
      omega
    · obtain ⟨-, rfl⟩ := rl_inv hx
      exact hA _ (Nat.le_trans hS.1 (Nat.le_add_right _ _))
  have hDa : va_D A (ws ++ rl G H.size) := va_D.app hD hDn (fun i j x y hx hy exy => by
    have h1 := (hP i x hx).lt
    obtain ⟨-, rfl⟩ := rl_inv hy
    have exy : x.1 = H.size + j := exy
    omega)
  have hS' : va_S A H0 U.heap (locs ++ (List.range 34).map fun j => ⟨T.heap.size, j⟩) := by
    refine ⟨Nat.le_trans hS.1 (by omega), fun q h1 h2 => (f3 q (Nat.lt_of_lt_of_le h1 hS.1)).trans (hS.2.1 q h1 h2), fun x hx => ?_⟩
    rcases List.mem_append.mp hx with h | h
    · exact hS.2.2 x h
    · obtain ⟨j, -, rfl⟩ := List.mem_map.mp h
      show A T.heap.size
      rw [hz]
      exact hA _ hS.1
  have e5 : cells + 1 + 34 = cells + 35 := by omega
  have e6 : slots + 34 + 34 * 1024 = slots + 34850 := by omega
  rw [e5, e6] at X'
  obtain ⟨t, a1, b1⟩ := kk H.size U.heap _ (hPo.app hPn) hDa hS' U rfl X'
  refine ⟨t, step t ?_, b1⟩
  rw [hz]
  exact a1
theorem x_newa (hexec : p.tables.exec = Jvm.exec) (hb : c.code = cc) {atype : ArrayType} {ty : FieldType} {nm : String} {cA : ClassId} (hac : (Cond.arrayClass (newarray.typeOf atype)).before args s = true) (hty : newarray.typeOf atype = ty) (hdef : defaultValue ty = .int 0) (hnm : ∀ c', va_RA s c' ty → s.vm.findClass nm = some c') (K : Kx G s) (t : Nat) (ht : (tysG G)[t]? = some (cA, ty)) (hP : va_P G.1 classes ws H) (hD : va_D A ws) (hS : va_S A H0 H locs) (hA : ∀ q, H0.size ≤ q → A q)
    {N' : Nat} (hN : N' < 2 ^ 31) (hbytes : N' * componentBytes ty ≤ 536870912) (hcells : cells + 1 ≤ R.cells) (hslots : slots + N' ≤ R.slots) (hdg : decode cc pc = .ok (.newarray atype, 2))
    (kk : ∀ (q : Nat) (H : Heap), va_P G.1 classes (ws ++ [(q, .inl (cA, N', .inl (fun _ => 0)))]) H → va_D A (ws ++ [(q, .inl (cA, N', .inl (fun _ => 0)))]) → va_S A H0 H locs →
      W p l e R s m args below meth c H locs (cells + 1) (slots + N') Q (F0 m (pc + 2) ls (.ref q :: rest))) : W p l e R s m args below meth c H locs cells slots Q (F0 m pc ls (.int (nI N') :: rest)) := by
  refine va_newa (a0 := (N', .inl (fun _ => 0))) hexec hb hac hty K.1 hP hD hS hA (fun c' => by rw [vp_cell_i]; exact arrV_congr (fun j _ => hdef.symm)) (nI_pos hN) (nI_clamp hN) hbytes hcells hslots hdg (fun q c' H1 hK1 hP1 hD1 hS1 => ?_)
  have h1 : va_RA s c' ty := by
    have := (hK1.2 4 (c', ty) rfl).2
    exact this
  have h2 : va_RA s cA ty := (K.1.2 t _ ht).2
  have e1 : c' = cA := Option.some.inj ((hnm c' h1).symm.trans (hnm cA h2))
  subst e1
  exact kk q H1 hP1 hD1 hS1
end NW
/-- cell(script, 0): the first int, or 0 -/
def sc0 (L : Nat) (xs : Nat → Int32) : Int32 := if 0 < L then xs 0 else 0
theorem c_law_cell (l : Launch) (b L : Nat) (xs : Nat → Int32) (hL : L < 2 ^ 31) : Met l y_law_cell (wsm y_law_cell b_law_cell 2 (some .int)) (rk 0) (va_Pc [.ref b, .int (nI 0)] (fun U => va_X b L xs U U.heap)) (QcRead (sc0 L xs)) 0 0 (fun _ => False) := by
  refine Met.ofW (cc := b_law_cell) (maxL := 2) (ret := some .int) (by decide) rfl ?_
  intro p e s m args below meth c s₁ B hml hv
  obtain ⟨rfl, hX⟩ := hv
  have hx := B.exec
  have hb := B.bytes
  have hr := B.returns
  have hlocks := B.notSynchronized
  have hbl : b < s.heap.size := by
    obtain ⟨scr, h1, -⟩ := hX
    exact (Array.getElem?_eq_some_iff.mp h1).1
  have hS : va_S (fun _ => False) s.heap s.heap [] := va_S.rf
  have hl := lv_entry [.ref b, .int (nI 0)] (n := 2) (Nat.le_of_ble_eq_true rfl)
  rw [lg_entry_eq]
  generalize (lg_sl ([.ref b, .int (nI 0)]) ++ List.replicate (2 - (lg_sl ([.ref b, .int (nI 0)])).length) Slot.unset).toArray = ls at hl ⊢
  refine lv_iload_n hx hb d_law_cell_0 rfl (lk hl rfl) ?_
  refine lv_aload_n hx hb d_law_cell_1 rfl (lk hl rfl) ?_
  refine va_slen hx hb hX hbl (fun q => q) hS d_law_cell_2 ?_
  refine lv_icmp_ge (tgt := 12) hx hb d_law_cell_3 (by decide) (fun c_3 => ?_) (fun c_3 => ?_)
  · have h0 : ¬ 0 < L := fun q => nI_ge q hL c_3
    refine lv_iconst (v := 0) hx hb d_law_cell_12 (by decide) ?_
    exact W.iret hx hb hr (fun t ht hW => ⟨by rw [sc0, if_neg h0], ht⟩) (fun q hq => by cases hq) d_law_cell_13
  · have h0 : 0 < L := by
      apply Classical.byContradiction
      intro q
      have : L = 0 := by omega
      subst this
      exact c_3 (Int32.le_refl _)
    refine lv_aload_n hx hb d_law_cell_6 rfl (lk hl rfl) ?_
    refine lv_iload_n hx hb d_law_cell_7 rfl (lk hl rfl) ?_
    refine va_sld hx hb hX hbl (fun q => q) hS (vp_in_nI h0 hL) d_law_cell_8 ?_
    refine lv_goto (tgt := 13) hx hb d_law_cell_9 (by decide) ?_
    exact W.iret hx hb hr (fun t ht hW => ⟨by rw [sc0, if_pos h0]; rfl, ht⟩) (fun q hq => by cases hq) d_law_cell_13
end
section
/-! constructors: worlds that are lists; their opening, rows, return, and the call of one -/
def Lp (G : Gx) (A : Nat → Prop) (H0 : Heap) (ws : va_W) (H : Heap) (locs : List Loc) : Prop := va_P G.1 classes ws H ∧ va_D A ws ∧ va_S A H0 H locs
def PreI (G : Gx) (w0 : va_W) (sz : Nat) (U : State) : Prop := U.heap.size = sz ∧ va_P G.1 classes w0 U.heap ∧ Kx G U ∧ QA G U ∧ va_D (fun _ => True) w0
abbrev QC (G : Gx) (A : Nat → Prop) (post : va_W → Prop) : Array Value → State → Outcome → State → Prop := va_Qv (S := va_W) post (fun w t => va_P G.1 classes w t.heap ∧ va_D A w) A
/-- a constructor's contract: its cells w0 before, a world of the kind post behind it -/
def MC (l : Launch) (G : Gx) (y : MethodName) (b : ByteArray) (nL : Nat) (R : Room) (w0 : va_W) (sz : Nat) (as : List Value) (post : va_W → Prop) : Prop := Met l y (wsm y b nL none) R (va_Pc as (PreI G w0 sz)) (QC G (va_A w0 sz) post) R.cells R.slots (va_A w0 sz)
theorem PreI.blind {G : Gx} {w0 : va_W} {sz : Nat} {as : List Value} : FrameBlind (va_Pc as (PreI G w0 sz)) := fun a U g mk q => ⟨q.1, q.2.1, q.2.2.1, Kx.same (u := U) (U := U.calling g mk a) rfl q.2.2.2.1, q.2.2.2.2.1, q.2.2.2.2.2⟩
theorem goC {l : Launch} {G : Gx} {y : MethodName} {cc : ByteArray} {nL : Nat} {R : Room} {w0 : va_W} {sz : Nat} {as : List Value} {post : va_W → Prop} (hy : plainName y.cls = true) (hn : (lg_sl as).length ≤ nL)
    (body : ∀ (p : Program) (e : Env) (s : State) (m : MethodId) (below : List Frame) (meth : Method) (c : Code) (ls : Array Slot) (A : Nat → Prop), Cx G p s m as.toArray meth c y.cls cc nL none → meth.name = y.name → (∀ q, s.heap.size ≤ q → A q) → QA G s → Lp G A s.heap w0 s.heap [] → lv_has ls nL (lv_args 0 as) → W p l e R s m as.toArray below meth c s.heap [] 0 0 (MQ below (QC G A post) as.toArray s R.cells R.slots A) (F0 m 0 ls [])) :
    MC l G y cc nL R w0 sz as post := by
  refine Met.ofW (cc := cc) (maxL := nL) (ret := none) hy rfl ?_
  intro p e s m args below meth c s₁ B hml hv
  obtain ⟨rfl, hsz, hP, hK, hQ, hD⟩ := hv
  subst hsz
  have hts := atoms_spec (ws := wsm y cc nL none) B.pre
  have hl := lv_entry as (n := nL) hn
  rw [lg_entry_eq]
  exact body p e s m below meth c _ _ ⟨B.exec, B.bytes, fun w hw => hts w (List.mem_cons_of_mem _ hw), findClass_of_methodNamed B.named, hK, hml, B.returns, B.notSynchronized⟩ (name_of_methodNamed B.named B.method).1 (fun q h => Or.inr h) hQ ⟨hP, hD.self, va_S.rf⟩ hl
section RZ
variable {p : Program} {l : Launch} {e : Env} {R : Room} {s : State} {m : MethodId} {args : Array Value} {below : List Frame} {meth : Method} {c : Code} {H : Heap} {locs : List Loc} {cells slots : Nat} {Q : State → Prop}
variable {cc : ByteArray} {pc nL : Nat} {ls : Array Slot} {rest st : List Value} {G : Gx} {A : Nat → Prop} {H0 : Heap} {ws ws' : va_W} {own : String} {ret : Option FieldType}
theorem z_ret {post : va_W → Prop} (C : Cx G p s m args meth c own cc nL none) (h : Lp G A s.heap ws H locs) (hp : post ws) (h1 : cells ≤ R.cells) (h2 : slots ≤ R.slots) (hdg : decode cc pc = .ok (.return_, 1)) :
    W p l e R s m args below meth c H locs cells slots (MQ below (QC G A post) args s R.cells R.slots A) (F0 m pc ls []) := by
  refine W.widen (k := R.cells) (n := R.slots) h1 h2 ?_
  exact W.vret C.1 C.2.1 C.2.2.2.2.2.2.1 (fun t ht hW => ⟨⟨ws, rfl, hp, by rw [ht]; exact h.1, h.2.1⟩, h.2.2.F ht⟩) h.2.2.2.2 hdg (hlocks := C.2.2.2.2.2.2.2)
theorem z_get (C : Cx G p s m args meth c own cc nL ret) (h : Lp G A H0 ws H locs) {Cn : String} {T : u_T} {N ci idx a : Nat} {ty0 : Nat → FieldType} (fx : FX Cn T N ty0) (i : Nat) {fs : List Value} (he : ws[i]? = some (a, .inr (ci, fs))) (hc : classes[ci]? = some (Cn, T, N)) (k : Nat) (hk : k < N) (hd : (T k).1 = Cn) (hlink : Cond.fieldLink own idx Cn (T k).2.1 (T k).2.2.1 ∈ gt) {v : Value} (hv : fs[k]? = some v) (hdg : decode cc pc = .ok (.getfield idx, 3))
    (kk : W p l e R s m args below meth c H locs cells slots Q (F0 m (pc + 3) ls (v :: rest))) : W p l e R s m args below meth c H locs cells slots Q (F0 m pc ls (.ref a :: rest)) :=
  va_get (ref := Cn) C.1 C.2.1 C.2.2.1 fx.1 C.2.2.2.1 C.2.2.2.2.1.1 h.1 i he hc k hk (C.2.2.1 _ hlink) (fun x hx => by rw [hd] at hx; exact hx) hv hdg kk
theorem z_getN (C : Cx G p s m args meth c own cc nL ret) (h : Lp G A H0 ws H locs) {Cn host : String} {T : u_T} {N ci idx a : Nat} {ty0 : Nat → FieldType} (fx : FX Cn T N ty0) (i : Nat) {fs : List Value} (he : ws[i]? = some (a, .inr (ci, fs))) (hc : classes[ci]? = some (Cn, T, N)) (k : Nat) (hk : k < N) (hd : (T k).1 = Cn) (hlink : Cond.fieldLinkNest own idx Cn (T k).2.1 (T k).2.2.1 host ∈ tables_1) {v : Value} (hv : fs[k]? = some v) (hdg : decode cc pc = .ok (.getfield idx, 3))
    (kk : W p l e R s m args below meth c H locs cells slots Q (F0 m (pc + 3) ls (v :: rest))) : W p l e R s m args below meth c H locs cells slots Q (F0 m pc ls (.ref a :: rest)) :=
  va_getN (ref := Cn) (host := host) C.1 C.2.1 C.2.2.1 fx.1 C.2.2.2.1 C.2.2.2.2.1.1 h.1 i he hc k hk (va_Nw.use rfl (C.2.2.2.2.1.2 _ _ _ _ _ _ hlink)) (fun x hx => by rw [hd] at hx; exact hx) hv hdg kk
theorem z_put (C : Cx G p s m args meth c own cc nL ret) (h : Lp G A H0 ws H locs) {T : u_T} {N ci idx a : Nat} {ty0 : Nat → FieldType} (fx : FX own T N ty0) (i : Nat) {fs : List Value} {v : Value} (he : ws[i]? = some (a, .inr (ci, fs))) (hc : classes[ci]? = some (own, T, N)) (k : Nat) (hk : k < N) (hd : (T k).1 = own) (hlink : Cond.fieldLink own idx own (T k).2.1 (T k).2.2.1 ∈ gt) (hfin : (T k).2.2.2 = false) (hn : narrow (ty0 k) v = v) (hfit : fits (ty0 k) v = true) (hl : k < fs.length) (hw : ws.set i (a, .inr (ci, fs.set k v)) = ws') (hdg : decode cc pc = .ok (.putfield idx, 3))
    (kk : ∀ (H : Heap) (locs : List Loc), Lp G A H0 ws' H locs → W p l e R s m args below meth c H locs cells slots Q (F0 m (pc + 3) ls rest)) : W p l e R s m args below meth c H locs cells slots Q (F0 m pc ls (v :: .ref a :: rest)) := by
  refine va_put (ref := own) (ty := ty0 k) C.1 C.2.1 C.2.2.1 fx.1 ty0 fx.2.1 fx.2.2 C.2.2.2.1 C.2.2.2.2.1.1 h.1 h.2.1 h.2.2 i he hc k hk (C.2.2.1 _ hlink) (fun x hx => by rw [hd] at hx; exact hx) hfin (fx.2.1 k hk) hn hfit hl hdg (fun H1 locs1 hP hD hS => ?_)
  rw [hw] at hP hD
  exact kk H1 locs1 ⟨hP, hD, hS⟩
theorem z_putF (C : Cx G p s m args meth c own cc nL ret) (hin : meth.name = "<init>") (h : Lp G A H0 ws H locs) {T : u_T} {N ci idx a : Nat} {ty0 : Nat → FieldType} (fx : FX own T N ty0) (i : Nat) {fs : List Value} {v : Value} (he : ws[i]? = some (a, .inr (ci, fs))) (hc : classes[ci]? = some (own, T, N)) (k : Nat) (hk : k < N) (hd : (T k).1 = own) (hlink : Cond.fieldLink own idx own (T k).2.1 (T k).2.2.1 ∈ gt) (hfin : (T k).2.2.2 = true) (hn : narrow (ty0 k) v = v) (hfit : fits (ty0 k) v = true) (hl : k < fs.length) (hw : ws.set i (a, .inr (ci, fs.set k v)) = ws') (hdg : decode cc pc = .ok (.putfield idx, 3))
    (kk : ∀ (H : Heap) (locs : List Loc), Lp G A H0 ws' H locs → W p l e R s m args below meth c H locs cells slots Q (F0 m (pc + 3) ls rest)) : W p l e R s m args below meth c H locs cells slots Q (F0 m pc ls (v :: .ref a :: rest)) := by
  refine va_putF (ref := own) (ty := ty0 k) C.1 C.2.1 C.2.2.1 fx.1 ty0 fx.2.1 fx.2.2 C.2.2.2.1 C.2.2.2.2.1.1 h.1 h.2.1 h.2.2 i he hc k hk (C.2.2.1 _ hlink) (fun x hx => by rw [hd] at hx; exact hx) hfin hin hd (fx.2.1 k hk) hn hfit hl hdg (fun H1 locs1 hP hD hS => ?_)
  rw [hw] at hP hD
  exact kk H1 locs1 ⟨hP, hD, hS⟩
theorem z_obj (C : Cx G p s m args meth c own cc nL ret) (hl : ls.size = nL) {a idx : Nat} (hlink : Cond.methodLink own idx objectInit ∈ gt) (hf : 1 ≤ R.frames) (hlo : 12 ≤ R.locals) (hdg : decode cc pc = .ok (.invokespecial idx, 3))
    (kk : W p l e R s m args below meth c H locs cells slots Q (F0 m (pc + 3) ls [])) : W p l e R s m args below meth c H locs cells slots Q (F0 m pc ls [.ref a]) := by
  refine W.objInit C.1 C.2.1 C.2.2.2.1 (C.2.2.1 _ hlink) (C.2.2.1 _ k_14) (C.2.2.1 _ k_15) rfl (by rw [C.2.2.2.2.2.1]; exact hl) rfl hdg hf hlo ?_
  exact W.eq (g2 := F0 m (pc + 3) ls []) rfl kk
/-- the arrays of known classes -/
theorem z_byte (C : Cx G p s m args meth c own cc nL ret) (h : Lp G A H0 ws H locs) (hA : ∀ q, H0.size ≤ q → A q) {N' : Nat} (hN : N' ≤ 100000) (hcells : cells + 1 ≤ R.cells) (hslots : slots + N' ≤ R.slots) (hdg : decode cc pc = .ok (.newarray .byte, 2))
    (kk : ∀ (q : Nat) (H : Heap), Lp G A H0 (ws ++ [(q, .inl (G.2.1, N', .inl (fun _ => 0)))]) H locs → W p l e R s m args below meth c H locs (cells + 1) (slots + N') Q (F0 m (pc + 2) ls (.ref q :: rest))) : W p l e R s m args below meth c H locs cells slots Q (F0 m pc ls (.int (nI N') :: rest)) :=
  x_newa (atype := .byte) (ty := .byte) (nm := "[B") C.1 C.2.1 (C.2.2.1 _ k_50) rfl rfl (fun _ h => h) C.2.2.2.2.1 0 rfl h.1 h.2.1 h.2.2 hA (by omega) (by show N' * 1 ≤ _; omega) hcells hslots hdg (fun q H1 hP hD hS => kk q H1 ⟨hP, hD, hS⟩)
theorem z_int (C : Cx G p s m args meth c own cc nL ret) (h : Lp G A H0 ws H locs) (hA : ∀ q, H0.size ≤ q → A q) {N' : Nat} (hN : N' ≤ 100000) (hcells : cells + 1 ≤ R.cells) (hslots : slots + N' ≤ R.slots) (hdg : decode cc pc = .ok (.newarray .int, 2))
    (kk : ∀ (q : Nat) (H : Heap), Lp G A H0 (ws ++ [(q, .inl (G.2.2.1, N', .inl (fun _ => 0)))]) H locs → W p l e R s m args below meth c H locs (cells + 1) (slots + N') Q (F0 m (pc + 2) ls (.ref q :: rest))) : W p l e R s m args below meth c H locs cells slots Q (F0 m pc ls (.int (nI N') :: rest)) :=
  x_newa (atype := .int) (ty := .int) (nm := "[I") C.1 C.2.1 (C.2.2.1 _ k_89) rfl rfl (fun _ h => h) C.2.2.2.2.1 1 rfl h.1 h.2.1 h.2.2 hA (by omega) (by show N' * 4 ≤ _; omega) hcells hslots hdg (fun q H1 hP hD hS => kk q H1 ⟨hP, hD, hS⟩)
theorem z_bool (C : Cx G p s m args meth c own cc nL ret) (h : Lp G A H0 ws H locs) (hA : ∀ q, H0.size ≤ q → A q) {N' : Nat} (hN : N' ≤ 100000) (hcells : cells + 1 ≤ R.cells) (hslots : slots + N' ≤ R.slots) (hdg : decode cc pc = .ok (.newarray .boolean, 2))
    (kk : ∀ (q : Nat) (H : Heap), Lp G A H0 (ws ++ [(q, .inl (G.2.2.2.1, N', .inl (fun _ => 0)))]) H locs → W p l e R s m args below meth c H locs (cells + 1) (slots + N') Q (F0 m (pc + 2) ls (.ref q :: rest))) : W p l e R s m args below meth c H locs cells slots Q (F0 m pc ls (.int (nI N') :: rest)) :=
  x_newa (atype := .boolean) (ty := .boolean) (nm := "[Z") C.1 C.2.1 (C.2.2.1 _ k_90) rfl rfl (fun _ h => h) C.2.2.2.2.1 2 rfl h.1 h.2.1 h.2.2 hA (by omega) (by show N' * 1 ≤ _; omega) hcells hslots hdg (fun q H1 hP hD hS => kk q H1 ⟨hP, hD, hS⟩)
/-- the call of a constructor: its cells are the world's end -/
theorem y_callI {wr wc : va_W} (S : p.tables.exec = Jvm.exec ∧ c.code = cc ∧ c.maxLocals = nL ∧ s.vm.findClass own = some m.cls ∧ ∀ w ∈ gt, w.before args s = true) (K : Kx G s) (hQ : QA G s) (h : Lp G A H0 (wr ++ wc) H locs) (hA : ∀ q, H0.size ≤ q → A q) (hl : ls.size = nL) {y : MethodName} {b' : ByteArray} {nL' idx n b : Nat} {R' : Room} {as : List Value} {post : va_W → Prop} (hM : ∀ sz, MC l G y b' nL' R' wc sz (.ref b :: as) post) (hw : CB own idx y b' nL' none n) (hy : y.name = "<init>") (hin : Cond.instanceMethod y ∈ gt) (hn : as.length = n) (hst : st = as.reverse ++ .ref b :: rest) (hrest : (rest.map fun v => v.category).sum ≤ 8) (hR : R'.frames + 1 ≤ R.frames ∧ 8 + (nL' + 11) + R'.locals ≤ R.locals) (hf : cells + R'.cells ≤ R.cells ∧ slots + R'.slots ≤ R.slots) (hdg : decode cc pc = .ok (.invokespecial idx, 3))
    (kk : ∀ (w1 : va_W) (H1 : Heap) (locs1 : List Loc), post w1 → Lp G A H0 (wr ++ w1) H1 locs1 → W p l e R s m args below meth c H1 locs1 (cells + R'.cells) (slots + R'.slots) Q (F0 m (pc + 3) ls rest)) : W p l e R s m args below meth c H locs cells slots Q (F0 m pc ls st) := by
  obtain ⟨hP, hD, hS⟩ := h
  have hPr : va_P G.1 classes wr H := fun k q hk => hP k q (by rw [List.getElem?_append_left (List.getElem?_eq_some_iff.mp hk).1]; exact hk)
  have at2 : ∀ (k : Nat) (q : Nat × va_E), wc[k]? = some q → (wr ++ wc)[wr.length + k]? = some q := fun k q hk => by rw [List.getElem?_append_right (by omega), Nat.add_sub_cancel_left]; exact hk
  have hPc : va_P G.1 classes wc H := fun k q hk => hP _ q (at2 k q hk)
  have hDc : va_D (fun _ => True) wc := ⟨fun i j x y hx hy e => by have := hD.1 _ _ x y (at2 i x hx) (at2 j y hy) e; omega, fun _ _ _ => trivial⟩
  have hDr : va_D A wr := ⟨fun i j x y hx hy e => hD.1 i j x y (by rw [List.getElem?_append_left (List.getElem?_eq_some_iff.mp hx).1]; exact hx) (by rw [List.getElem?_append_left (List.getElem?_eq_some_iff.mp hy).1]; exact hy) e, fun k q hk => hD.2 k q (by rw [List.getElem?_append_left (List.getElem?_eq_some_iff.mp hk).1]; exact hk)⟩
  have hF : ∀ q, va_A wc H.size q → A q := fun q h => by
    rcases h with ⟨k, e, h⟩ | h
    · exact hD.2 _ (q, e) (at2 k _ h)
    · exact hA q (Nat.le_trans hS.1 h)
  refine va_callv (va_runI (As := as) (rest := rest) (b := b) S (hM H.size) ⟨cb_of S.2.2.2.2 hw rfl rfl hR, hy, S.2.2.2.2 _ hin⟩ ⟨PreI.blind, fun U hU hW => ⟨rfl, by rw [hU], by rw [hU]; exact hPc, K.warm hW, hQ.moved hW.alike, hDc⟩⟩ rfl hn hl hst (lv_room hrest) hdg hf) hS (fun q _ h => hF q h) hF (fun u t H1 locs1 ht hvm hw hB hz hk hS => ?_)
  obtain ⟨hP1, hD1⟩ := hB
  rw [ht] at hP1
  have apart : ∀ (k : Nat) (q : Nat × va_E), wr[k]? = some q → q.1 < H.size ∧ ¬ va_A wc H.size q.1 := by
    intro k q hq
    have hlt := (hPr k q hq).lt
    refine ⟨hlt, fun z => ?_⟩
    rcases z with ⟨j, e, z⟩ | z
    · have hk := (List.getElem?_eq_some_iff.mp hq).1
      have := hD.1 k (wr.length + j) q (q.1, e) (by rw [List.getElem?_append_left hk]; exact hq) (at2 j _ z) rfl
      omega
    · omega
  refine kk u H1 locs1 hw ⟨va_P.app (hPr.kept (fun k q hq => hk q.1 (apart k q hq).1 (apart k q hq).2)) hP1, va_D.app hDr (hD1.weaken (fun k q _ h => hF q.1 h)) (fun i j x y hx hy exy => ?_), hS⟩
  exact (apart i x hx).2 (by rw [exy]; exact hD1.2 j y hy)
end RZ
end
section
/-! constructors: Platter, Log, BlockVaultModel -/
theorem nI_back {x : Int32} (h0 : 0 ≤ x.toInt) : nI x.toNatClampNeg = x := by
  apply Int32.toInt_inj.mp
  have hlt : x.toInt < 2 ^ 31 := Int32.toInt_lt x
  have e : x.toNatClampNeg = x.toInt.toNat := rfl
  rw [nI_toInt (by rw [e]; omega), e]
  omega
/-- how many blocks: the number, held to 40..80 -/
def cl (x : Int32) : Nat := if x < nI 40 then 40 else if x ≤ nI 80 then x.toNatClampNeg else 80
theorem cl_in (x : Int32) : 40 ≤ cl x ∧ cl x ≤ 80 := by
  have e40 : (nI 40).toInt = 40 := by decide
  have e80 : (nI 80).toInt = 80 := by decide
  have e : x.toNatClampNeg = x.toInt.toNat := rfl
  by_cases h : x < nI 40
  · rw [cl, if_pos h]; omega
  · by_cases h2 : x ≤ nI 80
    · rw [cl, if_neg h, if_pos h2, e]
      rw [Int32.lt_iff_toInt_lt, e40] at h
      rw [Int32.le_iff_toInt_le, e80] at h2
      omega
    · rw [cl, if_neg h, if_neg h2]; omega
theorem cl_lt {x : Int32} (h : x < nI 40) : nI 40 = nI (cl x) := by rw [cl, if_pos h]
theorem cl_gt {x : Int32} (h : ¬ x < nI 40) (h2 : ¬ x ≤ nI 80) : nI 80 = nI (cl x) := by rw [cl, if_neg h, if_neg h2]
theorem cl_mid {x : Int32} (h : ¬ x < nI 40) (h2 : x ≤ nI 80) : x = nI (cl x) := by
  rw [cl, if_neg h, if_pos h2, nI_back]
  have e40 : (nI 40).toInt = 40 := by decide
  rw [Int32.lt_iff_toInt_lt, e40] at h
  omega
theorem cl_mm (x : Int32) : (if (if nI 40 < x then x else nI 40) < nI 80 then (if nI 40 < x then x else nI 40) else nI 80) = nI (cl x) := by
  have e40 : (nI 40).toInt = 40 := by decide
  have e80 : (nI 80).toInt = 80 := by decide
  by_cases h : x < nI 40
  · have h2 : ¬ nI 40 < x := by
      rw [Int32.lt_iff_toInt_lt] at h ⊢
      omega
    rw [if_neg h2, if_pos (by decide)]
    exact cl_lt h
  · by_cases h3 : x ≤ nI 80
    · have h4 : (if nI 40 < x then x else nI 40) = x := by
        by_cases q : nI 40 < x
        · rw [if_pos q]
        · rw [if_neg q]
          apply Int32.toInt_inj.mp
          rw [Int32.lt_iff_toInt_lt] at h q
          omega
      rw [h4]
      by_cases q : x < nI 80
      · rw [if_pos q]; exact cl_mid h h3
      · rw [if_neg q]
        have : nI 80 = x := by
          apply Int32.toInt_inj.mp
          rw [Int32.lt_iff_toInt_lt] at q
          rw [Int32.le_iff_toInt_le] at h3
          omega
        rw [this]
        exact cl_mid h h3
    · have h4 : nI 40 < x := by
        rw [Int32.le_iff_toInt_le] at h3
        rw [Int32.lt_iff_toInt_lt]
        omega
      have h5 : ¬ x < nI 80 := by
        rw [Int32.le_iff_toInt_le] at h3
        rw [Int32.lt_iff_toInt_lt]
        omega
      rw [if_pos h4, if_neg h5]
      exact cl_gt h h3
set_option maxHeartbeats 1000000 in
theorem c_Pl_init (l : Launch) (G : Gx) (h0 n : Nat) (hn : n ≤ 80) (sz : Nat) : MC l G y_Pl_init b_Pl_init 2 { frames := 1, cells := 1, slots := 81920, locals := 30 } [(h0, .inr (1, [.null, .int 0, .int 0, .int 0, .int 0]))] sz [.ref h0, .int (nI n)]
    (fun w => ∃ q, w = [(h0, .inr (1, [.ref q, .int (nI n), .int 0, .int (-1), .int 0])), (q, .inl (G.2.1, 1024 * n, .inl (fun _ => 0)))]) := by
  refine goC rfl (Nat.le_of_ble_eq_true rfl) (fun p e s m below meth c ls A C hin hA hQ h hl => ?_)
  have C : Cx G p s m _ meth c R_Pl b_Pl_init 2 none := C
  have hx := C.1
  have hb := C.2.1
  refine lv_aload_n hx hb d_Pl_init_0 rfl (lk hl rfl) ?_
  refine z_obj C hl.1 k_27 (by decide) (by decide) d_Pl_init_1 ?_
  refine lv_aload_n hx hb d_Pl_init_4 rfl (lk hl rfl) ?_
  refine lv_iconst (v := -1) hx hb d_Pl_init_5 (by decide) ?_
  refine z_put C h fx_Pl 0 rfl rfl 3 (by decide) rfl k_34 rfl rfl rfl (Nat.le_of_ble_eq_true rfl) rfl d_Pl_init_6 (fun H locs h => ?_)
  refine lv_aload_n hx hb d_Pl_init_9 rfl (lk hl rfl) ?_
  refine lv_iload_n hx hb d_Pl_init_10 rfl (lk hl rfl) ?_
  refine z_putF C hin h fx_Pl 0 rfl rfl 1 (by decide) rfl k_29 rfl rfl rfl (Nat.le_of_ble_eq_true rfl) rfl d_Pl_init_11 (fun H locs h => ?_)
  refine lv_aload_n hx hb d_Pl_init_14 rfl (lk hl rfl) ?_
  refine lv_sipush (v := nI 1024) hx hb d_Pl_init_15 (by decide) ?_
  refine lv_iload_n hx hb d_Pl_init_18 rfl (lk hl rfl) ?_
  refine lv_imul hx hb d_Pl_init_19 ?_
  refine top (pk_mul 1024 n) ?_
  refine z_byte C h hA (by omega) (Nat.le_refl _) (by show 0 + 1024 * n ≤ 81920; omega) d_Pl_init_20 (fun q H h => ?_)
  refine z_putF C hin h fx_Pl 0 rfl rfl 0 (by decide) rfl k_28 rfl rfl rfl (Nat.le_of_ble_eq_true rfl) rfl d_Pl_init_22 (fun H locs h => ?_)
  exact z_ret C h ⟨q, rfl⟩ (Nat.le_refl _) (by show 0 + 1024 * n ≤ 81920; omega) d_Pl_init_25
set_option maxHeartbeats 1000000 in
theorem c_Lg_init (l : Launch) (G : Gx) (h0 pa ca n : Nat) (hn : n ≤ 80) (v0 v2 v3 v4 : Value) (sz : Nat) : MC l G y_Lg_init b_Lg_init 3 { frames := 1, cells := 4, slots := 2158, locals := 30 } [(h0, .inr (3, [.null, .null, .null, .null, .null, .null, .int 0, .int 0, .int 0, .int 0])), (pa, .inr (1, [v0, .int (nI n), v2, v3, v4]))] sz [.ref h0, .ref pa, .ref ca]
    (fun w => ∃ q1 q2 q3 q4, w = [(h0, .inr (3, [.ref pa, .ref ca, .ref q1, .ref q4, .ref q2, .ref q3, .int 0, .int 0, .int 0, .int 0])), (pa, .inr (1, [v0, .int (nI n), v2, v3, v4])), (q1, .inl (G.2.2.1, 30, .inl (fun _ => 0))), (q2, .inl (G.2.1, 1024, .inl (fun _ => 0))), (q3, .inl (G.2.1, 1024, .inl (fun _ => 0))), (q4, .inl (G.2.2.2.1, n, .inl (fun _ => 0)))]) := by
  refine goC rfl (Nat.le_of_ble_eq_true rfl) (fun p e s m below meth c ls A C hin hA hQ h hl => ?_)
  have C : Cx G p s m _ meth c R_Lg b_Lg_init 3 none := C
  have hx := C.1
  have hb := C.2.1
  refine lv_aload_n hx hb d_Lg_init_0 rfl (lk hl rfl) ?_
  refine z_obj C hl.1 k_96 (by decide) (by decide) d_Lg_init_1 ?_
  refine lv_aload_n hx hb d_Lg_init_4 rfl (lk hl rfl) ?_
  refine lv_bipush (v := nI 30) hx hb d_Lg_init_5 (by decide) ?_
  refine z_int C h hA (by omega) (by show 0 + 1 ≤ 4; omega) (by show 0 + 30 ≤ 2158; omega) d_Lg_init_7 (fun q1 H h => ?_)
  refine z_putF C hin h fx_Lg 0 rfl rfl 2 (by decide) rfl k_99 rfl rfl rfl (Nat.le_of_ble_eq_true rfl) rfl d_Lg_init_9 (fun H locs h => ?_)
  refine lv_aload_n hx hb d_Lg_init_12 rfl (lk hl rfl) ?_
  refine lv_sipush (v := nI 1024) hx hb d_Lg_init_13 (by decide) ?_
  refine z_byte C h hA (by omega) (by show 0 + 1 + 1 ≤ 4; omega) (by show 0 + 30 + 1024 ≤ 2158; omega) d_Lg_init_16 (fun q2 H h => ?_)
  refine z_putF C hin h fx_Lg 0 rfl rfl 4 (by decide) rfl k_101 rfl rfl rfl (Nat.le_of_ble_eq_true rfl) rfl d_Lg_init_18 (fun H locs h => ?_)
  refine lv_aload_n hx hb d_Lg_init_21 rfl (lk hl rfl) ?_
  refine lv_sipush (v := nI 1024) hx hb d_Lg_init_22 (by decide) ?_
  refine z_byte C h hA (by omega) (by show 0 + 1 + 1 + 1 ≤ 4; omega) (by show 0 + 30 + 1024 + 1024 ≤ 2158; omega) d_Lg_init_25 (fun q3 H h => ?_)
  refine z_putF C hin h fx_Lg 0 rfl rfl 5 (by decide) rfl k_102 rfl rfl rfl (Nat.le_of_ble_eq_true rfl) rfl d_Lg_init_27 (fun H locs h => ?_)
  refine lv_aload_n hx hb d_Lg_init_30 rfl (lk hl rfl) ?_
  refine lv_aload_n hx hb d_Lg_init_31 rfl (lk hl rfl) ?_
  refine z_putF C hin h fx_Lg 0 rfl rfl 0 (by decide) rfl k_97 rfl rfl rfl (Nat.le_of_ble_eq_true rfl) rfl d_Lg_init_32 (fun H locs h => ?_)
  refine lv_aload_n hx hb d_Lg_init_35 rfl (lk hl rfl) ?_
  refine lv_aload_n hx hb d_Lg_init_36 rfl (lk hl rfl) ?_
  refine z_putF C hin h fx_Lg 0 rfl rfl 1 (by decide) rfl k_98 rfl rfl rfl (Nat.le_of_ble_eq_true rfl) rfl d_Lg_init_37 (fun H locs h => ?_)
  refine lv_aload_n hx hb d_Lg_init_40 rfl (lk hl rfl) ?_
  refine lv_aload_n hx hb d_Lg_init_41 rfl (lk hl rfl) ?_
  refine z_getN C h fx_Pl 1 rfl rfl 1 (by decide) rfl k_30 rfl d_Lg_init_42 ?_
  refine z_bool C h hA (by omega) (by show 0 + 1 + 1 + 1 + 1 ≤ 4; omega) (by show 0 + 30 + 1024 + 1024 + n ≤ 2158; omega) d_Lg_init_45 (fun q4 H h => ?_)
  refine z_putF C hin h fx_Lg 0 rfl rfl 3 (by decide) rfl k_100 rfl rfl rfl (Nat.le_of_ble_eq_true rfl) rfl d_Lg_init_47 (fun H locs h => ?_)
  exact z_ret C h ⟨q1, q2, q3, q4, rfl⟩ (by show 0 + 1 + 1 + 1 + 1 ≤ 4; omega) (by show 0 + 30 + 1024 + 1024 + n ≤ 2158; omega) d_Lg_init_50
theorem x_clamp {p : Program} {l : Launch} {e : Env} {R : Room} {s : State} {m : MethodId} {args : Array Value} {below : List Frame} {meth : Method} {c : Code} {H : Heap} {locs : List Loc} {cells slots : Nat} {Q : State → Prop} {ls : Array Slot} {rest : List Value} {h0 : Nat} {x : Int32} (hx : p.tables.exec = Jvm.exec) (hb : c.code = b_Md_init) (hl : lv_has ls 2 (lv_args 0 [.ref h0, .int x]))
    (fin : W p l e R s m args below meth c H locs cells slots Q (F0 m 83 ls (.int (nI (cl x)) :: rest))) : W p l e R s m args below meth c H locs cells slots Q (F0 m 60 ls rest) := by
  refine lv_iload_n hx hb d_Md_init_60 rfl (lk hl rfl) ?_
  refine lv_bipush (v := nI 40) hx hb d_Md_init_61 (by decide) ?_
  refine lv_icmp_ge (tgt := 71) hx hb d_Md_init_63 (by decide) (fun c_63 => ?_) (fun c_63 => ?_)
  · have h40 : ¬ x < nI 40 := by
      rw [Int32.le_iff_toInt_le] at c_63
      rw [Int32.lt_iff_toInt_lt]
      omega
    refine lv_iload_n hx hb d_Md_init_71 rfl (lk hl rfl) ?_
    refine lv_bipush (v := nI 80) hx hb d_Md_init_72 (by decide) ?_
    refine lv_icmp_le (tgt := 82) hx hb d_Md_init_74 (by decide) (fun c_74 => ?_) (fun c_74 => ?_)
    · refine lv_iload_n hx hb d_Md_init_82 rfl (lk hl rfl) ?_
      refine top (cl_mid h40 c_74) ?_
      exact fin
    · refine lv_bipush (v := nI 80) hx hb d_Md_init_77 (by decide) ?_
      refine top (cl_gt h40 c_74) ?_
      refine lv_goto (tgt := 83) hx hb d_Md_init_79 (by decide) ?_
      exact fin
  · have h40 : x < nI 40 := by
      rw [Int32.le_iff_toInt_le] at c_63
      rw [Int32.lt_iff_toInt_lt]
      omega
    refine lv_bipush (v := nI 40) hx hb d_Md_init_66 (by decide) ?_
    refine top (cl_lt h40) ?_
    refine lv_goto (tgt := 83) hx hb d_Md_init_68 (by decide) ?_
    exact fin
set_option maxHeartbeats 1000000 in
theorem c_Md_init (l : Launch) (G : Gx) (h0 : Nat) (x : Int32) (sz : Nat) : MC l G y_Md_init b_Md_init 2 { frames := 1, cells := 5, slots := 164080, locals := 30 } [(h0, .inr (4, [.int 0, .int 0, .null, .null, .null, .null, .null, .int 0, .int 0, .int 0, .int 0, .int 0, .int 0, .int 0, .int 0]))] sz [.ref h0, .int x]
    (fun w => ∃ q1 q2 q3 q4 q5, w = [(h0, .inr (4, [.int 0, .int (nI (cl x)), .ref q1, .ref q2, .ref q3, .ref q4, .ref q5, .int 0, .int 1, .int 0, .int (-1), .int 0, .int 0, .int 0, .int (-1)])), (q1, .inl (G.2.1, 81920, .inl (fun _ => 0))), (q2, .inl (G.2.1, 81920, .inl (fun _ => 0))), (q3, .inl (G.2.2.2.1, 80, .inl (fun _ => 0))), (q4, .inl (G.2.2.2.1, 80, .inl (fun _ => 0))), (q5, .inl (G.2.2.1, 80, .inl (fun _ => 0)))]) := by
  refine goC rfl (Nat.le_of_ble_eq_true rfl) (fun p e s m below meth c ls A C hin hA hQ h hl => ?_)
  have C : Cx G p s m _ meth c R_Md b_Md_init 2 none := C
  have hx := C.1
  have hb := C.2.1
  refine lv_aload_n hx hb d_Md_init_0 rfl (lk hl rfl) ?_
  refine z_obj C hl.1 k_264 (by decide) (by decide) d_Md_init_1 ?_
  refine lv_aload_n hx hb d_Md_init_4 rfl (lk hl rfl) ?_
  refine lv_ldc hx hb C.2.2.2.1 (C.2.2.1 _ k_265) d_Md_init_5 ?_
  refine top (show (81920 : Int32) = nI 81920 by decide) ?_
  refine z_byte C h hA (by omega) (by show 0 + 1 ≤ 5; omega) (by show 0 + 81920 ≤ 164080; omega) d_Md_init_7 (fun q1 H h => ?_)
  refine z_putF C hin h fx_Md 0 rfl rfl 2 (by decide) rfl k_268 rfl rfl rfl (Nat.le_of_ble_eq_true rfl) rfl d_Md_init_9 (fun H locs h => ?_)
  refine lv_aload_n hx hb d_Md_init_12 rfl (lk hl rfl) ?_
  refine lv_ldc hx hb C.2.2.2.1 (C.2.2.1 _ k_265) d_Md_init_13 ?_
  refine top (show (81920 : Int32) = nI 81920 by decide) ?_
  refine z_byte C h hA (by omega) (by show 0 + 1 + 1 ≤ 5; omega) (by show 0 + 81920 + 81920 ≤ 164080; omega) d_Md_init_15 (fun q2 H h => ?_)
  refine z_putF C hin h fx_Md 0 rfl rfl 3 (by decide) rfl k_269 rfl rfl rfl (Nat.le_of_ble_eq_true rfl) rfl d_Md_init_17 (fun H locs h => ?_)
  refine lv_aload_n hx hb d_Md_init_20 rfl (lk hl rfl) ?_
  refine lv_bipush (v := nI 80) hx hb d_Md_init_21 (by decide) ?_
  refine z_bool C h hA (by omega) (by show 0 + 1 + 1 + 1 ≤ 5; omega) (by show 0 + 81920 + 81920 + 80 ≤ 164080; omega) d_Md_init_23 (fun q3 H h => ?_)
  refine z_putF C hin h fx_Md 0 rfl rfl 4 (by decide) rfl k_270 rfl rfl rfl (Nat.le_of_ble_eq_true rfl) rfl d_Md_init_25 (fun H locs h => ?_)
  refine lv_aload_n hx hb d_Md_init_28 rfl (lk hl rfl) ?_
  refine lv_bipush (v := nI 80) hx hb d_Md_init_29 (by decide) ?_
  refine z_bool C h hA (by omega) (by show 0 + 1 + 1 + 1 + 1 ≤ 5; omega) (by show 0 + 81920 + 81920 + 80 + 80 ≤ 164080; omega) d_Md_init_31 (fun q4 H h => ?_)
  refine z_putF C hin h fx_Md 0 rfl rfl 5 (by decide) rfl k_271 rfl rfl rfl (Nat.le_of_ble_eq_true rfl) rfl d_Md_init_33 (fun H locs h => ?_)
  refine lv_aload_n hx hb d_Md_init_36 rfl (lk hl rfl) ?_
  refine lv_bipush (v := nI 80) hx hb d_Md_init_37 (by decide) ?_
  refine z_int C h hA (by omega) (by show 0 + 1 + 1 + 1 + 1 + 1 ≤ 5; omega) (by show 0 + 81920 + 81920 + 80 + 80 + 80 ≤ 164080; omega) d_Md_init_39 (fun q5 H h => ?_)
  refine z_putF C hin h fx_Md 0 rfl rfl 6 (by decide) rfl k_272 rfl rfl rfl (Nat.le_of_ble_eq_true rfl) rfl d_Md_init_41 (fun H locs h => ?_)
  refine lv_aload_n hx hb d_Md_init_44 rfl (lk hl rfl) ?_
  refine lv_iconst (v := 1) hx hb d_Md_init_45 (by decide) ?_
  refine z_put C h fx_Md 0 rfl rfl 8 (by decide) rfl k_274 rfl rfl rfl (Nat.le_of_ble_eq_true rfl) rfl d_Md_init_46 (fun H locs h => ?_)
  refine lv_aload_n hx hb d_Md_init_49 rfl (lk hl rfl) ?_
  refine lv_iconst (v := -1) hx hb d_Md_init_50 (by decide) ?_
  refine z_put C h fx_Md 0 rfl rfl 10 (by decide) rfl k_276 rfl rfl rfl (Nat.le_of_ble_eq_true rfl) rfl d_Md_init_51 (fun H locs h => ?_)
  refine lv_aload_n hx hb d_Md_init_54 rfl (lk hl rfl) ?_
  refine lv_iconst (v := -1) hx hb d_Md_init_55 (by decide) ?_
  refine z_put C h fx_Md 0 rfl rfl 14 (by decide) rfl k_280 rfl rfl rfl (Nat.le_of_ble_eq_true rfl) rfl d_Md_init_56 (fun H locs h => ?_)
  refine lv_aload_n hx hb d_Md_init_59 rfl (lk hl rfl) ?_
  refine x_clamp hx hb hl ?_
  refine z_putF C hin h fx_Md 0 rfl rfl 1 (by decide) rfl k_267 rfl rfl rfl (Nat.le_of_ble_eq_true rfl) rfl d_Md_init_83 (fun H locs h => ?_)
  exact z_ret C h ⟨q1, q2, q3, q4, q5, rfl⟩ (by show 0 + 1 + 1 + 1 + 1 + 1 ≤ 5; omega) (by show 0 + 81920 + 81920 + 80 + 80 + 80 ≤ 164080; omega) d_Md_init_86
end
section
/-! the Cache's constructor: its own small system of 40 cells (0 Cache, 1 blocks, 2 held, 3 after, 4 before, 5 rows, 6.. the rows' bytes) -/
def cK (G : Gx) (pa : Nat) (ad : Nat → Nat) (σ : Sg) : Nat → va_E
  | 0 => .inr (2, [.ref pa, .ref (ad 5), .ref (ad 1), .ref (ad 2), .ref (ad 3), .ref (ad 4), .int (σ 0 6)])
  | 1 => .inl (G.2.2.1, 34, .inl (σ 1))
  | 2 => .inl (G.2.2.2.1, 34, .inl (σ 2))
  | 3 => .inl (G.2.2.1, 35, .inl (σ 3))
  | 4 => .inl (G.2.2.1, 35, .inl (σ 4))
  | 5 => .inl (G.2.2.2.2, 34, .inr (.inr (.inr (.inr (fun k => some (ad (k + 6)))))))
  | _ + 6 => .inl (G.2.1, 1024, .inl (fun _ => 0))
def Yk (G : Gx) (pa : Nat) (ad : Nat → Nat) : Sy := (40, ad, cK G pa ad)
theorem okK (G : Gx) (pa : Nat) (ad : Nat → Nat) : okY (Yk G pa ad) := by
  intro σ σ' j h
  show cK G pa ad σ j = cK G pa ad σ' j
  match j, h with
  | 0, h => simp only [cK, h]
  | 1, h => simp only [cK, h]
  | 2, h => simp only [cK, h]
  | 3, h => simp only [cK, h]
  | 4, h => simp only [cK, h]
  | 5, h => rfl
  | i + 6, h => rfl
def adk (h0 q b h a f : Nat) : Nat → Nat
  | 0 => h0
  | 1 => b
  | 2 => h
  | 3 => a
  | 4 => f
  | i + 5 => q + i
def kg : Nat → Nat
  | 0 => 0
  | 1 => 36
  | 2 => 37
  | 3 => 38
  | 4 => 39
  | i + 5 => 1 + i
theorem kg_inj0 : ∀ i, i < 40 → ∀ j, j < 40 → kg i = kg j → i = j := by decide +kernel
theorem kg_inj (i j : Nat) (hi : i < 40) (hj : j < 40) (h : kg i = kg j) : i = j := kg_inj0 i hi j hj h
def wk (G : Gx) (h0 pa q b h a f : Nat) : va_W := (h0, .inr (2, [.ref pa, .ref q, .ref b, .ref h, .ref a, .ref f, .int 0])) :: (rl G q ++ [(b, .inl (G.2.2.1, 34, .inl (fun _ => 0)))] ++ [(h, .inl (G.2.2.2.1, 34, .inl (fun _ => 0)))] ++ [(a, .inl (G.2.2.1, 35, .inl (fun _ => 0)))] ++ [(f, .inl (G.2.2.1, 35, .inl (fun _ => 0)))])
theorem wk_map (G : Gx) (h0 pa q b h a f : Nat) (k : Nat) (x : Nat × va_E) (hk : (wx (Yk G pa (adk h0 q b h a f)) (fun _ _ => 0))[k]? = some x) : (wk G h0 pa q b h a f)[kg k]? = some x := by
  obtain ⟨hl, rfl⟩ := wx_inv hk
  match k, hl with
  | 0, _ => rfl
  | 1, _ => rfl
  | 2, _ => rfl
  | 3, _ => rfl
  | 4, _ => rfl
  | i + 5, hl =>
    have hl : i + 5 < 40 := hl
    have e0 : kg (i + 5) = i + 1 := Nat.add_comm 1 i
    have hr : (rl G q).length = 35 := by simp [rl]
    rw [e0, wk, List.getElem?_cons_succ, List.getElem?_append_left (by simp [hr]; omega), List.getElem?_append_left (by simp [hr]; omega), List.getElem?_append_left (by simp [hr]; omega), List.getElem?_append_left (by rw [hr]; omega), rl_at (by omega)]
    congr 1
    have e1 : rE G q i = cK G pa (adk h0 q b h a f) (fun _ _ => 0) (i + 5) := by
      match i with
      | 0 =>
        have e2 : (fun k => some (q + 1 + k)) = (fun k => some (adk h0 q b h a f (k + 6))) := by
          funext k
          show some (q + 1 + k) = some (q + (k + 1))
          congr 1
          omega
        exact congrArg (fun g : Nat → Option Nat => (Sum.inl (G.2.2.2.2, 34, .inr (.inr (.inr (.inr g)))) : va_E)) e2
      | i + 1 => rfl
    rw [e1]
    rfl
section CK
variable {p : Program} {l : Launch} {e : Env} {R : Room} {s : State} {m : MethodId} {args : Array Value} {below : List Frame} {meth : Method} {c : Code} {H : Heap} {locs : List Loc} {cells slots : Nat} {Q : State → Prop}
variable {cc : ByteArray} {pc nL : Nat} {ls : Array Slot} {rest : List Value} {G : Gx} {pa : Nat} {ad : Nat → Nat} {A : Nat → Prop} {H0 : Heap} {σ : Sg} {ret : Option FieldType}
theorem vin_nI {k n : Nat} (hk : k < n) (h31 : k < 2 ^ 31) : vp_in (nI k) n := fun q => by rw [nI_clamp h31] at q; exact q.elim (nI_pos h31) (Nat.not_le.mpr hk)
theorem kn_1 {own : String} {k : Nat} {v : Int32} (C : Cx G p s m args meth c own cc nL ret) (h : Hp G (Yk G pa ad) A H0 σ H locs) (hk : k < 34) (hdg : decode cc pc = .ok (.iastore, 1)) (kk : ∀ (H : Heap) (locs : List Loc), Hp G (Yk G pa ad) A H0 (set1 σ 1 k v) H locs → W p l e R s m args below meth c H locs cells slots Q (F0 m (pc + 1) ls rest)) : W p l e R s m args below meth c H locs cells slots Q (F0 m pc ls (.int v :: .int (nI k) :: .ref (ad 1) :: rest)) := by
  refine x_iast (Y := Yk G pa ad) C h (okK G pa ad) 1 (Nat.le_of_ble_eq_true rfl) rfl rfl (vin_nI hk (by omega)) hdg ?_
  rw [nI_clamp (by omega)]
  exact kk
theorem kn_2 {own : String} {k : Nat} {v : Int32} (C : Cx G p s m args meth c own cc nL ret) (h : Hp G (Yk G pa ad) A H0 σ H locs) (hv : vp_nar .boolean v = v) (hk : k < 34) (hdg : decode cc pc = .ok (.bastore, 1)) (kk : ∀ (H : Heap) (locs : List Loc), Hp G (Yk G pa ad) A H0 (set1 σ 2 k v) H locs → W p l e R s m args below meth c H locs cells slots Q (F0 m (pc + 1) ls rest)) : W p l e R s m args below meth c H locs cells slots Q (F0 m pc ls (.int v :: .int (nI k) :: .ref (ad 2) :: rest)) := by
  refine x_zast (Y := Yk G pa ad) C h (okK G pa ad) 2 (Nat.le_of_ble_eq_true rfl) rfl rfl hv (vin_nI hk (by omega)) hdg ?_
  rw [nI_clamp (by omega)]
  exact kk
theorem kn_3 {own : String} {k : Nat} {v : Int32} (C : Cx G p s m args meth c own cc nL ret) (h : Hp G (Yk G pa ad) A H0 σ H locs) (hk : k < 35) (hdg : decode cc pc = .ok (.iastore, 1)) (kk : ∀ (H : Heap) (locs : List Loc), Hp G (Yk G pa ad) A H0 (set1 σ 3 k v) H locs → W p l e R s m args below meth c H locs cells slots Q (F0 m (pc + 1) ls rest)) : W p l e R s m args below meth c H locs cells slots Q (F0 m pc ls (.int v :: .int (nI k) :: .ref (ad 3) :: rest)) := by
  refine x_iast (Y := Yk G pa ad) C h (okK G pa ad) 3 (Nat.le_of_ble_eq_true rfl) rfl rfl (vin_nI hk (by omega)) hdg ?_
  rw [nI_clamp (by omega)]
  exact kk
theorem kn_4 {own : String} {k : Nat} {v : Int32} (C : Cx G p s m args meth c own cc nL ret) (h : Hp G (Yk G pa ad) A H0 σ H locs) (hk : k < 35) (hdg : decode cc pc = .ok (.iastore, 1)) (kk : ∀ (H : Heap) (locs : List Loc), Hp G (Yk G pa ad) A H0 (set1 σ 4 k v) H locs → W p l e R s m args below meth c H locs cells slots Q (F0 m (pc + 1) ls rest)) : W p l e R s m args below meth c H locs cells slots Q (F0 m pc ls (.int v :: .int (nI k) :: .ref (ad 4) :: rest)) := by
  refine x_iast (Y := Yk G pa ad) C h (okK G pa ad) 4 (Nat.le_of_ble_eq_true rfl) rfl rfl (vin_nI hk (by omega)) hdg ?_
  rw [nI_clamp (by omega)]
  exact kk
theorem kp_clear (C : Cx G p s m args meth c R_Ca b_Ca_clear 2 ret) : ∀ (d k : Nat), k + d = 34 → ∀ (σ : Sg) (H : Heap) (locs : List Loc), Hp G (Yk G pa ad) A H0 σ H locs → ∀ ls : Array Slot, lv_has ls 2 [(0, .ref (ad 0)), (1, .int (nI k))] → (∀ (H : Heap) (locs : List Loc), Hp G (Yk G pa ad) A H0 (itr (fun k σ => set1 (set1 σ 1 k (-1)) 2 k 0) d k σ) H locs → ∀ ls : Array Slot, W p l e R s m args below meth c H locs cells slots Q (F0 m 28 ls [])) → W p l e R s m args below meth c H locs cells slots Q (F0 m 2 ls []) := by
  have hx := C.1
  have hb := C.2.1
  intro d
  induction d with
  | zero =>
    intro k hk σ H locs h ls hl K
    refine lv_iload_n hx hb d_Ca_clear_2 rfl (lk hl rfl) ?_
    refine lv_bipush (v := nI 34) hx hb d_Ca_clear_3 (by decide) ?_
    refine lv_icmp_ge (tgt := 28) hx hb d_Ca_clear_5 (by decide) (fun c_5 => ?_) (fun c_5 => False.elim (f_nle c_5 (by omega) (by omega) (by omega)))
    exact K H locs h ls
  | succ d ih =>
    intro k hk σ H locs h ls hl K
    refine lv_iload_n hx hb d_Ca_clear_2 rfl (lk hl rfl) ?_
    refine lv_bipush (v := nI 34) hx hb d_Ca_clear_3 (by decide) ?_
    refine lv_icmp_ge (tgt := 28) hx hb d_Ca_clear_5 (by decide) (fun c_5 => False.elim (f_le c_5 (by omega) (by omega) (by omega))) (fun c_5 => ?_)
    refine lv_aload_n hx hb d_Ca_clear_8 rfl (lk hl rfl) ?_
    refine x_get (Y := Yk G pa ad) C h fx_Ca 0 (Nat.le_of_ble_eq_true rfl) rfl rfl 2 (by decide) rfl k_66 rfl d_Ca_clear_9 ?_
    refine lv_iload_n hx hb d_Ca_clear_12 rfl (lk hl rfl) ?_
    refine lv_iconst (v := (-1)) hx hb d_Ca_clear_13 (by decide) ?_
    refine kn_1 C h (by omega) d_Ca_clear_14 (fun H locs h => ?_)
    refine lv_aload_n hx hb d_Ca_clear_15 rfl (lk hl rfl) ?_
    refine x_get (Y := Yk G pa ad) C h fx_Ca 0 (Nat.le_of_ble_eq_true rfl) rfl rfl 3 (by decide) rfl k_67 rfl d_Ca_clear_16 ?_
    refine lv_iload_n hx hb d_Ca_clear_19 rfl (lk hl rfl) ?_
    refine lv_iconst (v := 0) hx hb d_Ca_clear_20 (by decide) ?_
    refine kn_2 C h rfl (by omega) d_Ca_clear_21 (fun H locs h => ?_)
    refine x_iinc (v := nI (k + 1)) hx hb d_Ca_clear_22 hl rfl (inc1 k) (by decide) (fun ls hl => ?_)
    refine lv_goto (tgt := 2) hx hb d_Ca_clear_25 (by decide) ?_
    exact ih (k + 1) (by omega) _ H locs h ls (lv_re hl _ rfl) K
theorem kc_clear (l : Launch) (G : Gx) (pa : Nat) (ad : Nat → Nat) (σ : Sg) : MV l G (Yk G pa ad) y_Ca_clear b_Ca_clear 2 none 0 σ [.ref (ad 0)] (itr (fun k σ => set1 (set1 σ 1 k (-1)) 2 k 0) 34 0 σ) := by
  refine go rfl (Nat.le_of_ble_eq_true rfl) (fun p e s m below meth c ls C h hl => ?_)
  have hx := C.1
  have hb := C.2.1
  refine lv_iconst (v := nI 0) hx hb d_Ca_clear_0 (by decide) ?_
  refine lv_istore_n hx hb d_Ca_clear_1 rfl hl (by decide) rfl (fun ls hl => ?_)
  refine kp_clear C 34 0 rfl σ _ _ h ls (lv_re hl _ rfl) (fun H locs h ls => ?_)
  exact x_vret C h d_Ca_clear_28 rfl
def rgA (k : Nat) : Int32 := if k = 34 then nI 0 else nI (k + 1)
def rgB (k : Nat) : Int32 := if k = 0 then nI 34 else nI (k - 1)
def rgs (k : Nat) (σ : Sg) : Sg := set1 (set1 σ 3 k (rgA k)) 4 k (rgB k)
theorem kp_a {k : Nat} {lv : List (Nat × Value)} (C : Cx G p s m args meth c R_Ca b_Ca_init 3 ret) (hk : k < 35) (hl : lv_has ls 3 lv) (h2 : lv.lookup 2 = some (.int (nI k))) (K : W p l e R s m args below meth c H locs cells slots Q (F0 m 80 ls (.int (rgA k) :: rest))) : W p l e R s m args below meth c H locs cells slots Q (F0 m 67 ls rest) := by
  have hx := C.1
  have hb := C.2.1
  refine lv_iload_n hx hb d_Ca_init_67 rfl (lk hl h2) ?_
  refine lv_bipush (v := nI 34) hx hb d_Ca_init_68 (by decide) ?_
  refine lv_icmp_ne (tgt := 77) hx hb d_Ca_init_70 (by decide) (fun c_70 => ?_) (fun c_70 => ?_)
  · have hne : k ≠ 34 := fun q => c_70 (by rw [q])
    refine lv_iload_n hx hb d_Ca_init_77 rfl (lk hl h2) ?_
    refine lv_iconst (v := nI 1) hx hb d_Ca_init_78 (by decide) ?_
    refine lv_iadd hx hb d_Ca_init_79 ?_
    refine top (y := rgA k) (by rw [rgA, if_neg hne, nI_add]) ?_
    exact K
  · have he : k = 34 := (nI_eq (by omega) (by omega)).mp c_70
    refine lv_iconst (v := nI 0) hx hb d_Ca_init_73 (by decide) ?_
    refine lv_goto (tgt := 80) hx hb d_Ca_init_74 (by decide) ?_
    refine top (y := rgA k) (by rw [rgA, if_pos he]) ?_
    exact K
theorem kp_b {k : Nat} {lv : List (Nat × Value)} (C : Cx G p s m args meth c R_Ca b_Ca_init 3 ret) (hk : k < 35) (hl : lv_has ls 3 lv) (h2 : lv.lookup 2 = some (.int (nI k))) (K : W p l e R s m args below meth c H locs cells slots Q (F0 m 98 ls (.int (rgB k) :: rest))) : W p l e R s m args below meth c H locs cells slots Q (F0 m 86 ls rest) := by
  have hx := C.1
  have hb := C.2.1
  refine lv_iload_n hx hb d_Ca_init_86 rfl (lk hl h2) ?_
  refine lv_if_ne (tgt := 95) hx hb d_Ca_init_87 (by decide) (fun c_87 => ?_) (fun c_87 => ?_)
  · have hne : k ≠ 0 := fun q => c_87 (by rw [q]; rfl)
    refine lv_iload_n hx hb d_Ca_init_95 rfl (lk hl h2) ?_
    refine lv_iconst (v := nI 1) hx hb d_Ca_init_96 (by decide) ?_
    refine lv_isub hx hb d_Ca_init_97 ?_
    refine top (y := rgB k) (by rw [rgB, if_neg hne, pk_sub (by omega)]) ?_
    exact K
  · have he : k = 0 := (nI_eq (by omega) (by omega)).mp (c_87.trans nI_0.symm)
    refine lv_bipush (v := nI 34) hx hb d_Ca_init_90 (by decide) ?_
    refine lv_goto (tgt := 98) hx hb d_Ca_init_92 (by decide) ?_
    refine top (y := rgB k) (by rw [rgB, if_pos he]) ?_
    exact K
theorem kp_ring {pv : Nat} (C : Cx G p s m args meth c R_Ca b_Ca_init 3 ret) : ∀ (d k : Nat), k + d = 35 → ∀ (σ : Sg) (H : Heap) (locs : List Loc), Hp G (Yk G pa ad) A H0 σ H locs → ∀ ls : Array Slot, lv_has ls 3 [(0, .ref (ad 0)), (1, .ref pv), (2, .int (nI k))] → (∀ (H : Heap) (locs : List Loc), Hp G (Yk G pa ad) A H0 (itr rgs d k σ) H locs → ∀ ls : Array Slot, lv_has ls 3 [(0, .ref (ad 0))] → W p l e R s m args below meth c H locs cells slots Q (F0 m 105 ls [])) → W p l e R s m args below meth c H locs cells slots Q (F0 m 56 ls []) := by
  have hx := C.1
  have hb := C.2.1
  intro d
  induction d with
  | zero =>
    intro k hk σ H locs h ls hl K
    refine lv_iload_n hx hb d_Ca_init_56 rfl (lk hl rfl) ?_
    refine lv_bipush (v := nI 34) hx hb d_Ca_init_57 (by decide) ?_
    refine lv_icmp_gt (tgt := 105) hx hb d_Ca_init_59 (by decide) (fun c_59 => ?_) (fun c_59 => False.elim (f_nlt c_59 (by omega) (by omega) (by omega)))
    exact K H locs h ls (lv_re hl _ rfl)
  | succ d ih =>
    intro k hk σ H locs h ls hl K
    refine lv_iload_n hx hb d_Ca_init_56 rfl (lk hl rfl) ?_
    refine lv_bipush (v := nI 34) hx hb d_Ca_init_57 (by decide) ?_
    refine lv_icmp_gt (tgt := 105) hx hb d_Ca_init_59 (by decide) (fun c_59 => False.elim (f_lt c_59 (by omega) (by omega) (by omega))) (fun c_59 => ?_)
    refine lv_aload_n hx hb d_Ca_init_62 rfl (lk hl rfl) ?_
    refine x_get (Y := Yk G pa ad) C h fx_Ca 0 (Nat.le_of_ble_eq_true rfl) rfl rfl 4 (by decide) rfl k_70 rfl d_Ca_init_63 ?_
    refine lv_iload_n hx hb d_Ca_init_66 rfl (lk hl rfl) ?_
    refine kp_a C (k := k) (by omega) hl rfl ?_
    refine kn_3 C h (by omega) d_Ca_init_80 (fun H locs h => ?_)
    refine lv_aload_n hx hb d_Ca_init_81 rfl (lk hl rfl) ?_
    refine x_get (Y := Yk G pa ad) C h fx_Ca 0 (Nat.le_of_ble_eq_true rfl) rfl rfl 5 (by decide) rfl k_71 rfl d_Ca_init_82 ?_
    refine lv_iload_n hx hb d_Ca_init_85 rfl (lk hl rfl) ?_
    refine kp_b C (k := k) (by omega) hl rfl ?_
    refine kn_4 C h (by omega) d_Ca_init_98 (fun H locs h => ?_)
    refine x_iinc (v := nI (k + 1)) hx hb d_Ca_init_99 hl rfl (inc1 k) (by decide) (fun ls hl => ?_)
    refine lv_goto (tgt := 56) hx hb d_Ca_init_102 (by decide) ?_
    exact ih (k + 1) (by omega) _ H locs h ls (lv_re hl _ rfl) K
end CK
theorem rgs_at : ∀ (d k : Nat) (s : Sg), (∀ p, itr rgs d k s 3 p = if k ≤ p ∧ p < k + d then rgA p else s 3 p) ∧ (∀ p, itr rgs d k s 4 p = if k ≤ p ∧ p < k + d then rgB p else s 4 p) := by
  intro d
  induction d with
  | zero =>
    intro k s
    exact ⟨fun p => by rw [if_neg (by omega)]; rfl, fun p => by rw [if_neg (by omega)]; rfl⟩
  | succ d ih =>
    intro k s
    obtain ⟨i1, i2⟩ := ih (k + 1) (rgs k s)
    refine ⟨fun p => ?_, fun p => ?_⟩
    · show itr rgs d (k + 1) (rgs k s) 3 p = _
      rw [i1]
      by_cases e : p = k
      · subst e
        rw [if_neg (by omega), if_pos (by omega)]
        show set1 (set1 s 3 p (rgA p)) 4 p (rgB p) 3 p = rgA p
        rw [st_ne (by decide), st_eq]
      · have : (rgs k s) 3 p = s 3 p := by
          show set1 (set1 s 3 k (rgA k)) 4 k (rgB k) 3 p = s 3 p
          rw [st_ne (by decide), st_nk e]
        rw [this]
        by_cases q : k + 1 ≤ p ∧ p < k + 1 + d
        · rw [if_pos q, if_pos (by omega)]
        · rw [if_neg q, if_neg (by omega)]
    · show itr rgs d (k + 1) (rgs k s) 4 p = _
      rw [i2]
      by_cases e : p = k
      · subst e
        rw [if_neg (by omega), if_pos (by omega)]
        show set1 (set1 s 3 p (rgA p)) 4 p (rgB p) 4 p = rgB p
        rw [st_eq]
      · have : (rgs k s) 4 p = s 4 p := by
          show set1 (set1 s 3 k (rgA k)) 4 k (rgB k) 4 p = s 4 p
          rw [st_nk e, st_ne (by decide)]
        rw [this]
        by_cases q : k + 1 ≤ p ∧ p < k + 1 + d
        · rw [if_pos q, if_pos (by omega)]
        · rw [if_neg q, if_neg (by omega)]
/-- the state behind the Cache's constructor -/
def k0 : Sg := itr (fun k σ => set1 (set1 σ 1 k (-1)) 2 k 0) 34 0 (itr rgs 35 0 (fun _ _ => 0))
theorem k0_0 : k0 0 = fun _ => 0 := by
  rw [k0, itr_ne (fun k σ => by rw [st_ne (by decide), st_ne (by decide)]), itr_ne (fun k σ => by show set1 _ _ _ _ _ = _; rw [st_ne (by decide), st_ne (by decide)])]
theorem k0_1 {p : Nat} (h : p < 34) : k0 1 p = -1 := by
  rw [k0, (itr_two (by decide) 34 0 _).1, if_pos (by omega)]
theorem k0_2 {p : Nat} (h : p < 34) : k0 2 p = 0 := by
  rw [k0, (itr_two (by decide) 34 0 _).2, if_pos (by omega)]
theorem k0_3 {p : Nat} (h : p < 35) : k0 3 p = rgA p := by
  rw [k0, itr_ne (fun k σ => by rw [st_ne (by decide), st_ne (by decide)]), (rgs_at 35 0 _).1, if_pos (by omega)]
theorem k0_4 {p : Nat} (h : p < 35) : k0 4 p = rgB p := by
  rw [k0, itr_ne (fun k σ => by rw [st_ne (by decide), st_ne (by decide)]), (rgs_at 35 0 _).2, if_pos (by omega)]
set_option maxHeartbeats 1000000 in
theorem c_Ca_init (l : Launch) (G : Gx) (h0 pa : Nat) (sz : Nat) : MC l G y_Ca_init b_Ca_init 3 { frames := 1, cells := 39, slots := 34988, locals := 30 } [(h0, .inr (2, [.null, .null, .null, .null, .null, .null, .int 0]))] sz [.ref h0, .ref pa]
    (fun w => ∃ ad, ad 0 = h0 ∧ w = wx (Yk G pa ad) k0) := by
  refine goC rfl (Nat.le_of_ble_eq_true rfl) (fun p e s m below meth c ls A C hin hA hQ h hl => ?_)
  have C : Cx G p s m _ meth c R_Ca b_Ca_init 3 none := C
  have hx := C.1
  have hb := C.2.1
  refine lv_aload_n hx hb d_Ca_init_0 rfl (lk hl rfl) ?_
  refine z_obj C hl.1 k_56 (by decide) (by decide) d_Ca_init_1 ?_
  refine lv_aload_n hx hb d_Ca_init_4 rfl (lk hl rfl) ?_
  refine lv_bipush (v := nI 34) hx hb d_Ca_init_5 (by decide) ?_
  refine lv_sipush (v := nI 1024) hx hb d_Ca_init_7 (by decide) ?_
  refine x_mna hx hb C.2.2.2.1 (C.2.2.1 _ k_57) C.2.2.2.2.1 hQ h.1 h.2.1 h.2.2 hA (by show 0 + 35 ≤ 39; omega) (by show 0 + 34850 ≤ 34988; omega) d_Ca_init_10 (fun q H locs hP hD hS => ?_)
  have h : Lp G A s.heap ([(h0, .inr (2, [.null, .null, .null, .null, .null, .null, .int 0]))] ++ rl G q) H locs := ⟨hP, hD, hS⟩
  refine z_putF C hin h fx_Ca 0 rfl rfl 1 (by decide) rfl k_64 rfl rfl rfl (Nat.le_of_ble_eq_true rfl) (ws' := (h0, .inr (2, [.null, .ref q, .null, .null, .null, .null, .int 0])) :: rl G q) rfl d_Ca_init_14 (fun H locs h => ?_)
  refine lv_aload_n hx hb d_Ca_init_17 rfl (lk hl rfl) ?_
  refine lv_bipush (v := nI 34) hx hb d_Ca_init_18 (by decide) ?_
  refine z_int C h hA (by omega) (by show 0 + 35 + 1 ≤ 39; omega) (by show 0 + 34850 + 34 ≤ 34988; omega) d_Ca_init_20 (fun q1 H h => ?_)
  refine z_putF C hin h fx_Ca 0 rfl rfl 2 (by decide) rfl k_66 rfl rfl rfl (Nat.le_of_ble_eq_true rfl) (ws' := (h0, .inr (2, [.null, .ref q, .ref q1, .null, .null, .null, .int 0])) :: (rl G q ++ [(q1, .inl (G.2.2.1, 34, .inl (fun _ => 0)))])) rfl d_Ca_init_22 (fun H locs h => ?_)
  refine lv_aload_n hx hb d_Ca_init_25 rfl (lk hl rfl) ?_
  refine lv_bipush (v := nI 34) hx hb d_Ca_init_26 (by decide) ?_
  refine z_bool C h hA (by omega) (by show 0 + 35 + 1 + 1 ≤ 39; omega) (by show 0 + 34850 + 34 + 34 ≤ 34988; omega) d_Ca_init_28 (fun q2 H h => ?_)
  refine z_putF C hin h fx_Ca 0 rfl rfl 3 (by decide) rfl k_67 rfl rfl rfl (Nat.le_of_ble_eq_true rfl) (ws' := (h0, .inr (2, [.null, .ref q, .ref q1, .ref q2, .null, .null, .int 0])) :: (rl G q ++ [(q1, .inl (G.2.2.1, 34, .inl (fun _ => 0)))] ++ [(q2, .inl (G.2.2.2.1, 34, .inl (fun _ => 0)))])) rfl d_Ca_init_30 (fun H locs h => ?_)
  refine lv_aload_n hx hb d_Ca_init_33 rfl (lk hl rfl) ?_
  refine lv_bipush (v := nI 35) hx hb d_Ca_init_34 (by decide) ?_
  refine z_int C h hA (by omega) (by show 0 + 35 + 1 + 1 + 1 ≤ 39; omega) (by show 0 + 34850 + 34 + 34 + 35 ≤ 34988; omega) d_Ca_init_36 (fun q3 H h => ?_)
  refine z_putF C hin h fx_Ca 0 rfl rfl 4 (by decide) rfl k_70 rfl rfl rfl (Nat.le_of_ble_eq_true rfl) (ws' := (h0, .inr (2, [.null, .ref q, .ref q1, .ref q2, .ref q3, .null, .int 0])) :: (rl G q ++ [(q1, .inl (G.2.2.1, 34, .inl (fun _ => 0)))] ++ [(q2, .inl (G.2.2.2.1, 34, .inl (fun _ => 0)))] ++ [(q3, .inl (G.2.2.1, 35, .inl (fun _ => 0)))])) rfl d_Ca_init_38 (fun H locs h => ?_)
  refine lv_aload_n hx hb d_Ca_init_41 rfl (lk hl rfl) ?_
  refine lv_bipush (v := nI 35) hx hb d_Ca_init_42 (by decide) ?_
  refine z_int C h hA (by omega) (by show 0 + 35 + 1 + 1 + 1 + 1 ≤ 39; omega) (by show 0 + 34850 + 34 + 34 + 35 + 35 ≤ 34988; omega) d_Ca_init_44 (fun q4 H h => ?_)
  refine z_putF C hin h fx_Ca 0 rfl rfl 5 (by decide) rfl k_71 rfl rfl rfl (Nat.le_of_ble_eq_true rfl) (ws' := (h0, .inr (2, [.null, .ref q, .ref q1, .ref q2, .ref q3, .ref q4, .int 0])) :: (rl G q ++ [(q1, .inl (G.2.2.1, 34, .inl (fun _ => 0)))] ++ [(q2, .inl (G.2.2.2.1, 34, .inl (fun _ => 0)))] ++ [(q3, .inl (G.2.2.1, 35, .inl (fun _ => 0)))] ++ [(q4, .inl (G.2.2.1, 35, .inl (fun _ => 0)))])) rfl d_Ca_init_46 (fun H locs h => ?_)
  refine lv_aload_n hx hb d_Ca_init_49 rfl (lk hl rfl) ?_
  refine lv_aload_n hx hb d_Ca_init_50 rfl (lk hl rfl) ?_
  refine z_putF C hin h fx_Ca 0 rfl rfl 0 (by decide) rfl k_63 rfl rfl rfl (Nat.le_of_ble_eq_true rfl) (ws' := wk G h0 pa q q1 q2 q3 q4) rfl d_Ca_init_51 (fun H locs h => ?_)
  have h : Hp G (Yk G pa (adk h0 q q1 q2 q3 q4)) A s.heap (fun _ _ => 0) H locs := ⟨h.1.by kg (wk_map G h0 pa q q1 q2 q3 q4), h.2.1.by kg (wk_map G h0 pa q q1 q2 q3 q4) (fun i j hi hj => kg_inj i j (by rw [wx_len] at hi; exact hi) (by rw [wx_len] at hj; exact hj)), h.2.2⟩
  refine lv_iconst (v := nI 0) hx hb d_Ca_init_54 (by decide) ?_
  refine lv_istore_n hx hb d_Ca_init_55 rfl hl (by decide) rfl (fun ls hl => ?_)
  refine kp_ring C (ad := adk h0 q q1 q2 q3 q4) 35 0 rfl _ _ _ h ls (lv_re hl _ rfl) (fun H locs h ls hl => ?_)
  refine lv_aload_n hx hb d_Ca_init_105 rfl (lk hl rfl) ?_
  refine x_callVv (Y := Yk G pa (adk h0 q q1 q2 q3 q4)) (q := 0) C h hl.1 (kc_clear l G pa _ _) (Nat.le_of_ble_eq_true rfl) rfl rfl rfl cw_Ca_36 rfl rfl (Nat.le_of_ble_eq_true rfl) ⟨Nat.le_of_ble_eq_true rfl, Nat.le_of_ble_eq_true rfl⟩ ⟨by show 0 + 35 + 1 + 1 + 1 + 1 ≤ 39; omega, by show 0 + 34850 + 34 + 34 + 35 + 35 ≤ 34988; omega⟩ d_Ca_init_106 (fun H locs h => ?_)
  exact z_ret C (ws := wx (Yk G pa (adk h0 q q1 q2 q3 q4)) k0) h ⟨_, rfl, rfl⟩ (by show 0 + 35 + 1 + 1 + 1 + 1 ≤ 39; omega) (by show 0 + 34850 + 34 + 34 + 35 + 35 ≤ 34988; omega) d_Ca_init_109
end
section
/-! BlockVault's constructor -/
section ZN
variable {p : Program} {l : Launch} {e : Env} {R : Room} {s : State} {m : MethodId} {args : Array Value} {below : List Frame} {meth : Method} {c : Code} {H : Heap} {locs : List Loc} {cells slots : Nat} {Q : State → Prop}
variable {cc : ByteArray} {pc nL : Nat} {ls : Array Slot} {rest st : List Value} {G : Gx} {A : Nat → Prop} {H0 : Heap} {ws ws' : va_W} {own : String} {ret : Option FieldType}
theorem z_new (C : Cx G p s m args meth c own cc nL ret) (h : Lp G A H0 ws H locs) (hA : ∀ q, H0.size ≤ q → A q) {Cn : String} {T : u_T} {N ci idx : Nat} {ty0 : Nat → FieldType} (fx : FX Cn T N ty0) (hlink : Cond.classLink own idx Cn ∈ gt) (hinst : Cond.instantiable Cn N ∈ gt) (hini : Cond.initialized Cn ∈ gt) (hc : classes[ci]? = some (Cn, T, N)) (fs : List Value) (hfs : ∀ j, j < N → defaultValue (ty0 j) = vp_V fs j) (hcells : cells + 1 ≤ R.cells) (hslots : slots + N ≤ R.slots) (hdg : decode cc pc = .ok (.new idx, 3))
    (kk : ∀ (q : Nat) (H : Heap), Lp G A H0 (ws ++ [(q, .inr (ci, fs))]) H locs → W p l e R s m args below meth c H locs (cells + 1) (slots + N) Q (F0 m (pc + 3) ls (.ref q :: rest))) : W p l e R s m args below meth c H locs cells slots Q (F0 m pc ls rest) :=
  va_new C.1 C.2.1 C.2.2.1 fx.1 ty0 fx.2.1 C.2.2.2.1 (C.2.2.1 _ hlink) (C.2.2.1 _ hinst) (C.2.2.1 _ hini) C.2.2.2.2.1.1 h.1 h.2.1 h.2.2 hA hc hfs hcells hslots hdg (fun q H1 hP hD hS => kk q H1 ⟨hP, hD, hS⟩)
end ZN
def rg (L : Nat) : Nat → Nat
  | 0 => 0
  | 1 => 2
  | j + 2 => if j < L then j + 3 else if j = L then L + 3 else 1
theorem rg_map {a b c d : Nat × va_E} {w : va_W} (k : Nat) (x : Nat × va_E) (h : (([a, c] ++ w) ++ [d, b])[k]? = some x) : (([a, b, c] ++ w) ++ [d])[rg w.length k]? = some x := by
  match k, h with
  | 0, h => exact h
  | 1, h => exact h
  | j + 2, h =>
    have h : (w ++ [d, b])[j]? = some x := h
    show (a :: b :: c :: (w ++ [d]))[if j < w.length then j + 3 else if j = w.length then w.length + 3 else 1]? = some x
    by_cases h1 : j < w.length
    · rw [if_pos h1]
      show (w ++ [d])[j]? = some x
      rw [List.getElem?_append_left h1] at h ⊢
      exact h
    · rw [if_neg h1]
      rw [List.getElem?_append_right (by omega)] at h
      by_cases h2 : j = w.length
      · rw [if_pos h2]
        show (w ++ [d])[w.length]? = some x
        rw [List.getElem?_append_right (Nat.le_refl _), Nat.sub_self]
        rw [h2, Nat.sub_self] at h
        exact h
      · rw [if_neg h2]
        have h3 : j - w.length < 2 := (List.getElem?_eq_some_iff.mp h).1
        rw [show j - w.length = 1 by omega] at h
        exact h
theorem rg_inj {L : Nat} (i j : Nat) (hi : i < L + 4) (hj : j < L + 4) (h : rg L i = rg L j) : i = j := by
  match i, j, h with
  | 0, 0, _ => rfl
  | 0, 1, h => cases h
  | 1, 0, h => cases h
  | 1, 1, _ => rfl
  | 0, j + 2, h =>
    have h : 0 = if j < L then j + 3 else if j = L then L + 3 else 1 := h
    split at h
    · omega
    · split at h <;> omega
  | 1, j + 2, h =>
    have h : 2 = if j < L then j + 3 else if j = L then L + 3 else 1 := h
    split at h
    · omega
    · split at h <;> omega
  | i + 2, 0, h =>
    have h : (if i < L then i + 3 else if i = L then L + 3 else 1) = 0 := h
    split at h
    · omega
    · split at h <;> omega
  | i + 2, 1, h =>
    have h : (if i < L then i + 3 else if i = L then L + 3 else 1) = 2 := h
    split at h
    · omega
    · split at h <;> omega
  | i + 2, j + 2, h =>
    have h : (if i < L then i + 3 else if i = L then L + 3 else 1) = (if j < L then j + 3 else if j = L then L + 3 else 1) := h
    split at h <;> split at h <;> (try split at h) <;> (try split at h) <;> omega
theorem Lp.reord {G : Gx} {A : Nat → Prop} {H0 H : Heap} {locs : List Loc} {a b c d : Nat × va_E} {w : va_W} (h : Lp G A H0 (([a, b, c] ++ w) ++ [d]) H locs) : Lp G A H0 (([a, c] ++ w) ++ [d, b]) H locs :=
  ⟨h.1.by _ rg_map, h.2.1.by _ rg_map (fun i j hi hj => rg_inj i j (by simp at hi; omega) (by simp at hj; omega)), h.2.2⟩
theorem bm_mid {a b : Nat × va_E} {Y : Sy} {σ : Sg} {L : va_W} {i : Nat} (h : i < Y.1) : (([a, b] ++ wx Y σ) ++ L)[i + 2]? = some (Y.2.1 i, Y.2.2 σ i) := by
  show (wx Y σ ++ L)[i]? = _
  rw [List.getElem?_append_left (by rw [wx_len]; exact h), wx_at h]
theorem bm_end {a b : Nat × va_E} {Y : Sy} {σ : Sg} {L : va_W} {i : Nat} (h : Y.1 = 40) : (([a, b] ++ wx Y σ) ++ L)[i + 42]? = L[i]? := by
  show (wx Y σ ++ L)[i + 40]? = _
  rw [List.getElem?_append_right (by rw [wx_len, h]; omega), wx_len, h, Nat.add_sub_cancel]
/-- the component's state at its birth; κ is the Cache's -/
def zk (κ : Sg) (n : Nat) : Sg
  | 1 => fun j => match j with
    | 1 => nI n
    | 3 => -1
    | _ => 0
  | 3 => κ 0
  | 5 => κ 1
  | 6 => κ 2
  | 7 => κ 3
  | 8 => κ 4
  | _ => fun _ => 0
def adz (h0 q1 q2 q9 r1 r2 r3 r4 : Nat) (ad : Nat → Nat) : Nat → Nat
  | 0 => h0
  | 1 => q1
  | 2 => q2
  | 3 => ad 0
  | 4 => ad 5
  | 5 => ad 1
  | 6 => ad 2
  | 7 => ad 3
  | 8 => ad 4
  | 9 => q9
  | 10 => r1
  | 11 => r4
  | 12 => r2
  | 13 => r3
  | k + 14 => ad (k + 6)
def bg : Nat → Nat
  | 0 => 0
  | 1 => 43
  | 2 => 1
  | 3 => 2
  | 4 => 7
  | 5 => 3
  | 6 => 4
  | 7 => 5
  | 8 => 6
  | 9 => 42
  | 10 => 44
  | 11 => 47
  | 12 => 45
  | 13 => 46
  | k + 14 => k + 8
theorem bg_inj0 : ∀ i, i < 48 → ∀ j, j < 48 → bg i = bg j → i = j := by decide +kernel
theorem bt0 : bt 0 = 0 := by decide
theorem bt_z : (fun _ : Nat => bt 0) = (fun _ => 0) := by rw [bt0]
def wz (κ : Sg) (G : Gx) (n h0 q1 q2 q9 r1 r2 r3 r4 : Nat) (ad : Nat → Nat) : va_W := ([(h0, .inr (0, [.ref q1, .ref (ad 0), .ref q9])), (q2, .inl (G.2.1, 1024 * n, .inl (fun _ => 0)))] ++ wx (Yk G q1 ad) κ) ++ [(q9, .inr (3, [.ref q1, .ref (ad 0), .ref r1, .ref r4, .ref r2, .ref r3, .int 0, .int 0, .int 0, .int 0])), (q1, .inr (1, [.ref q2, .int (nI n), .int 0, .int (-1), .int 0])), (r1, .inl (G.2.2.1, 30, .inl (fun _ => 0))), (r2, .inl (G.2.1, 1024, .inl (fun _ => 0))), (r3, .inl (G.2.1, 1024, .inl (fun _ => 0))), (r4, .inl (G.2.2.2.1, n, .inl (fun _ => 0)))]
theorem wz_map (κ : Sg) (G : Gx) (n h0 q1 q2 q9 r1 r2 r3 r4 : Nat) (ad : Nat → Nat) (k : Nat) (x : Nat × va_E) (hk : (wx (Yc G n (adz h0 q1 q2 q9 r1 r2 r3 r4 ad)) (zk κ n))[k]? = some x) : (wz κ G n h0 q1 q2 q9 r1 r2 r3 r4 ad)[bg k]? = some x := by
  obtain ⟨hl, rfl⟩ := wx_inv hk
  match k, hl with
  | 0, _ => rfl
  | 1, _ => rw [wz, show bg 1 = 1 + 42 from rfl, bm_end rfl]; rfl
  | 2, _ =>
    show some (q2, _) = some (q2, _)
    show some (q2, Sum.inl (G.2.1, 1024 * n, Sum.inl (fun _ => 0))) = some (q2, Sum.inl (G.2.1, 1024 * n, Sum.inl (fun _ => bt 0)))
    rw [bt_z]
  | 3, _ => rw [wz, show bg 3 = 0 + 2 from rfl, bm_mid (by show 0 < 40; omega)]; rfl
  | 4, _ => rw [wz, show bg 4 = 5 + 2 from rfl, bm_mid (by show 5 < 40; omega)]; rfl
  | 5, _ => rw [wz, show bg 5 = 1 + 2 from rfl, bm_mid (by show 1 < 40; omega)]; rfl
  | 6, _ => rw [wz, show bg 6 = 2 + 2 from rfl, bm_mid (by show 2 < 40; omega)]; rfl
  | 7, _ => rw [wz, show bg 7 = 3 + 2 from rfl, bm_mid (by show 3 < 40; omega)]; rfl
  | 8, _ => rw [wz, show bg 8 = 4 + 2 from rfl, bm_mid (by show 4 < 40; omega)]; rfl
  | 9, _ => rw [wz, show bg 9 = 0 + 42 from rfl, bm_end rfl]; rfl
  | 10, _ => rw [wz, show bg 10 = 2 + 42 from rfl, bm_end rfl]; rfl
  | 11, _ => rw [wz, show bg 11 = 5 + 42 from rfl, bm_end rfl]; rfl
  | 12, _ =>
    rw [wz, show bg 12 = 3 + 42 from rfl, bm_end rfl]
    show some (r2, Sum.inl (G.2.1, 1024, Sum.inl (fun _ => 0))) = some (r2, Sum.inl (G.2.1, 1024, Sum.inl (fun _ => bt 0)))
    rw [bt_z]
  | 13, _ =>
    rw [wz, show bg 13 = 4 + 42 from rfl, bm_end rfl]
    show some (r3, Sum.inl (G.2.1, 1024, Sum.inl (fun _ => 0))) = some (r3, Sum.inl (G.2.1, 1024, Sum.inl (fun _ => bt 0)))
    rw [bt_z]
  | k + 14, hl =>
    have hl : k + 14 < 48 := hl
    rw [wz, show bg (k + 14) = (k + 6) + 2 from rfl, bm_mid (by show k + 6 < 40; omega)]
    show some (ad (k + 6), Sum.inl (G.2.1, 1024, Sum.inl (fun _ => 0))) = some (ad (k + 6), Sum.inl (G.2.1, 1024, Sum.inl (fun _ => bt 0)))
    rw [bt_z]
set_option maxHeartbeats 1000000 in
theorem c_BV_init (l : Launch) (G : Gx) (h0 : Nat) (x : Int32) (sz : Nat) : MC l G y_BV_init b_BV_init 2 { frames := 2, cells := 47, slots := 119088, locals := 60 } [(h0, .inr (0, [.null, .null, .null]))] sz [.ref h0, .int x]
    (fun w => ∃ ad, ad 0 = h0 ∧ w = wx (Yc G (cl x) ad) (zk k0 (cl x))) := by
  refine goC rfl (Nat.le_of_ble_eq_true rfl) (fun p e s m below meth c ls A C hin hA hQ h hl => ?_)
  have C : Cx G p s m _ meth c R_BV b_BV_init 2 none := C
  have hx := C.1
  have hb := C.2.1
  have hml : c.maxLocals = ls.size := C.2.2.2.2.2.1.trans hl.1.symm
  obtain ⟨cn1, cn2⟩ := cl_in x
  have cmm := cl_mm x
  generalize cl x = n at cn1 cn2 cmm ⊢
  refine lv_aload_n hx hb d_BV_init_0 rfl (lk hl rfl) ?_
  refine z_obj C hl.1 k_13 (by decide) (by decide) d_BV_init_1 ?_
  refine lv_aload_n hx hb d_BV_init_4 rfl (lk hl rfl) ?_
  refine z_new (ci := 1) C h hA fx_Pl k_16 k_17 k_2 rfl [.null, .int 0, .int 0, .int 0, .int 0] (fun j hj => by rcases (show j = 0 ∨ j = 1 ∨ j = 2 ∨ j = 3 ∨ j = 4 by omega) with rfl | rfl | rfl | rfl | rfl <;> rfl) (by show 0 + 1 ≤ 47; omega) (by show 0 + 5 ≤ 119088; omega) d_BV_init_5 (fun q1 H h => ?_)
  refine lv_dup hx hb d_BV_init_8 rfl ?_
  refine lv_bipush (v := nI 80) hx hb d_BV_init_9 (by decide) ?_
  refine lv_bipush (v := nI 40) hx hb d_BV_init_11 (by decide) ?_
  refine lv_iload_n hx hb d_BV_init_13 rfl (lk hl rfl) ?_
  refine va_mmax hx hb hml C.2.2.2.1 (C.2.2.1 _ k_18) (C.2.2.1 _ k_19) (C.2.2.1 _ k_3) (C.2.2.1 _ k_20) (by show 1 ≤ 2; omega) (Nat.le_of_ble_eq_true rfl) (by show 0 + 1 ≤ 47; omega) (by show 0 + 5 ≤ 119088; omega) d_BV_init_14 ?_
  refine va_mmin hx hb hml C.2.2.2.1 (C.2.2.1 _ k_21) (C.2.2.1 _ k_22) (C.2.2.1 _ k_3) (C.2.2.1 _ k_23) (by show 1 ≤ 2; omega) (Nat.le_of_ble_eq_true rfl) (by show 0 + 1 ≤ 47; omega) (by show 0 + 5 ≤ 119088; omega) d_BV_init_17 ?_
  refine top cmm ?_
  refine y_callI (wr := [(h0, .inr (0, [.null, .null, .null]))]) (wc := [(q1, .inr (1, [.null, .int 0, .int 0, .int 0, .int 0]))]) (as := [.int (nI n)]) (rest := [.ref q1, .ref h0]) C.S C.2.2.2.2.1 hQ h hA hl.1 (c_Pl_init l G q1 n cn2) ci_BV_20 rfl k_25 rfl rfl (Nat.le_of_ble_eq_true rfl) ⟨by show 1 + 1 ≤ 2; omega, by show 8 + (2 + 11) + 30 ≤ 60; omega⟩ ⟨by show 0 + 1 + 1 ≤ 47; omega, by show 0 + 5 + 81920 ≤ 119088; omega⟩ d_BV_init_20 (fun w1 H locs hp h => ?_)
  obtain ⟨q2, rfl⟩ := hp
  refine z_putF C hin h fx_BV 0 rfl rfl 0 (by decide) rfl k_132 rfl rfl rfl (Nat.le_of_ble_eq_true rfl) (ws' := [(h0, .inr (0, [.ref q1, .null, .null])), (q1, .inr (1, [.ref q2, .int (nI n), .int 0, .int (-1), .int 0])), (q2, .inl (G.2.1, 1024 * n, .inl (fun _ => 0)))]) rfl d_BV_init_23 (fun H locs h => ?_)
  refine lv_aload_n hx hb d_BV_init_26 rfl (lk hl rfl) ?_
  refine z_new (ci := 2) C h hA fx_Ca k_51 k_52 k_4 rfl [.null, .null, .null, .null, .null, .null, .int 0] (fun j hj => by rcases (show j = 0 ∨ j = 1 ∨ j = 2 ∨ j = 3 ∨ j = 4 ∨ j = 5 ∨ j = 6 by omega) with rfl | rfl | rfl | rfl | rfl | rfl | rfl <;> rfl) (by show 0 + 1 + 1 + 1 ≤ 47; omega) (by show 0 + 5 + 81920 + 7 ≤ 119088; omega) d_BV_init_27 (fun q3 H h => ?_)
  refine lv_dup hx hb d_BV_init_30 rfl ?_
  refine lv_aload_n hx hb d_BV_init_31 rfl (lk hl rfl) ?_
  refine z_get C h fx_BV 0 rfl rfl 0 (by decide) rfl k_132 rfl d_BV_init_32 ?_
  refine y_callI (wr := [(h0, .inr (0, [.ref q1, .null, .null])), (q1, .inr (1, [.ref q2, .int (nI n), .int 0, .int (-1), .int 0])), (q2, .inl (G.2.1, 1024 * n, .inl (fun _ => 0)))]) (wc := [(q3, .inr (2, [.null, .null, .null, .null, .null, .null, .int 0]))]) (as := [.ref q1]) (rest := [.ref q3, .ref h0]) C.S C.2.2.2.2.1 hQ h hA hl.1 (c_Ca_init l G q3 q1) ci_BV_29 rfl k_54 rfl rfl (Nat.le_of_ble_eq_true rfl) ⟨by show 1 + 1 ≤ 2; omega, by show 8 + (3 + 11) + 30 ≤ 60; omega⟩ ⟨by show 0 + 1 + 1 + 1 + 39 ≤ 47; omega, by show 0 + 5 + 81920 + 7 + 34988 ≤ 119088; omega⟩ d_BV_init_35 (fun w1 H locs hp h => ?_)
  obtain ⟨ad, rfl, rfl⟩ := hp
  generalize k0 = κ at h ⊢
  refine z_putF C hin h fx_BV 0 rfl rfl 1 (by decide) rfl k_133 rfl rfl rfl (Nat.le_of_ble_eq_true rfl) (ws' := [(h0, .inr (0, [.ref q1, .ref (ad 0), .null])), (q1, .inr (1, [.ref q2, .int (nI n), .int 0, .int (-1), .int 0])), (q2, .inl (G.2.1, 1024 * n, .inl (fun _ => 0)))] ++ wx (Yk G q1 ad) κ) rfl d_BV_init_38 (fun H locs h => ?_)
  refine lv_aload_n hx hb d_BV_init_41 rfl (lk hl rfl) ?_
  refine z_new (ci := 3) C h hA fx_Lg k_91 k_92 k_5 rfl [.null, .null, .null, .null, .null, .null, .int 0, .int 0, .int 0, .int 0] (fun j hj => by rcases (show j = 0 ∨ j = 1 ∨ j = 2 ∨ j = 3 ∨ j = 4 ∨ j = 5 ∨ j = 6 ∨ j = 7 ∨ j = 8 ∨ j = 9 by omega) with rfl | rfl | rfl | rfl | rfl | rfl | rfl | rfl | rfl | rfl <;> rfl) (by show 0 + 1 + 1 + 1 + 39 + 1 ≤ 47; omega) (by show 0 + 5 + 81920 + 7 + 34988 + 10 ≤ 119088; omega) d_BV_init_42 (fun q9 H h => ?_)
  refine lv_dup hx hb d_BV_init_45 rfl ?_
  refine lv_aload_n hx hb d_BV_init_46 rfl (lk hl rfl) ?_
  refine z_get C h fx_BV 0 rfl rfl 0 (by decide) rfl k_132 rfl d_BV_init_47 ?_
  refine lv_aload_n hx hb d_BV_init_50 rfl (lk hl rfl) ?_
  refine z_get C h fx_BV 0 rfl rfl 1 (by decide) rfl k_133 rfl d_BV_init_51 ?_
  have h := Lp.reord h
  refine y_callI (as := [.ref q1, .ref (ad 0)]) (rest := [.ref q9, .ref h0]) C.S C.2.2.2.2.1 hQ h hA hl.1 (c_Lg_init l G q9 q1 (ad 0) n cn2 (.ref q2) (.int 0) (.int (-1)) (.int 0)) ci_BV_38 rfl k_94 rfl rfl (Nat.le_of_ble_eq_true rfl) ⟨by show 1 + 1 ≤ 2; omega, by show 8 + (3 + 11) + 30 ≤ 60; omega⟩ ⟨by show 0 + 1 + 1 + 1 + 39 + 1 + 4 ≤ 47; omega, by show 0 + 5 + 81920 + 7 + 34988 + 10 + 2158 ≤ 119088; omega⟩ d_BV_init_54 (fun w1 H locs hp h => ?_)
  obtain ⟨r1, r2, r3, r4, rfl⟩ := hp
  refine z_putF C hin h fx_BV 0 rfl rfl 2 (by decide) rfl k_134 rfl rfl rfl (Nat.le_of_ble_eq_true rfl) (ws' := wz κ G n h0 q1 q2 q9 r1 r2 r3 r4 ad) rfl d_BV_init_57 (fun H locs h => ?_)
  have h : Lp G A s.heap (wx (Yc G n (adz h0 q1 q2 q9 r1 r2 r3 r4 ad)) (zk κ n)) H locs := ⟨h.1.by bg (wz_map κ G n h0 q1 q2 q9 r1 r2 r3 r4 ad), h.2.1.by bg (wz_map κ G n h0 q1 q2 q9 r1 r2 r3 r4 ad) (fun i j hi hj => bg_inj0 i (by rw [wx_len] at hi; exact hi) j (by rw [wx_len] at hj; exact hj)), h.2.2⟩
  exact z_ret C h ⟨_, rfl, rfl⟩ (by show 0 + 1 + 1 + 1 + 39 + 1 + 4 ≤ 47; omega) (by show 0 + 5 + 81920 + 7 + 34988 + 10 + 2158 ≤ 119088; omega) d_BV_init_60
end
section
/-! the start: what the tables give, the two states at birth, and that they agree -/
theorem ao_byte {args : Array Value} {s : State} (h : (Cond.arrayOver (.array .byte)).before args s = true) : ∃ (comp cA : ClassId) (k : Class), s.vm.findClass "[B" = some comp ∧ s.vm.classes[cA]? = some k ∧ k.kind = .array comp (.array .byte) ∧ s.vm.findClass "[[B" = some cA := by
  have e1 : (FieldType.array FieldType.byte).toString = "[B" := by decide +kernel
  have e2 : "[" ++ "[B" = "[[B" := by decide +kernel
  simp only [Cond.before, Cond.holds, Cond.value, beq_iff_eq, e1, e2, Option.bind_eq_some_iff, Option.map_eq_some_iff] at h
  obtain ⟨comp, hc, cA, hi, k, hk, hb⟩ := h
  have hp := (Array.findIdx?_eq_some_iff_getElem.mp hi).2.1
  rw [(Array.getElem?_eq_some_iff.mp hk).2] at hp
  cases hkind : k.kind with
  | array component ty =>
    simp [hkind] at hb hp
    exact ⟨comp, cA, k, hc, hk, by rw [hkind, hp, hb.1], hb.2⟩
  | _ => simp [hkind] at hb
theorem k_58 : Cond.arrayOver (.array .byte) ∈ tables_1 := List.mem_of_getElem? (i := 58) (by decide +kernel)
theorem g_start {b : Nat} {s : State} (hts : ∀ w ∈ lw_tbl, w.before #[Value.ref b] s = true) : ∃ G : Gx, Kx G s ∧ QA G s := by
  have hg : ∀ w ∈ gt, w.before #[Value.ref b] s = true := fun w hw => hts w (gt_tbl hw)
  obtain ⟨c0, i0, K0⟩ := u_known (C := R_BV) (T := F_BV) (N := 3) (n := 3) hg in_BV (hg _ k_9)
  obtain ⟨c1, i1, K1⟩ := u_known (C := R_Pl) (T := F_Pl) (N := 5) (n := 5) hg in_Pl (hg _ k_17)
  obtain ⟨c2, i2, K2⟩ := u_known (C := R_Ca) (T := F_Ca) (N := 7) (n := 7) hg in_Ca (hg _ k_52)
  obtain ⟨c3, i3, K3⟩ := u_known (C := R_Lg) (T := F_Lg) (N := 10) (n := 10) hg in_Lg (hg _ k_92)
  obtain ⟨c4, i4, K4⟩ := u_known (C := R_Md) (T := F_Md) (N := 15) (n := 15) hg in_Md (hg _ k_260)
  obtain ⟨cB, kB, pB, fB, gB, hB⟩ := Cond.arrayClass_spec (hg _ k_50)
  obtain ⟨cI, kI, pI, fI, gI, hI⟩ := Cond.arrayClass_spec (hg _ k_89)
  obtain ⟨cZ, kZ, pZ, fZ, gZ, hZ⟩ := Cond.arrayClass_spec (hg _ k_90)
  obtain ⟨comp, cQ, kQ, fQ0, gQ, hQ, fQ⟩ := ao_byte (hts _ (List.mem_append_right _ k_58))
  have fB : s.vm.findClass "[B" = some cB := fB
  have fI : s.vm.findClass "[I" = some cI := fI
  have fZ : s.vm.findClass "[Z" = some cZ := fZ
  have e : comp = cB := Option.some.inj (fQ0.symm.trans fB)
  subst e
  obtain ⟨dC, dI, hKc⟩ : ∃ (dC : Nat → ClassId) (dI : Nat → Nat → Nat), ∀ (k : Nat) (q : vw_C), classes[k]? = some q → u_Kn s q.1 q.2.1 q.2.2 (dC k) (dI k) := by
    refine ⟨fun k => if k = 0 then c0 else if k = 1 then c1 else if k = 2 then c2 else if k = 3 then c3 else c4, fun k => if k = 0 then i0 else if k = 1 then i1 else if k = 2 then i2 else if k = 3 then i3 else i4, ?_⟩
    intro k q hq
    match k, hq with
    | 0, hq => cases hq; exact K0
    | 1, hq => cases hq; exact K1
    | 2, hq => cases hq; exact K2
    | 3, hq => cases hq; exact K3
    | 4, hq => cases hq; exact K4
    | k + 5, hq => simp [classes] at hq
  refine ⟨((dC, dI), (comp, cI, cZ, cQ)), ⟨⟨hKc, fun k q hk => ?_⟩, fun a i b n d hh hm => va_Nw.of rfl (hts _ (List.mem_append_right _ hm))⟩, kQ, gQ, hQ⟩
  match k, hk with
  | 0, hk => cases hk; exact ⟨fun n z => ⟨fun k h => (by cases h), kB, gB, pB, hB⟩, fB⟩
  | 1, hk => cases hk; exact ⟨fun n z => ⟨fun k h => (by cases h), kI, gI, pI, hI⟩, fI⟩
  | 2, hk => cases hk; exact ⟨fun n z => ⟨fun k h => (by cases h), kZ, gZ, pZ, hZ⟩, fZ⟩
  | 3, hk => cases hk; exact ⟨fun n z => ⟨fun k h => (by cases h), kQ, gQ, comp, hQ⟩, fQ⟩
  | k + 4, hk => simp [tysG] at hk
/-- the model's state at its birth -/
def m0 (n : Nat) : Sg
  | 0 => fun j => match j with
    | 1 => nI n
    | 8 => 1
    | 10 => -1
    | 14 => -1
    | _ => 0
  | _ => fun _ => 0
def adm (h0 q1 q2 q3 q4 q5 : Nat) : Nat → Nat
  | 0 => h0
  | 1 => q1
  | 2 => q2
  | 3 => q3
  | 4 => q4
  | _ => q5
theorem wm_eq (G : Gx) (n h0 q1 q2 q3 q4 q5 : Nat) : [(h0, .inr (4, [.int 0, .int (nI n), .ref q1, .ref q2, .ref q3, .ref q4, .ref q5, .int 0, .int 1, .int 0, .int (-1), .int 0, .int 0, .int 0, .int (-1)])), (q1, .inl (G.2.1, 81920, .inl (fun _ => 0))), (q2, .inl (G.2.1, 81920, .inl (fun _ => 0))), (q3, .inl (G.2.2.2.1, 80, .inl (fun _ => 0))), (q4, .inl (G.2.2.2.1, 80, .inl (fun _ => 0))), (q5, .inl (G.2.2.1, 80, .inl (fun _ => 0)))] = wx (Ym G (adm h0 q1 q2 q3 q4 q5)) (m0 n) := by
  have e : wx (Ym G (adm h0 q1 q2 q3 q4 q5)) (m0 n) = [(h0, .inr (4, [.int 0, .int (nI n), .ref q1, .ref q2, .ref q3, .ref q4, .ref q5, .int 0, .int 1, .int 0, .int (-1), .int 0, .int 0, .int 0, .int (-1)])), (q1, .inl (G.2.1, 81920, .inl (fun _ => bt 0))), (q2, .inl (G.2.1, 81920, .inl (fun _ => bt 0))), (q3, .inl (G.2.2.2.1, 80, .inl (fun _ => 0))), (q4, .inl (G.2.2.2.1, 80, .inl (fun _ => 0))), (q5, .inl (G.2.2.1, 80, .inl (fun _ => 0)))] := rfl
  rw [e, bt_z]
theorem ch_up {a : Nat → Int32} (h : ∀ k, k < 34 → a k = nI (k + 1)) : ∀ d k, k + 1 + d = 34 → Ch a k (List.range' (k + 1) d) 34 := by
  intro d
  induction d with
  | zero =>
    intro k hk
    show a k = nI 34
    rw [h k (by omega)]
    congr 1
  | succ d ih =>
    intro k hk
    rw [List.range'_succ]
    exact ⟨h k (by omega), ih (k + 1) (by omega)⟩
theorem ch_down {b : Nat → Int32} (h0 : b 0 = nI 34) (h : ∀ k, k < 34 → b (k + 1) = nI k) : ∀ k, k ≤ 34 → Ch b k (List.range k).reverse 34 := by
  intro k
  induction k with
  | zero => intro _; exact h0
  | succ k ih =>
    intro hk
    rw [List.range_succ, List.reverse_append]
    exact ⟨h k (by omega), ih (by omega)⟩
theorem ring0 : RingL (k0 3) (k0 4) (List.range 34) := by
  refine ⟨?_, ?_, List.nodup_range, fun x => List.mem_range⟩
  · rw [List.range_eq_range', show (34 : Nat) = 33 + 1 from rfl, List.range'_succ]
    refine ⟨?_, ?_⟩
    · show k0 3 34 = nI 0
      rw [k0_3 (by omega), rgA, if_pos rfl]
    · refine ch_up (fun k hk => ?_) 33 0 rfl
      rw [k0_3 (by omega), rgA, if_neg (by omega)]
  · refine ch_down ?_ (fun k hk => ?_) 34 (Nat.le_refl _)
    · rw [k0_4 (by omega), rgB, if_pos rfl]
    · rw [k0_4 (by omega), rgB, if_neg (by omega), Nat.add_sub_cancel]
theorem rel0k {κ : Sg} (q0 : κ 0 6 = 0) (q1 : ∀ p, p < 34 → κ 1 p = -1) (q2 : ∀ p, p < 34 → κ 2 p = 0) (qr : RingL (κ 3) (κ 4) (List.range 34)) {n : Nat} (h1 : 40 ≤ n) (h2 : n ≤ 80) : Rel n 1 (zk κ n) (m0 n) := by
  refine ⟨0, by omega, ⟨h1, h2, rfl, rfl, rfl, q0, rfl, rfl⟩, Or.inl ?_⟩
  refine on_fresh (L := List.range 34) h2 rfl (by show (1 : Int32) ≠ 0; decide) rfl ⟨none, rfl⟩ rfl rfl rfl ?_ qr q1 q2 rfl (fun _ _ => rfl) (fun _ _ => rfl) (fun _ _ _ _ => rfl)
  refine ⟨?_, fun i hi => absurd hi (by omega), fun b _ _ j _ => rfl⟩
  show hdk (fun _ => 0) 0 = nI 0
  decide +kernel
theorem rel0 {n : Nat} (h1 : 40 ≤ n) (h2 : n ≤ 80) : Rel n 1 (zk k0 n) (m0 n) := rel0k (by rw [k0_0]) (fun _ h => k0_1 h) (fun _ h => k0_2 h) ring0 h1 h2
end
section
/-! the law from its entry -/
section CE
variable {p : Program} {l : Launch} {e : Env} {R : Room} {s : State} {m : MethodId} {args : Array Value} {below : List Frame} {meth : Method} {c : Code} {H : Heap} {locs : List Loc} {cells slots : Nat} {Q : State → Prop} {pc : Nat} {ls : Array Slot} {rest : List Value}
theorem x_cell {A : Nat → Prop} {b L : Nat} {xs : Nat → Int32} (S : p.tables.exec = Jvm.exec ∧ c.code = code ∧ c.maxLocals = 4 ∧ s.vm.findClass R_law = some m.cls ∧ ∀ w ∈ gt, w.before args s = true) (hX : va_X b L xs s s.heap) (hbl : b < s.heap.size) (hbA : ¬ A b) (hS : va_S A s.heap H locs) (hL : L < 2 ^ 31) (hl : ls.size = 4) (hrest : (rest.map fun v => v.category).sum ≤ 8) (hR : 0 + 1 ≤ R.frames ∧ 8 + (2 + 11) + 0 ≤ R.locals) (hf : cells + 0 ≤ R.cells ∧ slots + 0 ≤ R.slots) (hdg : decode code pc = .ok (.invokestatic 9, 3))
    (kk : W p l e R s m args below meth c H locs cells slots Q (F0 m (pc + 3) ls (.int (sc0 L xs) :: rest))) : W p l e R s m args below meth c H locs cells slots Q (F0 m pc ls (.int (nI 0) :: .ref b :: rest)) := by
  refine W.callR (W.runS (As := [.ref b, .int (nI 0)]) (rest := rest) S (c_law_cell l b L xs hL) ⟨cb_of S.2.2.2.2 cs_law_9.1 rfl rfl hR, S.2.2.2.2 _ cs_law_9.2⟩ ⟨fun a U g mk q => ⟨q.1, va_X.moved (u := U) (U := U.calling g mk a) (Vm.Alike.refl U.vm) q.2⟩, fun U hU hW => ⟨rfl, by show va_X b L xs U U.heap; rw [hU]; exact (va_X.moved hW.alike hX).kept (hS.2.1 b hbl hbA)⟩⟩ rfl rfl hl rfl (lv_room hrest) hdg hf) ?_
  exact W.eq (g2 := F0 m (pc + 3) ls (.int (sc0 L xs) :: rest)) rfl kk
end CE
set_option maxHeartbeats 1000000 in
/-- THE LAW, from its entry -/
theorem whole_start {p : Program} {e : Env} {s : State} {m : MethodId} {below : List Frame} {meth : Method} {c : Code} (l : Launch) {b L : Nat} {xs : Nat → Int32} (hL : L ≤ 2561) (C0 : lw_At p s m meth c b L xs) : W p l e room_1 s m #[Value.ref b] below meth c s.heap [] 0 0 (lw_Z below #[Value.ref b] s) (entryFrame m ([Value.ref b] : List Value).toArray 4) := by
  obtain ⟨hx, hb, hr, hml, hown, hts, hX, hbl, hlocks, hgv⟩ := id C0
  have hts' : ∀ w ∈ gt, w.before #[Value.ref b] s = true := fun w hw => hts w (gt_tbl hw)
  obtain ⟨G, K, hQ⟩ := g_start hts
  have hA : ∀ q : Nat, s.heap.size ≤ q → (fun q : Nat => s.heap.size ≤ q) q := fun _ h => h
  have hbA : ¬ (fun q : Nat => s.heap.size ≤ q) b := Nat.not_le.mpr hbl
  have C : Cx G p s m #[Value.ref b] meth c R_law code 4 ret := ⟨hx, hb, hts', hown, K, hml, hr, hlocks⟩
  have h : Lp G (fun q : Nat => s.heap.size ≤ q) s.heap [] s.heap [] := ⟨fun k q h => by simp at h, ⟨fun i j p q h => by simp at h, fun k q h => by simp at h⟩, va_S.rf⟩
  have hl := lv_entry ([.ref b]) (n := 4) (Nat.le_of_ble_eq_true rfl)
  rw [lg_entry_eq]
  generalize (lg_sl ([.ref b]) ++ List.replicate (4 - (lg_sl ([.ref b])).length) Slot.unset).toArray = ls at hl ⊢
  have hl : lv_has ls 4 [(0, .ref b)] := hl
  refine z_new (ci := 0) C h hA fx_BV k_8 k_9 k_1 rfl [.null, .null, .null] (fun j hj => by rcases (show j = 0 ∨ j = 1 ∨ j = 2 by omega) with rfl | rfl | rfl <;> rfl) (by show 0 + 1 ≤ 600000; omega) (by show 0 + 3 ≤ 7302250; omega) d_law_0 (fun q H h => ?_)
  refine lv_dup hx hb d_law_3 rfl ?_
  refine lv_aload_n hx hb d_law_4 rfl (lk hl rfl) ?_
  refine lv_iconst (v := nI 0) hx hb d_law_5 (by decide) ?_
  refine x_cell C.S hX hbl hbA h.2.2 (by omega) hl.1 (Nat.le_of_ble_eq_true rfl) ⟨by show 0 + 1 ≤ 8; omega, by show 8 + (2 + 11) + 0 ≤ 258; omega⟩ ⟨by show 0 + 1 + 0 ≤ 600000; omega, by show 0 + 3 + 0 ≤ 7302250; omega⟩ d_law_6 ?_
  refine y_callI (wr := []) (wc := [(q, .inr (0, [.null, .null, .null]))]) (as := [.int (sc0 L xs)]) (rest := [.ref q]) C.S K hQ h hA hl.1 (c_BV_init l G q (sc0 L xs)) ci_law_15 rfl k_11 rfl rfl (Nat.le_of_ble_eq_true rfl) ⟨by show 2 + 1 ≤ 8; omega, by show 8 + (2 + 11) + 60 ≤ 258; omega⟩ ⟨by show 0 + 1 + 47 ≤ 600000; omega, by show 0 + 3 + 119088 ≤ 7302250; omega⟩ d_law_9 (fun w1 H locs hp h => ?_)
  obtain ⟨ad, rfl, rfl⟩ := hp
  obtain ⟨cn1, cn2⟩ := cl_in (sc0 L xs)
  have hrel := rel0 cn1 cn2
  have h : Lp G (fun q : Nat => s.heap.size ≤ q) s.heap (wx (Yc G (cl (sc0 L xs)) ad) (zk k0 (cl (sc0 L xs)))) H locs := h
  generalize zk k0 (cl (sc0 L xs)) = σ0 at h hrel
  refine lv_astore_n hx hb d_law_12 rfl hl (by decide) rfl (fun ls hl => ?_)
  refine z_new (ci := 4) C h hA fx_Md k_259 k_260 k_6 rfl [.int 0, .int 0, .null, .null, .null, .null, .null, .int 0, .int 0, .int 0, .int 0, .int 0, .int 0, .int 0, .int 0] (fun j hj => by rcases (show j = 0 ∨ j = 1 ∨ j = 2 ∨ j = 3 ∨ j = 4 ∨ j = 5 ∨ j = 6 ∨ j = 7 ∨ j = 8 ∨ j = 9 ∨ j = 10 ∨ j = 11 ∨ j = 12 ∨ j = 13 ∨ j = 14 by omega) with rfl | rfl | rfl | rfl | rfl | rfl | rfl | rfl | rfl | rfl | rfl | rfl | rfl | rfl | rfl <;> rfl) (by show 0 + 1 + 47 + 1 ≤ 600000; omega) (by show 0 + 3 + 119088 + 15 ≤ 7302250; omega) d_law_13 (fun q H h => ?_)
  refine lv_dup hx hb d_law_16 rfl ?_
  refine lv_aload_n hx hb d_law_17 rfl (lk hl rfl) ?_
  refine lv_iconst (v := nI 0) hx hb d_law_18 (by decide) ?_
  refine x_cell C.S hX hbl hbA h.2.2 (by omega) hl.1 (Nat.le_of_ble_eq_true rfl) ⟨by show 0 + 1 ≤ 8; omega, by show 8 + (2 + 11) + 0 ≤ 258; omega⟩ ⟨by show 0 + 1 + 47 + 1 + 0 ≤ 600000; omega, by show 0 + 3 + 119088 + 15 + 0 ≤ 7302250; omega⟩ d_law_19 ?_
  refine y_callI (as := [.int (sc0 L xs)]) (rest := [.ref q]) C.S K hQ h hA hl.1 (c_Md_init l G q (sc0 L xs)) ci_law_20 rfl k_262 rfl rfl (Nat.le_of_ble_eq_true rfl) ⟨by show 1 + 1 ≤ 8; omega, by show 8 + (2 + 11) + 30 ≤ 258; omega⟩ ⟨by show 0 + 1 + 47 + 1 + 5 ≤ 600000; omega, by show 0 + 3 + 119088 + 15 + 164080 ≤ 7302250; omega⟩ d_law_22 (fun w1 H locs hp h => ?_)
  obtain ⟨q1, q2, q3, q4, q5, rfl⟩ := hp
  rw [wm_eq] at h
  generalize hn : cl (sc0 L xs) = n at h hrel cn1 cn2
  obtain ⟨am, ham⟩ : ∃ am, am = adm q q1 q2 q3 q4 q5 := ⟨_, rfl⟩
  have hq : q = am 0 := by rw [ham]; rfl
  rw [← ham] at h
  rw [hq]
  refine lv_astore_n hx hb d_law_25 rfl hl (by decide) rfl (fun ls hl => ?_)
  refine lv_iconst (v := nI 1) hx hb d_law_26 (by decide) ?_
  refine lv_istore_n hx hb d_law_27 rfl hl (by decide) rfl (fun ls hl => ?_)
  refine W.widen (k := 600000) (n := 7302250) (by show 0 + 1 + 47 + 1 + 5 ≤ 600000; omega) (by show 0 + 3 + 119088 + 15 + 164080 ≤ 7302250; omega) ?_
  obtain ⟨hP, hD, hS⟩ := h
  have le1 : (wx (Yc G n ad) σ0).length = 48 := wx_len
  have a1 : ∀ i, i < 48 → (wx (Yc G n ad) σ0 ++ wx (Ym G am) (m0 n))[i]? = some (ad i, cC G n ad σ0 i) := fun i hi => by rw [List.getElem?_append_left (by rw [le1]; exact hi)]; exact wx_at hi
  have a2 : ∀ j, j < 6 → (wx (Yc G n ad) σ0 ++ wx (Ym G am) (m0 n))[48 + j]? = some (am j, cM G am (m0 n) j) := fun j hj => by rw [List.getElem?_append_right (by rw [le1]; omega), le1, Nat.add_sub_cancel_left]; exact wx_at hj
  have hPc : va_P G.1 classes (wx (Yc G n ad) σ0) H := fun k x hk => by
    obtain ⟨h1, rfl⟩ := wx_inv hk
    exact hP k _ (a1 k h1)
  have hPm : va_P G.1 classes (wx (Ym G am) (m0 n)) H := fun k x hk => by
    obtain ⟨h1, rfl⟩ := wx_inv hk
    exact hP _ _ (a2 k h1)
  have hDc : va_D (fun q : Nat => s.heap.size ≤ q) (wx (Yc G n ad) σ0) := ⟨fun i j x y hx hy e => by
    obtain ⟨h1, rfl⟩ := wx_inv hx
    obtain ⟨h2, rfl⟩ := wx_inv hy
    exact hD.1 i j _ _ (a1 i h1) (a1 j h2) e, fun k x hk => by
    obtain ⟨h1, rfl⟩ := wx_inv hk
    exact hD.2 k _ (a1 k h1)⟩
  have hDm : va_D (fun q : Nat => s.heap.size ≤ q) (wx (Ym G am) (m0 n)) := ⟨fun i j x y hx hy e => by
    obtain ⟨h1, rfl⟩ := wx_inv hx
    obtain ⟨h2, rfl⟩ := wx_inv hy
    have := hD.1 _ _ _ _ (a2 i h1) (a2 j h2) e
    omega, fun k x hk => by
    obtain ⟨h1, rfl⟩ := wx_inv hk
    exact hD.2 _ _ (a2 k h1)⟩
  have hap : Apart G n ad am s := ⟨fun σ => wx_D σ hDc, fun τ => wx_D τ hDm, fun i j hi hj e => by
    have := hD.1 _ _ _ _ (a1 i hi) (a2 j hj) e
    omega⟩
  exact law_loop hL C0 K hap (L + 5) 1 (by omega) (by omega) σ0 (m0 n) H locs hrel ⟨hPc, hPm, hS⟩ ls (lv_re hl _ rfl)
end
section
set_option maxHeartbeats 4000000 in
theorem lw_walk (l : Launch) (b : Addr) (xs : List Int32) : MetFree l x (headSpec (Jvm.Cond.code x code maxLocals ret :: tables_1) room_1) (lw_P b xs) (fun _ _ _ _ _ => True) lw_Q := by
  refine MetFree.of_bodyS (code := code) (maxLocals := maxLocals) (ret := ret) (by decide) ?_ ?_
  · intro args s m h hn
    obtain ⟨meth, c, h1, h2, h3, h4, h5, h6, -, -⟩ := Cond.code_spec hn (atoms_spec (ws := Jvm.Cond.code x code maxLocals ret :: tables_1) h _ List.mem_cons_self)
    exact ⟨meth, c, h1, h2, h3, h4, h5, h6⟩
  · intro p e s m args below meth c s₁ B hml0 hP _
    obtain ⟨rfl, hx, hbd, hgv⟩ := hP
    obtain ⟨scr, harrAt, hlist, hof, hsmall⟩ := hx
    obtain ⟨hcb, hkn, -, -⟩ := State.arrayAt?_spec harrAt
    have hown : s.vm.findClass R_law = some m.cls := findClass_of_methodNamed B.named
    have hts0 : ∀ c ∈ (Jvm.Cond.code x code maxLocals ret :: tables_1), c.before #[Value.ref b] s = true := atoms_spec (ws := Jvm.Cond.code x code maxLocals ret :: tables_1) B.pre
    have hts : ∀ w ∈ lw_tbl, w.before #[Value.ref b] s = true := k2_hts_sels lw_privs (fun w hw => hts0 w (List.mem_cons_of_mem _ hw)) lw_privs_ok
    have hml : c.maxLocals = 4 := B.maxLocals_eq (hts0 _ List.mem_cons_self)
    have X₀ : Stand p l e room_1 s m #[Value.ref b] below meth c s₁ [] 0 0 := Stand.of_body B
    have hh0 : s₁.heap = s.heap := by rw [B.state]; rfl
    have hsz : scr.slots.size = xs.length := by rw [← Array.length_toList, hlist, List.length_map]
    have hval : ∀ j : Nat, j < xs.length → scr.slots[j]? = some (.int (xs.getD j 0)) := fun j hj => by
      rw [← Array.getElem?_toList, hlist]
      simp [hj]
    have hbl : b < s.heap.size := (Array.getElem?_eq_some_iff.mp hcb).1
    have hX : va_X b xs.length (fun j => xs.getD j 0) s s.heap := ⟨scr, hcb, hof, hkn, hsz, hval⟩
    have K : W p l e room_1 s m #[Value.ref b] below meth c s₁.heap [] 0 0 (lw_Z below #[Value.ref b] s) (entryFrame m ([Value.ref b] : List Value).toArray 4) := by
      rw [hh0]
      exact whole_start l hbd ⟨B.exec, B.bytes, B.returns, hml, hown, hts, hX, hbl, B.notSynchronized, hgv⟩
    obtain ⟨t, a1, o, b1, b2, b3⟩ := K s₁ rfl X₀
    exact ⟨t, o, a1, b1, b2, b3⟩
theorem lw_pre_spec {args : Array Value} {s : State} (h : (Jvm.Cond.and given_1 narrow_1).before args s = true) (hr : rest_1_c.before args s = true) : ∃ (b : Addr) (xs : List Int32), lw_P b xs args s := by
  have hs := flat_of_before _ h
  have hq := flat_of_before _ hr
  have hc : (Cond.count 1).before args s = true := hs _ (by decide +kernel)
  have harr : (Cond.arrayOf (.arg 0) .int).before args s = true := hs _ (by decide +kernel)
  have hle : (Cond.le (.length (.arg 0)) (.int 2561)).before args s = true := hs _ (by decide +kernel)
  have hlen : (Cond.isInt (.length (.arg 0))).before args s = true := hq _ (by decide +kernel)
  have hall : (Cond.all (.arg 0) (.isInt (.elem (.arg 0) (.index 0)))).before args s = true := hq _ (by decide +kernel)
  obtain ⟨b, xs, hb, hx⟩ := State.ints_of_pre rfl harr hlen hall
  have hsm : xs.length < 2 ^ 31 := hx.choose_spec.2.2.2
  have hev : (Term.length (.arg 0)).eval args s none [] s = some (.int xs.length.toInt32) := hx.length_eval hb
  have hv := Cond.le_ints hev (show (Term.int 2561).eval args s none [] s = some (.int 2561) from rfl)
  have hd : xs.length.toInt32 ≤ 2561 := by
    simpa [Cond.before, Cond.holds, hv] using hle
  have hN : xs.length ≤ 2561 := (Int32.ofNat_le_ofNat hsm (by decide)).mp (show Int32.ofNat xs.length ≤ Int32.ofNat 2561 from hd)
  exact ⟨b, xs, Cond.one_arg hc (show args[0]? = some (.ref b) from hb), hx, hN, h⟩
theorem lw_comes (l : Launch) : Comes l x (Jvm.Cond.code x code maxLocals ret :: tables_1) room_1 (fun tb e args s => Calls_1 tb e args s ∧ rest_1 tb e args s ∧ Pre_1 tb e args s)
    (fun _ _ args s o t => lw_Q args s o t) := by
  intro p e ha hc hk s m args below hf hfit hheap happ hpre
  obtain ⟨b, xs, hP⟩ := lw_pre_spec hpre.2.2 hpre.2.1
  obtain ⟨k, o, h1, h2, h3, hQ⟩ := lw_walk l b xs p e ha hc hk s m args below hf ((Spec.applies_iff_loose hf).mp happ).1 hP trivial
  exact ⟨k, o, h1, h2, h3, hQ⟩
theorem lw_frame {s t : State} {o : Outcome} {args : Array Value} (h : Framed s o t [] 600000 7302250) :
    Framed s o t (fieldLocs frame_1_writes args s ++ arrayLocs frame_1_arrays args s ++ staticLocs frame_1_statics s) 600000 7302250 := h
theorem lw_limb (L : Cond) (hL : ∀ (args : Array Value) (s t : State), L.after args s (.returned (some (.int 1))) t = true) :
    ArmFor flags0 classFile x code maxLocals ret World_1 tables_1 room_1 Calls_1 rest_1 Pre_1
      (fun tb e a s o t => postC L tb e a s o t ∧ Framed s o t (fieldLocs frame_1_writes a s ++ arrayLocs frame_1_arrays a s ++ staticLocs frame_1_statics s) 600000 7302250) := by
  intro l _ _ _ p e ha hc hk s m args below hf hfit hheap happ hpre
  obtain ⟨k, o, h1, h2, h3, rfl, hF⟩ := lw_comes l p e ha hc hk s m args below hf hfit hheap happ hpre
  exact ⟨k, _, h1, h2, h3, hL args s _, lw_frame hF⟩
theorem i_vc : Claimed_1_1 ∧ Claimed_1_2 := ⟨lw_limb limb_1_1 (fun args s t => by simp [limb_1_1, Cond.after, Cond.holds, Cond.value]), lw_limb limb_1_2 (fun args s t => Cond.after_iff.mpr (by
  first | (rw [show limb_1_2 = Cond.eq .result (.int 1) from rfl, Cond.eq_ints (x := 1) (y := 1) rfl rfl]; simp; done) | (simp [limb_1_2, Cond.value, Term.eval]; done)))⟩
end
