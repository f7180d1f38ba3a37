section
-- ===== PART A: goes FIRST, ahead of the names: the tables' words, and 'selects' of the private methods out of them =====
/-- a private method of a class that the tables say can be made, by its rows of tables_1 -/
def lw_okq (q : MethodName × Nat) : Prop := (q.1.cls ≠ "java/lang/invoke/MethodHandle" ∧ q.1.cls ≠ "java/lang/invoke/VarHandle") ∧ Cond.instantiable q.1.cls q.2 ∈ tables_1 ∧ Cond.privateMethod q.1 ∈ tables_1 ∧ Cond.instanceMethod q.1 ∈ tables_1
theorem lw_p0 : lw_okq (⟨"FramePool", "isPage", "(I)Z"⟩, 8) := ⟨⟨by decide +kernel, by decide +kernel⟩, List.mem_of_getElem? (i := 7) (by decide +kernel), List.mem_of_getElem? (i := 95) (by decide +kernel), List.mem_of_getElem? (i := 96) (by decide +kernel)⟩
theorem lw_p1 : lw_okq (⟨"FramePool", "find", "(I)LFramePool$Frame;"⟩, 8) := ⟨⟨by decide +kernel, by decide +kernel⟩, List.mem_of_getElem? (i := 7) (by decide +kernel), List.mem_of_getElem? (i := 99) (by decide +kernel), List.mem_of_getElem? (i := 100) (by decide +kernel)⟩
theorem lw_p2 : lw_okq (⟨"FramePool", "place", "(I)I"⟩, 8) := ⟨⟨by decide +kernel, by decide +kernel⟩, List.mem_of_getElem? (i := 7) (by decide +kernel), List.mem_of_getElem? (i := 103) (by decide +kernel), List.mem_of_getElem? (i := 104) (by decide +kernel)⟩
theorem lw_p3 : lw_okq (⟨"FramePool", "next", "()LFramePool$Frame;"⟩, 8) := ⟨⟨by decide +kernel, by decide +kernel⟩, List.mem_of_getElem? (i := 7) (by decide +kernel), List.mem_of_getElem? (i := 111) (by decide +kernel), List.mem_of_getElem? (i := 112) (by decide +kernel)⟩
theorem lw_p4 : lw_okq (⟨"FramePool", "write", "(LFramePool$Frame;)V"⟩, 8) := ⟨⟨by decide +kernel, by decide +kernel⟩, List.mem_of_getElem? (i := 7) (by decide +kernel), List.mem_of_getElem? (i := 115) (by decide +kernel), List.mem_of_getElem? (i := 116) (by decide +kernel)⟩
theorem lw_p5 : lw_okq (⟨"FramePool", "forget", "(LFramePool$Frame;)V"⟩, 8) := ⟨⟨by decide +kernel, by decide +kernel⟩, List.mem_of_getElem? (i := 7) (by decide +kernel), List.mem_of_getElem? (i := 122) (by decide +kernel), List.mem_of_getElem? (i := 123) (by decide +kernel)⟩
theorem lw_p6 : lw_okq (⟨"FramePool", "pinnedFrame", "(I)LFramePool$Frame;"⟩, 8) := ⟨⟨by decide +kernel, by decide +kernel⟩, List.mem_of_getElem? (i := 7) (by decide +kernel), List.mem_of_getElem? (i := 130) (by decide +kernel), List.mem_of_getElem? (i := 131) (by decide +kernel)⟩
theorem lw_p7 : lw_okq (⟨"FramePool", "isWord", "(I)Z"⟩, 8) := ⟨⟨by decide +kernel, by decide +kernel⟩, List.mem_of_getElem? (i := 7) (by decide +kernel), List.mem_of_getElem? (i := 138) (by decide +kernel), List.mem_of_getElem? (i := 139) (by decide +kernel)⟩
theorem lw_p8 : lw_okq (⟨"FramePoolModel", "empty", "(I)V"⟩, 12) := ⟨⟨by decide +kernel, by decide +kernel⟩, List.mem_of_getElem? (i := 189) (by decide +kernel), List.mem_of_getElem? (i := 199) (by decide +kernel), List.mem_of_getElem? (i := 200) (by decide +kernel)⟩
theorem lw_p9 : lw_okq (⟨"FramePoolModel", "isPage", "(I)Z"⟩, 12) := ⟨⟨by decide +kernel, by decide +kernel⟩, List.mem_of_getElem? (i := 189) (by decide +kernel), List.mem_of_getElem? (i := 246) (by decide +kernel), List.mem_of_getElem? (i := 247) (by decide +kernel)⟩
theorem lw_p10 : lw_okq (⟨"FramePoolModel", "frameOf", "(I)I"⟩, 12) := ⟨⟨by decide +kernel, by decide +kernel⟩, List.mem_of_getElem? (i := 189) (by decide +kernel), List.mem_of_getElem? (i := 250) (by decide +kernel), List.mem_of_getElem? (i := 251) (by decide +kernel)⟩
theorem lw_p11 : lw_okq (⟨"FramePoolModel", "find", "()I"⟩, 12) := ⟨⟨by decide +kernel, by decide +kernel⟩, List.mem_of_getElem? (i := 189) (by decide +kernel), List.mem_of_getElem? (i := 254) (by decide +kernel), List.mem_of_getElem? (i := 255) (by decide +kernel)⟩
theorem lw_p12 : lw_okq (⟨"FramePoolModel", "store", "(I)V"⟩, 12) := ⟨⟨by decide +kernel, by decide +kernel⟩, List.mem_of_getElem? (i := 189) (by decide +kernel), List.mem_of_getElem? (i := 262) (by decide +kernel), List.mem_of_getElem? (i := 263) (by decide +kernel)⟩
theorem lw_p13 : lw_okq (⟨"FramePoolModel", "isPinned", "(I)Z"⟩, 12) := ⟨⟨by decide +kernel, by decide +kernel⟩, List.mem_of_getElem? (i := 189) (by decide +kernel), List.mem_of_getElem? (i := 270) (by decide +kernel), List.mem_of_getElem? (i := 271) (by decide +kernel)⟩
def lw_privs_1 : List (MethodName × Nat) := [(⟨"FramePool", "isPage", "(I)Z"⟩, 8), (⟨"FramePool", "find", "(I)LFramePool$Frame;"⟩, 8), (⟨"FramePool", "place", "(I)I"⟩, 8), (⟨"FramePool", "next", "()LFramePool$Frame;"⟩, 8), (⟨"FramePool", "write", "(LFramePool$Frame;)V"⟩, 8), (⟨"FramePool", "forget", "(LFramePool$Frame;)V"⟩, 8), (⟨"FramePool", "pinnedFrame", "(I)LFramePool$Frame;"⟩, 8), (⟨"FramePool", "isWord", "(I)Z"⟩, 8), (⟨"FramePoolModel", "empty", "(I)V"⟩, 12), (⟨"FramePoolModel", "isPage", "(I)Z"⟩, 12), (⟨"FramePoolModel", "frameOf", "(I)I"⟩, 12), (⟨"FramePoolModel", "find", "()I"⟩, 12), (⟨"FramePoolModel", "store", "(I)V"⟩, 12), (⟨"FramePoolModel", "isPinned", "(I)Z"⟩, 12)]
theorem lw_r1 : ∀ q ∈ lw_privs_1, lw_okq q := List.forall_mem_cons.mpr ⟨lw_p0, List.forall_mem_cons.mpr ⟨lw_p1, List.forall_mem_cons.mpr ⟨lw_p2, List.forall_mem_cons.mpr ⟨lw_p3, List.forall_mem_cons.mpr ⟨lw_p4, List.forall_mem_cons.mpr ⟨lw_p5, List.forall_mem_cons.mpr ⟨lw_p6, List.forall_mem_cons.mpr ⟨lw_p7, List.forall_mem_cons.mpr ⟨lw_p8, List.forall_mem_cons.mpr ⟨lw_p9, List.forall_mem_cons.mpr ⟨lw_p10, List.forall_mem_cons.mpr ⟨lw_p11, List.forall_mem_cons.mpr ⟨lw_p12, List.forall_mem_cons.mpr ⟨lw_p13, fun _ h => absurd h List.not_mem_nil⟩⟩⟩⟩⟩⟩⟩⟩⟩⟩⟩⟩⟩⟩
def lw_privs : List (MethodName × Nat) := lw_privs_1
def lw_tbl : List Cond := k2_sels lw_privs ++ tables_1
theorem lw_privs_ok : ∀ q ∈ lw_privs, lw_okq q := lw_r1
-- ===== end of PART A; then your names; then what follows =====
end
section
abbrev R_X : String := "FramePool"
abbrev R_F : String := "FramePool$Frame"
abbrev R_M : String := "FramePoolModel"
abbrev R_L : String := "FramePoolLaw"
def F_X : u_T := fun k => match k with
  | 0 => ("FramePool", "pages", "I", true)
  | 1 => ("FramePool", "pageWords", "I", true)
  | 2 => ("FramePool", "disk", "[I", true)
  | 3 => ("FramePool", "frames", "[LFramePool$Frame;", true)
  | 4 => ("FramePool", "table", "[LFramePool$Frame;", true)
  | 5 => ("FramePool", "hand", "I", false)
  | 6 => ("FramePool", "reads", "I", false)
  | _ => ("FramePool", "writes", "I", false)
def t_X : Nat → FieldType := fun k => match k with
  | 0 => .int
  | 1 => .int
  | 2 => .array .int
  | 3 => .array (.object "FramePool$Frame")
  | 4 => .array (.object "FramePool$Frame")
  | 5 => .int
  | 6 => .int
  | _ => .int
def F_F : u_T := fun k => match k with
  | 0 => ("FramePool$Frame", "number", "I", true)
  | 1 => ("FramePool$Frame", "words", "[I", true)
  | 2 => ("FramePool$Frame", "page", "I", false)
  | 3 => ("FramePool$Frame", "pins", "I", false)
  | 4 => ("FramePool$Frame", "isDirty", "Z", false)
  | _ => ("FramePool$Frame", "isMarked", "Z", false)
def t_F : Nat → FieldType := fun k => match k with
  | 0 => .int
  | 1 => .array .int
  | 2 => .int
  | 3 => .int
  | 4 => .boolean
  | _ => .boolean
def F_M : u_T := fun k => match k with
  | 0 => ("FramePoolModel", "frames", "I", true)
  | 1 => ("FramePoolModel", "pages", "I", true)
  | 2 => ("FramePoolModel", "words", "I", true)
  | 3 => ("FramePoolModel", "disk", "[I", true)
  | 4 => ("FramePoolModel", "memory", "[I", true)
  | 5 => ("FramePoolModel", "page", "[I", true)
  | 6 => ("FramePoolModel", "pins", "[I", true)
  | 7 => ("FramePoolModel", "dirty", "[Z", true)
  | 8 => ("FramePoolModel", "mark", "[Z", true)
  | 9 => ("FramePoolModel", "at", "I", false)
  | 10 => ("FramePoolModel", "reads", "I", false)
  | _ => ("FramePoolModel", "writes", "I", false)
def t_M : Nat → FieldType := fun k => match k with
  | 0 => .int
  | 1 => .int
  | 2 => .int
  | 3 => .array .int
  | 4 => .array .int
  | 5 => .array .int
  | 6 => .array .int
  | 7 => .array .boolean
  | 8 => .array .boolean
  | 9 => .int
  | 10 => .int
  | _ => .int
abbrev classes : List vw_C := [(R_X, F_X, 8), (R_F, F_F, 6), (R_M, F_M, 12)]
abbrev b_X_new : ByteArray := prog_1_method_1_code
def y_X_new : MethodName := ⟨"FramePool", "<init>", "(III)V"⟩
abbrev b_F_new : ByteArray := prog_2_method_1_code
def y_F_new : MethodName := ⟨"FramePool$Frame", "<init>", "(II)V"⟩
abbrev b_X_init : ByteArray := prog_1_method_2_code
def y_X_init : MethodName := ⟨"FramePool", "init", "()V"⟩
abbrev b_F_clear : ByteArray := prog_2_method_2_code
def y_F_clear : MethodName := ⟨"FramePool$Frame", "clear", "()V"⟩
abbrev b_X_pinned : ByteArray := prog_1_method_9_code
def y_X_pinned : MethodName := ⟨"FramePool", "pinned", "()I"⟩
abbrev b_X_fetch : ByteArray := prog_1_method_11_code
def y_X_fetch : MethodName := ⟨"FramePool", "fetch", "(I)I"⟩
abbrev b_X_isPage : ByteArray := prog_1_method_3_code
def y_X_isPage : MethodName := ⟨"FramePool", "isPage", "(I)Z"⟩
abbrev b_X_find : ByteArray := prog_1_method_6_code
def y_X_find : MethodName := ⟨"FramePool", "find", "(I)LFramePool$Frame;"⟩
abbrev b_X_place : ByteArray := prog_1_method_5_code
def y_X_place : MethodName := ⟨"FramePool", "place", "(I)I"⟩
abbrev b_X_home : ByteArray := prog_1_method_4_code
def y_X_home : MethodName := ⟨"FramePool", "home", "(I)I"⟩
abbrev b_X_next : ByteArray := prog_1_method_10_code
def y_X_next : MethodName := ⟨"FramePool", "next", "()LFramePool$Frame;"⟩
abbrev b_X_write : ByteArray := prog_1_method_8_code
def y_X_write : MethodName := ⟨"FramePool", "write", "(LFramePool$Frame;)V"⟩
abbrev b_X_forget : ByteArray := prog_1_method_7_code
def y_X_forget : MethodName := ⟨"FramePool", "forget", "(LFramePool$Frame;)V"⟩
abbrev b_X_unpin : ByteArray := prog_1_method_14_code
def y_X_unpin : MethodName := ⟨"FramePool", "unpin", "(I)I"⟩
abbrev b_X_pinnedFrame : ByteArray := prog_1_method_12_code
def y_X_pinnedFrame : MethodName := ⟨"FramePool", "pinnedFrame", "(I)LFramePool$Frame;"⟩
abbrev b_X_readWord : ByteArray := prog_1_method_15_code
def y_X_readWord : MethodName := ⟨"FramePool", "readWord", "(II)I"⟩
abbrev b_X_isWord : ByteArray := prog_1_method_13_code
def y_X_isWord : MethodName := ⟨"FramePool", "isWord", "(I)Z"⟩
abbrev b_X_writeWord : ByteArray := prog_1_method_16_code
def y_X_writeWord : MethodName := ⟨"FramePool", "writeWord", "(III)I"⟩
abbrev b_X_flush : ByteArray := prog_1_method_17_code
def y_X_flush : MethodName := ⟨"FramePool", "flush", "(I)I"⟩
abbrev b_X_flushAll : ByteArray := prog_1_method_18_code
def y_X_flushAll : MethodName := ⟨"FramePool", "flushAll", "()I"⟩
abbrev b_X_drop : ByteArray := prog_1_method_19_code
def y_X_drop : MethodName := ⟨"FramePool", "drop", "(I)Z"⟩
abbrev b_X_copy : ByteArray := prog_1_method_20_code
def y_X_copy : MethodName := ⟨"FramePool", "copy", "(II)I"⟩
abbrev b_X_diskWord : ByteArray := prog_1_method_21_code
def y_X_diskWord : MethodName := ⟨"FramePool", "diskWord", "(II)I"⟩
abbrev b_X_resident : ByteArray := prog_1_method_22_code
def y_X_resident : MethodName := ⟨"FramePool", "resident", "(I)Z"⟩
abbrev b_X_diskReads : ByteArray := prog_1_method_23_code
def y_X_diskReads : MethodName := ⟨"FramePool", "diskReads", "()I"⟩
abbrev b_X_diskWrites : ByteArray := prog_1_method_24_code
def y_X_diskWrites : MethodName := ⟨"FramePool", "diskWrites", "()I"⟩
abbrev b_X_told : ByteArray := prog_1_method_25_code
def y_X_told : MethodName := ⟨"FramePool", "told", "(II)I"⟩
abbrev b_X_hand : ByteArray := prog_1_method_26_code
def y_X_hand : MethodName := ⟨"FramePool", "hand", "()I"⟩
abbrev b_L_cell : ByteArray := method_2_code
def y_L_cell : MethodName := ⟨"FramePoolLaw", "cell", "([II)I"⟩
abbrev b_M_new : ByteArray := prog_4_method_1_code
def y_M_new : MethodName := ⟨"FramePoolModel", "<init>", "(III)V"⟩
abbrev b_M_init : ByteArray := prog_4_method_2_code
def y_M_init : MethodName := ⟨"FramePoolModel", "init", "()V"⟩
abbrev b_M_empty : ByteArray := prog_4_method_3_code
def y_M_empty : MethodName := ⟨"FramePoolModel", "empty", "(I)V"⟩
abbrev b_M_fetch : ByteArray := prog_4_method_9_code
def y_M_fetch : MethodName := ⟨"FramePoolModel", "fetch", "(I)I"⟩
abbrev b_M_isPage : ByteArray := prog_4_method_4_code
def y_M_isPage : MethodName := ⟨"FramePoolModel", "isPage", "(I)Z"⟩
abbrev b_M_frameOf : ByteArray := prog_4_method_6_code
def y_M_frameOf : MethodName := ⟨"FramePoolModel", "frameOf", "(I)I"⟩
abbrev b_M_find : ByteArray := prog_4_method_8_code
def y_M_find : MethodName := ⟨"FramePoolModel", "find", "()I"⟩
abbrev b_M_pinned : ByteArray := prog_4_method_23_code
def y_M_pinned : MethodName := ⟨"FramePoolModel", "pinned", "()I"⟩
abbrev b_M_store : ByteArray := prog_4_method_7_code
def y_M_store : MethodName := ⟨"FramePoolModel", "store", "(I)V"⟩
abbrev b_M_unpin : ByteArray := prog_4_method_10_code
def y_M_unpin : MethodName := ⟨"FramePoolModel", "unpin", "(I)I"⟩
abbrev b_M_isPinned : ByteArray := prog_4_method_5_code
def y_M_isPinned : MethodName := ⟨"FramePoolModel", "isPinned", "(I)Z"⟩
abbrev b_M_readWord : ByteArray := prog_4_method_11_code
def y_M_readWord : MethodName := ⟨"FramePoolModel", "readWord", "(II)I"⟩
abbrev b_M_writeWord : ByteArray := prog_4_method_12_code
def y_M_writeWord : MethodName := ⟨"FramePoolModel", "writeWord", "(III)I"⟩
abbrev b_M_flush : ByteArray := prog_4_method_13_code
def y_M_flush : MethodName := ⟨"FramePoolModel", "flush", "(I)I"⟩
abbrev b_M_flushAll : ByteArray := prog_4_method_14_code
def y_M_flushAll : MethodName := ⟨"FramePoolModel", "flushAll", "()I"⟩
abbrev b_M_drop : ByteArray := prog_4_method_15_code
def y_M_drop : MethodName := ⟨"FramePoolModel", "drop", "(I)Z"⟩
abbrev b_M_copy : ByteArray := prog_4_method_16_code
def y_M_copy : MethodName := ⟨"FramePoolModel", "copy", "(II)I"⟩
abbrev b_M_diskWord : ByteArray := prog_4_method_17_code
def y_M_diskWord : MethodName := ⟨"FramePoolModel", "diskWord", "(II)I"⟩
abbrev b_M_resident : ByteArray := prog_4_method_18_code
def y_M_resident : MethodName := ⟨"FramePoolModel", "resident", "(I)Z"⟩
abbrev b_M_diskReads : ByteArray := prog_4_method_19_code
def y_M_diskReads : MethodName := ⟨"FramePoolModel", "diskReads", "()I"⟩
abbrev b_M_diskWrites : ByteArray := prog_4_method_20_code
def y_M_diskWrites : MethodName := ⟨"FramePoolModel", "diskWrites", "()I"⟩
abbrev b_M_told : ByteArray := prog_4_method_21_code
def y_M_told : MethodName := ⟨"FramePoolModel", "told", "(II)I"⟩
abbrev b_M_hand : ByteArray := prog_4_method_22_code
def y_M_hand : MethodName := ⟨"FramePoolModel", "hand", "()I"⟩
/-- the tables' words that stay under what is resolved behind: every method's words are its own code and these -/
def tbw : List Cond := lw_tbl.filter goodWord
theorem tbw_good : ∀ w ∈ tbw, goodWord w = true := fun w h => (List.mem_filter.mp h).2
theorem tbw_in : ∀ w ∈ tbw, w ∈ lw_tbl := fun w h => (List.mem_filter.mp h).1
theorem tbw_at {w : Cond} (i : Nat) (h : lw_tbl[i]? = some w) (hg : goodWord w = true) : w ∈ tbw := List.mem_filter.mpr ⟨List.mem_of_getElem? h, hg⟩
theorem s_X_isPage : (.selects "FramePool" y_X_isPage y_X_isPage : Cond) ∈ tbw := tbw_at 0 rfl rfl
theorem s_X_find : (.selects "FramePool" y_X_find y_X_find : Cond) ∈ tbw := tbw_at 1 rfl rfl
theorem s_X_place : (.selects "FramePool" y_X_place y_X_place : Cond) ∈ tbw := tbw_at 2 rfl rfl
theorem s_X_next : (.selects "FramePool" y_X_next y_X_next : Cond) ∈ tbw := tbw_at 3 rfl rfl
theorem s_X_write : (.selects "FramePool" y_X_write y_X_write : Cond) ∈ tbw := tbw_at 4 rfl rfl
theorem s_X_forget : (.selects "FramePool" y_X_forget y_X_forget : Cond) ∈ tbw := tbw_at 5 rfl rfl
theorem s_X_pinnedFrame : (.selects "FramePool" y_X_pinnedFrame y_X_pinnedFrame : Cond) ∈ tbw := tbw_at 6 rfl rfl
theorem s_X_isWord : (.selects "FramePool" y_X_isWord y_X_isWord : Cond) ∈ tbw := tbw_at 7 rfl rfl
theorem s_M_empty : (.selects "FramePoolModel" y_M_empty y_M_empty : Cond) ∈ tbw := tbw_at 8 rfl rfl
theorem s_M_isPage : (.selects "FramePoolModel" y_M_isPage y_M_isPage : Cond) ∈ tbw := tbw_at 9 rfl rfl
theorem s_M_frameOf : (.selects "FramePoolModel" y_M_frameOf y_M_frameOf : Cond) ∈ tbw := tbw_at 10 rfl rfl
theorem s_M_find : (.selects "FramePoolModel" y_M_find y_M_find : Cond) ∈ tbw := tbw_at 11 rfl rfl
theorem s_M_store : (.selects "FramePoolModel" y_M_store y_M_store : Cond) ∈ tbw := tbw_at 12 rfl rfl
theorem s_M_isPinned : (.selects "FramePoolModel" y_M_isPinned y_M_isPinned : Cond) ∈ tbw := tbw_at 13 rfl rfl
theorem ini_L : (.initialized "FramePoolLaw" : Cond) ∈ tbw := tbw_at 14 rfl rfl
theorem ini_X : (.initialized "FramePool" : Cond) ∈ tbw := tbw_at 15 rfl rfl
theorem ini_J : (.initialized "java/lang/Math" : Cond) ∈ tbw := tbw_at 16 rfl rfl
theorem ini_F : (.initialized "FramePool$Frame" : Cond) ∈ tbw := tbw_at 17 rfl rfl
theorem ini_M : (.initialized "FramePoolModel" : Cond) ∈ tbw := tbw_at 18 rfl rfl
theorem ini_Y : (.initialized "java/lang/System" : Cond) ∈ tbw := tbw_at 19 rfl rfl
theorem cl_L_7 : (.classLink "FramePoolLaw" 7 "FramePool" : Cond) ∈ tbw := tbw_at 20 rfl rfl
theorem ins_X : (.instantiable "FramePool" 8 : Cond) ∈ tbw := tbw_at 21 rfl rfl
theorem ml_L_15 : (.methodLink "FramePoolLaw" 15 y_X_new : Cond) ∈ tbw := tbw_at 22 rfl rfl
theorem im_X_new : (.instanceMethod y_X_new : Cond) ∈ tbw := tbw_at 23 rfl rfl
theorem co_X_new : (.code y_X_new b_X_new 5 none : Cond) ∈ tbw := tbw_at 24 rfl rfl
theorem ml_X_1 : (.methodLink "FramePool" 1 objectInit : Cond) ∈ tbw := tbw_at 25 rfl rfl
theorem im_O_new : (.instanceMethod objectInit : Cond) ∈ tbw := tbw_at 26 rfl rfl
theorem co_O_new : (.code objectInit ⟨#[0xb1]⟩ 1 none : Cond) ∈ tbw := tbw_at 27 rfl rfl
theorem cl_X_9 : (.classLink "FramePool" 9 "FramePool$Frame" : Cond) ∈ tbw := tbw_at 28 rfl rfl
theorem ml_X_15 : (.methodLink "FramePool" 15 Lib.Math.min.name : Cond) ∈ tbw := tbw_at 30 rfl rfl
theorem st_J_min : (.static Lib.Math.min.name : Cond) ∈ tbw := tbw_at 31 rfl rfl
theorem co_J_min : (.code Lib.Math.min.name Lib.Math.min.code 2 (some .int) : Cond) ∈ tbw := tbw_at 32 rfl rfl
theorem ml_X_21 : (.methodLink "FramePool" 21 Lib.Math.max.name : Cond) ∈ tbw := tbw_at 33 rfl rfl
theorem st_J_max : (.static Lib.Math.max.name : Cond) ∈ tbw := tbw_at 34 rfl rfl
theorem co_J_max : (.code Lib.Math.max.name Lib.Math.max.code 2 (some .int) : Cond) ∈ tbw := tbw_at 35 rfl rfl
theorem ins_F : (.instantiable "FramePool$Frame" 6 : Cond) ∈ tbw := tbw_at 36 rfl rfl
theorem ml_X_38 : (.methodLink "FramePool" 38 y_F_new : Cond) ∈ tbw := tbw_at 37 rfl rfl
theorem im_F_new : (.instanceMethod y_F_new : Cond) ∈ tbw := tbw_at 38 rfl rfl
theorem co_F_new : (.code y_F_new b_F_new 3 none : Cond) ∈ tbw := tbw_at 39 rfl rfl
theorem ml_F_3 : (.methodLink "FramePool$Frame" 3 objectInit : Cond) ∈ tbw := tbw_at 40 rfl rfl
theorem fl_F_15 : (.fieldLink "FramePool$Frame" 15 "FramePool$Frame" "number" "I" : Cond) ∈ tbw := tbw_at 41 rfl rfl
theorem fl_F_18 : (.fieldLink "FramePool$Frame" 18 "FramePool$Frame" "words" "[I" : Cond) ∈ tbw := tbw_at 43 rfl rfl
theorem fl_F_9 : (.fieldLink "FramePool$Frame" 9 "FramePool$Frame" "page" "I" : Cond) ∈ tbw := tbw_at 45 rfl rfl
theorem fl_F_22 : (.fieldLink "FramePool$Frame" 22 "FramePool$Frame" "pins" "I" : Cond) ∈ tbw := tbw_at 47 rfl rfl
theorem fl_F_25 : (.fieldLink "FramePool$Frame" 25 "FramePool$Frame" "isDirty" "Z" : Cond) ∈ tbw := tbw_at 49 rfl rfl
theorem fl_F_29 : (.fieldLink "FramePool$Frame" 29 "FramePool$Frame" "isMarked" "Z" : Cond) ∈ tbw := tbw_at 51 rfl rfl
theorem la_F_number : (.laysFinal "FramePool$Frame" "FramePool$Frame" "number" "I" : Cond) ∈ tbw := tbw_at 53 rfl rfl
theorem la_F_words : (.laysFinal "FramePool$Frame" "FramePool$Frame" "words" "[I" : Cond) ∈ tbw := tbw_at 55 rfl rfl
theorem la_F_page : (.lays "FramePool$Frame" "FramePool$Frame" "page" "I" : Cond) ∈ tbw := tbw_at 57 rfl rfl
theorem la_F_pins : (.lays "FramePool$Frame" "FramePool$Frame" "pins" "I" : Cond) ∈ tbw := tbw_at 59 rfl rfl
theorem la_F_isDirty : (.lays "FramePool$Frame" "FramePool$Frame" "isDirty" "Z" : Cond) ∈ tbw := tbw_at 61 rfl rfl
theorem la_F_isMarked : (.lays "FramePool$Frame" "FramePool$Frame" "isMarked" "Z" : Cond) ∈ tbw := tbw_at 63 rfl rfl
theorem ac_int : (.arrayClass .int : Cond) ∈ tbw := tbw_at 66 rfl rfl
theorem fl_X_24 : (.fieldLink "FramePool" 24 "FramePool" "pages" "I" : Cond) ∈ tbw := tbw_at 67 rfl rfl
theorem fl_X_28 : (.fieldLink "FramePool" 28 "FramePool" "pageWords" "I" : Cond) ∈ tbw := tbw_at 68 rfl rfl
theorem fl_X_31 : (.fieldLink "FramePool" 31 "FramePool" "disk" "[I" : Cond) ∈ tbw := tbw_at 69 rfl rfl
theorem fl_X_35 : (.fieldLink "FramePool" 35 "FramePool" "frames" "[LFramePool$Frame;" : Cond) ∈ tbw := tbw_at 70 rfl rfl
theorem fl_X_11 : (.fieldLink "FramePool" 11 "FramePool" "table" "[LFramePool$Frame;" : Cond) ∈ tbw := tbw_at 71 rfl rfl
theorem fl_X_44 : (.fieldLink "FramePool" 44 "FramePool" "hand" "I" : Cond) ∈ tbw := tbw_at 72 rfl rfl
theorem fl_X_47 : (.fieldLink "FramePool" 47 "FramePool" "reads" "I" : Cond) ∈ tbw := tbw_at 73 rfl rfl
theorem fl_X_50 : (.fieldLink "FramePool" 50 "FramePool" "writes" "I" : Cond) ∈ tbw := tbw_at 74 rfl rfl
theorem la_X_pages : (.laysFinal "FramePool" "FramePool" "pages" "I" : Cond) ∈ tbw := tbw_at 75 rfl rfl
theorem la_X_pageWords : (.laysFinal "FramePool" "FramePool" "pageWords" "I" : Cond) ∈ tbw := tbw_at 77 rfl rfl
theorem la_X_disk : (.laysFinal "FramePool" "FramePool" "disk" "[I" : Cond) ∈ tbw := tbw_at 79 rfl rfl
theorem la_X_frames : (.laysFinal "FramePool" "FramePool" "frames" "[LFramePool$Frame;" : Cond) ∈ tbw := tbw_at 81 rfl rfl
theorem la_X_table : (.laysFinal "FramePool" "FramePool" "table" "[LFramePool$Frame;" : Cond) ∈ tbw := tbw_at 83 rfl rfl
theorem la_X_hand : (.lays "FramePool" "FramePool" "hand" "I" : Cond) ∈ tbw := tbw_at 85 rfl rfl
theorem la_X_reads : (.lays "FramePool" "FramePool" "reads" "I" : Cond) ∈ tbw := tbw_at 87 rfl rfl
theorem la_X_writes : (.lays "FramePool" "FramePool" "writes" "I" : Cond) ∈ tbw := tbw_at 89 rfl rfl
theorem ml_L_21 : (.methodLink "FramePoolLaw" 21 y_X_init : Cond) ∈ tbw := tbw_at 92 rfl rfl
theorem im_X_init : (.instanceMethod y_X_init : Cond) ∈ tbw := tbw_at 93 rfl rfl
theorem s_X_init : (.selects "FramePool" y_X_init y_X_init : Cond) ∈ tbw := tbw_at 94 rfl rfl
theorem co_X_init : (.code y_X_init b_X_init 5 none : Cond) ∈ tbw := tbw_at 95 rfl rfl
theorem ml_X_41 : (.methodLink "FramePool" 41 y_F_clear : Cond) ∈ tbw := tbw_at 96 rfl rfl
theorem im_F_clear : (.instanceMethod y_F_clear : Cond) ∈ tbw := tbw_at 97 rfl rfl
theorem s_F_clear : (.selects "FramePool$Frame" y_F_clear y_F_clear : Cond) ∈ tbw := tbw_at 98 rfl rfl
theorem co_F_clear : (.code y_F_clear b_F_clear 1 none : Cond) ∈ tbw := tbw_at 99 rfl rfl
theorem ml_L_86 : (.methodLink "FramePoolLaw" 86 y_X_pinned : Cond) ∈ tbw := tbw_at 100 rfl rfl
theorem im_X_pinned : (.instanceMethod y_X_pinned : Cond) ∈ tbw := tbw_at 101 rfl rfl
theorem s_X_pinned : (.selects "FramePool" y_X_pinned y_X_pinned : Cond) ∈ tbw := tbw_at 102 rfl rfl
theorem co_X_pinned : (.code y_X_pinned b_X_pinned 6 (some .int) : Cond) ∈ tbw := tbw_at 103 rfl rfl
theorem ml_L_25 : (.methodLink "FramePoolLaw" 25 y_X_fetch : Cond) ∈ tbw := tbw_at 104 rfl rfl
theorem im_X_fetch : (.instanceMethod y_X_fetch : Cond) ∈ tbw := tbw_at 105 rfl rfl
theorem s_X_fetch : (.selects "FramePool" y_X_fetch y_X_fetch : Cond) ∈ tbw := tbw_at 106 rfl rfl
theorem co_X_fetch : (.code y_X_fetch b_X_fetch 3 (some .int) : Cond) ∈ tbw := tbw_at 107 rfl rfl
theorem ml_X_60 : (.methodLink "FramePool" 60 y_X_isPage : Cond) ∈ tbw := tbw_at 108 rfl rfl
theorem im_X_isPage : (.instanceMethod y_X_isPage : Cond) ∈ tbw := tbw_at 110 rfl rfl
theorem co_X_isPage : (.code y_X_isPage b_X_isPage 2 (some .boolean) : Cond) ∈ tbw := tbw_at 111 rfl rfl
theorem ml_X_93 : (.methodLink "FramePool" 93 y_X_find : Cond) ∈ tbw := tbw_at 112 rfl rfl
theorem im_X_find : (.instanceMethod y_X_find : Cond) ∈ tbw := tbw_at 114 rfl rfl
theorem co_X_find : (.code y_X_find b_X_find 2 (some (.object "FramePool$Frame")) : Cond) ∈ tbw := tbw_at 115 rfl rfl
theorem ml_X_64 : (.methodLink "FramePool" 64 y_X_place : Cond) ∈ tbw := tbw_at 116 rfl rfl
theorem im_X_place : (.instanceMethod y_X_place : Cond) ∈ tbw := tbw_at 118 rfl rfl
theorem co_X_place : (.code y_X_place b_X_place 3 (some .int) : Cond) ∈ tbw := tbw_at 119 rfl rfl
theorem ml_X_53 : (.methodLink "FramePool" 53 y_X_home : Cond) ∈ tbw := tbw_at 120 rfl rfl
theorem st_X_home : (.static y_X_home : Cond) ∈ tbw := tbw_at 121 rfl rfl
theorem co_X_home : (.code y_X_home b_X_home 1 (some .int) : Cond) ∈ tbw := tbw_at 122 rfl rfl
theorem ml_X_97 : (.methodLink "FramePool" 97 y_X_pinned : Cond) ∈ tbw := tbw_at 123 rfl rfl
theorem ml_X_101 : (.methodLink "FramePool" 101 y_X_next : Cond) ∈ tbw := tbw_at 124 rfl rfl
theorem im_X_next : (.instanceMethod y_X_next : Cond) ∈ tbw := tbw_at 126 rfl rfl
theorem co_X_next : (.code y_X_next b_X_next 3 (some (.object "FramePool$Frame")) : Cond) ∈ tbw := tbw_at 127 rfl rfl
theorem ml_X_86 : (.methodLink "FramePool" 86 y_X_write : Cond) ∈ tbw := tbw_at 128 rfl rfl
theorem im_X_write : (.instanceMethod y_X_write : Cond) ∈ tbw := tbw_at 130 rfl rfl
theorem co_X_write : (.code y_X_write b_X_write 2 none : Cond) ∈ tbw := tbw_at 131 rfl rfl
theorem ml_X_70 : (.methodLink "FramePool" 70 arraycopyName : Cond) ∈ tbw := tbw_at 132 rfl rfl
theorem st_copy : (.static arraycopyName : Cond) ∈ tbw := tbw_at 133 rfl rfl
theorem nat_copy : (.native arraycopyName : Cond) ∈ tbw := tbw_at 134 rfl rfl
theorem ml_X_90 : (.methodLink "FramePool" 90 y_X_forget : Cond) ∈ tbw := tbw_at 135 rfl rfl
theorem im_X_forget : (.instanceMethod y_X_forget : Cond) ∈ tbw := tbw_at 137 rfl rfl
theorem co_X_forget : (.code y_X_forget b_X_forget 6 none : Cond) ∈ tbw := tbw_at 138 rfl rfl
theorem ml_L_30 : (.methodLink "FramePoolLaw" 30 y_X_unpin : Cond) ∈ tbw := tbw_at 139 rfl rfl
theorem im_X_unpin : (.instanceMethod y_X_unpin : Cond) ∈ tbw := tbw_at 140 rfl rfl
theorem s_X_unpin : (.selects "FramePool" y_X_unpin y_X_unpin : Cond) ∈ tbw := tbw_at 141 rfl rfl
theorem co_X_unpin : (.code y_X_unpin b_X_unpin 3 (some .int) : Cond) ∈ tbw := tbw_at 142 rfl rfl
theorem ml_X_108 : (.methodLink "FramePool" 108 y_X_pinnedFrame : Cond) ∈ tbw := tbw_at 143 rfl rfl
theorem im_X_pinnedFrame : (.instanceMethod y_X_pinnedFrame : Cond) ∈ tbw := tbw_at 145 rfl rfl
theorem co_X_pinnedFrame : (.code y_X_pinnedFrame b_X_pinnedFrame 2 (some (.object "FramePool$Frame")) : Cond) ∈ tbw := tbw_at 146 rfl rfl
theorem ml_L_34 : (.methodLink "FramePoolLaw" 34 y_X_readWord : Cond) ∈ tbw := tbw_at 147 rfl rfl
theorem im_X_readWord : (.instanceMethod y_X_readWord : Cond) ∈ tbw := tbw_at 148 rfl rfl
theorem s_X_readWord : (.selects "FramePool" y_X_readWord y_X_readWord : Cond) ∈ tbw := tbw_at 149 rfl rfl
theorem co_X_readWord : (.code y_X_readWord b_X_readWord 4 (some .int) : Cond) ∈ tbw := tbw_at 150 rfl rfl
theorem ml_X_111 : (.methodLink "FramePool" 111 y_X_isWord : Cond) ∈ tbw := tbw_at 151 rfl rfl
theorem im_X_isWord : (.instanceMethod y_X_isWord : Cond) ∈ tbw := tbw_at 153 rfl rfl
theorem co_X_isWord : (.code y_X_isWord b_X_isWord 2 (some .boolean) : Cond) ∈ tbw := tbw_at 154 rfl rfl
theorem ml_L_39 : (.methodLink "FramePoolLaw" 39 y_X_writeWord : Cond) ∈ tbw := tbw_at 155 rfl rfl
theorem im_X_writeWord : (.instanceMethod y_X_writeWord : Cond) ∈ tbw := tbw_at 156 rfl rfl
theorem s_X_writeWord : (.selects "FramePool" y_X_writeWord y_X_writeWord : Cond) ∈ tbw := tbw_at 157 rfl rfl
theorem co_X_writeWord : (.code y_X_writeWord b_X_writeWord 5 (some .int) : Cond) ∈ tbw := tbw_at 158 rfl rfl
theorem ml_L_44 : (.methodLink "FramePoolLaw" 44 y_X_flush : Cond) ∈ tbw := tbw_at 159 rfl rfl
theorem im_X_flush : (.instanceMethod y_X_flush : Cond) ∈ tbw := tbw_at 160 rfl rfl
theorem s_X_flush : (.selects "FramePool" y_X_flush y_X_flush : Cond) ∈ tbw := tbw_at 161 rfl rfl
theorem co_X_flush : (.code y_X_flush b_X_flush 3 (some .int) : Cond) ∈ tbw := tbw_at 162 rfl rfl
theorem ml_L_48 : (.methodLink "FramePoolLaw" 48 y_X_flushAll : Cond) ∈ tbw := tbw_at 163 rfl rfl
theorem im_X_flushAll : (.instanceMethod y_X_flushAll : Cond) ∈ tbw := tbw_at 164 rfl rfl
theorem s_X_flushAll : (.selects "FramePool" y_X_flushAll y_X_flushAll : Cond) ∈ tbw := tbw_at 165 rfl rfl
theorem co_X_flushAll : (.code y_X_flushAll b_X_flushAll 6 (some .int) : Cond) ∈ tbw := tbw_at 166 rfl rfl
theorem ml_L_53 : (.methodLink "FramePoolLaw" 53 y_X_drop : Cond) ∈ tbw := tbw_at 167 rfl rfl
theorem im_X_drop : (.instanceMethod y_X_drop : Cond) ∈ tbw := tbw_at 168 rfl rfl
theorem s_X_drop : (.selects "FramePool" y_X_drop y_X_drop : Cond) ∈ tbw := tbw_at 169 rfl rfl
theorem co_X_drop : (.code y_X_drop b_X_drop 3 (some .boolean) : Cond) ∈ tbw := tbw_at 170 rfl rfl
theorem ml_L_58 : (.methodLink "FramePoolLaw" 58 y_X_copy : Cond) ∈ tbw := tbw_at 171 rfl rfl
theorem im_X_copy : (.instanceMethod y_X_copy : Cond) ∈ tbw := tbw_at 172 rfl rfl
theorem s_X_copy : (.selects "FramePool" y_X_copy y_X_copy : Cond) ∈ tbw := tbw_at 173 rfl rfl
theorem co_X_copy : (.code y_X_copy b_X_copy 5 (some .int) : Cond) ∈ tbw := tbw_at 174 rfl rfl
theorem ml_L_62 : (.methodLink "FramePoolLaw" 62 y_X_diskWord : Cond) ∈ tbw := tbw_at 175 rfl rfl
theorem im_X_diskWord : (.instanceMethod y_X_diskWord : Cond) ∈ tbw := tbw_at 176 rfl rfl
theorem s_X_diskWord : (.selects "FramePool" y_X_diskWord y_X_diskWord : Cond) ∈ tbw := tbw_at 177 rfl rfl
theorem co_X_diskWord : (.code y_X_diskWord b_X_diskWord 3 (some .int) : Cond) ∈ tbw := tbw_at 178 rfl rfl
theorem ml_L_66 : (.methodLink "FramePoolLaw" 66 y_X_resident : Cond) ∈ tbw := tbw_at 179 rfl rfl
theorem im_X_resident : (.instanceMethod y_X_resident : Cond) ∈ tbw := tbw_at 180 rfl rfl
theorem s_X_resident : (.selects "FramePool" y_X_resident y_X_resident : Cond) ∈ tbw := tbw_at 181 rfl rfl
theorem co_X_resident : (.code y_X_resident b_X_resident 2 (some .boolean) : Cond) ∈ tbw := tbw_at 182 rfl rfl
theorem ml_L_70 : (.methodLink "FramePoolLaw" 70 y_X_diskReads : Cond) ∈ tbw := tbw_at 183 rfl rfl
theorem im_X_diskReads : (.instanceMethod y_X_diskReads : Cond) ∈ tbw := tbw_at 184 rfl rfl
theorem s_X_diskReads : (.selects "FramePool" y_X_diskReads y_X_diskReads : Cond) ∈ tbw := tbw_at 185 rfl rfl
theorem co_X_diskReads : (.code y_X_diskReads b_X_diskReads 1 (some .int) : Cond) ∈ tbw := tbw_at 186 rfl rfl
theorem ml_L_74 : (.methodLink "FramePoolLaw" 74 y_X_diskWrites : Cond) ∈ tbw := tbw_at 187 rfl rfl
theorem im_X_diskWrites : (.instanceMethod y_X_diskWrites : Cond) ∈ tbw := tbw_at 188 rfl rfl
theorem s_X_diskWrites : (.selects "FramePool" y_X_diskWrites y_X_diskWrites : Cond) ∈ tbw := tbw_at 189 rfl rfl
theorem co_X_diskWrites : (.code y_X_diskWrites b_X_diskWrites 1 (some .int) : Cond) ∈ tbw := tbw_at 190 rfl rfl
theorem ml_L_78 : (.methodLink "FramePoolLaw" 78 y_X_told : Cond) ∈ tbw := tbw_at 191 rfl rfl
theorem im_X_told : (.instanceMethod y_X_told : Cond) ∈ tbw := tbw_at 192 rfl rfl
theorem s_X_told : (.selects "FramePool" y_X_told y_X_told : Cond) ∈ tbw := tbw_at 193 rfl rfl
theorem co_X_told : (.code y_X_told b_X_told 4 (some .int) : Cond) ∈ tbw := tbw_at 194 rfl rfl
theorem ml_L_82 : (.methodLink "FramePoolLaw" 82 y_X_hand : Cond) ∈ tbw := tbw_at 195 rfl rfl
theorem im_X_hand : (.instanceMethod y_X_hand : Cond) ∈ tbw := tbw_at 196 rfl rfl
theorem s_X_hand : (.selects "FramePool" y_X_hand y_X_hand : Cond) ∈ tbw := tbw_at 197 rfl rfl
theorem co_X_hand : (.code y_X_hand b_X_hand 1 (some .int) : Cond) ∈ tbw := tbw_at 198 rfl rfl
theorem ml_L_9 : (.methodLink "FramePoolLaw" 9 y_L_cell : Cond) ∈ tbw := tbw_at 199 rfl rfl
theorem st_L_cell : (.static y_L_cell : Cond) ∈ tbw := tbw_at 200 rfl rfl
theorem co_L_cell : (.code y_L_cell b_L_cell 2 (some .int) : Cond) ∈ tbw := tbw_at 201 rfl rfl
theorem cl_L_18 : (.classLink "FramePoolLaw" 18 "FramePoolModel" : Cond) ∈ tbw := tbw_at 202 rfl rfl
theorem ins_M : (.instantiable "FramePoolModel" 12 : Cond) ∈ tbw := tbw_at 203 rfl rfl
theorem ml_L_20 : (.methodLink "FramePoolLaw" 20 y_M_new : Cond) ∈ tbw := tbw_at 204 rfl rfl
theorem im_M_new : (.instanceMethod y_M_new : Cond) ∈ tbw := tbw_at 205 rfl rfl
theorem co_M_new : (.code y_M_new b_M_new 4 none : Cond) ∈ tbw := tbw_at 206 rfl rfl
theorem ml_M_1 : (.methodLink "FramePoolModel" 1 objectInit : Cond) ∈ tbw := tbw_at 207 rfl rfl
theorem ml_M_39 : (.methodLink "FramePoolModel" 39 y_M_init : Cond) ∈ tbw := tbw_at 208 rfl rfl
theorem im_M_init : (.instanceMethod y_M_init : Cond) ∈ tbw := tbw_at 209 rfl rfl
theorem s_M_init : (.selects "FramePoolModel" y_M_init y_M_init : Cond) ∈ tbw := tbw_at 210 rfl rfl
theorem co_M_init : (.code y_M_init b_M_init 2 none : Cond) ∈ tbw := tbw_at 211 rfl rfl
theorem ml_M_42 : (.methodLink "FramePoolModel" 42 y_M_empty : Cond) ∈ tbw := tbw_at 212 rfl rfl
theorem im_M_empty : (.instanceMethod y_M_empty : Cond) ∈ tbw := tbw_at 214 rfl rfl
theorem co_M_empty : (.code y_M_empty b_M_empty 2 none : Cond) ∈ tbw := tbw_at 215 rfl rfl
theorem fl_M_29 : (.fieldLink "FramePoolModel" 29 "FramePoolModel" "frames" "I" : Cond) ∈ tbw := tbw_at 216 rfl rfl
theorem fl_M_33 : (.fieldLink "FramePoolModel" 33 "FramePoolModel" "pages" "I" : Cond) ∈ tbw := tbw_at 217 rfl rfl
theorem fl_M_36 : (.fieldLink "FramePoolModel" 36 "FramePoolModel" "words" "I" : Cond) ∈ tbw := tbw_at 218 rfl rfl
theorem fl_M_7 : (.fieldLink "FramePoolModel" 7 "FramePoolModel" "disk" "[I" : Cond) ∈ tbw := tbw_at 219 rfl rfl
theorem fl_M_13 : (.fieldLink "FramePoolModel" 13 "FramePoolModel" "memory" "[I" : Cond) ∈ tbw := tbw_at 220 rfl rfl
theorem fl_M_16 : (.fieldLink "FramePoolModel" 16 "FramePoolModel" "page" "[I" : Cond) ∈ tbw := tbw_at 221 rfl rfl
theorem fl_M_19 : (.fieldLink "FramePoolModel" 19 "FramePoolModel" "pins" "[I" : Cond) ∈ tbw := tbw_at 222 rfl rfl
theorem fl_M_22 : (.fieldLink "FramePoolModel" 22 "FramePoolModel" "dirty" "[Z" : Cond) ∈ tbw := tbw_at 223 rfl rfl
theorem fl_M_26 : (.fieldLink "FramePoolModel" 26 "FramePoolModel" "mark" "[Z" : Cond) ∈ tbw := tbw_at 224 rfl rfl
theorem fl_M_46 : (.fieldLink "FramePoolModel" 46 "FramePoolModel" "at" "I" : Cond) ∈ tbw := tbw_at 225 rfl rfl
theorem fl_M_49 : (.fieldLink "FramePoolModel" 49 "FramePoolModel" "reads" "I" : Cond) ∈ tbw := tbw_at 226 rfl rfl
theorem fl_M_52 : (.fieldLink "FramePoolModel" 52 "FramePoolModel" "writes" "I" : Cond) ∈ tbw := tbw_at 227 rfl rfl
theorem la_M_frames : (.laysFinal "FramePoolModel" "FramePoolModel" "frames" "I" : Cond) ∈ tbw := tbw_at 228 rfl rfl
theorem la_M_pages : (.laysFinal "FramePoolModel" "FramePoolModel" "pages" "I" : Cond) ∈ tbw := tbw_at 230 rfl rfl
theorem la_M_words : (.laysFinal "FramePoolModel" "FramePoolModel" "words" "I" : Cond) ∈ tbw := tbw_at 232 rfl rfl
theorem la_M_disk : (.laysFinal "FramePoolModel" "FramePoolModel" "disk" "[I" : Cond) ∈ tbw := tbw_at 234 rfl rfl
theorem la_M_memory : (.laysFinal "FramePoolModel" "FramePoolModel" "memory" "[I" : Cond) ∈ tbw := tbw_at 236 rfl rfl
theorem la_M_page : (.laysFinal "FramePoolModel" "FramePoolModel" "page" "[I" : Cond) ∈ tbw := tbw_at 238 rfl rfl
theorem la_M_pins : (.laysFinal "FramePoolModel" "FramePoolModel" "pins" "[I" : Cond) ∈ tbw := tbw_at 240 rfl rfl
theorem la_M_dirty : (.laysFinal "FramePoolModel" "FramePoolModel" "dirty" "[Z" : Cond) ∈ tbw := tbw_at 242 rfl rfl
theorem la_M_mark : (.laysFinal "FramePoolModel" "FramePoolModel" "mark" "[Z" : Cond) ∈ tbw := tbw_at 244 rfl rfl
theorem la_M_at : (.lays "FramePoolModel" "FramePoolModel" "at" "I" : Cond) ∈ tbw := tbw_at 246 rfl rfl
theorem la_M_reads : (.lays "FramePoolModel" "FramePoolModel" "reads" "I" : Cond) ∈ tbw := tbw_at 248 rfl rfl
theorem la_M_writes : (.lays "FramePoolModel" "FramePoolModel" "writes" "I" : Cond) ∈ tbw := tbw_at 250 rfl rfl
theorem ac_boolean : (.arrayClass .boolean : Cond) ∈ tbw := tbw_at 253 rfl rfl
theorem ml_L_24 : (.methodLink "FramePoolLaw" 24 y_M_init : Cond) ∈ tbw := tbw_at 254 rfl rfl
theorem ml_L_29 : (.methodLink "FramePoolLaw" 29 y_M_fetch : Cond) ∈ tbw := tbw_at 255 rfl rfl
theorem im_M_fetch : (.instanceMethod y_M_fetch : Cond) ∈ tbw := tbw_at 256 rfl rfl
theorem s_M_fetch : (.selects "FramePoolModel" y_M_fetch y_M_fetch : Cond) ∈ tbw := tbw_at 257 rfl rfl
theorem co_M_fetch : (.code y_M_fetch b_M_fetch 4 (some .int) : Cond) ∈ tbw := tbw_at 258 rfl rfl
theorem ml_M_62 : (.methodLink "FramePoolModel" 62 y_M_isPage : Cond) ∈ tbw := tbw_at 259 rfl rfl
theorem im_M_isPage : (.instanceMethod y_M_isPage : Cond) ∈ tbw := tbw_at 261 rfl rfl
theorem co_M_isPage : (.code y_M_isPage b_M_isPage 2 (some .boolean) : Cond) ∈ tbw := tbw_at 262 rfl rfl
theorem ml_M_66 : (.methodLink "FramePoolModel" 66 y_M_frameOf : Cond) ∈ tbw := tbw_at 263 rfl rfl
theorem im_M_frameOf : (.instanceMethod y_M_frameOf : Cond) ∈ tbw := tbw_at 265 rfl rfl
theorem co_M_frameOf : (.code y_M_frameOf b_M_frameOf 3 (some .int) : Cond) ∈ tbw := tbw_at 266 rfl rfl
theorem ml_M_70 : (.methodLink "FramePoolModel" 70 y_M_find : Cond) ∈ tbw := tbw_at 267 rfl rfl
theorem im_M_find : (.instanceMethod y_M_find : Cond) ∈ tbw := tbw_at 269 rfl rfl
theorem co_M_find : (.code y_M_find b_M_find 2 (some .int) : Cond) ∈ tbw := tbw_at 270 rfl rfl
theorem ml_M_55 : (.methodLink "FramePoolModel" 55 y_M_pinned : Cond) ∈ tbw := tbw_at 271 rfl rfl
theorem im_M_pinned : (.instanceMethod y_M_pinned : Cond) ∈ tbw := tbw_at 272 rfl rfl
theorem s_M_pinned : (.selects "FramePoolModel" y_M_pinned y_M_pinned : Cond) ∈ tbw := tbw_at 273 rfl rfl
theorem co_M_pinned : (.code y_M_pinned b_M_pinned 3 (some .int) : Cond) ∈ tbw := tbw_at 274 rfl rfl
theorem ml_M_59 : (.methodLink "FramePoolModel" 59 y_M_store : Cond) ∈ tbw := tbw_at 275 rfl rfl
theorem im_M_store : (.instanceMethod y_M_store : Cond) ∈ tbw := tbw_at 277 rfl rfl
theorem co_M_store : (.code y_M_store b_M_store 3 none : Cond) ∈ tbw := tbw_at 278 rfl rfl
theorem ml_L_33 : (.methodLink "FramePoolLaw" 33 y_M_unpin : Cond) ∈ tbw := tbw_at 279 rfl rfl
theorem im_M_unpin : (.instanceMethod y_M_unpin : Cond) ∈ tbw := tbw_at 280 rfl rfl
theorem s_M_unpin : (.selects "FramePoolModel" y_M_unpin y_M_unpin : Cond) ∈ tbw := tbw_at 281 rfl rfl
theorem co_M_unpin : (.code y_M_unpin b_M_unpin 2 (some .int) : Cond) ∈ tbw := tbw_at 282 rfl rfl
theorem ml_M_73 : (.methodLink "FramePoolModel" 73 y_M_isPinned : Cond) ∈ tbw := tbw_at 283 rfl rfl
theorem im_M_isPinned : (.instanceMethod y_M_isPinned : Cond) ∈ tbw := tbw_at 285 rfl rfl
theorem co_M_isPinned : (.code y_M_isPinned b_M_isPinned 2 (some .boolean) : Cond) ∈ tbw := tbw_at 286 rfl rfl
theorem ml_L_38 : (.methodLink "FramePoolLaw" 38 y_M_readWord : Cond) ∈ tbw := tbw_at 287 rfl rfl
theorem im_M_readWord : (.instanceMethod y_M_readWord : Cond) ∈ tbw := tbw_at 288 rfl rfl
theorem s_M_readWord : (.selects "FramePoolModel" y_M_readWord y_M_readWord : Cond) ∈ tbw := tbw_at 289 rfl rfl
theorem co_M_readWord : (.code y_M_readWord b_M_readWord 3 (some .int) : Cond) ∈ tbw := tbw_at 290 rfl rfl
theorem ml_L_43 : (.methodLink "FramePoolLaw" 43 y_M_writeWord : Cond) ∈ tbw := tbw_at 291 rfl rfl
theorem im_M_writeWord : (.instanceMethod y_M_writeWord : Cond) ∈ tbw := tbw_at 292 rfl rfl
theorem s_M_writeWord : (.selects "FramePoolModel" y_M_writeWord y_M_writeWord : Cond) ∈ tbw := tbw_at 293 rfl rfl
theorem co_M_writeWord : (.code y_M_writeWord b_M_writeWord 4 (some .int) : Cond) ∈ tbw := tbw_at 294 rfl rfl
theorem ml_L_47 : (.methodLink "FramePoolLaw" 47 y_M_flush : Cond) ∈ tbw := tbw_at 295 rfl rfl
theorem im_M_flush : (.instanceMethod y_M_flush : Cond) ∈ tbw := tbw_at 296 rfl rfl
theorem s_M_flush : (.selects "FramePoolModel" y_M_flush y_M_flush : Cond) ∈ tbw := tbw_at 297 rfl rfl
theorem co_M_flush : (.code y_M_flush b_M_flush 3 (some .int) : Cond) ∈ tbw := tbw_at 298 rfl rfl
theorem ml_L_52 : (.methodLink "FramePoolLaw" 52 y_M_flushAll : Cond) ∈ tbw := tbw_at 299 rfl rfl
theorem im_M_flushAll : (.instanceMethod y_M_flushAll : Cond) ∈ tbw := tbw_at 300 rfl rfl
theorem s_M_flushAll : (.selects "FramePoolModel" y_M_flushAll y_M_flushAll : Cond) ∈ tbw := tbw_at 301 rfl rfl
theorem co_M_flushAll : (.code y_M_flushAll b_M_flushAll 3 (some .int) : Cond) ∈ tbw := tbw_at 302 rfl rfl
theorem ml_M_76 : (.methodLink "FramePoolModel" 76 y_M_flush : Cond) ∈ tbw := tbw_at 303 rfl rfl
theorem ml_L_57 : (.methodLink "FramePoolLaw" 57 y_M_drop : Cond) ∈ tbw := tbw_at 304 rfl rfl
theorem im_M_drop : (.instanceMethod y_M_drop : Cond) ∈ tbw := tbw_at 305 rfl rfl
theorem s_M_drop : (.selects "FramePoolModel" y_M_drop y_M_drop : Cond) ∈ tbw := tbw_at 306 rfl rfl
theorem co_M_drop : (.code y_M_drop b_M_drop 3 (some .boolean) : Cond) ∈ tbw := tbw_at 307 rfl rfl
theorem ml_L_61 : (.methodLink "FramePoolLaw" 61 y_M_copy : Cond) ∈ tbw := tbw_at 308 rfl rfl
theorem im_M_copy : (.instanceMethod y_M_copy : Cond) ∈ tbw := tbw_at 309 rfl rfl
theorem s_M_copy : (.selects "FramePoolModel" y_M_copy y_M_copy : Cond) ∈ tbw := tbw_at 310 rfl rfl
theorem co_M_copy : (.code y_M_copy b_M_copy 6 (some .int) : Cond) ∈ tbw := tbw_at 311 rfl rfl
theorem ml_L_65 : (.methodLink "FramePoolLaw" 65 y_M_diskWord : Cond) ∈ tbw := tbw_at 312 rfl rfl
theorem im_M_diskWord : (.instanceMethod y_M_diskWord : Cond) ∈ tbw := tbw_at 313 rfl rfl
theorem s_M_diskWord : (.selects "FramePoolModel" y_M_diskWord y_M_diskWord : Cond) ∈ tbw := tbw_at 314 rfl rfl
theorem co_M_diskWord : (.code y_M_diskWord b_M_diskWord 3 (some .int) : Cond) ∈ tbw := tbw_at 315 rfl rfl
theorem ml_L_69 : (.methodLink "FramePoolLaw" 69 y_M_resident : Cond) ∈ tbw := tbw_at 316 rfl rfl
theorem im_M_resident : (.instanceMethod y_M_resident : Cond) ∈ tbw := tbw_at 317 rfl rfl
theorem s_M_resident : (.selects "FramePoolModel" y_M_resident y_M_resident : Cond) ∈ tbw := tbw_at 318 rfl rfl
theorem co_M_resident : (.code y_M_resident b_M_resident 2 (some .boolean) : Cond) ∈ tbw := tbw_at 319 rfl rfl
theorem ml_L_73 : (.methodLink "FramePoolLaw" 73 y_M_diskReads : Cond) ∈ tbw := tbw_at 320 rfl rfl
theorem im_M_diskReads : (.instanceMethod y_M_diskReads : Cond) ∈ tbw := tbw_at 321 rfl rfl
theorem s_M_diskReads : (.selects "FramePoolModel" y_M_diskReads y_M_diskReads : Cond) ∈ tbw := tbw_at 322 rfl rfl
theorem co_M_diskReads : (.code y_M_diskReads b_M_diskReads 1 (some .int) : Cond) ∈ tbw := tbw_at 323 rfl rfl
theorem ml_L_77 : (.methodLink "FramePoolLaw" 77 y_M_diskWrites : Cond) ∈ tbw := tbw_at 324 rfl rfl
theorem im_M_diskWrites : (.instanceMethod y_M_diskWrites : Cond) ∈ tbw := tbw_at 325 rfl rfl
theorem s_M_diskWrites : (.selects "FramePoolModel" y_M_diskWrites y_M_diskWrites : Cond) ∈ tbw := tbw_at 326 rfl rfl
theorem co_M_diskWrites : (.code y_M_diskWrites b_M_diskWrites 1 (some .int) : Cond) ∈ tbw := tbw_at 327 rfl rfl
theorem ml_L_81 : (.methodLink "FramePoolLaw" 81 y_M_told : Cond) ∈ tbw := tbw_at 328 rfl rfl
theorem im_M_told : (.instanceMethod y_M_told : Cond) ∈ tbw := tbw_at 329 rfl rfl
theorem s_M_told : (.selects "FramePoolModel" y_M_told y_M_told : Cond) ∈ tbw := tbw_at 330 rfl rfl
theorem co_M_told : (.code y_M_told b_M_told 3 (some .int) : Cond) ∈ tbw := tbw_at 331 rfl rfl
theorem ml_L_85 : (.methodLink "FramePoolLaw" 85 y_M_hand : Cond) ∈ tbw := tbw_at 332 rfl rfl
theorem im_M_hand : (.instanceMethod y_M_hand : Cond) ∈ tbw := tbw_at 333 rfl rfl
theorem s_M_hand : (.selects "FramePoolModel" y_M_hand y_M_hand : Cond) ∈ tbw := tbw_at 334 rfl rfl
theorem co_M_hand : (.code y_M_hand b_M_hand 1 (some .int) : Cond) ∈ tbw := tbw_at 335 rfl rfl
theorem ml_L_89 : (.methodLink "FramePoolLaw" 89 y_M_pinned : Cond) ∈ tbw := tbw_at 336 rfl rfl
theorem i_X : ∀ w ∈ u_ws R_X F_X 8, w ∈ tbw := by
  intro w hw
  obtain ⟨k, hk, rfl⟩ := List.mem_map.mp hw
  have hk := List.mem_range.mp hk
  rcases (show k = 0 ∨ k = 1 ∨ k = 2 ∨ k = 3 ∨ k = 4 ∨ k = 5 ∨ k = 6 ∨ k = 7 by omega) with rfl | rfl | rfl | rfl | rfl | rfl | rfl | rfl
  · exact la_X_pages
  · exact la_X_pageWords
  · exact la_X_disk
  · exact la_X_frames
  · exact la_X_table
  · exact la_X_hand
  · exact la_X_reads
  · exact la_X_writes
theorem n_X : ∀ a, a < 8 → ∀ b, b < 8 → a ≠ b → (F_X a).2.1 ≠ (F_X b).2.1 := by decide +kernel
theorem t_X_ok : ∀ k, k < 8 → parseFieldDescriptor (F_X k).2.2.1 = some (t_X k) := by decide +kernel
theorem i_F : ∀ w ∈ u_ws R_F F_F 6, w ∈ tbw := by
  intro w hw
  obtain ⟨k, hk, rfl⟩ := List.mem_map.mp hw
  have hk := List.mem_range.mp hk
  rcases (show k = 0 ∨ k = 1 ∨ k = 2 ∨ k = 3 ∨ k = 4 ∨ k = 5 by omega) with rfl | rfl | rfl | rfl | rfl | rfl
  · exact la_F_number
  · exact la_F_words
  · exact la_F_page
  · exact la_F_pins
  · exact la_F_isDirty
  · exact la_F_isMarked
theorem n_F : ∀ a, a < 6 → ∀ b, b < 6 → a ≠ b → (F_F a).2.1 ≠ (F_F b).2.1 := by decide +kernel
theorem t_F_ok : ∀ k, k < 6 → parseFieldDescriptor (F_F k).2.2.1 = some (t_F k) := by decide +kernel
theorem i_M : ∀ w ∈ u_ws R_M F_M 12, w ∈ tbw := by
  intro w hw
  obtain ⟨k, hk, rfl⟩ := List.mem_map.mp hw
  have hk := List.mem_range.mp hk
  rcases (show k = 0 ∨ k = 1 ∨ k = 2 ∨ k = 3 ∨ k = 4 ∨ k = 5 ∨ k = 6 ∨ k = 7 ∨ k = 8 ∨ k = 9 ∨ k = 10 ∨ k = 11 by omega) with rfl | rfl | rfl | rfl | rfl | rfl | rfl | rfl | rfl | rfl | rfl | rfl
  · exact la_M_frames
  · exact la_M_pages
  · exact la_M_words
  · exact la_M_disk
  · exact la_M_memory
  · exact la_M_page
  · exact la_M_pins
  · exact la_M_dirty
  · exact la_M_mark
  · exact la_M_at
  · exact la_M_reads
  · exact la_M_writes
theorem n_M : ∀ a, a < 12 → ∀ b, b < 12 → a ≠ b → (F_M a).2.1 ≠ (F_M b).2.1 := by decide +kernel
theorem t_M_ok : ∀ k, k < 12 → parseFieldDescriptor (F_M k).2.2.1 = some (t_M k) := by decide +kernel
/-- what a call by invokevirtual, invokestatic, invokespecial of y asks of the tables -/
def lk0 (own : String) (index : Nat) (y : MethodName) (bytes : ByteArray) (maxL : Nat) (ret : Option FieldType) (n : Nat) : Prop := Cond.methodLink own index y ∈ tbw ∧ Cond.initialized y.cls ∈ tbw ∧ Cond.code y bytes maxL ret ∈ tbw ∧ (y.cls ≠ "java/lang/invoke/MethodHandle" ∧ y.cls ≠ "java/lang/invoke/VarHandle" ∧ (parseMethodDescriptor y.desc).map (fun d => d.parameters.length) = some n)
def lkV (own : String) (index : Nat) (C : String) (y : MethodName) (bytes : ByteArray) (maxL : Nat) (ret : Option FieldType) (n : Nat) : Prop := lk0 own index y bytes maxL ret n ∧ Cond.instanceMethod y ∈ tbw ∧ Cond.selects C y y ∈ tbw
def lkS (own : String) (index : Nat) (y : MethodName) (bytes : ByteArray) (maxL : Nat) (ret : Option FieldType) (n : Nat) : Prop := lk0 own index y bytes maxL ret n ∧ Cond.static y ∈ tbw
def lkI (own : String) (index : Nat) (y : MethodName) (bytes : ByteArray) (maxL : Nat) (n : Nat) : Prop := lk0 own index y bytes maxL none n ∧ y.name = "<init>" ∧ Cond.instanceMethod y ∈ tbw
theorem k_L_15 : lkI R_L 15 y_X_new b_X_new 5 3 := ⟨⟨ml_L_15, ini_X, co_X_new, by decide +kernel⟩, rfl, im_X_new⟩
theorem k_X_38 : lkI R_X 38 y_F_new b_F_new 3 2 := ⟨⟨ml_X_38, ini_F, co_F_new, by decide +kernel⟩, rfl, im_F_new⟩
theorem k_L_21 : lkV R_L 21 R_X y_X_init b_X_init 5 none 0 := ⟨⟨ml_L_21, ini_X, co_X_init, by decide +kernel⟩, im_X_init, s_X_init⟩
theorem k_X_41 : lkV R_X 41 R_F y_F_clear b_F_clear 1 none 0 := ⟨⟨ml_X_41, ini_F, co_F_clear, by decide +kernel⟩, im_F_clear, s_F_clear⟩
theorem k_L_86 : lkV R_L 86 R_X y_X_pinned b_X_pinned 6 (some .int) 0 := ⟨⟨ml_L_86, ini_X, co_X_pinned, by decide +kernel⟩, im_X_pinned, s_X_pinned⟩
theorem k_L_25 : lkV R_L 25 R_X y_X_fetch b_X_fetch 3 (some .int) 1 := ⟨⟨ml_L_25, ini_X, co_X_fetch, by decide +kernel⟩, im_X_fetch, s_X_fetch⟩
theorem k_X_60 : lkV R_X 60 R_X y_X_isPage b_X_isPage 2 (some .boolean) 1 := ⟨⟨ml_X_60, ini_X, co_X_isPage, by decide +kernel⟩, im_X_isPage, s_X_isPage⟩
theorem k_X_93 : lkV R_X 93 R_X y_X_find b_X_find 2 (some (.object "FramePool$Frame")) 1 := ⟨⟨ml_X_93, ini_X, co_X_find, by decide +kernel⟩, im_X_find, s_X_find⟩
theorem k_X_64 : lkV R_X 64 R_X y_X_place b_X_place 3 (some .int) 1 := ⟨⟨ml_X_64, ini_X, co_X_place, by decide +kernel⟩, im_X_place, s_X_place⟩
theorem k_X_53 : lkS R_X 53 y_X_home b_X_home 1 (some .int) 1 := ⟨⟨ml_X_53, ini_X, co_X_home, by decide +kernel⟩, st_X_home⟩
theorem k_X_97 : lkV R_X 97 R_X y_X_pinned b_X_pinned 6 (some .int) 0 := ⟨⟨ml_X_97, ini_X, co_X_pinned, by decide +kernel⟩, im_X_pinned, s_X_pinned⟩
theorem k_X_101 : lkV R_X 101 R_X y_X_next b_X_next 3 (some (.object "FramePool$Frame")) 0 := ⟨⟨ml_X_101, ini_X, co_X_next, by decide +kernel⟩, im_X_next, s_X_next⟩
theorem k_X_86 : lkV R_X 86 R_X y_X_write b_X_write 2 none 1 := ⟨⟨ml_X_86, ini_X, co_X_write, by decide +kernel⟩, im_X_write, s_X_write⟩
theorem k_X_90 : lkV R_X 90 R_X y_X_forget b_X_forget 6 none 1 := ⟨⟨ml_X_90, ini_X, co_X_forget, by decide +kernel⟩, im_X_forget, s_X_forget⟩
theorem k_L_30 : lkV R_L 30 R_X y_X_unpin b_X_unpin 3 (some .int) 1 := ⟨⟨ml_L_30, ini_X, co_X_unpin, by decide +kernel⟩, im_X_unpin, s_X_unpin⟩
theorem k_X_108 : lkV R_X 108 R_X y_X_pinnedFrame b_X_pinnedFrame 2 (some (.object "FramePool$Frame")) 1 := ⟨⟨ml_X_108, ini_X, co_X_pinnedFrame, by decide +kernel⟩, im_X_pinnedFrame, s_X_pinnedFrame⟩
theorem k_L_34 : lkV R_L 34 R_X y_X_readWord b_X_readWord 4 (some .int) 2 := ⟨⟨ml_L_34, ini_X, co_X_readWord, by decide +kernel⟩, im_X_readWord, s_X_readWord⟩
theorem k_X_111 : lkV R_X 111 R_X y_X_isWord b_X_isWord 2 (some .boolean) 1 := ⟨⟨ml_X_111, ini_X, co_X_isWord, by decide +kernel⟩, im_X_isWord, s_X_isWord⟩
theorem k_L_39 : lkV R_L 39 R_X y_X_writeWord b_X_writeWord 5 (some .int) 3 := ⟨⟨ml_L_39, ini_X, co_X_writeWord, by decide +kernel⟩, im_X_writeWord, s_X_writeWord⟩
theorem k_L_44 : lkV R_L 44 R_X y_X_flush b_X_flush 3 (some .int) 1 := ⟨⟨ml_L_44, ini_X, co_X_flush, by decide +kernel⟩, im_X_flush, s_X_flush⟩
theorem k_L_48 : lkV R_L 48 R_X y_X_flushAll b_X_flushAll 6 (some .int) 0 := ⟨⟨ml_L_48, ini_X, co_X_flushAll, by decide +kernel⟩, im_X_flushAll, s_X_flushAll⟩
theorem k_L_53 : lkV R_L 53 R_X y_X_drop b_X_drop 3 (some .boolean) 1 := ⟨⟨ml_L_53, ini_X, co_X_drop, by decide +kernel⟩, im_X_drop, s_X_drop⟩
theorem k_L_58 : lkV R_L 58 R_X y_X_copy b_X_copy 5 (some .int) 2 := ⟨⟨ml_L_58, ini_X, co_X_copy, by decide +kernel⟩, im_X_copy, s_X_copy⟩
theorem k_L_62 : lkV R_L 62 R_X y_X_diskWord b_X_diskWord 3 (some .int) 2 := ⟨⟨ml_L_62, ini_X, co_X_diskWord, by decide +kernel⟩, im_X_diskWord, s_X_diskWord⟩
theorem k_L_66 : lkV R_L 66 R_X y_X_resident b_X_resident 2 (some .boolean) 1 := ⟨⟨ml_L_66, ini_X, co_X_resident, by decide +kernel⟩, im_X_resident, s_X_resident⟩
theorem k_L_70 : lkV R_L 70 R_X y_X_diskReads b_X_diskReads 1 (some .int) 0 := ⟨⟨ml_L_70, ini_X, co_X_diskReads, by decide +kernel⟩, im_X_diskReads, s_X_diskReads⟩
theorem k_L_74 : lkV R_L 74 R_X y_X_diskWrites b_X_diskWrites 1 (some .int) 0 := ⟨⟨ml_L_74, ini_X, co_X_diskWrites, by decide +kernel⟩, im_X_diskWrites, s_X_diskWrites⟩
theorem k_L_78 : lkV R_L 78 R_X y_X_told b_X_told 4 (some .int) 2 := ⟨⟨ml_L_78, ini_X, co_X_told, by decide +kernel⟩, im_X_told, s_X_told⟩
theorem k_L_82 : lkV R_L 82 R_X y_X_hand b_X_hand 1 (some .int) 0 := ⟨⟨ml_L_82, ini_X, co_X_hand, by decide +kernel⟩, im_X_hand, s_X_hand⟩
theorem k_L_9 : lkS R_L 9 y_L_cell b_L_cell 2 (some .int) 2 := ⟨⟨ml_L_9, ini_L, co_L_cell, by decide +kernel⟩, st_L_cell⟩
theorem k_L_20 : lkI R_L 20 y_M_new b_M_new 4 3 := ⟨⟨ml_L_20, ini_M, co_M_new, by decide +kernel⟩, rfl, im_M_new⟩
theorem k_M_39 : lkV R_M 39 R_M y_M_init b_M_init 2 none 0 := ⟨⟨ml_M_39, ini_M, co_M_init, by decide +kernel⟩, im_M_init, s_M_init⟩
theorem k_M_42 : lkV R_M 42 R_M y_M_empty b_M_empty 2 none 1 := ⟨⟨ml_M_42, ini_M, co_M_empty, by decide +kernel⟩, im_M_empty, s_M_empty⟩
theorem k_L_24 : lkV R_L 24 R_M y_M_init b_M_init 2 none 0 := ⟨⟨ml_L_24, ini_M, co_M_init, by decide +kernel⟩, im_M_init, s_M_init⟩
theorem k_L_29 : lkV R_L 29 R_M y_M_fetch b_M_fetch 4 (some .int) 1 := ⟨⟨ml_L_29, ini_M, co_M_fetch, by decide +kernel⟩, im_M_fetch, s_M_fetch⟩
theorem k_M_62 : lkV R_M 62 R_M y_M_isPage b_M_isPage 2 (some .boolean) 1 := ⟨⟨ml_M_62, ini_M, co_M_isPage, by decide +kernel⟩, im_M_isPage, s_M_isPage⟩
theorem k_M_66 : lkV R_M 66 R_M y_M_frameOf b_M_frameOf 3 (some .int) 1 := ⟨⟨ml_M_66, ini_M, co_M_frameOf, by decide +kernel⟩, im_M_frameOf, s_M_frameOf⟩
theorem k_M_70 : lkV R_M 70 R_M y_M_find b_M_find 2 (some .int) 0 := ⟨⟨ml_M_70, ini_M, co_M_find, by decide +kernel⟩, im_M_find, s_M_find⟩
theorem k_M_55 : lkV R_M 55 R_M y_M_pinned b_M_pinned 3 (some .int) 0 := ⟨⟨ml_M_55, ini_M, co_M_pinned, by decide +kernel⟩, im_M_pinned, s_M_pinned⟩
theorem k_M_59 : lkV R_M 59 R_M y_M_store b_M_store 3 none 1 := ⟨⟨ml_M_59, ini_M, co_M_store, by decide +kernel⟩, im_M_store, s_M_store⟩
theorem k_L_33 : lkV R_L 33 R_M y_M_unpin b_M_unpin 2 (some .int) 1 := ⟨⟨ml_L_33, ini_M, co_M_unpin, by decide +kernel⟩, im_M_unpin, s_M_unpin⟩
theorem k_M_73 : lkV R_M 73 R_M y_M_isPinned b_M_isPinned 2 (some .boolean) 1 := ⟨⟨ml_M_73, ini_M, co_M_isPinned, by decide +kernel⟩, im_M_isPinned, s_M_isPinned⟩
theorem k_L_38 : lkV R_L 38 R_M y_M_readWord b_M_readWord 3 (some .int) 2 := ⟨⟨ml_L_38, ini_M, co_M_readWord, by decide +kernel⟩, im_M_readWord, s_M_readWord⟩
theorem k_L_43 : lkV R_L 43 R_M y_M_writeWord b_M_writeWord 4 (some .int) 3 := ⟨⟨ml_L_43, ini_M, co_M_writeWord, by decide +kernel⟩, im_M_writeWord, s_M_writeWord⟩
theorem k_L_47 : lkV R_L 47 R_M y_M_flush b_M_flush 3 (some .int) 1 := ⟨⟨ml_L_47, ini_M, co_M_flush, by decide +kernel⟩, im_M_flush, s_M_flush⟩
theorem k_L_52 : lkV R_L 52 R_M y_M_flushAll b_M_flushAll 3 (some .int) 0 := ⟨⟨ml_L_52, ini_M, co_M_flushAll, by decide +kernel⟩, im_M_flushAll, s_M_flushAll⟩
theorem k_M_76 : lkV R_M 76 R_M y_M_flush b_M_flush 3 (some .int) 1 := ⟨⟨ml_M_76, ini_M, co_M_flush, by decide +kernel⟩, im_M_flush, s_M_flush⟩
theorem k_L_57 : lkV R_L 57 R_M y_M_drop b_M_drop 3 (some .boolean) 1 := ⟨⟨ml_L_57, ini_M, co_M_drop, by decide +kernel⟩, im_M_drop, s_M_drop⟩
theorem k_L_61 : lkV R_L 61 R_M y_M_copy b_M_copy 6 (some .int) 2 := ⟨⟨ml_L_61, ini_M, co_M_copy, by decide +kernel⟩, im_M_copy, s_M_copy⟩
theorem k_L_65 : lkV R_L 65 R_M y_M_diskWord b_M_diskWord 3 (some .int) 2 := ⟨⟨ml_L_65, ini_M, co_M_diskWord, by decide +kernel⟩, im_M_diskWord, s_M_diskWord⟩
theorem k_L_69 : lkV R_L 69 R_M y_M_resident b_M_resident 2 (some .boolean) 1 := ⟨⟨ml_L_69, ini_M, co_M_resident, by decide +kernel⟩, im_M_resident, s_M_resident⟩
theorem k_L_73 : lkV R_L 73 R_M y_M_diskReads b_M_diskReads 1 (some .int) 0 := ⟨⟨ml_L_73, ini_M, co_M_diskReads, by decide +kernel⟩, im_M_diskReads, s_M_diskReads⟩
theorem k_L_77 : lkV R_L 77 R_M y_M_diskWrites b_M_diskWrites 1 (some .int) 0 := ⟨⟨ml_L_77, ini_M, co_M_diskWrites, by decide +kernel⟩, im_M_diskWrites, s_M_diskWrites⟩
theorem k_L_81 : lkV R_L 81 R_M y_M_told b_M_told 3 (some .int) 2 := ⟨⟨ml_L_81, ini_M, co_M_told, by decide +kernel⟩, im_M_told, s_M_told⟩
theorem k_L_85 : lkV R_L 85 R_M y_M_hand b_M_hand 1 (some .int) 0 := ⟨⟨ml_L_85, ini_M, co_M_hand, by decide +kernel⟩, im_M_hand, s_M_hand⟩
theorem k_L_89 : lkV R_L 89 R_M y_M_pinned b_M_pinned 3 (some .int) 0 := ⟨⟨ml_L_89, ini_M, co_M_pinned, by decide +kernel⟩, im_M_pinned, s_M_pinned⟩
end
section
theorem d_X_new_0 : decode b_X_new 0 = .ok (.aload_n 0, 1) := by decide +kernel
theorem d_X_new_1 : decode b_X_new 1 = .ok (.invokespecial 1, 3) := by decide +kernel
theorem d_X_new_4 : decode b_X_new 4 = .ok (.aload_n 0, 1) := by decide +kernel
theorem d_X_new_5 : decode b_X_new 5 = .ok (.bipush 64, 2) := by decide +kernel
theorem d_X_new_7 : decode b_X_new 7 = .ok (.anewarray 9, 3) := by decide +kernel
theorem d_X_new_10 : decode b_X_new 10 = .ok (.putfield 11, 3) := by decide +kernel
theorem d_X_new_13 : decode b_X_new 13 = .ok (.aload_n 0, 1) := by decide +kernel
theorem d_X_new_14 : decode b_X_new 14 = .ok (.iconst 1, 1) := by decide +kernel
theorem d_X_new_15 : decode b_X_new 15 = .ok (.sipush 200, 3) := by decide +kernel
theorem d_X_new_18 : decode b_X_new 18 = .ok (.iload_n 2, 1) := by decide +kernel
theorem d_X_new_19 : decode b_X_new 19 = .ok (.invokestatic 15, 3) := by decide +kernel
theorem d_X_new_22 : decode b_X_new 22 = .ok (.invokestatic 21, 3) := by decide +kernel
theorem d_X_new_25 : decode b_X_new 25 = .ok (.putfield 24, 3) := by decide +kernel
theorem d_X_new_28 : decode b_X_new 28 = .ok (.aload_n 0, 1) := by decide +kernel
theorem d_X_new_29 : decode b_X_new 29 = .ok (.iconst 1, 1) := by decide +kernel
theorem d_X_new_30 : decode b_X_new 30 = .ok (.bipush 8, 2) := by decide +kernel
theorem d_X_new_32 : decode b_X_new 32 = .ok (.iload_n 3, 1) := by decide +kernel
theorem d_X_new_33 : decode b_X_new 33 = .ok (.invokestatic 15, 3) := by decide +kernel
theorem d_X_new_36 : decode b_X_new 36 = .ok (.invokestatic 21, 3) := by decide +kernel
theorem d_X_new_39 : decode b_X_new 39 = .ok (.putfield 28, 3) := by decide +kernel
theorem d_X_new_42 : decode b_X_new 42 = .ok (.aload_n 0, 1) := by decide +kernel
theorem d_X_new_43 : decode b_X_new 43 = .ok (.aload_n 0, 1) := by decide +kernel
theorem d_X_new_44 : decode b_X_new 44 = .ok (.getfield 24, 3) := by decide +kernel
theorem d_X_new_47 : decode b_X_new 47 = .ok (.aload_n 0, 1) := by decide +kernel
theorem d_X_new_48 : decode b_X_new 48 = .ok (.getfield 28, 3) := by decide +kernel
theorem d_X_new_51 : decode b_X_new 51 = .ok (.imul, 1) := by decide +kernel
theorem d_X_new_52 : decode b_X_new 52 = .ok (.newarray .int, 2) := by decide +kernel
theorem d_X_new_54 : decode b_X_new 54 = .ok (.putfield 31, 3) := by decide +kernel
theorem d_X_new_57 : decode b_X_new 57 = .ok (.aload_n 0, 1) := by decide +kernel
theorem d_X_new_58 : decode b_X_new 58 = .ok (.iconst 1, 1) := by decide +kernel
theorem d_X_new_59 : decode b_X_new 59 = .ok (.bipush 32, 2) := by decide +kernel
theorem d_X_new_61 : decode b_X_new 61 = .ok (.iload_n 1, 1) := by decide +kernel
theorem d_X_new_62 : decode b_X_new 62 = .ok (.invokestatic 15, 3) := by decide +kernel
theorem d_X_new_65 : decode b_X_new 65 = .ok (.invokestatic 21, 3) := by decide +kernel
theorem d_X_new_68 : decode b_X_new 68 = .ok (.anewarray 9, 3) := by decide +kernel
theorem d_X_new_71 : decode b_X_new 71 = .ok (.putfield 35, 3) := by decide +kernel
theorem d_X_new_74 : decode b_X_new 74 = .ok (.iconst 0, 1) := by decide +kernel
theorem d_X_new_75 : decode b_X_new 75 = .ok (.istore 4, 2) := by decide +kernel
theorem d_X_new_77 : decode b_X_new 77 = .ok (.iload 4, 2) := by decide +kernel
theorem d_X_new_79 : decode b_X_new 79 = .ok (.aload_n 0, 1) := by decide +kernel
theorem d_X_new_80 : decode b_X_new 80 = .ok (.getfield 35, 3) := by decide +kernel
theorem d_X_new_83 : decode b_X_new 83 = .ok (.arraylength, 1) := by decide +kernel
theorem d_X_new_84 : decode b_X_new 84 = .ok (.if_icmp .ge 29, 3) := by decide +kernel
theorem d_X_new_87 : decode b_X_new 87 = .ok (.aload_n 0, 1) := by decide +kernel
theorem d_X_new_88 : decode b_X_new 88 = .ok (.getfield 35, 3) := by decide +kernel
theorem d_X_new_91 : decode b_X_new 91 = .ok (.iload 4, 2) := by decide +kernel
theorem d_X_new_93 : decode b_X_new 93 = .ok (.new 9, 3) := by decide +kernel
theorem d_X_new_96 : decode b_X_new 96 = .ok (.dup, 1) := by decide +kernel
theorem d_X_new_97 : decode b_X_new 97 = .ok (.iload 4, 2) := by decide +kernel
theorem d_X_new_99 : decode b_X_new 99 = .ok (.aload_n 0, 1) := by decide +kernel
theorem d_X_new_100 : decode b_X_new 100 = .ok (.getfield 28, 3) := by decide +kernel
theorem d_X_new_103 : decode b_X_new 103 = .ok (.invokespecial 38, 3) := by decide +kernel
theorem d_X_new_106 : decode b_X_new 106 = .ok (.aastore, 1) := by decide +kernel
theorem d_X_new_107 : decode b_X_new 107 = .ok (.iinc 4 1, 3) := by decide +kernel
theorem d_X_new_110 : decode b_X_new 110 = .ok (.goto (-33), 3) := by decide +kernel
theorem d_X_new_113 : decode b_X_new 113 = .ok (.return_, 1) := by decide +kernel
theorem d_F_new_0 : decode b_F_new 0 = .ok (.aload_n 0, 1) := by decide +kernel
theorem d_F_new_1 : decode b_F_new 1 = .ok (.invokespecial 3, 3) := by decide +kernel
theorem d_F_new_4 : decode b_F_new 4 = .ok (.aload_n 0, 1) := by decide +kernel
theorem d_F_new_5 : decode b_F_new 5 = .ok (.iconst (-1), 1) := by decide +kernel
theorem d_F_new_6 : decode b_F_new 6 = .ok (.putfield 9, 3) := by decide +kernel
theorem d_F_new_9 : decode b_F_new 9 = .ok (.aload_n 0, 1) := by decide +kernel
theorem d_F_new_10 : decode b_F_new 10 = .ok (.iload_n 1, 1) := by decide +kernel
theorem d_F_new_11 : decode b_F_new 11 = .ok (.putfield 15, 3) := by decide +kernel
theorem d_F_new_14 : decode b_F_new 14 = .ok (.aload_n 0, 1) := by decide +kernel
theorem d_F_new_15 : decode b_F_new 15 = .ok (.iload_n 2, 1) := by decide +kernel
theorem d_F_new_16 : decode b_F_new 16 = .ok (.newarray .int, 2) := by decide +kernel
theorem d_F_new_18 : decode b_F_new 18 = .ok (.putfield 18, 3) := by decide +kernel
theorem d_F_new_21 : decode b_F_new 21 = .ok (.return_, 1) := by decide +kernel
theorem d_X_init_0 : decode b_X_init 0 = .ok (.aload_n 0, 1) := by decide +kernel
theorem d_X_init_1 : decode b_X_init 1 = .ok (.getfield 35, 3) := by decide +kernel
theorem d_X_init_4 : decode b_X_init 4 = .ok (.astore_n 1, 1) := by decide +kernel
theorem d_X_init_5 : decode b_X_init 5 = .ok (.aload_n 1, 1) := by decide +kernel
theorem d_X_init_6 : decode b_X_init 6 = .ok (.arraylength, 1) := by decide +kernel
theorem d_X_init_7 : decode b_X_init 7 = .ok (.istore_n 2, 1) := by decide +kernel
theorem d_X_init_8 : decode b_X_init 8 = .ok (.iconst 0, 1) := by decide +kernel
theorem d_X_init_9 : decode b_X_init 9 = .ok (.istore_n 3, 1) := by decide +kernel
theorem d_X_init_10 : decode b_X_init 10 = .ok (.iload_n 3, 1) := by decide +kernel
theorem d_X_init_11 : decode b_X_init 11 = .ok (.iload_n 2, 1) := by decide +kernel
theorem d_X_init_12 : decode b_X_init 12 = .ok (.if_icmp .ge 19, 3) := by decide +kernel
theorem d_X_init_15 : decode b_X_init 15 = .ok (.aload_n 1, 1) := by decide +kernel
theorem d_X_init_16 : decode b_X_init 16 = .ok (.iload_n 3, 1) := by decide +kernel
theorem d_X_init_17 : decode b_X_init 17 = .ok (.aaload, 1) := by decide +kernel
theorem d_X_init_18 : decode b_X_init 18 = .ok (.astore 4, 2) := by decide +kernel
theorem d_X_init_20 : decode b_X_init 20 = .ok (.aload 4, 2) := by decide +kernel
theorem d_X_init_22 : decode b_X_init 22 = .ok (.invokevirtual 41, 3) := by decide +kernel
theorem d_X_init_25 : decode b_X_init 25 = .ok (.iinc 3 1, 3) := by decide +kernel
theorem d_X_init_28 : decode b_X_init 28 = .ok (.goto (-18), 3) := by decide +kernel
theorem d_X_init_31 : decode b_X_init 31 = .ok (.iconst 0, 1) := by decide +kernel
theorem d_X_init_32 : decode b_X_init 32 = .ok (.istore_n 1, 1) := by decide +kernel
theorem d_X_init_33 : decode b_X_init 33 = .ok (.iload_n 1, 1) := by decide +kernel
theorem d_X_init_34 : decode b_X_init 34 = .ok (.bipush 64, 2) := by decide +kernel
theorem d_X_init_36 : decode b_X_init 36 = .ok (.if_icmp .ge 16, 3) := by decide +kernel
theorem d_X_init_39 : decode b_X_init 39 = .ok (.aload_n 0, 1) := by decide +kernel
theorem d_X_init_40 : decode b_X_init 40 = .ok (.getfield 11, 3) := by decide +kernel
theorem d_X_init_43 : decode b_X_init 43 = .ok (.iload_n 1, 1) := by decide +kernel
theorem d_X_init_44 : decode b_X_init 44 = .ok (.aconst_null, 1) := by decide +kernel
theorem d_X_init_45 : decode b_X_init 45 = .ok (.aastore, 1) := by decide +kernel
theorem d_X_init_46 : decode b_X_init 46 = .ok (.iinc 1 1, 3) := by decide +kernel
theorem d_X_init_49 : decode b_X_init 49 = .ok (.goto (-16), 3) := by decide +kernel
theorem d_X_init_52 : decode b_X_init 52 = .ok (.iconst 0, 1) := by decide +kernel
theorem d_X_init_53 : decode b_X_init 53 = .ok (.istore_n 1, 1) := by decide +kernel
theorem d_X_init_54 : decode b_X_init 54 = .ok (.iload_n 1, 1) := by decide +kernel
theorem d_X_init_55 : decode b_X_init 55 = .ok (.aload_n 0, 1) := by decide +kernel
theorem d_X_init_56 : decode b_X_init 56 = .ok (.getfield 31, 3) := by decide +kernel
theorem d_X_init_59 : decode b_X_init 59 = .ok (.arraylength, 1) := by decide +kernel
theorem d_X_init_60 : decode b_X_init 60 = .ok (.if_icmp .ge 16, 3) := by decide +kernel
theorem d_X_init_63 : decode b_X_init 63 = .ok (.aload_n 0, 1) := by decide +kernel
theorem d_X_init_64 : decode b_X_init 64 = .ok (.getfield 31, 3) := by decide +kernel
theorem d_X_init_67 : decode b_X_init 67 = .ok (.iload_n 1, 1) := by decide +kernel
theorem d_X_init_68 : decode b_X_init 68 = .ok (.iconst 0, 1) := by decide +kernel
theorem d_X_init_69 : decode b_X_init 69 = .ok (.iastore, 1) := by decide +kernel
theorem d_X_init_70 : decode b_X_init 70 = .ok (.iinc 1 1, 3) := by decide +kernel
theorem d_X_init_73 : decode b_X_init 73 = .ok (.goto (-19), 3) := by decide +kernel
theorem d_X_init_76 : decode b_X_init 76 = .ok (.aload_n 0, 1) := by decide +kernel
theorem d_X_init_77 : decode b_X_init 77 = .ok (.iconst 0, 1) := by decide +kernel
theorem d_X_init_78 : decode b_X_init 78 = .ok (.putfield 44, 3) := by decide +kernel
theorem d_X_init_81 : decode b_X_init 81 = .ok (.aload_n 0, 1) := by decide +kernel
theorem d_X_init_82 : decode b_X_init 82 = .ok (.iconst 0, 1) := by decide +kernel
theorem d_X_init_83 : decode b_X_init 83 = .ok (.putfield 47, 3) := by decide +kernel
theorem d_X_init_86 : decode b_X_init 86 = .ok (.aload_n 0, 1) := by decide +kernel
theorem d_X_init_87 : decode b_X_init 87 = .ok (.iconst 0, 1) := by decide +kernel
theorem d_X_init_88 : decode b_X_init 88 = .ok (.putfield 50, 3) := by decide +kernel
theorem d_X_init_91 : decode b_X_init 91 = .ok (.return_, 1) := by decide +kernel
theorem d_F_clear_0 : decode b_F_clear 0 = .ok (.aload_n 0, 1) := by decide +kernel
theorem d_F_clear_1 : decode b_F_clear 1 = .ok (.iconst (-1), 1) := by decide +kernel
theorem d_F_clear_2 : decode b_F_clear 2 = .ok (.putfield 9, 3) := by decide +kernel
theorem d_F_clear_5 : decode b_F_clear 5 = .ok (.aload_n 0, 1) := by decide +kernel
theorem d_F_clear_6 : decode b_F_clear 6 = .ok (.iconst 0, 1) := by decide +kernel
theorem d_F_clear_7 : decode b_F_clear 7 = .ok (.putfield 22, 3) := by decide +kernel
theorem d_F_clear_10 : decode b_F_clear 10 = .ok (.aload_n 0, 1) := by decide +kernel
theorem d_F_clear_11 : decode b_F_clear 11 = .ok (.iconst 0, 1) := by decide +kernel
theorem d_F_clear_12 : decode b_F_clear 12 = .ok (.putfield 25, 3) := by decide +kernel
theorem d_F_clear_15 : decode b_F_clear 15 = .ok (.aload_n 0, 1) := by decide +kernel
theorem d_F_clear_16 : decode b_F_clear 16 = .ok (.iconst 0, 1) := by decide +kernel
theorem d_F_clear_17 : decode b_F_clear 17 = .ok (.putfield 29, 3) := by decide +kernel
theorem d_F_clear_20 : decode b_F_clear 20 = .ok (.return_, 1) := by decide +kernel
theorem d_X_pinned_0 : decode b_X_pinned 0 = .ok (.iconst 0, 1) := by decide +kernel
theorem d_X_pinned_1 : decode b_X_pinned 1 = .ok (.istore_n 1, 1) := by decide +kernel
theorem d_X_pinned_2 : decode b_X_pinned 2 = .ok (.aload_n 0, 1) := by decide +kernel
theorem d_X_pinned_3 : decode b_X_pinned 3 = .ok (.getfield 35, 3) := by decide +kernel
theorem d_X_pinned_6 : decode b_X_pinned 6 = .ok (.astore_n 2, 1) := by decide +kernel
theorem d_X_pinned_7 : decode b_X_pinned 7 = .ok (.aload_n 2, 1) := by decide +kernel
theorem d_X_pinned_8 : decode b_X_pinned 8 = .ok (.arraylength, 1) := by decide +kernel
theorem d_X_pinned_9 : decode b_X_pinned 9 = .ok (.istore_n 3, 1) := by decide +kernel
theorem d_X_pinned_10 : decode b_X_pinned 10 = .ok (.iconst 0, 1) := by decide +kernel
theorem d_X_pinned_11 : decode b_X_pinned 11 = .ok (.istore 4, 2) := by decide +kernel
theorem d_X_pinned_13 : decode b_X_pinned 13 = .ok (.iload 4, 2) := by decide +kernel
theorem d_X_pinned_15 : decode b_X_pinned 15 = .ok (.iload_n 3, 1) := by decide +kernel
theorem d_X_pinned_16 : decode b_X_pinned 16 = .ok (.if_icmp .ge 31, 3) := by decide +kernel
theorem d_X_pinned_19 : decode b_X_pinned 19 = .ok (.aload_n 2, 1) := by decide +kernel
theorem d_X_pinned_20 : decode b_X_pinned 20 = .ok (.iload 4, 2) := by decide +kernel
theorem d_X_pinned_22 : decode b_X_pinned 22 = .ok (.aaload, 1) := by decide +kernel
theorem d_X_pinned_23 : decode b_X_pinned 23 = .ok (.astore 5, 2) := by decide +kernel
theorem d_X_pinned_25 : decode b_X_pinned 25 = .ok (.iload_n 1, 1) := by decide +kernel
theorem d_X_pinned_26 : decode b_X_pinned 26 = .ok (.aload 5, 2) := by decide +kernel
theorem d_X_pinned_28 : decode b_X_pinned 28 = .ok (.getfield 80, 3) := by decide +kernel
theorem d_X_pinned_31 : decode b_X_pinned 31 = .ok (.ifCond .le 7, 3) := by decide +kernel
theorem d_X_pinned_34 : decode b_X_pinned 34 = .ok (.iconst 1, 1) := by decide +kernel
theorem d_X_pinned_35 : decode b_X_pinned 35 = .ok (.goto 4, 3) := by decide +kernel
theorem d_X_pinned_38 : decode b_X_pinned 38 = .ok (.iconst 0, 1) := by decide +kernel
theorem d_X_pinned_39 : decode b_X_pinned 39 = .ok (.iadd, 1) := by decide +kernel
theorem d_X_pinned_40 : decode b_X_pinned 40 = .ok (.istore_n 1, 1) := by decide +kernel
theorem d_X_pinned_41 : decode b_X_pinned 41 = .ok (.iinc 4 1, 3) := by decide +kernel
theorem d_X_pinned_44 : decode b_X_pinned 44 = .ok (.goto (-31), 3) := by decide +kernel
theorem d_X_pinned_47 : decode b_X_pinned 47 = .ok (.iload_n 1, 1) := by decide +kernel
theorem d_X_pinned_48 : decode b_X_pinned 48 = .ok (.ireturn, 1) := by decide +kernel
theorem d_X_fetch_0 : decode b_X_fetch 0 = .ok (.aload_n 0, 1) := by decide +kernel
theorem d_X_fetch_1 : decode b_X_fetch 1 = .ok (.iload_n 1, 1) := by decide +kernel
theorem d_X_fetch_2 : decode b_X_fetch 2 = .ok (.invokevirtual 60, 3) := by decide +kernel
theorem d_X_fetch_5 : decode b_X_fetch 5 = .ok (.ifCond .ne 6, 3) := by decide +kernel
theorem d_X_fetch_8 : decode b_X_fetch 8 = .ok (.bipush (-2), 2) := by decide +kernel
theorem d_X_fetch_10 : decode b_X_fetch 10 = .ok (.ireturn, 1) := by decide +kernel
theorem d_X_fetch_11 : decode b_X_fetch 11 = .ok (.aload_n 0, 1) := by decide +kernel
theorem d_X_fetch_12 : decode b_X_fetch 12 = .ok (.iload_n 1, 1) := by decide +kernel
theorem d_X_fetch_13 : decode b_X_fetch 13 = .ok (.invokevirtual 93, 3) := by decide +kernel
theorem d_X_fetch_16 : decode b_X_fetch 16 = .ok (.astore_n 2, 1) := by decide +kernel
theorem d_X_fetch_17 : decode b_X_fetch 17 = .ok (.aload_n 2, 1) := by decide +kernel
theorem d_X_fetch_18 : decode b_X_fetch 18 = .ok (.ifnonnull 70, 3) := by decide +kernel
theorem d_X_fetch_21 : decode b_X_fetch 21 = .ok (.aload_n 0, 1) := by decide +kernel
theorem d_X_fetch_22 : decode b_X_fetch 22 = .ok (.invokevirtual 97, 3) := by decide +kernel
theorem d_X_fetch_25 : decode b_X_fetch 25 = .ok (.aload_n 0, 1) := by decide +kernel
theorem d_X_fetch_26 : decode b_X_fetch 26 = .ok (.getfield 35, 3) := by decide +kernel
theorem d_X_fetch_29 : decode b_X_fetch 29 = .ok (.arraylength, 1) := by decide +kernel
theorem d_X_fetch_30 : decode b_X_fetch 30 = .ok (.if_icmp .ne 5, 3) := by decide +kernel
theorem d_X_fetch_33 : decode b_X_fetch 33 = .ok (.iconst (-1), 1) := by decide +kernel
theorem d_X_fetch_34 : decode b_X_fetch 34 = .ok (.ireturn, 1) := by decide +kernel
theorem d_X_fetch_35 : decode b_X_fetch 35 = .ok (.aload_n 0, 1) := by decide +kernel
theorem d_X_fetch_36 : decode b_X_fetch 36 = .ok (.invokevirtual 101, 3) := by decide +kernel
theorem d_X_fetch_39 : decode b_X_fetch 39 = .ok (.astore_n 2, 1) := by decide +kernel
theorem d_X_fetch_40 : decode b_X_fetch 40 = .ok (.aload_n 0, 1) := by decide +kernel
theorem d_X_fetch_41 : decode b_X_fetch 41 = .ok (.getfield 31, 3) := by decide +kernel
theorem d_X_fetch_44 : decode b_X_fetch 44 = .ok (.iload_n 1, 1) := by decide +kernel
theorem d_X_fetch_45 : decode b_X_fetch 45 = .ok (.aload_n 0, 1) := by decide +kernel
theorem d_X_fetch_46 : decode b_X_fetch 46 = .ok (.getfield 28, 3) := by decide +kernel
theorem d_X_fetch_49 : decode b_X_fetch 49 = .ok (.imul, 1) := by decide +kernel
theorem d_X_fetch_50 : decode b_X_fetch 50 = .ok (.aload_n 2, 1) := by decide +kernel
theorem d_X_fetch_51 : decode b_X_fetch 51 = .ok (.getfield 67, 3) := by decide +kernel
theorem d_X_fetch_54 : decode b_X_fetch 54 = .ok (.iconst 0, 1) := by decide +kernel
theorem d_X_fetch_55 : decode b_X_fetch 55 = .ok (.aload_n 0, 1) := by decide +kernel
theorem d_X_fetch_56 : decode b_X_fetch 56 = .ok (.getfield 28, 3) := by decide +kernel
theorem d_X_fetch_59 : decode b_X_fetch 59 = .ok (.invokestatic 70, 3) := by decide +kernel
theorem d_X_fetch_62 : decode b_X_fetch 62 = .ok (.aload_n 0, 1) := by decide +kernel
theorem d_X_fetch_63 : decode b_X_fetch 63 = .ok (.dup, 1) := by decide +kernel
theorem d_X_fetch_64 : decode b_X_fetch 64 = .ok (.getfield 47, 3) := by decide +kernel
theorem d_X_fetch_67 : decode b_X_fetch 67 = .ok (.iconst 1, 1) := by decide +kernel
theorem d_X_fetch_68 : decode b_X_fetch 68 = .ok (.iadd, 1) := by decide +kernel
theorem d_X_fetch_69 : decode b_X_fetch 69 = .ok (.putfield 47, 3) := by decide +kernel
theorem d_X_fetch_72 : decode b_X_fetch 72 = .ok (.aload_n 2, 1) := by decide +kernel
theorem d_X_fetch_73 : decode b_X_fetch 73 = .ok (.iload_n 1, 1) := by decide +kernel
theorem d_X_fetch_74 : decode b_X_fetch 74 = .ok (.putfield 57, 3) := by decide +kernel
theorem d_X_fetch_77 : decode b_X_fetch 77 = .ok (.aload_n 0, 1) := by decide +kernel
theorem d_X_fetch_78 : decode b_X_fetch 78 = .ok (.getfield 11, 3) := by decide +kernel
theorem d_X_fetch_81 : decode b_X_fetch 81 = .ok (.aload_n 0, 1) := by decide +kernel
theorem d_X_fetch_82 : decode b_X_fetch 82 = .ok (.iload_n 1, 1) := by decide +kernel
theorem d_X_fetch_83 : decode b_X_fetch 83 = .ok (.invokevirtual 64, 3) := by decide +kernel
theorem d_X_fetch_86 : decode b_X_fetch 86 = .ok (.aload_n 2, 1) := by decide +kernel
theorem d_X_fetch_87 : decode b_X_fetch 87 = .ok (.aastore, 1) := by decide +kernel
theorem d_X_fetch_88 : decode b_X_fetch 88 = .ok (.aload_n 2, 1) := by decide +kernel
theorem d_X_fetch_89 : decode b_X_fetch 89 = .ok (.dup, 1) := by decide +kernel
theorem d_X_fetch_90 : decode b_X_fetch 90 = .ok (.getfield 80, 3) := by decide +kernel
theorem d_X_fetch_93 : decode b_X_fetch 93 = .ok (.iconst 1, 1) := by decide +kernel
theorem d_X_fetch_94 : decode b_X_fetch 94 = .ok (.iadd, 1) := by decide +kernel
theorem d_X_fetch_95 : decode b_X_fetch 95 = .ok (.putfield 80, 3) := by decide +kernel
theorem d_X_fetch_98 : decode b_X_fetch 98 = .ok (.aload_n 2, 1) := by decide +kernel
theorem d_X_fetch_99 : decode b_X_fetch 99 = .ok (.iconst 1, 1) := by decide +kernel
theorem d_X_fetch_100 : decode b_X_fetch 100 = .ok (.putfield 83, 3) := by decide +kernel
theorem d_X_fetch_103 : decode b_X_fetch 103 = .ok (.aload_n 2, 1) := by decide +kernel
theorem d_X_fetch_104 : decode b_X_fetch 104 = .ok (.getfield 105, 3) := by decide +kernel
theorem d_X_fetch_107 : decode b_X_fetch 107 = .ok (.ireturn, 1) := by decide +kernel
theorem d_X_isPage_0 : decode b_X_isPage 0 = .ok (.iload_n 1, 1) := by decide +kernel
theorem d_X_isPage_1 : decode b_X_isPage 1 = .ok (.ifCond .lt 15, 3) := by decide +kernel
theorem d_X_isPage_4 : decode b_X_isPage 4 = .ok (.iload_n 1, 1) := by decide +kernel
theorem d_X_isPage_5 : decode b_X_isPage 5 = .ok (.aload_n 0, 1) := by decide +kernel
theorem d_X_isPage_6 : decode b_X_isPage 6 = .ok (.getfield 24, 3) := by decide +kernel
theorem d_X_isPage_9 : decode b_X_isPage 9 = .ok (.if_icmp .ge 7, 3) := by decide +kernel
theorem d_X_isPage_12 : decode b_X_isPage 12 = .ok (.iconst 1, 1) := by decide +kernel
theorem d_X_isPage_13 : decode b_X_isPage 13 = .ok (.goto 4, 3) := by decide +kernel
theorem d_X_isPage_16 : decode b_X_isPage 16 = .ok (.iconst 0, 1) := by decide +kernel
theorem d_X_isPage_17 : decode b_X_isPage 17 = .ok (.ireturn, 1) := by decide +kernel
theorem d_X_find_0 : decode b_X_find 0 = .ok (.aload_n 0, 1) := by decide +kernel
theorem d_X_find_1 : decode b_X_find 1 = .ok (.iload_n 1, 1) := by decide +kernel
theorem d_X_find_2 : decode b_X_find 2 = .ok (.invokevirtual 60, 3) := by decide +kernel
theorem d_X_find_5 : decode b_X_find 5 = .ok (.ifCond .eq 16, 3) := by decide +kernel
theorem d_X_find_8 : decode b_X_find 8 = .ok (.aload_n 0, 1) := by decide +kernel
theorem d_X_find_9 : decode b_X_find 9 = .ok (.getfield 11, 3) := by decide +kernel
theorem d_X_find_12 : decode b_X_find 12 = .ok (.aload_n 0, 1) := by decide +kernel
theorem d_X_find_13 : decode b_X_find 13 = .ok (.iload_n 1, 1) := by decide +kernel
theorem d_X_find_14 : decode b_X_find 14 = .ok (.invokevirtual 64, 3) := by decide +kernel
theorem d_X_find_17 : decode b_X_find 17 = .ok (.aaload, 1) := by decide +kernel
theorem d_X_find_18 : decode b_X_find 18 = .ok (.goto 4, 3) := by decide +kernel
theorem d_X_find_21 : decode b_X_find 21 = .ok (.aconst_null, 1) := by decide +kernel
theorem d_X_find_22 : decode b_X_find 22 = .ok (.areturn, 1) := by decide +kernel
theorem d_X_place_0 : decode b_X_place 0 = .ok (.iload_n 1, 1) := by decide +kernel
theorem d_X_place_1 : decode b_X_place 1 = .ok (.invokestatic 53, 3) := by decide +kernel
theorem d_X_place_4 : decode b_X_place 4 = .ok (.istore_n 2, 1) := by decide +kernel
theorem d_X_place_5 : decode b_X_place 5 = .ok (.aload_n 0, 1) := by decide +kernel
theorem d_X_place_6 : decode b_X_place 6 = .ok (.getfield 11, 3) := by decide +kernel
theorem d_X_place_9 : decode b_X_place 9 = .ok (.iload_n 2, 1) := by decide +kernel
theorem d_X_place_10 : decode b_X_place 10 = .ok (.aaload, 1) := by decide +kernel
theorem d_X_place_11 : decode b_X_place 11 = .ok (.ifnull 26, 3) := by decide +kernel
theorem d_X_place_14 : decode b_X_place 14 = .ok (.aload_n 0, 1) := by decide +kernel
theorem d_X_place_15 : decode b_X_place 15 = .ok (.getfield 11, 3) := by decide +kernel
theorem d_X_place_18 : decode b_X_place 18 = .ok (.iload_n 2, 1) := by decide +kernel
theorem d_X_place_19 : decode b_X_place 19 = .ok (.aaload, 1) := by decide +kernel
theorem d_X_place_20 : decode b_X_place 20 = .ok (.getfield 57, 3) := by decide +kernel
theorem d_X_place_23 : decode b_X_place 23 = .ok (.iload_n 1, 1) := by decide +kernel
theorem d_X_place_24 : decode b_X_place 24 = .ok (.if_icmp .eq 13, 3) := by decide +kernel
theorem d_X_place_27 : decode b_X_place 27 = .ok (.iload_n 2, 1) := by decide +kernel
theorem d_X_place_28 : decode b_X_place 28 = .ok (.iconst 1, 1) := by decide +kernel
theorem d_X_place_29 : decode b_X_place 29 = .ok (.iadd, 1) := by decide +kernel
theorem d_X_place_30 : decode b_X_place 30 = .ok (.bipush 64, 2) := by decide +kernel
theorem d_X_place_32 : decode b_X_place 32 = .ok (.irem, 1) := by decide +kernel
theorem d_X_place_33 : decode b_X_place 33 = .ok (.istore_n 2, 1) := by decide +kernel
theorem d_X_place_34 : decode b_X_place 34 = .ok (.goto (-29), 3) := by decide +kernel
theorem d_X_place_37 : decode b_X_place 37 = .ok (.iload_n 2, 1) := by decide +kernel
theorem d_X_place_38 : decode b_X_place 38 = .ok (.ireturn, 1) := by decide +kernel
theorem d_X_home_0 : decode b_X_home 0 = .ok (.iload_n 0, 1) := by decide +kernel
theorem d_X_home_1 : decode b_X_home 1 = .ok (.bipush 37, 2) := by decide +kernel
theorem d_X_home_3 : decode b_X_home 3 = .ok (.imul, 1) := by decide +kernel
theorem d_X_home_4 : decode b_X_home 4 = .ok (.bipush 64, 2) := by decide +kernel
theorem d_X_home_6 : decode b_X_home 6 = .ok (.irem, 1) := by decide +kernel
theorem d_X_home_7 : decode b_X_home 7 = .ok (.ireturn, 1) := by decide +kernel
theorem d_X_next_0 : decode b_X_next 0 = .ok (.aconst_null, 1) := by decide +kernel
theorem d_X_next_1 : decode b_X_next 1 = .ok (.astore_n 1, 1) := by decide +kernel
theorem d_X_next_2 : decode b_X_next 2 = .ok (.aload_n 1, 1) := by decide +kernel
theorem d_X_next_3 : decode b_X_next 3 = .ok (.ifnonnull 63, 3) := by decide +kernel
theorem d_X_next_6 : decode b_X_next 6 = .ok (.aload_n 0, 1) := by decide +kernel
theorem d_X_next_7 : decode b_X_next 7 = .ok (.getfield 35, 3) := by decide +kernel
theorem d_X_next_10 : decode b_X_next 10 = .ok (.aload_n 0, 1) := by decide +kernel
theorem d_X_next_11 : decode b_X_next 11 = .ok (.getfield 44, 3) := by decide +kernel
theorem d_X_next_14 : decode b_X_next 14 = .ok (.aaload, 1) := by decide +kernel
theorem d_X_next_15 : decode b_X_next 15 = .ok (.astore_n 2, 1) := by decide +kernel
theorem d_X_next_16 : decode b_X_next 16 = .ok (.aload_n 0, 1) := by decide +kernel
theorem d_X_next_17 : decode b_X_next 17 = .ok (.aload_n 0, 1) := by decide +kernel
theorem d_X_next_18 : decode b_X_next 18 = .ok (.getfield 44, 3) := by decide +kernel
theorem d_X_next_21 : decode b_X_next 21 = .ok (.iconst 1, 1) := by decide +kernel
theorem d_X_next_22 : decode b_X_next 22 = .ok (.iadd, 1) := by decide +kernel
theorem d_X_next_23 : decode b_X_next 23 = .ok (.aload_n 0, 1) := by decide +kernel
theorem d_X_next_24 : decode b_X_next 24 = .ok (.getfield 35, 3) := by decide +kernel
theorem d_X_next_27 : decode b_X_next 27 = .ok (.arraylength, 1) := by decide +kernel
theorem d_X_next_28 : decode b_X_next 28 = .ok (.irem, 1) := by decide +kernel
theorem d_X_next_29 : decode b_X_next 29 = .ok (.putfield 44, 3) := by decide +kernel
theorem d_X_next_32 : decode b_X_next 32 = .ok (.aload_n 2, 1) := by decide +kernel
theorem d_X_next_33 : decode b_X_next 33 = .ok (.getfield 80, 3) := by decide +kernel
theorem d_X_next_36 : decode b_X_next 36 = .ok (.ifCond .ne 18, 3) := by decide +kernel
theorem d_X_next_39 : decode b_X_next 39 = .ok (.aload_n 2, 1) := by decide +kernel
theorem d_X_next_40 : decode b_X_next 40 = .ok (.getfield 83, 3) := by decide +kernel
theorem d_X_next_43 : decode b_X_next 43 = .ok (.ifCond .eq 11, 3) := by decide +kernel
theorem d_X_next_46 : decode b_X_next 46 = .ok (.aload_n 2, 1) := by decide +kernel
theorem d_X_next_47 : decode b_X_next 47 = .ok (.iconst 0, 1) := by decide +kernel
theorem d_X_next_48 : decode b_X_next 48 = .ok (.putfield 83, 3) := by decide +kernel
theorem d_X_next_51 : decode b_X_next 51 = .ok (.goto 12, 3) := by decide +kernel
theorem d_X_next_54 : decode b_X_next 54 = .ok (.aload_n 2, 1) := by decide +kernel
theorem d_X_next_55 : decode b_X_next 55 = .ok (.getfield 80, 3) := by decide +kernel
theorem d_X_next_58 : decode b_X_next 58 = .ok (.ifCond .ne 5, 3) := by decide +kernel
theorem d_X_next_61 : decode b_X_next 61 = .ok (.aload_n 2, 1) := by decide +kernel
theorem d_X_next_62 : decode b_X_next 62 = .ok (.astore_n 1, 1) := by decide +kernel
theorem d_X_next_63 : decode b_X_next 63 = .ok (.goto (-61), 3) := by decide +kernel
theorem d_X_next_66 : decode b_X_next 66 = .ok (.aload_n 1, 1) := by decide +kernel
theorem d_X_next_67 : decode b_X_next 67 = .ok (.getfield 57, 3) := by decide +kernel
theorem d_X_next_70 : decode b_X_next 70 = .ok (.iconst (-1), 1) := by decide +kernel
theorem d_X_next_71 : decode b_X_next 71 = .ok (.if_icmp .eq 20, 3) := by decide +kernel
theorem d_X_next_74 : decode b_X_next 74 = .ok (.aload_n 1, 1) := by decide +kernel
theorem d_X_next_75 : decode b_X_next 75 = .ok (.getfield 76, 3) := by decide +kernel
theorem d_X_next_78 : decode b_X_next 78 = .ok (.ifCond .eq 8, 3) := by decide +kernel
theorem d_X_next_81 : decode b_X_next 81 = .ok (.aload_n 0, 1) := by decide +kernel
theorem d_X_next_82 : decode b_X_next 82 = .ok (.aload_n 1, 1) := by decide +kernel
theorem d_X_next_83 : decode b_X_next 83 = .ok (.invokevirtual 86, 3) := by decide +kernel
theorem d_X_next_86 : decode b_X_next 86 = .ok (.aload_n 0, 1) := by decide +kernel
theorem d_X_next_87 : decode b_X_next 87 = .ok (.aload_n 1, 1) := by decide +kernel
theorem d_X_next_88 : decode b_X_next 88 = .ok (.invokevirtual 90, 3) := by decide +kernel
theorem d_X_next_91 : decode b_X_next 91 = .ok (.aload_n 1, 1) := by decide +kernel
theorem d_X_next_92 : decode b_X_next 92 = .ok (.areturn, 1) := by decide +kernel
theorem d_X_write_0 : decode b_X_write 0 = .ok (.aload_n 1, 1) := by decide +kernel
theorem d_X_write_1 : decode b_X_write 1 = .ok (.getfield 67, 3) := by decide +kernel
theorem d_X_write_4 : decode b_X_write 4 = .ok (.iconst 0, 1) := by decide +kernel
theorem d_X_write_5 : decode b_X_write 5 = .ok (.aload_n 0, 1) := by decide +kernel
theorem d_X_write_6 : decode b_X_write 6 = .ok (.getfield 31, 3) := by decide +kernel
theorem d_X_write_9 : decode b_X_write 9 = .ok (.aload_n 1, 1) := by decide +kernel
theorem d_X_write_10 : decode b_X_write 10 = .ok (.getfield 57, 3) := by decide +kernel
theorem d_X_write_13 : decode b_X_write 13 = .ok (.aload_n 0, 1) := by decide +kernel
theorem d_X_write_14 : decode b_X_write 14 = .ok (.getfield 28, 3) := by decide +kernel
theorem d_X_write_17 : decode b_X_write 17 = .ok (.imul, 1) := by decide +kernel
theorem d_X_write_18 : decode b_X_write 18 = .ok (.aload_n 0, 1) := by decide +kernel
theorem d_X_write_19 : decode b_X_write 19 = .ok (.getfield 28, 3) := by decide +kernel
theorem d_X_write_22 : decode b_X_write 22 = .ok (.invokestatic 70, 3) := by decide +kernel
theorem d_X_write_25 : decode b_X_write 25 = .ok (.aload_n 1, 1) := by decide +kernel
theorem d_X_write_26 : decode b_X_write 26 = .ok (.iconst 0, 1) := by decide +kernel
theorem d_X_write_27 : decode b_X_write 27 = .ok (.putfield 76, 3) := by decide +kernel
theorem d_X_write_30 : decode b_X_write 30 = .ok (.aload_n 0, 1) := by decide +kernel
theorem d_X_write_31 : decode b_X_write 31 = .ok (.dup, 1) := by decide +kernel
theorem d_X_write_32 : decode b_X_write 32 = .ok (.getfield 50, 3) := by decide +kernel
theorem d_X_write_35 : decode b_X_write 35 = .ok (.iconst 1, 1) := by decide +kernel
theorem d_X_write_36 : decode b_X_write 36 = .ok (.iadd, 1) := by decide +kernel
theorem d_X_write_37 : decode b_X_write 37 = .ok (.putfield 50, 3) := by decide +kernel
theorem d_X_write_40 : decode b_X_write 40 = .ok (.return_, 1) := by decide +kernel
theorem d_X_forget_0 : decode b_X_forget 0 = .ok (.aload_n 0, 1) := by decide +kernel
theorem d_X_forget_1 : decode b_X_forget 1 = .ok (.aload_n 1, 1) := by decide +kernel
theorem d_X_forget_2 : decode b_X_forget 2 = .ok (.getfield 57, 3) := by decide +kernel
theorem d_X_forget_5 : decode b_X_forget 5 = .ok (.invokevirtual 64, 3) := by decide +kernel
theorem d_X_forget_8 : decode b_X_forget 8 = .ok (.istore_n 2, 1) := by decide +kernel
theorem d_X_forget_9 : decode b_X_forget 9 = .ok (.iload_n 2, 1) := by decide +kernel
theorem d_X_forget_10 : decode b_X_forget 10 = .ok (.iconst 1, 1) := by decide +kernel
theorem d_X_forget_11 : decode b_X_forget 11 = .ok (.iadd, 1) := by decide +kernel
theorem d_X_forget_12 : decode b_X_forget 12 = .ok (.bipush 64, 2) := by decide +kernel
theorem d_X_forget_14 : decode b_X_forget 14 = .ok (.irem, 1) := by decide +kernel
theorem d_X_forget_15 : decode b_X_forget 15 = .ok (.istore_n 3, 1) := by decide +kernel
theorem d_X_forget_16 : decode b_X_forget 16 = .ok (.aload_n 0, 1) := by decide +kernel
theorem d_X_forget_17 : decode b_X_forget 17 = .ok (.getfield 11, 3) := by decide +kernel
theorem d_X_forget_20 : decode b_X_forget 20 = .ok (.iload_n 3, 1) := by decide +kernel
theorem d_X_forget_21 : decode b_X_forget 21 = .ok (.aaload, 1) := by decide +kernel
theorem d_X_forget_22 : decode b_X_forget 22 = .ok (.ifnull 90, 3) := by decide +kernel
theorem d_X_forget_25 : decode b_X_forget 25 = .ok (.aload_n 0, 1) := by decide +kernel
theorem d_X_forget_26 : decode b_X_forget 26 = .ok (.getfield 11, 3) := by decide +kernel
theorem d_X_forget_29 : decode b_X_forget 29 = .ok (.iload_n 3, 1) := by decide +kernel
theorem d_X_forget_30 : decode b_X_forget 30 = .ok (.aaload, 1) := by decide +kernel
theorem d_X_forget_31 : decode b_X_forget 31 = .ok (.getfield 57, 3) := by decide +kernel
theorem d_X_forget_34 : decode b_X_forget 34 = .ok (.invokestatic 53, 3) := by decide +kernel
theorem d_X_forget_37 : decode b_X_forget 37 = .ok (.istore 4, 2) := by decide +kernel
theorem d_X_forget_39 : decode b_X_forget 39 = .ok (.iload_n 2, 1) := by decide +kernel
theorem d_X_forget_40 : decode b_X_forget 40 = .ok (.iload_n 3, 1) := by decide +kernel
theorem d_X_forget_41 : decode b_X_forget 41 = .ok (.if_icmp .ge 23, 3) := by decide +kernel
theorem d_X_forget_44 : decode b_X_forget 44 = .ok (.iload 4, 2) := by decide +kernel
theorem d_X_forget_46 : decode b_X_forget 46 = .ok (.iload_n 2, 1) := by decide +kernel
theorem d_X_forget_47 : decode b_X_forget 47 = .ok (.if_icmp .le 13, 3) := by decide +kernel
theorem d_X_forget_50 : decode b_X_forget 50 = .ok (.iload 4, 2) := by decide +kernel
theorem d_X_forget_52 : decode b_X_forget 52 = .ok (.iload_n 3, 1) := by decide +kernel
theorem d_X_forget_53 : decode b_X_forget 53 = .ok (.if_icmp .gt 7, 3) := by decide +kernel
theorem d_X_forget_56 : decode b_X_forget 56 = .ok (.iconst 1, 1) := by decide +kernel
theorem d_X_forget_57 : decode b_X_forget 57 = .ok (.goto 24, 3) := by decide +kernel
theorem d_X_forget_60 : decode b_X_forget 60 = .ok (.iconst 0, 1) := by decide +kernel
theorem d_X_forget_61 : decode b_X_forget 61 = .ok (.goto 20, 3) := by decide +kernel
theorem d_X_forget_64 : decode b_X_forget 64 = .ok (.iload 4, 2) := by decide +kernel
theorem d_X_forget_66 : decode b_X_forget 66 = .ok (.iload_n 2, 1) := by decide +kernel
theorem d_X_forget_67 : decode b_X_forget 67 = .ok (.if_icmp .gt 9, 3) := by decide +kernel
theorem d_X_forget_70 : decode b_X_forget 70 = .ok (.iload 4, 2) := by decide +kernel
theorem d_X_forget_72 : decode b_X_forget 72 = .ok (.iload_n 3, 1) := by decide +kernel
theorem d_X_forget_73 : decode b_X_forget 73 = .ok (.if_icmp .gt 7, 3) := by decide +kernel
theorem d_X_forget_76 : decode b_X_forget 76 = .ok (.iconst 1, 1) := by decide +kernel
theorem d_X_forget_77 : decode b_X_forget 77 = .ok (.goto 4, 3) := by decide +kernel
theorem d_X_forget_80 : decode b_X_forget 80 = .ok (.iconst 0, 1) := by decide +kernel
theorem d_X_forget_81 : decode b_X_forget 81 = .ok (.istore 5, 2) := by decide +kernel
theorem d_X_forget_83 : decode b_X_forget 83 = .ok (.iload 5, 2) := by decide +kernel
theorem d_X_forget_85 : decode b_X_forget 85 = .ok (.ifCond .ne 17, 3) := by decide +kernel
theorem d_X_forget_88 : decode b_X_forget 88 = .ok (.aload_n 0, 1) := by decide +kernel
theorem d_X_forget_89 : decode b_X_forget 89 = .ok (.getfield 11, 3) := by decide +kernel
theorem d_X_forget_92 : decode b_X_forget 92 = .ok (.iload_n 2, 1) := by decide +kernel
theorem d_X_forget_93 : decode b_X_forget 93 = .ok (.aload_n 0, 1) := by decide +kernel
theorem d_X_forget_94 : decode b_X_forget 94 = .ok (.getfield 11, 3) := by decide +kernel
theorem d_X_forget_97 : decode b_X_forget 97 = .ok (.iload_n 3, 1) := by decide +kernel
theorem d_X_forget_98 : decode b_X_forget 98 = .ok (.aaload, 1) := by decide +kernel
theorem d_X_forget_99 : decode b_X_forget 99 = .ok (.aastore, 1) := by decide +kernel
theorem d_X_forget_100 : decode b_X_forget 100 = .ok (.iload_n 3, 1) := by decide +kernel
theorem d_X_forget_101 : decode b_X_forget 101 = .ok (.istore_n 2, 1) := by decide +kernel
theorem d_X_forget_102 : decode b_X_forget 102 = .ok (.iload_n 3, 1) := by decide +kernel
theorem d_X_forget_103 : decode b_X_forget 103 = .ok (.iconst 1, 1) := by decide +kernel
theorem d_X_forget_104 : decode b_X_forget 104 = .ok (.iadd, 1) := by decide +kernel
theorem d_X_forget_105 : decode b_X_forget 105 = .ok (.bipush 64, 2) := by decide +kernel
theorem d_X_forget_107 : decode b_X_forget 107 = .ok (.irem, 1) := by decide +kernel
theorem d_X_forget_108 : decode b_X_forget 108 = .ok (.istore_n 3, 1) := by decide +kernel
theorem d_X_forget_109 : decode b_X_forget 109 = .ok (.goto (-93), 3) := by decide +kernel
theorem d_X_forget_112 : decode b_X_forget 112 = .ok (.aload_n 0, 1) := by decide +kernel
theorem d_X_forget_113 : decode b_X_forget 113 = .ok (.getfield 11, 3) := by decide +kernel
theorem d_X_forget_116 : decode b_X_forget 116 = .ok (.iload_n 2, 1) := by decide +kernel
theorem d_X_forget_117 : decode b_X_forget 117 = .ok (.aconst_null, 1) := by decide +kernel
theorem d_X_forget_118 : decode b_X_forget 118 = .ok (.aastore, 1) := by decide +kernel
theorem d_X_forget_119 : decode b_X_forget 119 = .ok (.aload_n 1, 1) := by decide +kernel
theorem d_X_forget_120 : decode b_X_forget 120 = .ok (.invokevirtual 41, 3) := by decide +kernel
theorem d_X_forget_123 : decode b_X_forget 123 = .ok (.return_, 1) := by decide +kernel
theorem d_X_unpin_0 : decode b_X_unpin 0 = .ok (.aload_n 0, 1) := by decide +kernel
theorem d_X_unpin_1 : decode b_X_unpin 1 = .ok (.iload_n 1, 1) := by decide +kernel
theorem d_X_unpin_2 : decode b_X_unpin 2 = .ok (.invokevirtual 108, 3) := by decide +kernel
theorem d_X_unpin_5 : decode b_X_unpin 5 = .ok (.astore_n 2, 1) := by decide +kernel
theorem d_X_unpin_6 : decode b_X_unpin 6 = .ok (.aload_n 2, 1) := by decide +kernel
theorem d_X_unpin_7 : decode b_X_unpin 7 = .ok (.ifnonnull 6, 3) := by decide +kernel
theorem d_X_unpin_10 : decode b_X_unpin 10 = .ok (.bipush (-3), 2) := by decide +kernel
theorem d_X_unpin_12 : decode b_X_unpin 12 = .ok (.ireturn, 1) := by decide +kernel
theorem d_X_unpin_13 : decode b_X_unpin 13 = .ok (.aload_n 2, 1) := by decide +kernel
theorem d_X_unpin_14 : decode b_X_unpin 14 = .ok (.dup, 1) := by decide +kernel
theorem d_X_unpin_15 : decode b_X_unpin 15 = .ok (.getfield 80, 3) := by decide +kernel
theorem d_X_unpin_18 : decode b_X_unpin 18 = .ok (.iconst 1, 1) := by decide +kernel
theorem d_X_unpin_19 : decode b_X_unpin 19 = .ok (.isub, 1) := by decide +kernel
theorem d_X_unpin_20 : decode b_X_unpin 20 = .ok (.putfield 80, 3) := by decide +kernel
theorem d_X_unpin_23 : decode b_X_unpin 23 = .ok (.aload_n 2, 1) := by decide +kernel
theorem d_X_unpin_24 : decode b_X_unpin 24 = .ok (.getfield 80, 3) := by decide +kernel
theorem d_X_unpin_27 : decode b_X_unpin 27 = .ok (.ireturn, 1) := by decide +kernel
theorem d_X_pinnedFrame_0 : decode b_X_pinnedFrame 0 = .ok (.iload_n 1, 1) := by decide +kernel
theorem d_X_pinnedFrame_1 : decode b_X_pinnedFrame 1 = .ok (.ifCond .lt 24, 3) := by decide +kernel
theorem d_X_pinnedFrame_4 : decode b_X_pinnedFrame 4 = .ok (.iload_n 1, 1) := by decide +kernel
theorem d_X_pinnedFrame_5 : decode b_X_pinnedFrame 5 = .ok (.aload_n 0, 1) := by decide +kernel
theorem d_X_pinnedFrame_6 : decode b_X_pinnedFrame 6 = .ok (.getfield 35, 3) := by decide +kernel
theorem d_X_pinnedFrame_9 : decode b_X_pinnedFrame 9 = .ok (.arraylength, 1) := by decide +kernel
theorem d_X_pinnedFrame_10 : decode b_X_pinnedFrame 10 = .ok (.if_icmp .ge 15, 3) := by decide +kernel
theorem d_X_pinnedFrame_13 : decode b_X_pinnedFrame 13 = .ok (.aload_n 0, 1) := by decide +kernel
theorem d_X_pinnedFrame_14 : decode b_X_pinnedFrame 14 = .ok (.getfield 35, 3) := by decide +kernel
theorem d_X_pinnedFrame_17 : decode b_X_pinnedFrame 17 = .ok (.iload_n 1, 1) := by decide +kernel
theorem d_X_pinnedFrame_18 : decode b_X_pinnedFrame 18 = .ok (.aaload, 1) := by decide +kernel
theorem d_X_pinnedFrame_19 : decode b_X_pinnedFrame 19 = .ok (.getfield 80, 3) := by decide +kernel
theorem d_X_pinnedFrame_22 : decode b_X_pinnedFrame 22 = .ok (.ifCond .ne 7, 3) := by decide +kernel
theorem d_X_pinnedFrame_25 : decode b_X_pinnedFrame 25 = .ok (.aconst_null, 1) := by decide +kernel
theorem d_X_pinnedFrame_26 : decode b_X_pinnedFrame 26 = .ok (.goto 9, 3) := by decide +kernel
theorem d_X_pinnedFrame_29 : decode b_X_pinnedFrame 29 = .ok (.aload_n 0, 1) := by decide +kernel
theorem d_X_pinnedFrame_30 : decode b_X_pinnedFrame 30 = .ok (.getfield 35, 3) := by decide +kernel
theorem d_X_pinnedFrame_33 : decode b_X_pinnedFrame 33 = .ok (.iload_n 1, 1) := by decide +kernel
theorem d_X_pinnedFrame_34 : decode b_X_pinnedFrame 34 = .ok (.aaload, 1) := by decide +kernel
theorem d_X_pinnedFrame_35 : decode b_X_pinnedFrame 35 = .ok (.areturn, 1) := by decide +kernel
theorem d_X_readWord_0 : decode b_X_readWord 0 = .ok (.aload_n 0, 1) := by decide +kernel
theorem d_X_readWord_1 : decode b_X_readWord 1 = .ok (.iload_n 1, 1) := by decide +kernel
theorem d_X_readWord_2 : decode b_X_readWord 2 = .ok (.invokevirtual 108, 3) := by decide +kernel
theorem d_X_readWord_5 : decode b_X_readWord 5 = .ok (.astore_n 3, 1) := by decide +kernel
theorem d_X_readWord_6 : decode b_X_readWord 6 = .ok (.aload_n 3, 1) := by decide +kernel
theorem d_X_readWord_7 : decode b_X_readWord 7 = .ok (.ifnull 11, 3) := by decide +kernel
theorem d_X_readWord_10 : decode b_X_readWord 10 = .ok (.aload_n 0, 1) := by decide +kernel
theorem d_X_readWord_11 : decode b_X_readWord 11 = .ok (.iload_n 2, 1) := by decide +kernel
theorem d_X_readWord_12 : decode b_X_readWord 12 = .ok (.invokevirtual 111, 3) := by decide +kernel
theorem d_X_readWord_15 : decode b_X_readWord 15 = .ok (.ifCond .ne 7, 3) := by decide +kernel
theorem d_X_readWord_18 : decode b_X_readWord 18 = .ok (.iconst 0, 1) := by decide +kernel
theorem d_X_readWord_19 : decode b_X_readWord 19 = .ok (.goto 9, 3) := by decide +kernel
theorem d_X_readWord_22 : decode b_X_readWord 22 = .ok (.aload_n 3, 1) := by decide +kernel
theorem d_X_readWord_23 : decode b_X_readWord 23 = .ok (.getfield 67, 3) := by decide +kernel
theorem d_X_readWord_26 : decode b_X_readWord 26 = .ok (.iload_n 2, 1) := by decide +kernel
theorem d_X_readWord_27 : decode b_X_readWord 27 = .ok (.iaload, 1) := by decide +kernel
theorem d_X_readWord_28 : decode b_X_readWord 28 = .ok (.ireturn, 1) := by decide +kernel
theorem d_X_isWord_0 : decode b_X_isWord 0 = .ok (.iload_n 1, 1) := by decide +kernel
theorem d_X_isWord_1 : decode b_X_isWord 1 = .ok (.ifCond .lt 15, 3) := by decide +kernel
theorem d_X_isWord_4 : decode b_X_isWord 4 = .ok (.iload_n 1, 1) := by decide +kernel
theorem d_X_isWord_5 : decode b_X_isWord 5 = .ok (.aload_n 0, 1) := by decide +kernel
theorem d_X_isWord_6 : decode b_X_isWord 6 = .ok (.getfield 28, 3) := by decide +kernel
theorem d_X_isWord_9 : decode b_X_isWord 9 = .ok (.if_icmp .ge 7, 3) := by decide +kernel
theorem d_X_isWord_12 : decode b_X_isWord 12 = .ok (.iconst 1, 1) := by decide +kernel
theorem d_X_isWord_13 : decode b_X_isWord 13 = .ok (.goto 4, 3) := by decide +kernel
theorem d_X_isWord_16 : decode b_X_isWord 16 = .ok (.iconst 0, 1) := by decide +kernel
theorem d_X_isWord_17 : decode b_X_isWord 17 = .ok (.ireturn, 1) := by decide +kernel
theorem d_X_writeWord_0 : decode b_X_writeWord 0 = .ok (.aload_n 0, 1) := by decide +kernel
theorem d_X_writeWord_1 : decode b_X_writeWord 1 = .ok (.iload_n 1, 1) := by decide +kernel
theorem d_X_writeWord_2 : decode b_X_writeWord 2 = .ok (.invokevirtual 108, 3) := by decide +kernel
theorem d_X_writeWord_5 : decode b_X_writeWord 5 = .ok (.astore 4, 2) := by decide +kernel
theorem d_X_writeWord_7 : decode b_X_writeWord 7 = .ok (.aload 4, 2) := by decide +kernel
theorem d_X_writeWord_9 : decode b_X_writeWord 9 = .ok (.ifnonnull 6, 3) := by decide +kernel
theorem d_X_writeWord_12 : decode b_X_writeWord 12 = .ok (.bipush (-3), 2) := by decide +kernel
theorem d_X_writeWord_14 : decode b_X_writeWord 14 = .ok (.ireturn, 1) := by decide +kernel
theorem d_X_writeWord_15 : decode b_X_writeWord 15 = .ok (.aload_n 0, 1) := by decide +kernel
theorem d_X_writeWord_16 : decode b_X_writeWord 16 = .ok (.iload_n 2, 1) := by decide +kernel
theorem d_X_writeWord_17 : decode b_X_writeWord 17 = .ok (.invokevirtual 111, 3) := by decide +kernel
theorem d_X_writeWord_20 : decode b_X_writeWord 20 = .ok (.ifCond .ne 6, 3) := by decide +kernel
theorem d_X_writeWord_23 : decode b_X_writeWord 23 = .ok (.bipush (-4), 2) := by decide +kernel
theorem d_X_writeWord_25 : decode b_X_writeWord 25 = .ok (.ireturn, 1) := by decide +kernel
theorem d_X_writeWord_26 : decode b_X_writeWord 26 = .ok (.aload 4, 2) := by decide +kernel
theorem d_X_writeWord_28 : decode b_X_writeWord 28 = .ok (.getfield 67, 3) := by decide +kernel
theorem d_X_writeWord_31 : decode b_X_writeWord 31 = .ok (.iload_n 2, 1) := by decide +kernel
theorem d_X_writeWord_32 : decode b_X_writeWord 32 = .ok (.iload_n 3, 1) := by decide +kernel
theorem d_X_writeWord_33 : decode b_X_writeWord 33 = .ok (.iastore, 1) := by decide +kernel
theorem d_X_writeWord_34 : decode b_X_writeWord 34 = .ok (.aload 4, 2) := by decide +kernel
theorem d_X_writeWord_36 : decode b_X_writeWord 36 = .ok (.iconst 1, 1) := by decide +kernel
theorem d_X_writeWord_37 : decode b_X_writeWord 37 = .ok (.putfield 76, 3) := by decide +kernel
theorem d_X_writeWord_40 : decode b_X_writeWord 40 = .ok (.iconst 0, 1) := by decide +kernel
theorem d_X_writeWord_41 : decode b_X_writeWord 41 = .ok (.ireturn, 1) := by decide +kernel
theorem d_X_flush_0 : decode b_X_flush 0 = .ok (.aload_n 0, 1) := by decide +kernel
theorem d_X_flush_1 : decode b_X_flush 1 = .ok (.iload_n 1, 1) := by decide +kernel
theorem d_X_flush_2 : decode b_X_flush 2 = .ok (.invokevirtual 93, 3) := by decide +kernel
theorem d_X_flush_5 : decode b_X_flush 5 = .ok (.astore_n 2, 1) := by decide +kernel
theorem d_X_flush_6 : decode b_X_flush 6 = .ok (.aload_n 2, 1) := by decide +kernel
theorem d_X_flush_7 : decode b_X_flush 7 = .ok (.ifnull 10, 3) := by decide +kernel
theorem d_X_flush_10 : decode b_X_flush 10 = .ok (.aload_n 2, 1) := by decide +kernel
theorem d_X_flush_11 : decode b_X_flush 11 = .ok (.getfield 76, 3) := by decide +kernel
theorem d_X_flush_14 : decode b_X_flush 14 = .ok (.ifCond .ne 5, 3) := by decide +kernel
theorem d_X_flush_17 : decode b_X_flush 17 = .ok (.iconst 0, 1) := by decide +kernel
theorem d_X_flush_18 : decode b_X_flush 18 = .ok (.ireturn, 1) := by decide +kernel
theorem d_X_flush_19 : decode b_X_flush 19 = .ok (.aload_n 0, 1) := by decide +kernel
theorem d_X_flush_20 : decode b_X_flush 20 = .ok (.aload_n 2, 1) := by decide +kernel
theorem d_X_flush_21 : decode b_X_flush 21 = .ok (.invokevirtual 86, 3) := by decide +kernel
theorem d_X_flush_24 : decode b_X_flush 24 = .ok (.iconst 1, 1) := by decide +kernel
theorem d_X_flush_25 : decode b_X_flush 25 = .ok (.ireturn, 1) := by decide +kernel
theorem d_X_flushAll_0 : decode b_X_flushAll 0 = .ok (.iconst 0, 1) := by decide +kernel
theorem d_X_flushAll_1 : decode b_X_flushAll 1 = .ok (.istore_n 1, 1) := by decide +kernel
theorem d_X_flushAll_2 : decode b_X_flushAll 2 = .ok (.aload_n 0, 1) := by decide +kernel
theorem d_X_flushAll_3 : decode b_X_flushAll 3 = .ok (.getfield 35, 3) := by decide +kernel
theorem d_X_flushAll_6 : decode b_X_flushAll 6 = .ok (.astore_n 2, 1) := by decide +kernel
theorem d_X_flushAll_7 : decode b_X_flushAll 7 = .ok (.aload_n 2, 1) := by decide +kernel
theorem d_X_flushAll_8 : decode b_X_flushAll 8 = .ok (.arraylength, 1) := by decide +kernel
theorem d_X_flushAll_9 : decode b_X_flushAll 9 = .ok (.istore_n 3, 1) := by decide +kernel
theorem d_X_flushAll_10 : decode b_X_flushAll 10 = .ok (.iconst 0, 1) := by decide +kernel
theorem d_X_flushAll_11 : decode b_X_flushAll 11 = .ok (.istore 4, 2) := by decide +kernel
theorem d_X_flushAll_13 : decode b_X_flushAll 13 = .ok (.iload 4, 2) := by decide +kernel
theorem d_X_flushAll_15 : decode b_X_flushAll 15 = .ok (.iload_n 3, 1) := by decide +kernel
theorem d_X_flushAll_16 : decode b_X_flushAll 16 = .ok (.if_icmp .ge 32, 3) := by decide +kernel
theorem d_X_flushAll_19 : decode b_X_flushAll 19 = .ok (.aload_n 2, 1) := by decide +kernel
theorem d_X_flushAll_20 : decode b_X_flushAll 20 = .ok (.iload 4, 2) := by decide +kernel
theorem d_X_flushAll_22 : decode b_X_flushAll 22 = .ok (.aaload, 1) := by decide +kernel
theorem d_X_flushAll_23 : decode b_X_flushAll 23 = .ok (.astore 5, 2) := by decide +kernel
theorem d_X_flushAll_25 : decode b_X_flushAll 25 = .ok (.aload 5, 2) := by decide +kernel
theorem d_X_flushAll_27 : decode b_X_flushAll 27 = .ok (.getfield 76, 3) := by decide +kernel
theorem d_X_flushAll_30 : decode b_X_flushAll 30 = .ok (.ifCond .eq 12, 3) := by decide +kernel
theorem d_X_flushAll_33 : decode b_X_flushAll 33 = .ok (.aload_n 0, 1) := by decide +kernel
theorem d_X_flushAll_34 : decode b_X_flushAll 34 = .ok (.aload 5, 2) := by decide +kernel
theorem d_X_flushAll_36 : decode b_X_flushAll 36 = .ok (.invokevirtual 86, 3) := by decide +kernel
theorem d_X_flushAll_39 : decode b_X_flushAll 39 = .ok (.iinc 1 1, 3) := by decide +kernel
theorem d_X_flushAll_42 : decode b_X_flushAll 42 = .ok (.iinc 4 1, 3) := by decide +kernel
theorem d_X_flushAll_45 : decode b_X_flushAll 45 = .ok (.goto (-32), 3) := by decide +kernel
theorem d_X_flushAll_48 : decode b_X_flushAll 48 = .ok (.iload_n 1, 1) := by decide +kernel
theorem d_X_flushAll_49 : decode b_X_flushAll 49 = .ok (.ireturn, 1) := by decide +kernel
theorem d_X_drop_0 : decode b_X_drop 0 = .ok (.aload_n 0, 1) := by decide +kernel
theorem d_X_drop_1 : decode b_X_drop 1 = .ok (.iload_n 1, 1) := by decide +kernel
theorem d_X_drop_2 : decode b_X_drop 2 = .ok (.invokevirtual 93, 3) := by decide +kernel
theorem d_X_drop_5 : decode b_X_drop 5 = .ok (.astore_n 2, 1) := by decide +kernel
theorem d_X_drop_6 : decode b_X_drop 6 = .ok (.aload_n 2, 1) := by decide +kernel
theorem d_X_drop_7 : decode b_X_drop 7 = .ok (.ifnull 10, 3) := by decide +kernel
theorem d_X_drop_10 : decode b_X_drop 10 = .ok (.aload_n 2, 1) := by decide +kernel
theorem d_X_drop_11 : decode b_X_drop 11 = .ok (.getfield 80, 3) := by decide +kernel
theorem d_X_drop_14 : decode b_X_drop 14 = .ok (.ifCond .le 5, 3) := by decide +kernel
theorem d_X_drop_17 : decode b_X_drop 17 = .ok (.iconst 0, 1) := by decide +kernel
theorem d_X_drop_18 : decode b_X_drop 18 = .ok (.ireturn, 1) := by decide +kernel
theorem d_X_drop_19 : decode b_X_drop 19 = .ok (.aload_n 0, 1) := by decide +kernel
theorem d_X_drop_20 : decode b_X_drop 20 = .ok (.aload_n 2, 1) := by decide +kernel
theorem d_X_drop_21 : decode b_X_drop 21 = .ok (.invokevirtual 90, 3) := by decide +kernel
theorem d_X_drop_24 : decode b_X_drop 24 = .ok (.iconst 1, 1) := by decide +kernel
theorem d_X_drop_25 : decode b_X_drop 25 = .ok (.ireturn, 1) := by decide +kernel
theorem d_X_copy_0 : decode b_X_copy 0 = .ok (.aload_n 0, 1) := by decide +kernel
theorem d_X_copy_1 : decode b_X_copy 1 = .ok (.iload_n 1, 1) := by decide +kernel
theorem d_X_copy_2 : decode b_X_copy 2 = .ok (.invokevirtual 60, 3) := by decide +kernel
theorem d_X_copy_5 : decode b_X_copy 5 = .ok (.ifCond .eq 11, 3) := by decide +kernel
theorem d_X_copy_8 : decode b_X_copy 8 = .ok (.aload_n 0, 1) := by decide +kernel
theorem d_X_copy_9 : decode b_X_copy 9 = .ok (.iload_n 2, 1) := by decide +kernel
theorem d_X_copy_10 : decode b_X_copy 10 = .ok (.invokevirtual 60, 3) := by decide +kernel
theorem d_X_copy_13 : decode b_X_copy 13 = .ok (.ifCond .ne 6, 3) := by decide +kernel
theorem d_X_copy_16 : decode b_X_copy 16 = .ok (.bipush (-2), 2) := by decide +kernel
theorem d_X_copy_18 : decode b_X_copy 18 = .ok (.ireturn, 1) := by decide +kernel
theorem d_X_copy_19 : decode b_X_copy 19 = .ok (.aload_n 0, 1) := by decide +kernel
theorem d_X_copy_20 : decode b_X_copy 20 = .ok (.iload_n 1, 1) := by decide +kernel
theorem d_X_copy_21 : decode b_X_copy 21 = .ok (.invokevirtual 93, 3) := by decide +kernel
theorem d_X_copy_24 : decode b_X_copy 24 = .ok (.astore_n 3, 1) := by decide +kernel
theorem d_X_copy_25 : decode b_X_copy 25 = .ok (.aload_n 3, 1) := by decide +kernel
theorem d_X_copy_26 : decode b_X_copy 26 = .ok (.ifnull 10, 3) := by decide +kernel
theorem d_X_copy_29 : decode b_X_copy 29 = .ok (.aload_n 3, 1) := by decide +kernel
theorem d_X_copy_30 : decode b_X_copy 30 = .ok (.getfield 80, 3) := by decide +kernel
theorem d_X_copy_33 : decode b_X_copy 33 = .ok (.ifCond .ne 6, 3) := by decide +kernel
theorem d_X_copy_36 : decode b_X_copy 36 = .ok (.bipush (-3), 2) := by decide +kernel
theorem d_X_copy_38 : decode b_X_copy 38 = .ok (.ireturn, 1) := by decide +kernel
theorem d_X_copy_39 : decode b_X_copy 39 = .ok (.aload_n 0, 1) := by decide +kernel
theorem d_X_copy_40 : decode b_X_copy 40 = .ok (.iload_n 2, 1) := by decide +kernel
theorem d_X_copy_41 : decode b_X_copy 41 = .ok (.invokevirtual 93, 3) := by decide +kernel
theorem d_X_copy_44 : decode b_X_copy 44 = .ok (.astore 4, 2) := by decide +kernel
theorem d_X_copy_46 : decode b_X_copy 46 = .ok (.aload 4, 2) := by decide +kernel
theorem d_X_copy_48 : decode b_X_copy 48 = .ok (.ifnull 24, 3) := by decide +kernel
theorem d_X_copy_51 : decode b_X_copy 51 = .ok (.aload 4, 2) := by decide +kernel
theorem d_X_copy_53 : decode b_X_copy 53 = .ok (.getfield 67, 3) := by decide +kernel
theorem d_X_copy_56 : decode b_X_copy 56 = .ok (.iconst 0, 1) := by decide +kernel
theorem d_X_copy_57 : decode b_X_copy 57 = .ok (.aload_n 3, 1) := by decide +kernel
theorem d_X_copy_58 : decode b_X_copy 58 = .ok (.getfield 67, 3) := by decide +kernel
theorem d_X_copy_61 : decode b_X_copy 61 = .ok (.iconst 0, 1) := by decide +kernel
theorem d_X_copy_62 : decode b_X_copy 62 = .ok (.aload_n 0, 1) := by decide +kernel
theorem d_X_copy_63 : decode b_X_copy 63 = .ok (.getfield 28, 3) := by decide +kernel
theorem d_X_copy_66 : decode b_X_copy 66 = .ok (.invokestatic 70, 3) := by decide +kernel
theorem d_X_copy_69 : decode b_X_copy 69 = .ok (.goto 25, 3) := by decide +kernel
theorem d_X_copy_72 : decode b_X_copy 72 = .ok (.aload_n 0, 1) := by decide +kernel
theorem d_X_copy_73 : decode b_X_copy 73 = .ok (.getfield 31, 3) := by decide +kernel
theorem d_X_copy_76 : decode b_X_copy 76 = .ok (.iload_n 2, 1) := by decide +kernel
theorem d_X_copy_77 : decode b_X_copy 77 = .ok (.aload_n 0, 1) := by decide +kernel
theorem d_X_copy_78 : decode b_X_copy 78 = .ok (.getfield 28, 3) := by decide +kernel
theorem d_X_copy_81 : decode b_X_copy 81 = .ok (.imul, 1) := by decide +kernel
theorem d_X_copy_82 : decode b_X_copy 82 = .ok (.aload_n 3, 1) := by decide +kernel
theorem d_X_copy_83 : decode b_X_copy 83 = .ok (.getfield 67, 3) := by decide +kernel
theorem d_X_copy_86 : decode b_X_copy 86 = .ok (.iconst 0, 1) := by decide +kernel
theorem d_X_copy_87 : decode b_X_copy 87 = .ok (.aload_n 0, 1) := by decide +kernel
theorem d_X_copy_88 : decode b_X_copy 88 = .ok (.getfield 28, 3) := by decide +kernel
theorem d_X_copy_91 : decode b_X_copy 91 = .ok (.invokestatic 70, 3) := by decide +kernel
theorem d_X_copy_94 : decode b_X_copy 94 = .ok (.aload_n 3, 1) := by decide +kernel
theorem d_X_copy_95 : decode b_X_copy 95 = .ok (.iconst 1, 1) := by decide +kernel
theorem d_X_copy_96 : decode b_X_copy 96 = .ok (.putfield 76, 3) := by decide +kernel
theorem d_X_copy_99 : decode b_X_copy 99 = .ok (.iconst 0, 1) := by decide +kernel
theorem d_X_copy_100 : decode b_X_copy 100 = .ok (.ireturn, 1) := by decide +kernel
theorem d_X_diskWord_0 : decode b_X_diskWord 0 = .ok (.aload_n 0, 1) := by decide +kernel
theorem d_X_diskWord_1 : decode b_X_diskWord 1 = .ok (.iload_n 1, 1) := by decide +kernel
theorem d_X_diskWord_2 : decode b_X_diskWord 2 = .ok (.invokevirtual 60, 3) := by decide +kernel
theorem d_X_diskWord_5 : decode b_X_diskWord 5 = .ok (.ifCond .eq 27, 3) := by decide +kernel
theorem d_X_diskWord_8 : decode b_X_diskWord 8 = .ok (.aload_n 0, 1) := by decide +kernel
theorem d_X_diskWord_9 : decode b_X_diskWord 9 = .ok (.iload_n 2, 1) := by decide +kernel
theorem d_X_diskWord_10 : decode b_X_diskWord 10 = .ok (.invokevirtual 111, 3) := by decide +kernel
theorem d_X_diskWord_13 : decode b_X_diskWord 13 = .ok (.ifCond .eq 19, 3) := by decide +kernel
theorem d_X_diskWord_16 : decode b_X_diskWord 16 = .ok (.aload_n 0, 1) := by decide +kernel
theorem d_X_diskWord_17 : decode b_X_diskWord 17 = .ok (.getfield 31, 3) := by decide +kernel
theorem d_X_diskWord_20 : decode b_X_diskWord 20 = .ok (.iload_n 1, 1) := by decide +kernel
theorem d_X_diskWord_21 : decode b_X_diskWord 21 = .ok (.aload_n 0, 1) := by decide +kernel
theorem d_X_diskWord_22 : decode b_X_diskWord 22 = .ok (.getfield 28, 3) := by decide +kernel
theorem d_X_diskWord_25 : decode b_X_diskWord 25 = .ok (.imul, 1) := by decide +kernel
theorem d_X_diskWord_26 : decode b_X_diskWord 26 = .ok (.iload_n 2, 1) := by decide +kernel
theorem d_X_diskWord_27 : decode b_X_diskWord 27 = .ok (.iadd, 1) := by decide +kernel
theorem d_X_diskWord_28 : decode b_X_diskWord 28 = .ok (.iaload, 1) := by decide +kernel
theorem d_X_diskWord_29 : decode b_X_diskWord 29 = .ok (.goto 4, 3) := by decide +kernel
theorem d_X_diskWord_32 : decode b_X_diskWord 32 = .ok (.iconst 0, 1) := by decide +kernel
theorem d_X_diskWord_33 : decode b_X_diskWord 33 = .ok (.ireturn, 1) := by decide +kernel
theorem d_X_resident_0 : decode b_X_resident 0 = .ok (.aload_n 0, 1) := by decide +kernel
theorem d_X_resident_1 : decode b_X_resident 1 = .ok (.iload_n 1, 1) := by decide +kernel
theorem d_X_resident_2 : decode b_X_resident 2 = .ok (.invokevirtual 93, 3) := by decide +kernel
theorem d_X_resident_5 : decode b_X_resident 5 = .ok (.ifnull 7, 3) := by decide +kernel
theorem d_X_resident_8 : decode b_X_resident 8 = .ok (.iconst 1, 1) := by decide +kernel
theorem d_X_resident_9 : decode b_X_resident 9 = .ok (.goto 4, 3) := by decide +kernel
theorem d_X_resident_12 : decode b_X_resident 12 = .ok (.iconst 0, 1) := by decide +kernel
theorem d_X_resident_13 : decode b_X_resident 13 = .ok (.ireturn, 1) := by decide +kernel
theorem d_X_diskReads_0 : decode b_X_diskReads 0 = .ok (.aload_n 0, 1) := by decide +kernel
theorem d_X_diskReads_1 : decode b_X_diskReads 1 = .ok (.getfield 47, 3) := by decide +kernel
theorem d_X_diskReads_4 : decode b_X_diskReads 4 = .ok (.ireturn, 1) := by decide +kernel
theorem d_X_diskWrites_0 : decode b_X_diskWrites 0 = .ok (.aload_n 0, 1) := by decide +kernel
theorem d_X_diskWrites_1 : decode b_X_diskWrites 1 = .ok (.getfield 50, 3) := by decide +kernel
theorem d_X_diskWrites_4 : decode b_X_diskWrites 4 = .ok (.ireturn, 1) := by decide +kernel
theorem d_X_told_0 : decode b_X_told 0 = .ok (.iload_n 1, 1) := by decide +kernel
theorem d_X_told_1 : decode b_X_told 1 = .ok (.ifCond .lt 12, 3) := by decide +kernel
theorem d_X_told_4 : decode b_X_told 4 = .ok (.iload_n 1, 1) := by decide +kernel
theorem d_X_told_5 : decode b_X_told 5 = .ok (.aload_n 0, 1) := by decide +kernel
theorem d_X_told_6 : decode b_X_told 6 = .ok (.getfield 35, 3) := by decide +kernel
theorem d_X_told_9 : decode b_X_told 9 = .ok (.arraylength, 1) := by decide +kernel
theorem d_X_told_10 : decode b_X_told 10 = .ok (.if_icmp .lt 6, 3) := by decide +kernel
theorem d_X_told_13 : decode b_X_told 13 = .ok (.bipush (-5), 2) := by decide +kernel
theorem d_X_told_15 : decode b_X_told 15 = .ok (.ireturn, 1) := by decide +kernel
theorem d_X_told_16 : decode b_X_told 16 = .ok (.aload_n 0, 1) := by decide +kernel
theorem d_X_told_17 : decode b_X_told 17 = .ok (.getfield 35, 3) := by decide +kernel
theorem d_X_told_20 : decode b_X_told 20 = .ok (.iload_n 1, 1) := by decide +kernel
theorem d_X_told_21 : decode b_X_told 21 = .ok (.aaload, 1) := by decide +kernel
theorem d_X_told_22 : decode b_X_told 22 = .ok (.astore_n 3, 1) := by decide +kernel
theorem d_X_told_23 : decode b_X_told 23 = .ok (.iload_n 2, 1) := by decide +kernel
theorem d_X_told_24 : decode b_X_told 24 = .ok (.tableswitch 68 0 3 #[32, 37, 42, 55], 32) := by decide +kernel
theorem d_X_told_56 : decode b_X_told 56 = .ok (.aload_n 3, 1) := by decide +kernel
theorem d_X_told_57 : decode b_X_told 57 = .ok (.getfield 57, 3) := by decide +kernel
theorem d_X_told_60 : decode b_X_told 60 = .ok (.ireturn, 1) := by decide +kernel
theorem d_X_told_61 : decode b_X_told 61 = .ok (.aload_n 3, 1) := by decide +kernel
theorem d_X_told_62 : decode b_X_told 62 = .ok (.getfield 80, 3) := by decide +kernel
theorem d_X_told_65 : decode b_X_told 65 = .ok (.ireturn, 1) := by decide +kernel
theorem d_X_told_66 : decode b_X_told 66 = .ok (.aload_n 3, 1) := by decide +kernel
theorem d_X_told_67 : decode b_X_told 67 = .ok (.getfield 76, 3) := by decide +kernel
theorem d_X_told_70 : decode b_X_told 70 = .ok (.ifCond .eq 7, 3) := by decide +kernel
theorem d_X_told_73 : decode b_X_told 73 = .ok (.iconst 1, 1) := by decide +kernel
theorem d_X_told_74 : decode b_X_told 74 = .ok (.goto 4, 3) := by decide +kernel
theorem d_X_told_77 : decode b_X_told 77 = .ok (.iconst 0, 1) := by decide +kernel
theorem d_X_told_78 : decode b_X_told 78 = .ok (.ireturn, 1) := by decide +kernel
theorem d_X_told_79 : decode b_X_told 79 = .ok (.aload_n 3, 1) := by decide +kernel
theorem d_X_told_80 : decode b_X_told 80 = .ok (.getfield 83, 3) := by decide +kernel
theorem d_X_told_83 : decode b_X_told 83 = .ok (.ifCond .eq 7, 3) := by decide +kernel
theorem d_X_told_86 : decode b_X_told 86 = .ok (.iconst 1, 1) := by decide +kernel
theorem d_X_told_87 : decode b_X_told 87 = .ok (.goto 4, 3) := by decide +kernel
theorem d_X_told_90 : decode b_X_told 90 = .ok (.iconst 0, 1) := by decide +kernel
theorem d_X_told_91 : decode b_X_told 91 = .ok (.ireturn, 1) := by decide +kernel
theorem d_X_told_92 : decode b_X_told 92 = .ok (.bipush (-5), 2) := by decide +kernel
theorem d_X_told_94 : decode b_X_told 94 = .ok (.ireturn, 1) := by decide +kernel
theorem d_X_hand_0 : decode b_X_hand 0 = .ok (.aload_n 0, 1) := by decide +kernel
theorem d_X_hand_1 : decode b_X_hand 1 = .ok (.getfield 44, 3) := by decide +kernel
theorem d_X_hand_4 : decode b_X_hand 4 = .ok (.ireturn, 1) := by decide +kernel
end
section
theorem d_M_new_0 : decode b_M_new 0 = .ok (.aload_n 0, 1) := by decide +kernel
theorem d_M_new_1 : decode b_M_new 1 = .ok (.invokespecial 1, 3) := by decide +kernel
theorem d_M_new_4 : decode b_M_new 4 = .ok (.aload_n 0, 1) := by decide +kernel
theorem d_M_new_5 : decode b_M_new 5 = .ok (.sipush 1600, 3) := by decide +kernel
theorem d_M_new_8 : decode b_M_new 8 = .ok (.newarray .int, 2) := by decide +kernel
theorem d_M_new_10 : decode b_M_new 10 = .ok (.putfield 7, 3) := by decide +kernel
theorem d_M_new_13 : decode b_M_new 13 = .ok (.aload_n 0, 1) := by decide +kernel
theorem d_M_new_14 : decode b_M_new 14 = .ok (.sipush 256, 3) := by decide +kernel
theorem d_M_new_17 : decode b_M_new 17 = .ok (.newarray .int, 2) := by decide +kernel
theorem d_M_new_19 : decode b_M_new 19 = .ok (.putfield 13, 3) := by decide +kernel
theorem d_M_new_22 : decode b_M_new 22 = .ok (.aload_n 0, 1) := by decide +kernel
theorem d_M_new_23 : decode b_M_new 23 = .ok (.bipush 32, 2) := by decide +kernel
theorem d_M_new_25 : decode b_M_new 25 = .ok (.newarray .int, 2) := by decide +kernel
theorem d_M_new_27 : decode b_M_new 27 = .ok (.putfield 16, 3) := by decide +kernel
theorem d_M_new_30 : decode b_M_new 30 = .ok (.aload_n 0, 1) := by decide +kernel
theorem d_M_new_31 : decode b_M_new 31 = .ok (.bipush 32, 2) := by decide +kernel
theorem d_M_new_33 : decode b_M_new 33 = .ok (.newarray .int, 2) := by decide +kernel
theorem d_M_new_35 : decode b_M_new 35 = .ok (.putfield 19, 3) := by decide +kernel
theorem d_M_new_38 : decode b_M_new 38 = .ok (.aload_n 0, 1) := by decide +kernel
theorem d_M_new_39 : decode b_M_new 39 = .ok (.bipush 32, 2) := by decide +kernel
theorem d_M_new_41 : decode b_M_new 41 = .ok (.newarray .boolean, 2) := by decide +kernel
theorem d_M_new_43 : decode b_M_new 43 = .ok (.putfield 22, 3) := by decide +kernel
theorem d_M_new_46 : decode b_M_new 46 = .ok (.aload_n 0, 1) := by decide +kernel
theorem d_M_new_47 : decode b_M_new 47 = .ok (.bipush 32, 2) := by decide +kernel
theorem d_M_new_49 : decode b_M_new 49 = .ok (.newarray .boolean, 2) := by decide +kernel
theorem d_M_new_51 : decode b_M_new 51 = .ok (.putfield 26, 3) := by decide +kernel
theorem d_M_new_54 : decode b_M_new 54 = .ok (.aload_n 0, 1) := by decide +kernel
theorem d_M_new_55 : decode b_M_new 55 = .ok (.iload_n 1, 1) := by decide +kernel
theorem d_M_new_56 : decode b_M_new 56 = .ok (.iconst 1, 1) := by decide +kernel
theorem d_M_new_57 : decode b_M_new 57 = .ok (.if_icmp .ge 7, 3) := by decide +kernel
theorem d_M_new_60 : decode b_M_new 60 = .ok (.iconst 1, 1) := by decide +kernel
theorem d_M_new_61 : decode b_M_new 61 = .ok (.goto 15, 3) := by decide +kernel
theorem d_M_new_64 : decode b_M_new 64 = .ok (.iload_n 1, 1) := by decide +kernel
theorem d_M_new_65 : decode b_M_new 65 = .ok (.bipush 32, 2) := by decide +kernel
theorem d_M_new_67 : decode b_M_new 67 = .ok (.if_icmp .le 8, 3) := by decide +kernel
theorem d_M_new_70 : decode b_M_new 70 = .ok (.bipush 32, 2) := by decide +kernel
theorem d_M_new_72 : decode b_M_new 72 = .ok (.goto 4, 3) := by decide +kernel
theorem d_M_new_75 : decode b_M_new 75 = .ok (.iload_n 1, 1) := by decide +kernel
theorem d_M_new_76 : decode b_M_new 76 = .ok (.putfield 29, 3) := by decide +kernel
theorem d_M_new_79 : decode b_M_new 79 = .ok (.aload_n 0, 1) := by decide +kernel
theorem d_M_new_80 : decode b_M_new 80 = .ok (.iload_n 2, 1) := by decide +kernel
theorem d_M_new_81 : decode b_M_new 81 = .ok (.iconst 1, 1) := by decide +kernel
theorem d_M_new_82 : decode b_M_new 82 = .ok (.if_icmp .ge 7, 3) := by decide +kernel
theorem d_M_new_85 : decode b_M_new 85 = .ok (.iconst 1, 1) := by decide +kernel
theorem d_M_new_86 : decode b_M_new 86 = .ok (.goto 17, 3) := by decide +kernel
theorem d_M_new_89 : decode b_M_new 89 = .ok (.iload_n 2, 1) := by decide +kernel
theorem d_M_new_90 : decode b_M_new 90 = .ok (.sipush 200, 3) := by decide +kernel
theorem d_M_new_93 : decode b_M_new 93 = .ok (.if_icmp .le 9, 3) := by decide +kernel
theorem d_M_new_96 : decode b_M_new 96 = .ok (.sipush 200, 3) := by decide +kernel
theorem d_M_new_99 : decode b_M_new 99 = .ok (.goto 4, 3) := by decide +kernel
theorem d_M_new_102 : decode b_M_new 102 = .ok (.iload_n 2, 1) := by decide +kernel
theorem d_M_new_103 : decode b_M_new 103 = .ok (.putfield 33, 3) := by decide +kernel
theorem d_M_new_106 : decode b_M_new 106 = .ok (.aload_n 0, 1) := by decide +kernel
theorem d_M_new_107 : decode b_M_new 107 = .ok (.iload_n 3, 1) := by decide +kernel
theorem d_M_new_108 : decode b_M_new 108 = .ok (.iconst 1, 1) := by decide +kernel
theorem d_M_new_109 : decode b_M_new 109 = .ok (.if_icmp .ge 7, 3) := by decide +kernel
theorem d_M_new_112 : decode b_M_new 112 = .ok (.iconst 1, 1) := by decide +kernel
theorem d_M_new_113 : decode b_M_new 113 = .ok (.goto 15, 3) := by decide +kernel
theorem d_M_new_116 : decode b_M_new 116 = .ok (.iload_n 3, 1) := by decide +kernel
theorem d_M_new_117 : decode b_M_new 117 = .ok (.bipush 8, 2) := by decide +kernel
theorem d_M_new_119 : decode b_M_new 119 = .ok (.if_icmp .le 8, 3) := by decide +kernel
theorem d_M_new_122 : decode b_M_new 122 = .ok (.bipush 8, 2) := by decide +kernel
theorem d_M_new_124 : decode b_M_new 124 = .ok (.goto 4, 3) := by decide +kernel
theorem d_M_new_127 : decode b_M_new 127 = .ok (.iload_n 3, 1) := by decide +kernel
theorem d_M_new_128 : decode b_M_new 128 = .ok (.putfield 36, 3) := by decide +kernel
theorem d_M_new_131 : decode b_M_new 131 = .ok (.aload_n 0, 1) := by decide +kernel
theorem d_M_new_132 : decode b_M_new 132 = .ok (.invokevirtual 39, 3) := by decide +kernel
theorem d_M_new_135 : decode b_M_new 135 = .ok (.return_, 1) := by decide +kernel
theorem d_M_init_0 : decode b_M_init 0 = .ok (.iconst 0, 1) := by decide +kernel
theorem d_M_init_1 : decode b_M_init 1 = .ok (.istore_n 1, 1) := by decide +kernel
theorem d_M_init_2 : decode b_M_init 2 = .ok (.iload_n 1, 1) := by decide +kernel
theorem d_M_init_3 : decode b_M_init 3 = .ok (.sipush 1600, 3) := by decide +kernel
theorem d_M_init_6 : decode b_M_init 6 = .ok (.if_icmp .ge 16, 3) := by decide +kernel
theorem d_M_init_9 : decode b_M_init 9 = .ok (.aload_n 0, 1) := by decide +kernel
theorem d_M_init_10 : decode b_M_init 10 = .ok (.getfield 7, 3) := by decide +kernel
theorem d_M_init_13 : decode b_M_init 13 = .ok (.iload_n 1, 1) := by decide +kernel
theorem d_M_init_14 : decode b_M_init 14 = .ok (.iconst 0, 1) := by decide +kernel
theorem d_M_init_15 : decode b_M_init 15 = .ok (.iastore, 1) := by decide +kernel
theorem d_M_init_16 : decode b_M_init 16 = .ok (.iinc 1 1, 3) := by decide +kernel
theorem d_M_init_19 : decode b_M_init 19 = .ok (.goto (-17), 3) := by decide +kernel
theorem d_M_init_22 : decode b_M_init 22 = .ok (.iconst 0, 1) := by decide +kernel
theorem d_M_init_23 : decode b_M_init 23 = .ok (.istore_n 1, 1) := by decide +kernel
theorem d_M_init_24 : decode b_M_init 24 = .ok (.iload_n 1, 1) := by decide +kernel
theorem d_M_init_25 : decode b_M_init 25 = .ok (.bipush 32, 2) := by decide +kernel
theorem d_M_init_27 : decode b_M_init 27 = .ok (.if_icmp .ge 14, 3) := by decide +kernel
theorem d_M_init_30 : decode b_M_init 30 = .ok (.aload_n 0, 1) := by decide +kernel
theorem d_M_init_31 : decode b_M_init 31 = .ok (.iload_n 1, 1) := by decide +kernel
theorem d_M_init_32 : decode b_M_init 32 = .ok (.invokevirtual 42, 3) := by decide +kernel
theorem d_M_init_35 : decode b_M_init 35 = .ok (.iinc 1 1, 3) := by decide +kernel
theorem d_M_init_38 : decode b_M_init 38 = .ok (.goto (-14), 3) := by decide +kernel
theorem d_M_init_41 : decode b_M_init 41 = .ok (.aload_n 0, 1) := by decide +kernel
theorem d_M_init_42 : decode b_M_init 42 = .ok (.iconst 0, 1) := by decide +kernel
theorem d_M_init_43 : decode b_M_init 43 = .ok (.putfield 46, 3) := by decide +kernel
theorem d_M_init_46 : decode b_M_init 46 = .ok (.aload_n 0, 1) := by decide +kernel
theorem d_M_init_47 : decode b_M_init 47 = .ok (.iconst 0, 1) := by decide +kernel
theorem d_M_init_48 : decode b_M_init 48 = .ok (.putfield 49, 3) := by decide +kernel
theorem d_M_init_51 : decode b_M_init 51 = .ok (.aload_n 0, 1) := by decide +kernel
theorem d_M_init_52 : decode b_M_init 52 = .ok (.iconst 0, 1) := by decide +kernel
theorem d_M_init_53 : decode b_M_init 53 = .ok (.putfield 52, 3) := by decide +kernel
theorem d_M_init_56 : decode b_M_init 56 = .ok (.return_, 1) := by decide +kernel
theorem d_M_empty_0 : decode b_M_empty 0 = .ok (.aload_n 0, 1) := by decide +kernel
theorem d_M_empty_1 : decode b_M_empty 1 = .ok (.getfield 16, 3) := by decide +kernel
theorem d_M_empty_4 : decode b_M_empty 4 = .ok (.iload_n 1, 1) := by decide +kernel
theorem d_M_empty_5 : decode b_M_empty 5 = .ok (.iconst (-1), 1) := by decide +kernel
theorem d_M_empty_6 : decode b_M_empty 6 = .ok (.iastore, 1) := by decide +kernel
theorem d_M_empty_7 : decode b_M_empty 7 = .ok (.aload_n 0, 1) := by decide +kernel
theorem d_M_empty_8 : decode b_M_empty 8 = .ok (.getfield 19, 3) := by decide +kernel
theorem d_M_empty_11 : decode b_M_empty 11 = .ok (.iload_n 1, 1) := by decide +kernel
theorem d_M_empty_12 : decode b_M_empty 12 = .ok (.iconst 0, 1) := by decide +kernel
theorem d_M_empty_13 : decode b_M_empty 13 = .ok (.iastore, 1) := by decide +kernel
theorem d_M_empty_14 : decode b_M_empty 14 = .ok (.aload_n 0, 1) := by decide +kernel
theorem d_M_empty_15 : decode b_M_empty 15 = .ok (.getfield 22, 3) := by decide +kernel
theorem d_M_empty_18 : decode b_M_empty 18 = .ok (.iload_n 1, 1) := by decide +kernel
theorem d_M_empty_19 : decode b_M_empty 19 = .ok (.iconst 0, 1) := by decide +kernel
theorem d_M_empty_20 : decode b_M_empty 20 = .ok (.bastore, 1) := by decide +kernel
theorem d_M_empty_21 : decode b_M_empty 21 = .ok (.aload_n 0, 1) := by decide +kernel
theorem d_M_empty_22 : decode b_M_empty 22 = .ok (.getfield 26, 3) := by decide +kernel
theorem d_M_empty_25 : decode b_M_empty 25 = .ok (.iload_n 1, 1) := by decide +kernel
theorem d_M_empty_26 : decode b_M_empty 26 = .ok (.iconst 0, 1) := by decide +kernel
theorem d_M_empty_27 : decode b_M_empty 27 = .ok (.bastore, 1) := by decide +kernel
theorem d_M_empty_28 : decode b_M_empty 28 = .ok (.return_, 1) := by decide +kernel
theorem d_M_fetch_0 : decode b_M_fetch 0 = .ok (.aload_n 0, 1) := by decide +kernel
theorem d_M_fetch_1 : decode b_M_fetch 1 = .ok (.iload_n 1, 1) := by decide +kernel
theorem d_M_fetch_2 : decode b_M_fetch 2 = .ok (.invokevirtual 62, 3) := by decide +kernel
theorem d_M_fetch_5 : decode b_M_fetch 5 = .ok (.ifCond .ne 6, 3) := by decide +kernel
theorem d_M_fetch_8 : decode b_M_fetch 8 = .ok (.bipush (-2), 2) := by decide +kernel
theorem d_M_fetch_10 : decode b_M_fetch 10 = .ok (.ireturn, 1) := by decide +kernel
theorem d_M_fetch_11 : decode b_M_fetch 11 = .ok (.aload_n 0, 1) := by decide +kernel
theorem d_M_fetch_12 : decode b_M_fetch 12 = .ok (.iload_n 1, 1) := by decide +kernel
theorem d_M_fetch_13 : decode b_M_fetch 13 = .ok (.invokevirtual 66, 3) := by decide +kernel
theorem d_M_fetch_16 : decode b_M_fetch 16 = .ok (.istore_n 2, 1) := by decide +kernel
theorem d_M_fetch_17 : decode b_M_fetch 17 = .ok (.iload_n 2, 1) := by decide +kernel
theorem d_M_fetch_18 : decode b_M_fetch 18 = .ok (.bipush (-5), 2) := by decide +kernel
theorem d_M_fetch_20 : decode b_M_fetch 20 = .ok (.if_icmp .ne 71, 3) := by decide +kernel
theorem d_M_fetch_23 : decode b_M_fetch 23 = .ok (.aload_n 0, 1) := by decide +kernel
theorem d_M_fetch_24 : decode b_M_fetch 24 = .ok (.invokevirtual 70, 3) := by decide +kernel
theorem d_M_fetch_27 : decode b_M_fetch 27 = .ok (.istore_n 2, 1) := by decide +kernel
theorem d_M_fetch_28 : decode b_M_fetch 28 = .ok (.iload_n 2, 1) := by decide +kernel
theorem d_M_fetch_29 : decode b_M_fetch 29 = .ok (.bipush (-5), 2) := by decide +kernel
theorem d_M_fetch_31 : decode b_M_fetch 31 = .ok (.if_icmp .ne 5, 3) := by decide +kernel
theorem d_M_fetch_34 : decode b_M_fetch 34 = .ok (.iconst (-1), 1) := by decide +kernel
theorem d_M_fetch_35 : decode b_M_fetch 35 = .ok (.ireturn, 1) := by decide +kernel
theorem d_M_fetch_36 : decode b_M_fetch 36 = .ok (.iconst 0, 1) := by decide +kernel
theorem d_M_fetch_37 : decode b_M_fetch 37 = .ok (.istore_n 3, 1) := by decide +kernel
theorem d_M_fetch_38 : decode b_M_fetch 38 = .ok (.iload_n 3, 1) := by decide +kernel
theorem d_M_fetch_39 : decode b_M_fetch 39 = .ok (.aload_n 0, 1) := by decide +kernel
theorem d_M_fetch_40 : decode b_M_fetch 40 = .ok (.getfield 36, 3) := by decide +kernel
theorem d_M_fetch_43 : decode b_M_fetch 43 = .ok (.if_icmp .ge 31, 3) := by decide +kernel
theorem d_M_fetch_46 : decode b_M_fetch 46 = .ok (.aload_n 0, 1) := by decide +kernel
theorem d_M_fetch_47 : decode b_M_fetch 47 = .ok (.getfield 13, 3) := by decide +kernel
theorem d_M_fetch_50 : decode b_M_fetch 50 = .ok (.bipush 8, 2) := by decide +kernel
theorem d_M_fetch_52 : decode b_M_fetch 52 = .ok (.iload_n 2, 1) := by decide +kernel
theorem d_M_fetch_53 : decode b_M_fetch 53 = .ok (.imul, 1) := by decide +kernel
theorem d_M_fetch_54 : decode b_M_fetch 54 = .ok (.iload_n 3, 1) := by decide +kernel
theorem d_M_fetch_55 : decode b_M_fetch 55 = .ok (.iadd, 1) := by decide +kernel
theorem d_M_fetch_56 : decode b_M_fetch 56 = .ok (.aload_n 0, 1) := by decide +kernel
theorem d_M_fetch_57 : decode b_M_fetch 57 = .ok (.getfield 7, 3) := by decide +kernel
theorem d_M_fetch_60 : decode b_M_fetch 60 = .ok (.bipush 8, 2) := by decide +kernel
theorem d_M_fetch_62 : decode b_M_fetch 62 = .ok (.iload_n 1, 1) := by decide +kernel
theorem d_M_fetch_63 : decode b_M_fetch 63 = .ok (.imul, 1) := by decide +kernel
theorem d_M_fetch_64 : decode b_M_fetch 64 = .ok (.iload_n 3, 1) := by decide +kernel
theorem d_M_fetch_65 : decode b_M_fetch 65 = .ok (.iadd, 1) := by decide +kernel
theorem d_M_fetch_66 : decode b_M_fetch 66 = .ok (.iaload, 1) := by decide +kernel
theorem d_M_fetch_67 : decode b_M_fetch 67 = .ok (.iastore, 1) := by decide +kernel
theorem d_M_fetch_68 : decode b_M_fetch 68 = .ok (.iinc 3 1, 3) := by decide +kernel
theorem d_M_fetch_71 : decode b_M_fetch 71 = .ok (.goto (-33), 3) := by decide +kernel
theorem d_M_fetch_74 : decode b_M_fetch 74 = .ok (.aload_n 0, 1) := by decide +kernel
theorem d_M_fetch_75 : decode b_M_fetch 75 = .ok (.getfield 16, 3) := by decide +kernel
theorem d_M_fetch_78 : decode b_M_fetch 78 = .ok (.iload_n 2, 1) := by decide +kernel
theorem d_M_fetch_79 : decode b_M_fetch 79 = .ok (.iload_n 1, 1) := by decide +kernel
theorem d_M_fetch_80 : decode b_M_fetch 80 = .ok (.iastore, 1) := by decide +kernel
theorem d_M_fetch_81 : decode b_M_fetch 81 = .ok (.aload_n 0, 1) := by decide +kernel
theorem d_M_fetch_82 : decode b_M_fetch 82 = .ok (.dup, 1) := by decide +kernel
theorem d_M_fetch_83 : decode b_M_fetch 83 = .ok (.getfield 49, 3) := by decide +kernel
theorem d_M_fetch_86 : decode b_M_fetch 86 = .ok (.iconst 1, 1) := by decide +kernel
theorem d_M_fetch_87 : decode b_M_fetch 87 = .ok (.iadd, 1) := by decide +kernel
theorem d_M_fetch_88 : decode b_M_fetch 88 = .ok (.putfield 49, 3) := by decide +kernel
theorem d_M_fetch_91 : decode b_M_fetch 91 = .ok (.aload_n 0, 1) := by decide +kernel
theorem d_M_fetch_92 : decode b_M_fetch 92 = .ok (.getfield 19, 3) := by decide +kernel
theorem d_M_fetch_95 : decode b_M_fetch 95 = .ok (.iload_n 2, 1) := by decide +kernel
theorem d_M_fetch_96 : decode b_M_fetch 96 = .ok (.dup2, 1) := by decide +kernel
theorem d_M_fetch_97 : decode b_M_fetch 97 = .ok (.iaload, 1) := by decide +kernel
theorem d_M_fetch_98 : decode b_M_fetch 98 = .ok (.iconst 1, 1) := by decide +kernel
theorem d_M_fetch_99 : decode b_M_fetch 99 = .ok (.iadd, 1) := by decide +kernel
theorem d_M_fetch_100 : decode b_M_fetch 100 = .ok (.iastore, 1) := by decide +kernel
theorem d_M_fetch_101 : decode b_M_fetch 101 = .ok (.aload_n 0, 1) := by decide +kernel
theorem d_M_fetch_102 : decode b_M_fetch 102 = .ok (.getfield 26, 3) := by decide +kernel
theorem d_M_fetch_105 : decode b_M_fetch 105 = .ok (.iload_n 2, 1) := by decide +kernel
theorem d_M_fetch_106 : decode b_M_fetch 106 = .ok (.iconst 1, 1) := by decide +kernel
theorem d_M_fetch_107 : decode b_M_fetch 107 = .ok (.bastore, 1) := by decide +kernel
theorem d_M_fetch_108 : decode b_M_fetch 108 = .ok (.iload_n 2, 1) := by decide +kernel
theorem d_M_fetch_109 : decode b_M_fetch 109 = .ok (.ireturn, 1) := by decide +kernel
theorem d_M_isPage_0 : decode b_M_isPage 0 = .ok (.iload_n 1, 1) := by decide +kernel
theorem d_M_isPage_1 : decode b_M_isPage 1 = .ok (.ifCond .lt 15, 3) := by decide +kernel
theorem d_M_isPage_4 : decode b_M_isPage 4 = .ok (.iload_n 1, 1) := by decide +kernel
theorem d_M_isPage_5 : decode b_M_isPage 5 = .ok (.aload_n 0, 1) := by decide +kernel
theorem d_M_isPage_6 : decode b_M_isPage 6 = .ok (.getfield 33, 3) := by decide +kernel
theorem d_M_isPage_9 : decode b_M_isPage 9 = .ok (.if_icmp .ge 7, 3) := by decide +kernel
theorem d_M_isPage_12 : decode b_M_isPage 12 = .ok (.iconst 1, 1) := by decide +kernel
theorem d_M_isPage_13 : decode b_M_isPage 13 = .ok (.goto 4, 3) := by decide +kernel
theorem d_M_isPage_16 : decode b_M_isPage 16 = .ok (.iconst 0, 1) := by decide +kernel
theorem d_M_isPage_17 : decode b_M_isPage 17 = .ok (.ireturn, 1) := by decide +kernel
theorem d_M_frameOf_0 : decode b_M_frameOf 0 = .ok (.iconst 0, 1) := by decide +kernel
theorem d_M_frameOf_1 : decode b_M_frameOf 1 = .ok (.istore_n 2, 1) := by decide +kernel
theorem d_M_frameOf_2 : decode b_M_frameOf 2 = .ok (.iload_n 2, 1) := by decide +kernel
theorem d_M_frameOf_3 : decode b_M_frameOf 3 = .ok (.aload_n 0, 1) := by decide +kernel
theorem d_M_frameOf_4 : decode b_M_frameOf 4 = .ok (.getfield 29, 3) := by decide +kernel
theorem d_M_frameOf_7 : decode b_M_frameOf 7 = .ok (.if_icmp .ge 25, 3) := by decide +kernel
theorem d_M_frameOf_10 : decode b_M_frameOf 10 = .ok (.iload_n 1, 1) := by decide +kernel
theorem d_M_frameOf_11 : decode b_M_frameOf 11 = .ok (.ifCond .lt 15, 3) := by decide +kernel
theorem d_M_frameOf_14 : decode b_M_frameOf 14 = .ok (.aload_n 0, 1) := by decide +kernel
theorem d_M_frameOf_15 : decode b_M_frameOf 15 = .ok (.getfield 16, 3) := by decide +kernel
theorem d_M_frameOf_18 : decode b_M_frameOf 18 = .ok (.iload_n 2, 1) := by decide +kernel
theorem d_M_frameOf_19 : decode b_M_frameOf 19 = .ok (.iaload, 1) := by decide +kernel
theorem d_M_frameOf_20 : decode b_M_frameOf 20 = .ok (.iload_n 1, 1) := by decide +kernel
theorem d_M_frameOf_21 : decode b_M_frameOf 21 = .ok (.if_icmp .ne 5, 3) := by decide +kernel
theorem d_M_frameOf_24 : decode b_M_frameOf 24 = .ok (.iload_n 2, 1) := by decide +kernel
theorem d_M_frameOf_25 : decode b_M_frameOf 25 = .ok (.ireturn, 1) := by decide +kernel
theorem d_M_frameOf_26 : decode b_M_frameOf 26 = .ok (.iinc 2 1, 3) := by decide +kernel
theorem d_M_frameOf_29 : decode b_M_frameOf 29 = .ok (.goto (-27), 3) := by decide +kernel
theorem d_M_frameOf_32 : decode b_M_frameOf 32 = .ok (.bipush (-5), 2) := by decide +kernel
theorem d_M_frameOf_34 : decode b_M_frameOf 34 = .ok (.ireturn, 1) := by decide +kernel
theorem d_M_find_0 : decode b_M_find 0 = .ok (.aload_n 0, 1) := by decide +kernel
theorem d_M_find_1 : decode b_M_find 1 = .ok (.invokevirtual 55, 3) := by decide +kernel
theorem d_M_find_4 : decode b_M_find 4 = .ok (.aload_n 0, 1) := by decide +kernel
theorem d_M_find_5 : decode b_M_find 5 = .ok (.getfield 29, 3) := by decide +kernel
theorem d_M_find_8 : decode b_M_find 8 = .ok (.if_icmp .ne 6, 3) := by decide +kernel
theorem d_M_find_11 : decode b_M_find 11 = .ok (.bipush (-5), 2) := by decide +kernel
theorem d_M_find_13 : decode b_M_find 13 = .ok (.ireturn, 1) := by decide +kernel
theorem d_M_find_14 : decode b_M_find 14 = .ok (.aload_n 0, 1) := by decide +kernel
theorem d_M_find_15 : decode b_M_find 15 = .ok (.getfield 46, 3) := by decide +kernel
theorem d_M_find_18 : decode b_M_find 18 = .ok (.istore_n 1, 1) := by decide +kernel
theorem d_M_find_19 : decode b_M_find 19 = .ok (.aload_n 0, 1) := by decide +kernel
theorem d_M_find_20 : decode b_M_find 20 = .ok (.aload_n 0, 1) := by decide +kernel
theorem d_M_find_21 : decode b_M_find 21 = .ok (.getfield 46, 3) := by decide +kernel
theorem d_M_find_24 : decode b_M_find 24 = .ok (.iconst 1, 1) := by decide +kernel
theorem d_M_find_25 : decode b_M_find 25 = .ok (.iadd, 1) := by decide +kernel
theorem d_M_find_26 : decode b_M_find 26 = .ok (.aload_n 0, 1) := by decide +kernel
theorem d_M_find_27 : decode b_M_find 27 = .ok (.getfield 29, 3) := by decide +kernel
theorem d_M_find_30 : decode b_M_find 30 = .ok (.if_icmp .ne 7, 3) := by decide +kernel
theorem d_M_find_33 : decode b_M_find 33 = .ok (.iconst 0, 1) := by decide +kernel
theorem d_M_find_34 : decode b_M_find 34 = .ok (.goto 9, 3) := by decide +kernel
theorem d_M_find_37 : decode b_M_find 37 = .ok (.aload_n 0, 1) := by decide +kernel
theorem d_M_find_38 : decode b_M_find 38 = .ok (.getfield 46, 3) := by decide +kernel
theorem d_M_find_41 : decode b_M_find 41 = .ok (.iconst 1, 1) := by decide +kernel
theorem d_M_find_42 : decode b_M_find 42 = .ok (.iadd, 1) := by decide +kernel
theorem d_M_find_43 : decode b_M_find 43 = .ok (.putfield 46, 3) := by decide +kernel
theorem d_M_find_46 : decode b_M_find 46 = .ok (.aload_n 0, 1) := by decide +kernel
theorem d_M_find_47 : decode b_M_find 47 = .ok (.getfield 19, 3) := by decide +kernel
theorem d_M_find_50 : decode b_M_find 50 = .ok (.iload_n 1, 1) := by decide +kernel
theorem d_M_find_51 : decode b_M_find 51 = .ok (.iaload, 1) := by decide +kernel
theorem d_M_find_52 : decode b_M_find 52 = .ok (.ifCond .le 6, 3) := by decide +kernel
theorem d_M_find_55 : decode b_M_find 55 = .ok (.goto (-41), 3) := by decide +kernel
theorem d_M_find_58 : decode b_M_find 58 = .ok (.aload_n 0, 1) := by decide +kernel
theorem d_M_find_59 : decode b_M_find 59 = .ok (.getfield 16, 3) := by decide +kernel
theorem d_M_find_62 : decode b_M_find 62 = .ok (.iload_n 1, 1) := by decide +kernel
theorem d_M_find_63 : decode b_M_find 63 = .ok (.iaload, 1) := by decide +kernel
theorem d_M_find_64 : decode b_M_find 64 = .ok (.iconst (-1), 1) := by decide +kernel
theorem d_M_find_65 : decode b_M_find 65 = .ok (.if_icmp .eq 22, 3) := by decide +kernel
theorem d_M_find_68 : decode b_M_find 68 = .ok (.aload_n 0, 1) := by decide +kernel
theorem d_M_find_69 : decode b_M_find 69 = .ok (.getfield 26, 3) := by decide +kernel
theorem d_M_find_72 : decode b_M_find 72 = .ok (.iload_n 1, 1) := by decide +kernel
theorem d_M_find_73 : decode b_M_find 73 = .ok (.baload, 1) := by decide +kernel
theorem d_M_find_74 : decode b_M_find 74 = .ok (.ifCond .eq 13, 3) := by decide +kernel
theorem d_M_find_77 : decode b_M_find 77 = .ok (.aload_n 0, 1) := by decide +kernel
theorem d_M_find_78 : decode b_M_find 78 = .ok (.getfield 26, 3) := by decide +kernel
theorem d_M_find_81 : decode b_M_find 81 = .ok (.iload_n 1, 1) := by decide +kernel
theorem d_M_find_82 : decode b_M_find 82 = .ok (.iconst 0, 1) := by decide +kernel
theorem d_M_find_83 : decode b_M_find 83 = .ok (.bastore, 1) := by decide +kernel
theorem d_M_find_84 : decode b_M_find 84 = .ok (.goto (-70), 3) := by decide +kernel
theorem d_M_find_87 : decode b_M_find 87 = .ok (.aload_n 0, 1) := by decide +kernel
theorem d_M_find_88 : decode b_M_find 88 = .ok (.getfield 16, 3) := by decide +kernel
theorem d_M_find_91 : decode b_M_find 91 = .ok (.iload_n 1, 1) := by decide +kernel
theorem d_M_find_92 : decode b_M_find 92 = .ok (.iaload, 1) := by decide +kernel
theorem d_M_find_93 : decode b_M_find 93 = .ok (.iconst (-1), 1) := by decide +kernel
theorem d_M_find_94 : decode b_M_find 94 = .ok (.if_icmp .eq 17, 3) := by decide +kernel
theorem d_M_find_97 : decode b_M_find 97 = .ok (.aload_n 0, 1) := by decide +kernel
theorem d_M_find_98 : decode b_M_find 98 = .ok (.getfield 22, 3) := by decide +kernel
theorem d_M_find_101 : decode b_M_find 101 = .ok (.iload_n 1, 1) := by decide +kernel
theorem d_M_find_102 : decode b_M_find 102 = .ok (.baload, 1) := by decide +kernel
theorem d_M_find_103 : decode b_M_find 103 = .ok (.ifCond .eq 8, 3) := by decide +kernel
theorem d_M_find_106 : decode b_M_find 106 = .ok (.aload_n 0, 1) := by decide +kernel
theorem d_M_find_107 : decode b_M_find 107 = .ok (.iload_n 1, 1) := by decide +kernel
theorem d_M_find_108 : decode b_M_find 108 = .ok (.invokevirtual 59, 3) := by decide +kernel
theorem d_M_find_111 : decode b_M_find 111 = .ok (.aload_n 0, 1) := by decide +kernel
theorem d_M_find_112 : decode b_M_find 112 = .ok (.iload_n 1, 1) := by decide +kernel
theorem d_M_find_113 : decode b_M_find 113 = .ok (.invokevirtual 42, 3) := by decide +kernel
theorem d_M_find_116 : decode b_M_find 116 = .ok (.iload_n 1, 1) := by decide +kernel
theorem d_M_find_117 : decode b_M_find 117 = .ok (.ireturn, 1) := by decide +kernel
theorem d_M_pinned_0 : decode b_M_pinned 0 = .ok (.iconst 0, 1) := by decide +kernel
theorem d_M_pinned_1 : decode b_M_pinned 1 = .ok (.istore_n 1, 1) := by decide +kernel
theorem d_M_pinned_2 : decode b_M_pinned 2 = .ok (.iconst 0, 1) := by decide +kernel
theorem d_M_pinned_3 : decode b_M_pinned 3 = .ok (.istore_n 2, 1) := by decide +kernel
theorem d_M_pinned_4 : decode b_M_pinned 4 = .ok (.iload_n 2, 1) := by decide +kernel
theorem d_M_pinned_5 : decode b_M_pinned 5 = .ok (.aload_n 0, 1) := by decide +kernel
theorem d_M_pinned_6 : decode b_M_pinned 6 = .ok (.getfield 29, 3) := by decide +kernel
theorem d_M_pinned_9 : decode b_M_pinned 9 = .ok (.if_icmp .ge 26, 3) := by decide +kernel
theorem d_M_pinned_12 : decode b_M_pinned 12 = .ok (.iload_n 1, 1) := by decide +kernel
theorem d_M_pinned_13 : decode b_M_pinned 13 = .ok (.aload_n 0, 1) := by decide +kernel
theorem d_M_pinned_14 : decode b_M_pinned 14 = .ok (.getfield 19, 3) := by decide +kernel
theorem d_M_pinned_17 : decode b_M_pinned 17 = .ok (.iload_n 2, 1) := by decide +kernel
theorem d_M_pinned_18 : decode b_M_pinned 18 = .ok (.iaload, 1) := by decide +kernel
theorem d_M_pinned_19 : decode b_M_pinned 19 = .ok (.ifCond .le 7, 3) := by decide +kernel
theorem d_M_pinned_22 : decode b_M_pinned 22 = .ok (.iconst 1, 1) := by decide +kernel
theorem d_M_pinned_23 : decode b_M_pinned 23 = .ok (.goto 4, 3) := by decide +kernel
theorem d_M_pinned_26 : decode b_M_pinned 26 = .ok (.iconst 0, 1) := by decide +kernel
theorem d_M_pinned_27 : decode b_M_pinned 27 = .ok (.iadd, 1) := by decide +kernel
theorem d_M_pinned_28 : decode b_M_pinned 28 = .ok (.istore_n 1, 1) := by decide +kernel
theorem d_M_pinned_29 : decode b_M_pinned 29 = .ok (.iinc 2 1, 3) := by decide +kernel
theorem d_M_pinned_32 : decode b_M_pinned 32 = .ok (.goto (-28), 3) := by decide +kernel
theorem d_M_pinned_35 : decode b_M_pinned 35 = .ok (.iload_n 1, 1) := by decide +kernel
theorem d_M_pinned_36 : decode b_M_pinned 36 = .ok (.ireturn, 1) := by decide +kernel
theorem d_M_store_0 : decode b_M_store 0 = .ok (.iconst 0, 1) := by decide +kernel
theorem d_M_store_1 : decode b_M_store 1 = .ok (.istore_n 2, 1) := by decide +kernel
theorem d_M_store_2 : decode b_M_store 2 = .ok (.iload_n 2, 1) := by decide +kernel
theorem d_M_store_3 : decode b_M_store 3 = .ok (.aload_n 0, 1) := by decide +kernel
theorem d_M_store_4 : decode b_M_store 4 = .ok (.getfield 36, 3) := by decide +kernel
theorem d_M_store_7 : decode b_M_store 7 = .ok (.if_icmp .ge 36, 3) := by decide +kernel
theorem d_M_store_10 : decode b_M_store 10 = .ok (.aload_n 0, 1) := by decide +kernel
theorem d_M_store_11 : decode b_M_store 11 = .ok (.getfield 7, 3) := by decide +kernel
theorem d_M_store_14 : decode b_M_store 14 = .ok (.bipush 8, 2) := by decide +kernel
theorem d_M_store_16 : decode b_M_store 16 = .ok (.aload_n 0, 1) := by decide +kernel
theorem d_M_store_17 : decode b_M_store 17 = .ok (.getfield 16, 3) := by decide +kernel
theorem d_M_store_20 : decode b_M_store 20 = .ok (.iload_n 1, 1) := by decide +kernel
theorem d_M_store_21 : decode b_M_store 21 = .ok (.iaload, 1) := by decide +kernel
theorem d_M_store_22 : decode b_M_store 22 = .ok (.imul, 1) := by decide +kernel
theorem d_M_store_23 : decode b_M_store 23 = .ok (.iload_n 2, 1) := by decide +kernel
theorem d_M_store_24 : decode b_M_store 24 = .ok (.iadd, 1) := by decide +kernel
theorem d_M_store_25 : decode b_M_store 25 = .ok (.aload_n 0, 1) := by decide +kernel
theorem d_M_store_26 : decode b_M_store 26 = .ok (.getfield 13, 3) := by decide +kernel
theorem d_M_store_29 : decode b_M_store 29 = .ok (.bipush 8, 2) := by decide +kernel
theorem d_M_store_31 : decode b_M_store 31 = .ok (.iload_n 1, 1) := by decide +kernel
theorem d_M_store_32 : decode b_M_store 32 = .ok (.imul, 1) := by decide +kernel
theorem d_M_store_33 : decode b_M_store 33 = .ok (.iload_n 2, 1) := by decide +kernel
theorem d_M_store_34 : decode b_M_store 34 = .ok (.iadd, 1) := by decide +kernel
theorem d_M_store_35 : decode b_M_store 35 = .ok (.iaload, 1) := by decide +kernel
theorem d_M_store_36 : decode b_M_store 36 = .ok (.iastore, 1) := by decide +kernel
theorem d_M_store_37 : decode b_M_store 37 = .ok (.iinc 2 1, 3) := by decide +kernel
theorem d_M_store_40 : decode b_M_store 40 = .ok (.goto (-38), 3) := by decide +kernel
theorem d_M_store_43 : decode b_M_store 43 = .ok (.aload_n 0, 1) := by decide +kernel
theorem d_M_store_44 : decode b_M_store 44 = .ok (.getfield 22, 3) := by decide +kernel
theorem d_M_store_47 : decode b_M_store 47 = .ok (.iload_n 1, 1) := by decide +kernel
theorem d_M_store_48 : decode b_M_store 48 = .ok (.iconst 0, 1) := by decide +kernel
theorem d_M_store_49 : decode b_M_store 49 = .ok (.bastore, 1) := by decide +kernel
theorem d_M_store_50 : decode b_M_store 50 = .ok (.aload_n 0, 1) := by decide +kernel
theorem d_M_store_51 : decode b_M_store 51 = .ok (.dup, 1) := by decide +kernel
theorem d_M_store_52 : decode b_M_store 52 = .ok (.getfield 52, 3) := by decide +kernel
theorem d_M_store_55 : decode b_M_store 55 = .ok (.iconst 1, 1) := by decide +kernel
theorem d_M_store_56 : decode b_M_store 56 = .ok (.iadd, 1) := by decide +kernel
theorem d_M_store_57 : decode b_M_store 57 = .ok (.putfield 52, 3) := by decide +kernel
theorem d_M_store_60 : decode b_M_store 60 = .ok (.return_, 1) := by decide +kernel
theorem d_M_unpin_0 : decode b_M_unpin 0 = .ok (.aload_n 0, 1) := by decide +kernel
theorem d_M_unpin_1 : decode b_M_unpin 1 = .ok (.iload_n 1, 1) := by decide +kernel
theorem d_M_unpin_2 : decode b_M_unpin 2 = .ok (.invokevirtual 73, 3) := by decide +kernel
theorem d_M_unpin_5 : decode b_M_unpin 5 = .ok (.ifCond .ne 6, 3) := by decide +kernel
theorem d_M_unpin_8 : decode b_M_unpin 8 = .ok (.bipush (-3), 2) := by decide +kernel
theorem d_M_unpin_10 : decode b_M_unpin 10 = .ok (.ireturn, 1) := by decide +kernel
theorem d_M_unpin_11 : decode b_M_unpin 11 = .ok (.aload_n 0, 1) := by decide +kernel
theorem d_M_unpin_12 : decode b_M_unpin 12 = .ok (.getfield 19, 3) := by decide +kernel
theorem d_M_unpin_15 : decode b_M_unpin 15 = .ok (.iload_n 1, 1) := by decide +kernel
theorem d_M_unpin_16 : decode b_M_unpin 16 = .ok (.dup2, 1) := by decide +kernel
theorem d_M_unpin_17 : decode b_M_unpin 17 = .ok (.iaload, 1) := by decide +kernel
theorem d_M_unpin_18 : decode b_M_unpin 18 = .ok (.iconst 1, 1) := by decide +kernel
theorem d_M_unpin_19 : decode b_M_unpin 19 = .ok (.isub, 1) := by decide +kernel
theorem d_M_unpin_20 : decode b_M_unpin 20 = .ok (.iastore, 1) := by decide +kernel
theorem d_M_unpin_21 : decode b_M_unpin 21 = .ok (.aload_n 0, 1) := by decide +kernel
theorem d_M_unpin_22 : decode b_M_unpin 22 = .ok (.getfield 19, 3) := by decide +kernel
theorem d_M_unpin_25 : decode b_M_unpin 25 = .ok (.iload_n 1, 1) := by decide +kernel
theorem d_M_unpin_26 : decode b_M_unpin 26 = .ok (.iaload, 1) := by decide +kernel
theorem d_M_unpin_27 : decode b_M_unpin 27 = .ok (.ireturn, 1) := by decide +kernel
theorem d_M_isPinned_0 : decode b_M_isPinned 0 = .ok (.iload_n 1, 1) := by decide +kernel
theorem d_M_isPinned_1 : decode b_M_isPinned 1 = .ok (.ifCond .lt 24, 3) := by decide +kernel
theorem d_M_isPinned_4 : decode b_M_isPinned 4 = .ok (.iload_n 1, 1) := by decide +kernel
theorem d_M_isPinned_5 : decode b_M_isPinned 5 = .ok (.aload_n 0, 1) := by decide +kernel
theorem d_M_isPinned_6 : decode b_M_isPinned 6 = .ok (.getfield 29, 3) := by decide +kernel
theorem d_M_isPinned_9 : decode b_M_isPinned 9 = .ok (.if_icmp .ge 16, 3) := by decide +kernel
theorem d_M_isPinned_12 : decode b_M_isPinned 12 = .ok (.aload_n 0, 1) := by decide +kernel
theorem d_M_isPinned_13 : decode b_M_isPinned 13 = .ok (.getfield 19, 3) := by decide +kernel
theorem d_M_isPinned_16 : decode b_M_isPinned 16 = .ok (.iload_n 1, 1) := by decide +kernel
theorem d_M_isPinned_17 : decode b_M_isPinned 17 = .ok (.iaload, 1) := by decide +kernel
theorem d_M_isPinned_18 : decode b_M_isPinned 18 = .ok (.ifCond .le 7, 3) := by decide +kernel
theorem d_M_isPinned_21 : decode b_M_isPinned 21 = .ok (.iconst 1, 1) := by decide +kernel
theorem d_M_isPinned_22 : decode b_M_isPinned 22 = .ok (.goto 4, 3) := by decide +kernel
theorem d_M_isPinned_25 : decode b_M_isPinned 25 = .ok (.iconst 0, 1) := by decide +kernel
theorem d_M_isPinned_26 : decode b_M_isPinned 26 = .ok (.ireturn, 1) := by decide +kernel
theorem d_M_readWord_0 : decode b_M_readWord 0 = .ok (.aload_n 0, 1) := by decide +kernel
theorem d_M_readWord_1 : decode b_M_readWord 1 = .ok (.iload_n 1, 1) := by decide +kernel
theorem d_M_readWord_2 : decode b_M_readWord 2 = .ok (.invokevirtual 73, 3) := by decide +kernel
theorem d_M_readWord_5 : decode b_M_readWord 5 = .ok (.ifCond .eq 15, 3) := by decide +kernel
theorem d_M_readWord_8 : decode b_M_readWord 8 = .ok (.iload_n 2, 1) := by decide +kernel
theorem d_M_readWord_9 : decode b_M_readWord 9 = .ok (.ifCond .lt 11, 3) := by decide +kernel
theorem d_M_readWord_12 : decode b_M_readWord 12 = .ok (.iload_n 2, 1) := by decide +kernel
theorem d_M_readWord_13 : decode b_M_readWord 13 = .ok (.aload_n 0, 1) := by decide +kernel
theorem d_M_readWord_14 : decode b_M_readWord 14 = .ok (.getfield 36, 3) := by decide +kernel
theorem d_M_readWord_17 : decode b_M_readWord 17 = .ok (.if_icmp .lt 7, 3) := by decide +kernel
theorem d_M_readWord_20 : decode b_M_readWord 20 = .ok (.iconst 0, 1) := by decide +kernel
theorem d_M_readWord_21 : decode b_M_readWord 21 = .ok (.goto 14, 3) := by decide +kernel
theorem d_M_readWord_24 : decode b_M_readWord 24 = .ok (.aload_n 0, 1) := by decide +kernel
theorem d_M_readWord_25 : decode b_M_readWord 25 = .ok (.getfield 13, 3) := by decide +kernel
theorem d_M_readWord_28 : decode b_M_readWord 28 = .ok (.bipush 8, 2) := by decide +kernel
theorem d_M_readWord_30 : decode b_M_readWord 30 = .ok (.iload_n 1, 1) := by decide +kernel
theorem d_M_readWord_31 : decode b_M_readWord 31 = .ok (.imul, 1) := by decide +kernel
theorem d_M_readWord_32 : decode b_M_readWord 32 = .ok (.iload_n 2, 1) := by decide +kernel
theorem d_M_readWord_33 : decode b_M_readWord 33 = .ok (.iadd, 1) := by decide +kernel
theorem d_M_readWord_34 : decode b_M_readWord 34 = .ok (.iaload, 1) := by decide +kernel
theorem d_M_readWord_35 : decode b_M_readWord 35 = .ok (.ireturn, 1) := by decide +kernel
theorem d_M_writeWord_0 : decode b_M_writeWord 0 = .ok (.aload_n 0, 1) := by decide +kernel
theorem d_M_writeWord_1 : decode b_M_writeWord 1 = .ok (.iload_n 1, 1) := by decide +kernel
theorem d_M_writeWord_2 : decode b_M_writeWord 2 = .ok (.invokevirtual 73, 3) := by decide +kernel
theorem d_M_writeWord_5 : decode b_M_writeWord 5 = .ok (.ifCond .ne 6, 3) := by decide +kernel
theorem d_M_writeWord_8 : decode b_M_writeWord 8 = .ok (.bipush (-3), 2) := by decide +kernel
theorem d_M_writeWord_10 : decode b_M_writeWord 10 = .ok (.ireturn, 1) := by decide +kernel
theorem d_M_writeWord_11 : decode b_M_writeWord 11 = .ok (.iload_n 2, 1) := by decide +kernel
theorem d_M_writeWord_12 : decode b_M_writeWord 12 = .ok (.ifCond .lt 11, 3) := by decide +kernel
theorem d_M_writeWord_15 : decode b_M_writeWord 15 = .ok (.iload_n 2, 1) := by decide +kernel
theorem d_M_writeWord_16 : decode b_M_writeWord 16 = .ok (.aload_n 0, 1) := by decide +kernel
theorem d_M_writeWord_17 : decode b_M_writeWord 17 = .ok (.getfield 36, 3) := by decide +kernel
theorem d_M_writeWord_20 : decode b_M_writeWord 20 = .ok (.if_icmp .lt 6, 3) := by decide +kernel
theorem d_M_writeWord_23 : decode b_M_writeWord 23 = .ok (.bipush (-4), 2) := by decide +kernel
theorem d_M_writeWord_25 : decode b_M_writeWord 25 = .ok (.ireturn, 1) := by decide +kernel
theorem d_M_writeWord_26 : decode b_M_writeWord 26 = .ok (.aload_n 0, 1) := by decide +kernel
theorem d_M_writeWord_27 : decode b_M_writeWord 27 = .ok (.getfield 13, 3) := by decide +kernel
theorem d_M_writeWord_30 : decode b_M_writeWord 30 = .ok (.bipush 8, 2) := by decide +kernel
theorem d_M_writeWord_32 : decode b_M_writeWord 32 = .ok (.iload_n 1, 1) := by decide +kernel
theorem d_M_writeWord_33 : decode b_M_writeWord 33 = .ok (.imul, 1) := by decide +kernel
theorem d_M_writeWord_34 : decode b_M_writeWord 34 = .ok (.iload_n 2, 1) := by decide +kernel
theorem d_M_writeWord_35 : decode b_M_writeWord 35 = .ok (.iadd, 1) := by decide +kernel
theorem d_M_writeWord_36 : decode b_M_writeWord 36 = .ok (.iload_n 3, 1) := by decide +kernel
theorem d_M_writeWord_37 : decode b_M_writeWord 37 = .ok (.iastore, 1) := by decide +kernel
theorem d_M_writeWord_38 : decode b_M_writeWord 38 = .ok (.aload_n 0, 1) := by decide +kernel
theorem d_M_writeWord_39 : decode b_M_writeWord 39 = .ok (.getfield 22, 3) := by decide +kernel
theorem d_M_writeWord_42 : decode b_M_writeWord 42 = .ok (.iload_n 1, 1) := by decide +kernel
theorem d_M_writeWord_43 : decode b_M_writeWord 43 = .ok (.iconst 1, 1) := by decide +kernel
theorem d_M_writeWord_44 : decode b_M_writeWord 44 = .ok (.bastore, 1) := by decide +kernel
theorem d_M_writeWord_45 : decode b_M_writeWord 45 = .ok (.iconst 0, 1) := by decide +kernel
theorem d_M_writeWord_46 : decode b_M_writeWord 46 = .ok (.ireturn, 1) := by decide +kernel
theorem d_M_flush_0 : decode b_M_flush 0 = .ok (.aload_n 0, 1) := by decide +kernel
theorem d_M_flush_1 : decode b_M_flush 1 = .ok (.iload_n 1, 1) := by decide +kernel
theorem d_M_flush_2 : decode b_M_flush 2 = .ok (.invokevirtual 66, 3) := by decide +kernel
theorem d_M_flush_5 : decode b_M_flush 5 = .ok (.istore_n 2, 1) := by decide +kernel
theorem d_M_flush_6 : decode b_M_flush 6 = .ok (.iload_n 2, 1) := by decide +kernel
theorem d_M_flush_7 : decode b_M_flush 7 = .ok (.bipush (-5), 2) := by decide +kernel
theorem d_M_flush_9 : decode b_M_flush 9 = .ok (.if_icmp .eq 12, 3) := by decide +kernel
theorem d_M_flush_12 : decode b_M_flush 12 = .ok (.aload_n 0, 1) := by decide +kernel
theorem d_M_flush_13 : decode b_M_flush 13 = .ok (.getfield 22, 3) := by decide +kernel
theorem d_M_flush_16 : decode b_M_flush 16 = .ok (.iload_n 2, 1) := by decide +kernel
theorem d_M_flush_17 : decode b_M_flush 17 = .ok (.baload, 1) := by decide +kernel
theorem d_M_flush_18 : decode b_M_flush 18 = .ok (.ifCond .ne 5, 3) := by decide +kernel
theorem d_M_flush_21 : decode b_M_flush 21 = .ok (.iconst 0, 1) := by decide +kernel
theorem d_M_flush_22 : decode b_M_flush 22 = .ok (.ireturn, 1) := by decide +kernel
theorem d_M_flush_23 : decode b_M_flush 23 = .ok (.aload_n 0, 1) := by decide +kernel
theorem d_M_flush_24 : decode b_M_flush 24 = .ok (.iload_n 2, 1) := by decide +kernel
theorem d_M_flush_25 : decode b_M_flush 25 = .ok (.invokevirtual 59, 3) := by decide +kernel
theorem d_M_flush_28 : decode b_M_flush 28 = .ok (.iconst 1, 1) := by decide +kernel
theorem d_M_flush_29 : decode b_M_flush 29 = .ok (.ireturn, 1) := by decide +kernel
theorem d_M_flushAll_0 : decode b_M_flushAll 0 = .ok (.iconst 0, 1) := by decide +kernel
theorem d_M_flushAll_1 : decode b_M_flushAll 1 = .ok (.istore_n 1, 1) := by decide +kernel
theorem d_M_flushAll_2 : decode b_M_flushAll 2 = .ok (.iconst 0, 1) := by decide +kernel
theorem d_M_flushAll_3 : decode b_M_flushAll 3 = .ok (.istore_n 2, 1) := by decide +kernel
theorem d_M_flushAll_4 : decode b_M_flushAll 4 = .ok (.iload_n 2, 1) := by decide +kernel
theorem d_M_flushAll_5 : decode b_M_flushAll 5 = .ok (.aload_n 0, 1) := by decide +kernel
theorem d_M_flushAll_6 : decode b_M_flushAll 6 = .ok (.getfield 29, 3) := by decide +kernel
theorem d_M_flushAll_9 : decode b_M_flushAll 9 = .ok (.if_icmp .ge 36, 3) := by decide +kernel
theorem d_M_flushAll_12 : decode b_M_flushAll 12 = .ok (.iload_n 1, 1) := by decide +kernel
theorem d_M_flushAll_13 : decode b_M_flushAll 13 = .ok (.aload_n 0, 1) := by decide +kernel
theorem d_M_flushAll_14 : decode b_M_flushAll 14 = .ok (.getfield 16, 3) := by decide +kernel
theorem d_M_flushAll_17 : decode b_M_flushAll 17 = .ok (.iload_n 2, 1) := by decide +kernel
theorem d_M_flushAll_18 : decode b_M_flushAll 18 = .ok (.iaload, 1) := by decide +kernel
theorem d_M_flushAll_19 : decode b_M_flushAll 19 = .ok (.iconst (-1), 1) := by decide +kernel
theorem d_M_flushAll_20 : decode b_M_flushAll 20 = .ok (.if_icmp .ne 7, 3) := by decide +kernel
theorem d_M_flushAll_23 : decode b_M_flushAll 23 = .ok (.iconst 0, 1) := by decide +kernel
theorem d_M_flushAll_24 : decode b_M_flushAll 24 = .ok (.goto 13, 3) := by decide +kernel
theorem d_M_flushAll_27 : decode b_M_flushAll 27 = .ok (.aload_n 0, 1) := by decide +kernel
theorem d_M_flushAll_28 : decode b_M_flushAll 28 = .ok (.aload_n 0, 1) := by decide +kernel
theorem d_M_flushAll_29 : decode b_M_flushAll 29 = .ok (.getfield 16, 3) := by decide +kernel
theorem d_M_flushAll_32 : decode b_M_flushAll 32 = .ok (.iload_n 2, 1) := by decide +kernel
theorem d_M_flushAll_33 : decode b_M_flushAll 33 = .ok (.iaload, 1) := by decide +kernel
theorem d_M_flushAll_34 : decode b_M_flushAll 34 = .ok (.invokevirtual 76, 3) := by decide +kernel
theorem d_M_flushAll_37 : decode b_M_flushAll 37 = .ok (.iadd, 1) := by decide +kernel
theorem d_M_flushAll_38 : decode b_M_flushAll 38 = .ok (.istore_n 1, 1) := by decide +kernel
theorem d_M_flushAll_39 : decode b_M_flushAll 39 = .ok (.iinc 2 1, 3) := by decide +kernel
theorem d_M_flushAll_42 : decode b_M_flushAll 42 = .ok (.goto (-38), 3) := by decide +kernel
theorem d_M_flushAll_45 : decode b_M_flushAll 45 = .ok (.iload_n 1, 1) := by decide +kernel
theorem d_M_flushAll_46 : decode b_M_flushAll 46 = .ok (.ireturn, 1) := by decide +kernel
theorem d_M_drop_0 : decode b_M_drop 0 = .ok (.aload_n 0, 1) := by decide +kernel
theorem d_M_drop_1 : decode b_M_drop 1 = .ok (.iload_n 1, 1) := by decide +kernel
theorem d_M_drop_2 : decode b_M_drop 2 = .ok (.invokevirtual 66, 3) := by decide +kernel
theorem d_M_drop_5 : decode b_M_drop 5 = .ok (.istore_n 2, 1) := by decide +kernel
theorem d_M_drop_6 : decode b_M_drop 6 = .ok (.iload_n 2, 1) := by decide +kernel
theorem d_M_drop_7 : decode b_M_drop 7 = .ok (.bipush (-5), 2) := by decide +kernel
theorem d_M_drop_9 : decode b_M_drop 9 = .ok (.if_icmp .eq 12, 3) := by decide +kernel
theorem d_M_drop_12 : decode b_M_drop 12 = .ok (.aload_n 0, 1) := by decide +kernel
theorem d_M_drop_13 : decode b_M_drop 13 = .ok (.getfield 19, 3) := by decide +kernel
theorem d_M_drop_16 : decode b_M_drop 16 = .ok (.iload_n 2, 1) := by decide +kernel
theorem d_M_drop_17 : decode b_M_drop 17 = .ok (.iaload, 1) := by decide +kernel
theorem d_M_drop_18 : decode b_M_drop 18 = .ok (.ifCond .le 5, 3) := by decide +kernel
theorem d_M_drop_21 : decode b_M_drop 21 = .ok (.iconst 0, 1) := by decide +kernel
theorem d_M_drop_22 : decode b_M_drop 22 = .ok (.ireturn, 1) := by decide +kernel
theorem d_M_drop_23 : decode b_M_drop 23 = .ok (.aload_n 0, 1) := by decide +kernel
theorem d_M_drop_24 : decode b_M_drop 24 = .ok (.iload_n 2, 1) := by decide +kernel
theorem d_M_drop_25 : decode b_M_drop 25 = .ok (.invokevirtual 42, 3) := by decide +kernel
theorem d_M_drop_28 : decode b_M_drop 28 = .ok (.iconst 1, 1) := by decide +kernel
theorem d_M_drop_29 : decode b_M_drop 29 = .ok (.ireturn, 1) := by decide +kernel
theorem d_M_copy_0 : decode b_M_copy 0 = .ok (.aload_n 0, 1) := by decide +kernel
theorem d_M_copy_1 : decode b_M_copy 1 = .ok (.iload_n 1, 1) := by decide +kernel
theorem d_M_copy_2 : decode b_M_copy 2 = .ok (.invokevirtual 62, 3) := by decide +kernel
theorem d_M_copy_5 : decode b_M_copy 5 = .ok (.ifCond .eq 11, 3) := by decide +kernel
theorem d_M_copy_8 : decode b_M_copy 8 = .ok (.aload_n 0, 1) := by decide +kernel
theorem d_M_copy_9 : decode b_M_copy 9 = .ok (.iload_n 2, 1) := by decide +kernel
theorem d_M_copy_10 : decode b_M_copy 10 = .ok (.invokevirtual 62, 3) := by decide +kernel
theorem d_M_copy_13 : decode b_M_copy 13 = .ok (.ifCond .ne 6, 3) := by decide +kernel
theorem d_M_copy_16 : decode b_M_copy 16 = .ok (.bipush (-2), 2) := by decide +kernel
theorem d_M_copy_18 : decode b_M_copy 18 = .ok (.ireturn, 1) := by decide +kernel
theorem d_M_copy_19 : decode b_M_copy 19 = .ok (.aload_n 0, 1) := by decide +kernel
theorem d_M_copy_20 : decode b_M_copy 20 = .ok (.iload_n 1, 1) := by decide +kernel
theorem d_M_copy_21 : decode b_M_copy 21 = .ok (.invokevirtual 66, 3) := by decide +kernel
theorem d_M_copy_24 : decode b_M_copy 24 = .ok (.istore_n 3, 1) := by decide +kernel
theorem d_M_copy_25 : decode b_M_copy 25 = .ok (.iload_n 3, 1) := by decide +kernel
theorem d_M_copy_26 : decode b_M_copy 26 = .ok (.bipush (-5), 2) := by decide +kernel
theorem d_M_copy_28 : decode b_M_copy 28 = .ok (.if_icmp .eq 12, 3) := by decide +kernel
theorem d_M_copy_31 : decode b_M_copy 31 = .ok (.aload_n 0, 1) := by decide +kernel
theorem d_M_copy_32 : decode b_M_copy 32 = .ok (.getfield 19, 3) := by decide +kernel
theorem d_M_copy_35 : decode b_M_copy 35 = .ok (.iload_n 3, 1) := by decide +kernel
theorem d_M_copy_36 : decode b_M_copy 36 = .ok (.iaload, 1) := by decide +kernel
theorem d_M_copy_37 : decode b_M_copy 37 = .ok (.ifCond .ne 6, 3) := by decide +kernel
theorem d_M_copy_40 : decode b_M_copy 40 = .ok (.bipush (-3), 2) := by decide +kernel
theorem d_M_copy_42 : decode b_M_copy 42 = .ok (.ireturn, 1) := by decide +kernel
theorem d_M_copy_43 : decode b_M_copy 43 = .ok (.aload_n 0, 1) := by decide +kernel
theorem d_M_copy_44 : decode b_M_copy 44 = .ok (.iload_n 2, 1) := by decide +kernel
theorem d_M_copy_45 : decode b_M_copy 45 = .ok (.invokevirtual 66, 3) := by decide +kernel
theorem d_M_copy_48 : decode b_M_copy 48 = .ok (.istore 4, 2) := by decide +kernel
theorem d_M_copy_50 : decode b_M_copy 50 = .ok (.iconst 0, 1) := by decide +kernel
theorem d_M_copy_51 : decode b_M_copy 51 = .ok (.istore 5, 2) := by decide +kernel
theorem d_M_copy_53 : decode b_M_copy 53 = .ok (.iload 5, 2) := by decide +kernel
theorem d_M_copy_55 : decode b_M_copy 55 = .ok (.aload_n 0, 1) := by decide +kernel
theorem d_M_copy_56 : decode b_M_copy 56 = .ok (.getfield 36, 3) := by decide +kernel
theorem d_M_copy_59 : decode b_M_copy 59 = .ok (.if_icmp .ge 56, 3) := by decide +kernel
theorem d_M_copy_62 : decode b_M_copy 62 = .ok (.aload_n 0, 1) := by decide +kernel
theorem d_M_copy_63 : decode b_M_copy 63 = .ok (.getfield 13, 3) := by decide +kernel
theorem d_M_copy_66 : decode b_M_copy 66 = .ok (.bipush 8, 2) := by decide +kernel
theorem d_M_copy_68 : decode b_M_copy 68 = .ok (.iload_n 3, 1) := by decide +kernel
theorem d_M_copy_69 : decode b_M_copy 69 = .ok (.imul, 1) := by decide +kernel
theorem d_M_copy_70 : decode b_M_copy 70 = .ok (.iload 5, 2) := by decide +kernel
theorem d_M_copy_72 : decode b_M_copy 72 = .ok (.iadd, 1) := by decide +kernel
theorem d_M_copy_73 : decode b_M_copy 73 = .ok (.iload 4, 2) := by decide +kernel
theorem d_M_copy_75 : decode b_M_copy 75 = .ok (.bipush (-5), 2) := by decide +kernel
theorem d_M_copy_77 : decode b_M_copy 77 = .ok (.if_icmp .ne 18, 3) := by decide +kernel
theorem d_M_copy_80 : decode b_M_copy 80 = .ok (.aload_n 0, 1) := by decide +kernel
theorem d_M_copy_81 : decode b_M_copy 81 = .ok (.getfield 7, 3) := by decide +kernel
theorem d_M_copy_84 : decode b_M_copy 84 = .ok (.bipush 8, 2) := by decide +kernel
theorem d_M_copy_86 : decode b_M_copy 86 = .ok (.iload_n 2, 1) := by decide +kernel
theorem d_M_copy_87 : decode b_M_copy 87 = .ok (.imul, 1) := by decide +kernel
theorem d_M_copy_88 : decode b_M_copy 88 = .ok (.iload 5, 2) := by decide +kernel
theorem d_M_copy_90 : decode b_M_copy 90 = .ok (.iadd, 1) := by decide +kernel
theorem d_M_copy_91 : decode b_M_copy 91 = .ok (.iaload, 1) := by decide +kernel
theorem d_M_copy_92 : decode b_M_copy 92 = .ok (.goto 16, 3) := by decide +kernel
theorem d_M_copy_95 : decode b_M_copy 95 = .ok (.aload_n 0, 1) := by decide +kernel
theorem d_M_copy_96 : decode b_M_copy 96 = .ok (.getfield 13, 3) := by decide +kernel
theorem d_M_copy_99 : decode b_M_copy 99 = .ok (.bipush 8, 2) := by decide +kernel
theorem d_M_copy_101 : decode b_M_copy 101 = .ok (.iload 4, 2) := by decide +kernel
theorem d_M_copy_103 : decode b_M_copy 103 = .ok (.imul, 1) := by decide +kernel
theorem d_M_copy_104 : decode b_M_copy 104 = .ok (.iload 5, 2) := by decide +kernel
theorem d_M_copy_106 : decode b_M_copy 106 = .ok (.iadd, 1) := by decide +kernel
theorem d_M_copy_107 : decode b_M_copy 107 = .ok (.iaload, 1) := by decide +kernel
theorem d_M_copy_108 : decode b_M_copy 108 = .ok (.iastore, 1) := by decide +kernel
theorem d_M_copy_109 : decode b_M_copy 109 = .ok (.iinc 5 1, 3) := by decide +kernel
theorem d_M_copy_112 : decode b_M_copy 112 = .ok (.goto (-59), 3) := by decide +kernel
theorem d_M_copy_115 : decode b_M_copy 115 = .ok (.aload_n 0, 1) := by decide +kernel
theorem d_M_copy_116 : decode b_M_copy 116 = .ok (.getfield 22, 3) := by decide +kernel
theorem d_M_copy_119 : decode b_M_copy 119 = .ok (.iload_n 3, 1) := by decide +kernel
theorem d_M_copy_120 : decode b_M_copy 120 = .ok (.iconst 1, 1) := by decide +kernel
theorem d_M_copy_121 : decode b_M_copy 121 = .ok (.bastore, 1) := by decide +kernel
theorem d_M_copy_122 : decode b_M_copy 122 = .ok (.iconst 0, 1) := by decide +kernel
theorem d_M_copy_123 : decode b_M_copy 123 = .ok (.ireturn, 1) := by decide +kernel
theorem d_M_diskWord_0 : decode b_M_diskWord 0 = .ok (.aload_n 0, 1) := by decide +kernel
theorem d_M_diskWord_1 : decode b_M_diskWord 1 = .ok (.iload_n 1, 1) := by decide +kernel
theorem d_M_diskWord_2 : decode b_M_diskWord 2 = .ok (.invokevirtual 62, 3) := by decide +kernel
theorem d_M_diskWord_5 : decode b_M_diskWord 5 = .ok (.ifCond .eq 15, 3) := by decide +kernel
theorem d_M_diskWord_8 : decode b_M_diskWord 8 = .ok (.iload_n 2, 1) := by decide +kernel
theorem d_M_diskWord_9 : decode b_M_diskWord 9 = .ok (.ifCond .lt 11, 3) := by decide +kernel
theorem d_M_diskWord_12 : decode b_M_diskWord 12 = .ok (.iload_n 2, 1) := by decide +kernel
theorem d_M_diskWord_13 : decode b_M_diskWord 13 = .ok (.aload_n 0, 1) := by decide +kernel
theorem d_M_diskWord_14 : decode b_M_diskWord 14 = .ok (.getfield 36, 3) := by decide +kernel
theorem d_M_diskWord_17 : decode b_M_diskWord 17 = .ok (.if_icmp .lt 7, 3) := by decide +kernel
theorem d_M_diskWord_20 : decode b_M_diskWord 20 = .ok (.iconst 0, 1) := by decide +kernel
theorem d_M_diskWord_21 : decode b_M_diskWord 21 = .ok (.goto 14, 3) := by decide +kernel
theorem d_M_diskWord_24 : decode b_M_diskWord 24 = .ok (.aload_n 0, 1) := by decide +kernel
theorem d_M_diskWord_25 : decode b_M_diskWord 25 = .ok (.getfield 7, 3) := by decide +kernel
theorem d_M_diskWord_28 : decode b_M_diskWord 28 = .ok (.bipush 8, 2) := by decide +kernel
theorem d_M_diskWord_30 : decode b_M_diskWord 30 = .ok (.iload_n 1, 1) := by decide +kernel
theorem d_M_diskWord_31 : decode b_M_diskWord 31 = .ok (.imul, 1) := by decide +kernel
theorem d_M_diskWord_32 : decode b_M_diskWord 32 = .ok (.iload_n 2, 1) := by decide +kernel
theorem d_M_diskWord_33 : decode b_M_diskWord 33 = .ok (.iadd, 1) := by decide +kernel
theorem d_M_diskWord_34 : decode b_M_diskWord 34 = .ok (.iaload, 1) := by decide +kernel
theorem d_M_diskWord_35 : decode b_M_diskWord 35 = .ok (.ireturn, 1) := by decide +kernel
theorem d_M_resident_0 : decode b_M_resident 0 = .ok (.aload_n 0, 1) := by decide +kernel
theorem d_M_resident_1 : decode b_M_resident 1 = .ok (.iload_n 1, 1) := by decide +kernel
theorem d_M_resident_2 : decode b_M_resident 2 = .ok (.invokevirtual 66, 3) := by decide +kernel
theorem d_M_resident_5 : decode b_M_resident 5 = .ok (.bipush (-5), 2) := by decide +kernel
theorem d_M_resident_7 : decode b_M_resident 7 = .ok (.if_icmp .eq 7, 3) := by decide +kernel
theorem d_M_resident_10 : decode b_M_resident 10 = .ok (.iconst 1, 1) := by decide +kernel
theorem d_M_resident_11 : decode b_M_resident 11 = .ok (.goto 4, 3) := by decide +kernel
theorem d_M_resident_14 : decode b_M_resident 14 = .ok (.iconst 0, 1) := by decide +kernel
theorem d_M_resident_15 : decode b_M_resident 15 = .ok (.ireturn, 1) := by decide +kernel
theorem d_M_diskReads_0 : decode b_M_diskReads 0 = .ok (.aload_n 0, 1) := by decide +kernel
theorem d_M_diskReads_1 : decode b_M_diskReads 1 = .ok (.getfield 49, 3) := by decide +kernel
theorem d_M_diskReads_4 : decode b_M_diskReads 4 = .ok (.ireturn, 1) := by decide +kernel
theorem d_M_diskWrites_0 : decode b_M_diskWrites 0 = .ok (.aload_n 0, 1) := by decide +kernel
theorem d_M_diskWrites_1 : decode b_M_diskWrites 1 = .ok (.getfield 52, 3) := by decide +kernel
theorem d_M_diskWrites_4 : decode b_M_diskWrites 4 = .ok (.ireturn, 1) := by decide +kernel
theorem d_M_told_0 : decode b_M_told 0 = .ok (.iload_n 1, 1) := by decide +kernel
theorem d_M_told_1 : decode b_M_told 1 = .ok (.ifCond .lt 11, 3) := by decide +kernel
theorem d_M_told_4 : decode b_M_told 4 = .ok (.iload_n 1, 1) := by decide +kernel
theorem d_M_told_5 : decode b_M_told 5 = .ok (.aload_n 0, 1) := by decide +kernel
theorem d_M_told_6 : decode b_M_told 6 = .ok (.getfield 29, 3) := by decide +kernel
theorem d_M_told_9 : decode b_M_told 9 = .ok (.if_icmp .lt 6, 3) := by decide +kernel
theorem d_M_told_12 : decode b_M_told 12 = .ok (.bipush (-5), 2) := by decide +kernel
theorem d_M_told_14 : decode b_M_told 14 = .ok (.ireturn, 1) := by decide +kernel
theorem d_M_told_15 : decode b_M_told 15 = .ok (.iload_n 2, 1) := by decide +kernel
theorem d_M_told_16 : decode b_M_told 16 = .ok (.ifCond .ne 12, 3) := by decide +kernel
theorem d_M_told_19 : decode b_M_told 19 = .ok (.aload_n 0, 1) := by decide +kernel
theorem d_M_told_20 : decode b_M_told 20 = .ok (.getfield 16, 3) := by decide +kernel
theorem d_M_told_23 : decode b_M_told 23 = .ok (.iload_n 1, 1) := by decide +kernel
theorem d_M_told_24 : decode b_M_told 24 = .ok (.iaload, 1) := by decide +kernel
theorem d_M_told_25 : decode b_M_told 25 = .ok (.goto 63, 3) := by decide +kernel
theorem d_M_told_28 : decode b_M_told 28 = .ok (.iload_n 2, 1) := by decide +kernel
theorem d_M_told_29 : decode b_M_told 29 = .ok (.iconst 1, 1) := by decide +kernel
theorem d_M_told_30 : decode b_M_told 30 = .ok (.if_icmp .ne 12, 3) := by decide +kernel
theorem d_M_told_33 : decode b_M_told 33 = .ok (.aload_n 0, 1) := by decide +kernel
theorem d_M_told_34 : decode b_M_told 34 = .ok (.getfield 19, 3) := by decide +kernel
theorem d_M_told_37 : decode b_M_told 37 = .ok (.iload_n 1, 1) := by decide +kernel
theorem d_M_told_38 : decode b_M_told 38 = .ok (.iaload, 1) := by decide +kernel
theorem d_M_told_39 : decode b_M_told 39 = .ok (.goto 49, 3) := by decide +kernel
theorem d_M_told_42 : decode b_M_told 42 = .ok (.iload_n 2, 1) := by decide +kernel
theorem d_M_told_43 : decode b_M_told 43 = .ok (.iconst 2, 1) := by decide +kernel
theorem d_M_told_44 : decode b_M_told 44 = .ok (.if_icmp .ne 20, 3) := by decide +kernel
theorem d_M_told_47 : decode b_M_told 47 = .ok (.aload_n 0, 1) := by decide +kernel
theorem d_M_told_48 : decode b_M_told 48 = .ok (.getfield 22, 3) := by decide +kernel
theorem d_M_told_51 : decode b_M_told 51 = .ok (.iload_n 1, 1) := by decide +kernel
theorem d_M_told_52 : decode b_M_told 52 = .ok (.baload, 1) := by decide +kernel
theorem d_M_told_53 : decode b_M_told 53 = .ok (.ifCond .eq 7, 3) := by decide +kernel
theorem d_M_told_56 : decode b_M_told 56 = .ok (.iconst 1, 1) := by decide +kernel
theorem d_M_told_57 : decode b_M_told 57 = .ok (.goto 31, 3) := by decide +kernel
theorem d_M_told_60 : decode b_M_told 60 = .ok (.iconst 0, 1) := by decide +kernel
theorem d_M_told_61 : decode b_M_told 61 = .ok (.goto 27, 3) := by decide +kernel
theorem d_M_told_64 : decode b_M_told 64 = .ok (.iload_n 2, 1) := by decide +kernel
theorem d_M_told_65 : decode b_M_told 65 = .ok (.iconst 3, 1) := by decide +kernel
theorem d_M_told_66 : decode b_M_told 66 = .ok (.if_icmp .ne 20, 3) := by decide +kernel
theorem d_M_told_69 : decode b_M_told 69 = .ok (.aload_n 0, 1) := by decide +kernel
theorem d_M_told_70 : decode b_M_told 70 = .ok (.getfield 26, 3) := by decide +kernel
theorem d_M_told_73 : decode b_M_told 73 = .ok (.iload_n 1, 1) := by decide +kernel
theorem d_M_told_74 : decode b_M_told 74 = .ok (.baload, 1) := by decide +kernel
theorem d_M_told_75 : decode b_M_told 75 = .ok (.ifCond .eq 7, 3) := by decide +kernel
theorem d_M_told_78 : decode b_M_told 78 = .ok (.iconst 1, 1) := by decide +kernel
theorem d_M_told_79 : decode b_M_told 79 = .ok (.goto 9, 3) := by decide +kernel
theorem d_M_told_82 : decode b_M_told 82 = .ok (.iconst 0, 1) := by decide +kernel
theorem d_M_told_83 : decode b_M_told 83 = .ok (.goto 5, 3) := by decide +kernel
theorem d_M_told_86 : decode b_M_told 86 = .ok (.bipush (-5), 2) := by decide +kernel
theorem d_M_told_88 : decode b_M_told 88 = .ok (.ireturn, 1) := by decide +kernel
theorem d_M_hand_0 : decode b_M_hand 0 = .ok (.aload_n 0, 1) := by decide +kernel
theorem d_M_hand_1 : decode b_M_hand 1 = .ok (.getfield 46, 3) := by decide +kernel
theorem d_M_hand_4 : decode b_M_hand 4 = .ok (.ireturn, 1) := by decide +kernel
theorem d_L_cell_0 : decode b_L_cell 0 = .ok (.iload_n 1, 1) := by decide +kernel
theorem d_L_cell_1 : decode b_L_cell 1 = .ok (.aload_n 0, 1) := by decide +kernel
theorem d_L_cell_2 : decode b_L_cell 2 = .ok (.arraylength, 1) := by decide +kernel
theorem d_L_cell_3 : decode b_L_cell 3 = .ok (.if_icmp .ge 9, 3) := by decide +kernel
theorem d_L_cell_6 : decode b_L_cell 6 = .ok (.aload_n 0, 1) := by decide +kernel
theorem d_L_cell_7 : decode b_L_cell 7 = .ok (.iload_n 1, 1) := by decide +kernel
theorem d_L_cell_8 : decode b_L_cell 8 = .ok (.iaload, 1) := by decide +kernel
theorem d_L_cell_9 : decode b_L_cell 9 = .ok (.goto 4, 3) := by decide +kernel
theorem d_L_cell_12 : decode b_L_cell 12 = .ok (.iconst 0, 1) := by decide +kernel
theorem d_L_cell_13 : decode b_L_cell 13 = .ok (.ireturn, 1) := by decide +kernel
end
section
theorem d_L_law_0 : decode code 0 = .ok (.new 7, 3) := by decide +kernel
theorem d_L_law_3 : decode code 3 = .ok (.dup, 1) := by decide +kernel
theorem d_L_law_4 : decode code 4 = .ok (.aload_n 0, 1) := by decide +kernel
theorem d_L_law_5 : decode code 5 = .ok (.iconst 0, 1) := by decide +kernel
theorem d_L_law_6 : decode code 6 = .ok (.invokestatic 9, 3) := by decide +kernel
theorem d_L_law_9 : decode code 9 = .ok (.aload_n 0, 1) := by decide +kernel
theorem d_L_law_10 : decode code 10 = .ok (.iconst 1, 1) := by decide +kernel
theorem d_L_law_11 : decode code 11 = .ok (.invokestatic 9, 3) := by decide +kernel
theorem d_L_law_14 : decode code 14 = .ok (.aload_n 0, 1) := by decide +kernel
theorem d_L_law_15 : decode code 15 = .ok (.iconst 2, 1) := by decide +kernel
theorem d_L_law_16 : decode code 16 = .ok (.invokestatic 9, 3) := by decide +kernel
theorem d_L_law_19 : decode code 19 = .ok (.invokespecial 15, 3) := by decide +kernel
theorem d_L_law_22 : decode code 22 = .ok (.astore_n 1, 1) := by decide +kernel
theorem d_L_law_23 : decode code 23 = .ok (.new 18, 3) := by decide +kernel
theorem d_L_law_26 : decode code 26 = .ok (.dup, 1) := by decide +kernel
theorem d_L_law_27 : decode code 27 = .ok (.aload_n 0, 1) := by decide +kernel
theorem d_L_law_28 : decode code 28 = .ok (.iconst 0, 1) := by decide +kernel
theorem d_L_law_29 : decode code 29 = .ok (.invokestatic 9, 3) := by decide +kernel
theorem d_L_law_32 : decode code 32 = .ok (.aload_n 0, 1) := by decide +kernel
theorem d_L_law_33 : decode code 33 = .ok (.iconst 1, 1) := by decide +kernel
theorem d_L_law_34 : decode code 34 = .ok (.invokestatic 9, 3) := by decide +kernel
theorem d_L_law_37 : decode code 37 = .ok (.aload_n 0, 1) := by decide +kernel
theorem d_L_law_38 : decode code 38 = .ok (.iconst 2, 1) := by decide +kernel
theorem d_L_law_39 : decode code 39 = .ok (.invokestatic 9, 3) := by decide +kernel
theorem d_L_law_42 : decode code 42 = .ok (.invokespecial 20, 3) := by decide +kernel
theorem d_L_law_45 : decode code 45 = .ok (.astore_n 2, 1) := by decide +kernel
theorem d_L_law_46 : decode code 46 = .ok (.iconst 3, 1) := by decide +kernel
theorem d_L_law_47 : decode code 47 = .ok (.istore_n 3, 1) := by decide +kernel
theorem d_L_law_48 : decode code 48 = .ok (.iload_n 3, 1) := by decide +kernel
theorem d_L_law_49 : decode code 49 = .ok (.aload_n 0, 1) := by decide +kernel
theorem d_L_law_50 : decode code 50 = .ok (.arraylength, 1) := by decide +kernel
theorem d_L_law_51 : decode code 51 = .ok (.iconst 4, 1) := by decide +kernel
theorem d_L_law_52 : decode code 52 = .ok (.isub, 1) := by decide +kernel
theorem d_L_law_53 : decode code 53 = .ok (.if_icmp .gt 459, 3) := by decide +kernel
theorem d_L_law_56 : decode code 56 = .ok (.aload_n 0, 1) := by decide +kernel
theorem d_L_law_57 : decode code 57 = .ok (.iload_n 3, 1) := by decide +kernel
theorem d_L_law_58 : decode code 58 = .ok (.iaload, 1) := by decide +kernel
theorem d_L_law_59 : decode code 59 = .ok (.bipush 15, 2) := by decide +kernel
theorem d_L_law_61 : decode code 61 = .ok (.iand, 1) := by decide +kernel
theorem d_L_law_62 : decode code 62 = .ok (.tableswitch 444 0 15 #[78, 89, 112, 135, 168, 211, 234, 247, 270, 303, 336, 359, 372, 385, 418, 431], 78) := by decide +kernel
theorem d_L_law_140 : decode code 140 = .ok (.aload_n 1, 1) := by decide +kernel
theorem d_L_law_141 : decode code 141 = .ok (.invokevirtual 21, 3) := by decide +kernel
theorem d_L_law_144 : decode code 144 = .ok (.aload_n 2, 1) := by decide +kernel
theorem d_L_law_145 : decode code 145 = .ok (.invokevirtual 24, 3) := by decide +kernel
theorem d_L_law_148 : decode code 148 = .ok (.goto 358, 3) := by decide +kernel
theorem d_L_law_151 : decode code 151 = .ok (.aload_n 1, 1) := by decide +kernel
theorem d_L_law_152 : decode code 152 = .ok (.aload_n 0, 1) := by decide +kernel
theorem d_L_law_153 : decode code 153 = .ok (.iload_n 3, 1) := by decide +kernel
theorem d_L_law_154 : decode code 154 = .ok (.iconst 1, 1) := by decide +kernel
theorem d_L_law_155 : decode code 155 = .ok (.iadd, 1) := by decide +kernel
theorem d_L_law_156 : decode code 156 = .ok (.iaload, 1) := by decide +kernel
theorem d_L_law_157 : decode code 157 = .ok (.invokevirtual 25, 3) := by decide +kernel
theorem d_L_law_160 : decode code 160 = .ok (.aload_n 2, 1) := by decide +kernel
theorem d_L_law_161 : decode code 161 = .ok (.aload_n 0, 1) := by decide +kernel
theorem d_L_law_162 : decode code 162 = .ok (.iload_n 3, 1) := by decide +kernel
theorem d_L_law_163 : decode code 163 = .ok (.iconst 1, 1) := by decide +kernel
theorem d_L_law_164 : decode code 164 = .ok (.iadd, 1) := by decide +kernel
theorem d_L_law_165 : decode code 165 = .ok (.iaload, 1) := by decide +kernel
theorem d_L_law_166 : decode code 166 = .ok (.invokevirtual 29, 3) := by decide +kernel
theorem d_L_law_169 : decode code 169 = .ok (.if_icmp .eq 337, 3) := by decide +kernel
theorem d_L_law_172 : decode code 172 = .ok (.iconst 0, 1) := by decide +kernel
theorem d_L_law_173 : decode code 173 = .ok (.ireturn, 1) := by decide +kernel
theorem d_L_law_174 : decode code 174 = .ok (.aload_n 1, 1) := by decide +kernel
theorem d_L_law_175 : decode code 175 = .ok (.aload_n 0, 1) := by decide +kernel
theorem d_L_law_176 : decode code 176 = .ok (.iload_n 3, 1) := by decide +kernel
theorem d_L_law_177 : decode code 177 = .ok (.iconst 1, 1) := by decide +kernel
theorem d_L_law_178 : decode code 178 = .ok (.iadd, 1) := by decide +kernel
theorem d_L_law_179 : decode code 179 = .ok (.iaload, 1) := by decide +kernel
theorem d_L_law_180 : decode code 180 = .ok (.invokevirtual 30, 3) := by decide +kernel
theorem d_L_law_183 : decode code 183 = .ok (.aload_n 2, 1) := by decide +kernel
theorem d_L_law_184 : decode code 184 = .ok (.aload_n 0, 1) := by decide +kernel
theorem d_L_law_185 : decode code 185 = .ok (.iload_n 3, 1) := by decide +kernel
theorem d_L_law_186 : decode code 186 = .ok (.iconst 1, 1) := by decide +kernel
theorem d_L_law_187 : decode code 187 = .ok (.iadd, 1) := by decide +kernel
theorem d_L_law_188 : decode code 188 = .ok (.iaload, 1) := by decide +kernel
theorem d_L_law_189 : decode code 189 = .ok (.invokevirtual 33, 3) := by decide +kernel
theorem d_L_law_192 : decode code 192 = .ok (.if_icmp .eq 314, 3) := by decide +kernel
theorem d_L_law_195 : decode code 195 = .ok (.iconst 0, 1) := by decide +kernel
theorem d_L_law_196 : decode code 196 = .ok (.ireturn, 1) := by decide +kernel
theorem d_L_law_197 : decode code 197 = .ok (.aload_n 1, 1) := by decide +kernel
theorem d_L_law_198 : decode code 198 = .ok (.aload_n 0, 1) := by decide +kernel
theorem d_L_law_199 : decode code 199 = .ok (.iload_n 3, 1) := by decide +kernel
theorem d_L_law_200 : decode code 200 = .ok (.iconst 1, 1) := by decide +kernel
theorem d_L_law_201 : decode code 201 = .ok (.iadd, 1) := by decide +kernel
theorem d_L_law_202 : decode code 202 = .ok (.iaload, 1) := by decide +kernel
theorem d_L_law_203 : decode code 203 = .ok (.aload_n 0, 1) := by decide +kernel
theorem d_L_law_204 : decode code 204 = .ok (.iload_n 3, 1) := by decide +kernel
theorem d_L_law_205 : decode code 205 = .ok (.iconst 2, 1) := by decide +kernel
theorem d_L_law_206 : decode code 206 = .ok (.iadd, 1) := by decide +kernel
theorem d_L_law_207 : decode code 207 = .ok (.iaload, 1) := by decide +kernel
theorem d_L_law_208 : decode code 208 = .ok (.invokevirtual 34, 3) := by decide +kernel
theorem d_L_law_211 : decode code 211 = .ok (.aload_n 2, 1) := by decide +kernel
theorem d_L_law_212 : decode code 212 = .ok (.aload_n 0, 1) := by decide +kernel
theorem d_L_law_213 : decode code 213 = .ok (.iload_n 3, 1) := by decide +kernel
theorem d_L_law_214 : decode code 214 = .ok (.iconst 1, 1) := by decide +kernel
theorem d_L_law_215 : decode code 215 = .ok (.iadd, 1) := by decide +kernel
theorem d_L_law_216 : decode code 216 = .ok (.iaload, 1) := by decide +kernel
theorem d_L_law_217 : decode code 217 = .ok (.aload_n 0, 1) := by decide +kernel
theorem d_L_law_218 : decode code 218 = .ok (.iload_n 3, 1) := by decide +kernel
theorem d_L_law_219 : decode code 219 = .ok (.iconst 2, 1) := by decide +kernel
theorem d_L_law_220 : decode code 220 = .ok (.iadd, 1) := by decide +kernel
theorem d_L_law_221 : decode code 221 = .ok (.iaload, 1) := by decide +kernel
theorem d_L_law_222 : decode code 222 = .ok (.invokevirtual 38, 3) := by decide +kernel
theorem d_L_law_225 : decode code 225 = .ok (.if_icmp .eq 281, 3) := by decide +kernel
theorem d_L_law_228 : decode code 228 = .ok (.iconst 0, 1) := by decide +kernel
theorem d_L_law_229 : decode code 229 = .ok (.ireturn, 1) := by decide +kernel
theorem d_L_law_230 : decode code 230 = .ok (.aload_n 1, 1) := by decide +kernel
theorem d_L_law_231 : decode code 231 = .ok (.aload_n 0, 1) := by decide +kernel
theorem d_L_law_232 : decode code 232 = .ok (.iload_n 3, 1) := by decide +kernel
theorem d_L_law_233 : decode code 233 = .ok (.iconst 1, 1) := by decide +kernel
theorem d_L_law_234 : decode code 234 = .ok (.iadd, 1) := by decide +kernel
theorem d_L_law_235 : decode code 235 = .ok (.iaload, 1) := by decide +kernel
theorem d_L_law_236 : decode code 236 = .ok (.aload_n 0, 1) := by decide +kernel
theorem d_L_law_237 : decode code 237 = .ok (.iload_n 3, 1) := by decide +kernel
theorem d_L_law_238 : decode code 238 = .ok (.iconst 2, 1) := by decide +kernel
theorem d_L_law_239 : decode code 239 = .ok (.iadd, 1) := by decide +kernel
theorem d_L_law_240 : decode code 240 = .ok (.iaload, 1) := by decide +kernel
theorem d_L_law_241 : decode code 241 = .ok (.aload_n 0, 1) := by decide +kernel
theorem d_L_law_242 : decode code 242 = .ok (.iload_n 3, 1) := by decide +kernel
theorem d_L_law_243 : decode code 243 = .ok (.iconst 3, 1) := by decide +kernel
theorem d_L_law_244 : decode code 244 = .ok (.iadd, 1) := by decide +kernel
theorem d_L_law_245 : decode code 245 = .ok (.iaload, 1) := by decide +kernel
theorem d_L_law_246 : decode code 246 = .ok (.invokevirtual 39, 3) := by decide +kernel
theorem d_L_law_249 : decode code 249 = .ok (.aload_n 2, 1) := by decide +kernel
theorem d_L_law_250 : decode code 250 = .ok (.aload_n 0, 1) := by decide +kernel
theorem d_L_law_251 : decode code 251 = .ok (.iload_n 3, 1) := by decide +kernel
theorem d_L_law_252 : decode code 252 = .ok (.iconst 1, 1) := by decide +kernel
theorem d_L_law_253 : decode code 253 = .ok (.iadd, 1) := by decide +kernel
theorem d_L_law_254 : decode code 254 = .ok (.iaload, 1) := by decide +kernel
theorem d_L_law_255 : decode code 255 = .ok (.aload_n 0, 1) := by decide +kernel
theorem d_L_law_256 : decode code 256 = .ok (.iload_n 3, 1) := by decide +kernel
theorem d_L_law_257 : decode code 257 = .ok (.iconst 2, 1) := by decide +kernel
theorem d_L_law_258 : decode code 258 = .ok (.iadd, 1) := by decide +kernel
theorem d_L_law_259 : decode code 259 = .ok (.iaload, 1) := by decide +kernel
theorem d_L_law_260 : decode code 260 = .ok (.aload_n 0, 1) := by decide +kernel
theorem d_L_law_261 : decode code 261 = .ok (.iload_n 3, 1) := by decide +kernel
theorem d_L_law_262 : decode code 262 = .ok (.iconst 3, 1) := by decide +kernel
theorem d_L_law_263 : decode code 263 = .ok (.iadd, 1) := by decide +kernel
theorem d_L_law_264 : decode code 264 = .ok (.iaload, 1) := by decide +kernel
theorem d_L_law_265 : decode code 265 = .ok (.invokevirtual 43, 3) := by decide +kernel
theorem d_L_law_268 : decode code 268 = .ok (.if_icmp .eq 238, 3) := by decide +kernel
theorem d_L_law_271 : decode code 271 = .ok (.iconst 0, 1) := by decide +kernel
theorem d_L_law_272 : decode code 272 = .ok (.ireturn, 1) := by decide +kernel
theorem d_L_law_273 : decode code 273 = .ok (.aload_n 1, 1) := by decide +kernel
theorem d_L_law_274 : decode code 274 = .ok (.aload_n 0, 1) := by decide +kernel
theorem d_L_law_275 : decode code 275 = .ok (.iload_n 3, 1) := by decide +kernel
theorem d_L_law_276 : decode code 276 = .ok (.iconst 1, 1) := by decide +kernel
theorem d_L_law_277 : decode code 277 = .ok (.iadd, 1) := by decide +kernel
theorem d_L_law_278 : decode code 278 = .ok (.iaload, 1) := by decide +kernel
theorem d_L_law_279 : decode code 279 = .ok (.invokevirtual 44, 3) := by decide +kernel
theorem d_L_law_282 : decode code 282 = .ok (.aload_n 2, 1) := by decide +kernel
theorem d_L_law_283 : decode code 283 = .ok (.aload_n 0, 1) := by decide +kernel
theorem d_L_law_284 : decode code 284 = .ok (.iload_n 3, 1) := by decide +kernel
theorem d_L_law_285 : decode code 285 = .ok (.iconst 1, 1) := by decide +kernel
theorem d_L_law_286 : decode code 286 = .ok (.iadd, 1) := by decide +kernel
theorem d_L_law_287 : decode code 287 = .ok (.iaload, 1) := by decide +kernel
theorem d_L_law_288 : decode code 288 = .ok (.invokevirtual 47, 3) := by decide +kernel
theorem d_L_law_291 : decode code 291 = .ok (.if_icmp .eq 215, 3) := by decide +kernel
theorem d_L_law_294 : decode code 294 = .ok (.iconst 0, 1) := by decide +kernel
theorem d_L_law_295 : decode code 295 = .ok (.ireturn, 1) := by decide +kernel
theorem d_L_law_296 : decode code 296 = .ok (.aload_n 1, 1) := by decide +kernel
theorem d_L_law_297 : decode code 297 = .ok (.invokevirtual 48, 3) := by decide +kernel
theorem d_L_law_300 : decode code 300 = .ok (.aload_n 2, 1) := by decide +kernel
theorem d_L_law_301 : decode code 301 = .ok (.invokevirtual 52, 3) := by decide +kernel
theorem d_L_law_304 : decode code 304 = .ok (.if_icmp .eq 202, 3) := by decide +kernel
theorem d_L_law_307 : decode code 307 = .ok (.iconst 0, 1) := by decide +kernel
theorem d_L_law_308 : decode code 308 = .ok (.ireturn, 1) := by decide +kernel
theorem d_L_law_309 : decode code 309 = .ok (.aload_n 1, 1) := by decide +kernel
theorem d_L_law_310 : decode code 310 = .ok (.aload_n 0, 1) := by decide +kernel
theorem d_L_law_311 : decode code 311 = .ok (.iload_n 3, 1) := by decide +kernel
theorem d_L_law_312 : decode code 312 = .ok (.iconst 1, 1) := by decide +kernel
theorem d_L_law_313 : decode code 313 = .ok (.iadd, 1) := by decide +kernel
theorem d_L_law_314 : decode code 314 = .ok (.iaload, 1) := by decide +kernel
theorem d_L_law_315 : decode code 315 = .ok (.invokevirtual 53, 3) := by decide +kernel
theorem d_L_law_318 : decode code 318 = .ok (.aload_n 2, 1) := by decide +kernel
theorem d_L_law_319 : decode code 319 = .ok (.aload_n 0, 1) := by decide +kernel
theorem d_L_law_320 : decode code 320 = .ok (.iload_n 3, 1) := by decide +kernel
theorem d_L_law_321 : decode code 321 = .ok (.iconst 1, 1) := by decide +kernel
theorem d_L_law_322 : decode code 322 = .ok (.iadd, 1) := by decide +kernel
theorem d_L_law_323 : decode code 323 = .ok (.iaload, 1) := by decide +kernel
theorem d_L_law_324 : decode code 324 = .ok (.invokevirtual 57, 3) := by decide +kernel
theorem d_L_law_327 : decode code 327 = .ok (.if_icmp .eq 179, 3) := by decide +kernel
theorem d_L_law_330 : decode code 330 = .ok (.iconst 0, 1) := by decide +kernel
theorem d_L_law_331 : decode code 331 = .ok (.ireturn, 1) := by decide +kernel
theorem d_L_law_332 : decode code 332 = .ok (.aload_n 1, 1) := by decide +kernel
theorem d_L_law_333 : decode code 333 = .ok (.aload_n 0, 1) := by decide +kernel
theorem d_L_law_334 : decode code 334 = .ok (.iload_n 3, 1) := by decide +kernel
theorem d_L_law_335 : decode code 335 = .ok (.iconst 1, 1) := by decide +kernel
theorem d_L_law_336 : decode code 336 = .ok (.iadd, 1) := by decide +kernel
theorem d_L_law_337 : decode code 337 = .ok (.iaload, 1) := by decide +kernel
theorem d_L_law_338 : decode code 338 = .ok (.aload_n 0, 1) := by decide +kernel
theorem d_L_law_339 : decode code 339 = .ok (.iload_n 3, 1) := by decide +kernel
theorem d_L_law_340 : decode code 340 = .ok (.iconst 2, 1) := by decide +kernel
theorem d_L_law_341 : decode code 341 = .ok (.iadd, 1) := by decide +kernel
theorem d_L_law_342 : decode code 342 = .ok (.iaload, 1) := by decide +kernel
theorem d_L_law_343 : decode code 343 = .ok (.invokevirtual 58, 3) := by decide +kernel
theorem d_L_law_346 : decode code 346 = .ok (.aload_n 2, 1) := by decide +kernel
theorem d_L_law_347 : decode code 347 = .ok (.aload_n 0, 1) := by decide +kernel
theorem d_L_law_348 : decode code 348 = .ok (.iload_n 3, 1) := by decide +kernel
theorem d_L_law_349 : decode code 349 = .ok (.iconst 1, 1) := by decide +kernel
theorem d_L_law_350 : decode code 350 = .ok (.iadd, 1) := by decide +kernel
theorem d_L_law_351 : decode code 351 = .ok (.iaload, 1) := by decide +kernel
theorem d_L_law_352 : decode code 352 = .ok (.aload_n 0, 1) := by decide +kernel
theorem d_L_law_353 : decode code 353 = .ok (.iload_n 3, 1) := by decide +kernel
theorem d_L_law_354 : decode code 354 = .ok (.iconst 2, 1) := by decide +kernel
theorem d_L_law_355 : decode code 355 = .ok (.iadd, 1) := by decide +kernel
theorem d_L_law_356 : decode code 356 = .ok (.iaload, 1) := by decide +kernel
theorem d_L_law_357 : decode code 357 = .ok (.invokevirtual 61, 3) := by decide +kernel
theorem d_L_law_360 : decode code 360 = .ok (.if_icmp .eq 146, 3) := by decide +kernel
theorem d_L_law_363 : decode code 363 = .ok (.iconst 0, 1) := by decide +kernel
theorem d_L_law_364 : decode code 364 = .ok (.ireturn, 1) := by decide +kernel
theorem d_L_law_365 : decode code 365 = .ok (.aload_n 1, 1) := by decide +kernel
theorem d_L_law_366 : decode code 366 = .ok (.aload_n 0, 1) := by decide +kernel
theorem d_L_law_367 : decode code 367 = .ok (.iload_n 3, 1) := by decide +kernel
theorem d_L_law_368 : decode code 368 = .ok (.iconst 1, 1) := by decide +kernel
theorem d_L_law_369 : decode code 369 = .ok (.iadd, 1) := by decide +kernel
theorem d_L_law_370 : decode code 370 = .ok (.iaload, 1) := by decide +kernel
theorem d_L_law_371 : decode code 371 = .ok (.aload_n 0, 1) := by decide +kernel
theorem d_L_law_372 : decode code 372 = .ok (.iload_n 3, 1) := by decide +kernel
theorem d_L_law_373 : decode code 373 = .ok (.iconst 2, 1) := by decide +kernel
theorem d_L_law_374 : decode code 374 = .ok (.iadd, 1) := by decide +kernel
theorem d_L_law_375 : decode code 375 = .ok (.iaload, 1) := by decide +kernel
theorem d_L_law_376 : decode code 376 = .ok (.invokevirtual 62, 3) := by decide +kernel
theorem d_L_law_379 : decode code 379 = .ok (.aload_n 2, 1) := by decide +kernel
theorem d_L_law_380 : decode code 380 = .ok (.aload_n 0, 1) := by decide +kernel
theorem d_L_law_381 : decode code 381 = .ok (.iload_n 3, 1) := by decide +kernel
theorem d_L_law_382 : decode code 382 = .ok (.iconst 1, 1) := by decide +kernel
theorem d_L_law_383 : decode code 383 = .ok (.iadd, 1) := by decide +kernel
theorem d_L_law_384 : decode code 384 = .ok (.iaload, 1) := by decide +kernel
theorem d_L_law_385 : decode code 385 = .ok (.aload_n 0, 1) := by decide +kernel
theorem d_L_law_386 : decode code 386 = .ok (.iload_n 3, 1) := by decide +kernel
theorem d_L_law_387 : decode code 387 = .ok (.iconst 2, 1) := by decide +kernel
theorem d_L_law_388 : decode code 388 = .ok (.iadd, 1) := by decide +kernel
theorem d_L_law_389 : decode code 389 = .ok (.iaload, 1) := by decide +kernel
theorem d_L_law_390 : decode code 390 = .ok (.invokevirtual 65, 3) := by decide +kernel
theorem d_L_law_393 : decode code 393 = .ok (.if_icmp .eq 113, 3) := by decide +kernel
theorem d_L_law_396 : decode code 396 = .ok (.iconst 0, 1) := by decide +kernel
theorem d_L_law_397 : decode code 397 = .ok (.ireturn, 1) := by decide +kernel
theorem d_L_law_398 : decode code 398 = .ok (.aload_n 1, 1) := by decide +kernel
theorem d_L_law_399 : decode code 399 = .ok (.aload_n 0, 1) := by decide +kernel
theorem d_L_law_400 : decode code 400 = .ok (.iload_n 3, 1) := by decide +kernel
theorem d_L_law_401 : decode code 401 = .ok (.iconst 1, 1) := by decide +kernel
theorem d_L_law_402 : decode code 402 = .ok (.iadd, 1) := by decide +kernel
theorem d_L_law_403 : decode code 403 = .ok (.iaload, 1) := by decide +kernel
theorem d_L_law_404 : decode code 404 = .ok (.invokevirtual 66, 3) := by decide +kernel
theorem d_L_law_407 : decode code 407 = .ok (.aload_n 2, 1) := by decide +kernel
theorem d_L_law_408 : decode code 408 = .ok (.aload_n 0, 1) := by decide +kernel
theorem d_L_law_409 : decode code 409 = .ok (.iload_n 3, 1) := by decide +kernel
theorem d_L_law_410 : decode code 410 = .ok (.iconst 1, 1) := by decide +kernel
theorem d_L_law_411 : decode code 411 = .ok (.iadd, 1) := by decide +kernel
theorem d_L_law_412 : decode code 412 = .ok (.iaload, 1) := by decide +kernel
theorem d_L_law_413 : decode code 413 = .ok (.invokevirtual 69, 3) := by decide +kernel
theorem d_L_law_416 : decode code 416 = .ok (.if_icmp .eq 90, 3) := by decide +kernel
theorem d_L_law_419 : decode code 419 = .ok (.iconst 0, 1) := by decide +kernel
theorem d_L_law_420 : decode code 420 = .ok (.ireturn, 1) := by decide +kernel
theorem d_L_law_421 : decode code 421 = .ok (.aload_n 1, 1) := by decide +kernel
theorem d_L_law_422 : decode code 422 = .ok (.invokevirtual 70, 3) := by decide +kernel
theorem d_L_law_425 : decode code 425 = .ok (.aload_n 2, 1) := by decide +kernel
theorem d_L_law_426 : decode code 426 = .ok (.invokevirtual 73, 3) := by decide +kernel
theorem d_L_law_429 : decode code 429 = .ok (.if_icmp .eq 77, 3) := by decide +kernel
theorem d_L_law_432 : decode code 432 = .ok (.iconst 0, 1) := by decide +kernel
theorem d_L_law_433 : decode code 433 = .ok (.ireturn, 1) := by decide +kernel
theorem d_L_law_434 : decode code 434 = .ok (.aload_n 1, 1) := by decide +kernel
theorem d_L_law_435 : decode code 435 = .ok (.invokevirtual 74, 3) := by decide +kernel
theorem d_L_law_438 : decode code 438 = .ok (.aload_n 2, 1) := by decide +kernel
theorem d_L_law_439 : decode code 439 = .ok (.invokevirtual 77, 3) := by decide +kernel
theorem d_L_law_442 : decode code 442 = .ok (.if_icmp .eq 64, 3) := by decide +kernel
theorem d_L_law_445 : decode code 445 = .ok (.iconst 0, 1) := by decide +kernel
theorem d_L_law_446 : decode code 446 = .ok (.ireturn, 1) := by decide +kernel
theorem d_L_law_447 : decode code 447 = .ok (.aload_n 1, 1) := by decide +kernel
theorem d_L_law_448 : decode code 448 = .ok (.aload_n 0, 1) := by decide +kernel
theorem d_L_law_449 : decode code 449 = .ok (.iload_n 3, 1) := by decide +kernel
theorem d_L_law_450 : decode code 450 = .ok (.iconst 1, 1) := by decide +kernel
theorem d_L_law_451 : decode code 451 = .ok (.iadd, 1) := by decide +kernel
theorem d_L_law_452 : decode code 452 = .ok (.iaload, 1) := by decide +kernel
theorem d_L_law_453 : decode code 453 = .ok (.aload_n 0, 1) := by decide +kernel
theorem d_L_law_454 : decode code 454 = .ok (.iload_n 3, 1) := by decide +kernel
theorem d_L_law_455 : decode code 455 = .ok (.iconst 2, 1) := by decide +kernel
theorem d_L_law_456 : decode code 456 = .ok (.iadd, 1) := by decide +kernel
theorem d_L_law_457 : decode code 457 = .ok (.iaload, 1) := by decide +kernel
theorem d_L_law_458 : decode code 458 = .ok (.invokevirtual 78, 3) := by decide +kernel
theorem d_L_law_461 : decode code 461 = .ok (.aload_n 2, 1) := by decide +kernel
theorem d_L_law_462 : decode code 462 = .ok (.aload_n 0, 1) := by decide +kernel
theorem d_L_law_463 : decode code 463 = .ok (.iload_n 3, 1) := by decide +kernel
theorem d_L_law_464 : decode code 464 = .ok (.iconst 1, 1) := by decide +kernel
theorem d_L_law_465 : decode code 465 = .ok (.iadd, 1) := by decide +kernel
theorem d_L_law_466 : decode code 466 = .ok (.iaload, 1) := by decide +kernel
theorem d_L_law_467 : decode code 467 = .ok (.aload_n 0, 1) := by decide +kernel
theorem d_L_law_468 : decode code 468 = .ok (.iload_n 3, 1) := by decide +kernel
theorem d_L_law_469 : decode code 469 = .ok (.iconst 2, 1) := by decide +kernel
theorem d_L_law_470 : decode code 470 = .ok (.iadd, 1) := by decide +kernel
theorem d_L_law_471 : decode code 471 = .ok (.iaload, 1) := by decide +kernel
theorem d_L_law_472 : decode code 472 = .ok (.invokevirtual 81, 3) := by decide +kernel
theorem d_L_law_475 : decode code 475 = .ok (.if_icmp .eq 31, 3) := by decide +kernel
theorem d_L_law_478 : decode code 478 = .ok (.iconst 0, 1) := by decide +kernel
theorem d_L_law_479 : decode code 479 = .ok (.ireturn, 1) := by decide +kernel
theorem d_L_law_480 : decode code 480 = .ok (.aload_n 1, 1) := by decide +kernel
theorem d_L_law_481 : decode code 481 = .ok (.invokevirtual 82, 3) := by decide +kernel
theorem d_L_law_484 : decode code 484 = .ok (.aload_n 2, 1) := by decide +kernel
theorem d_L_law_485 : decode code 485 = .ok (.invokevirtual 85, 3) := by decide +kernel
theorem d_L_law_488 : decode code 488 = .ok (.if_icmp .eq 18, 3) := by decide +kernel
theorem d_L_law_491 : decode code 491 = .ok (.iconst 0, 1) := by decide +kernel
theorem d_L_law_492 : decode code 492 = .ok (.ireturn, 1) := by decide +kernel
theorem d_L_law_493 : decode code 493 = .ok (.aload_n 1, 1) := by decide +kernel
theorem d_L_law_494 : decode code 494 = .ok (.invokevirtual 86, 3) := by decide +kernel
theorem d_L_law_497 : decode code 497 = .ok (.aload_n 2, 1) := by decide +kernel
theorem d_L_law_498 : decode code 498 = .ok (.invokevirtual 89, 3) := by decide +kernel
theorem d_L_law_501 : decode code 501 = .ok (.if_icmp .eq 5, 3) := by decide +kernel
theorem d_L_law_504 : decode code 504 = .ok (.iconst 0, 1) := by decide +kernel
theorem d_L_law_505 : decode code 505 = .ok (.ireturn, 1) := by decide +kernel
theorem d_L_law_506 : decode code 506 = .ok (.iinc 3 4, 3) := by decide +kernel
theorem d_L_law_509 : decode code 509 = .ok (.goto (-461), 3) := by decide +kernel
theorem d_L_law_512 : decode code 512 = .ok (.iconst 1, 1) := by decide +kernel
theorem d_L_law_513 : decode code 513 = .ok (.ireturn, 1) := by decide +kernel
end
section
/-! own kit: the state's words that the worlds carry, a contract's start and ends, calls, entries, answers -/
abbrev EN : Type := va_G × ClassId × ClassId × ClassId
abbrev EN.D (E : EN) : va_G := E.1
abbrev EN.cI (E : EN) : ClassId := E.2.1
abbrev EN.cF (E : EN) : ClassId := E.2.2.1
abbrev EN.cZ (E : EN) : ClassId := E.2.2.2
def nst (U : State) : Prop := va_Nw (.fieldLinkNest "FramePool" 105 "FramePool$Frame" "number" "I" "FramePool") U ∧ va_Nw (.fieldLinkNest "FramePool" 67 "FramePool$Frame" "words" "[I" "FramePool") U ∧ va_Nw (.fieldLinkNest "FramePool" 57 "FramePool$Frame" "page" "I" "FramePool") U ∧ va_Nw (.fieldLinkNest "FramePool" 80 "FramePool$Frame" "pins" "I" "FramePool") U ∧ va_Nw (.fieldLinkNest "FramePool" 76 "FramePool$Frame" "isDirty" "Z" "FramePool") U ∧ va_Nw (.fieldLinkNest "FramePool" 83 "FramePool$Frame" "isMarked" "Z" "FramePool") U ∧ va_AO "FramePool$Frame" U
theorem nst.warm {s U : State} (hW : s.WarmedH U.vm) (h : nst s) : nst U := ⟨va_Nw.warmF hW h.1, va_Nw.warmF hW h.2.1, va_Nw.warmF hW h.2.2.1, va_Nw.warmF hW h.2.2.2.1, va_Nw.warmF hW h.2.2.2.2.1, va_Nw.warmF hW h.2.2.2.2.2.1, va_AO.moved hW.alike h.2.2.2.2.2.2⟩
theorem nst.same {s U : State} (hv : s.vm = U.vm) (h : nst s) : nst U := ⟨va_Nw.same rfl hv h.1, va_Nw.same rfl hv h.2.1, va_Nw.same rfl hv h.2.2.1, va_Nw.same rfl hv h.2.2.2.1, va_Nw.same rfl hv h.2.2.2.2.1, va_Nw.same rfl hv h.2.2.2.2.2.1, va_AO.moved (by rw [hv]; exact Vm.Alike.refl _) h.2.2.2.2.2.2⟩
abbrev ty3 (E : EN) : List (ClassId × FieldType) := [(E.cI, .int), (E.cF, .object "FramePool$Frame"), (E.cZ, .boolean)]
def kk (E : EN) (U : State) : Prop := va_K E.D classes (ty3 E) U ∧ nst U
theorem kk.warm {E : EN} {s U : State} (hW : s.WarmedH U.vm) (h : kk E s) : kk E U := ⟨va_K.moved hW.alike h.1, h.2.warm hW⟩
theorem kk.same {E : EN} {s U : State} (hv : s.vm = U.vm) (h : kk E s) : kk E U := ⟨va_K.moved (by rw [hv]; exact Vm.Alike.refl _) h.1, h.2.same hv⟩
/-- a contract's start -/
def Pq (E : EN) (av : List Value) (B : Heap → Prop) : Array Value → State → Prop := fun v U => v = av.toArray ∧ B U.heap ∧ kk E U
theorem Pq.blind {E : EN} {av : List Value} {B : Heap → Prop} : FrameBlind (Pq E av B) := fun _ U g mk q => ⟨q.1, q.2.1, q.2.2.same (U := U.calling g mk _) rfl⟩
/-- a contract's end: nothing is written; an int, a reference -/
def qi (post : Int32 → Prop) : Array Value → State → Outcome → State → Prop := fun _ st oc t => ∃ r : Int32, oc = .returned (some (.int r)) ∧ post r ∧ t.heap = st.heap
def qr (post : Option Nat → Prop) : Array Value → State → Outcome → State → Prop := fun _ st oc t => ∃ r : Option Nat, oc = .returned (some (va_rf r)) ∧ post r ∧ t.heap = st.heap
/-- a contract's end: nothing but A is written -/
def Qi (post : Int32 → Heap → Prop) (A : Nat → Prop) : Array Value → State → Outcome → State → Prop := fun _ st oc t => (∃ r : Int32, oc = .returned (some (.int r)) ∧ post r t.heap) ∧ va_F A st t
def Qr (post : Option Nat → Heap → Prop) (A : Nat → Prop) : Array Value → State → Outcome → State → Prop := fun _ st oc t => (∃ r : Option Nat, oc = .returned (some (va_rf r)) ∧ post r t.heap) ∧ va_F A st t
def Qv (post : Heap → Prop) (A : Nat → Prop) : Array Value → State → Outcome → State → Prop := fun _ st oc t => (oc = .returned none ∧ post t.heap) ∧ va_F A st t
abbrev nof : Addr → Prop := fun _ => False
section KA
variable {p : Program} {l : Launch} {e : Env} {R : Room} {s : State} {m : MethodId} {args : Array Value} {below : List Frame} {meth : Method} {c : Code} {H : Heap} {locs : List Loc} {cells slots : Nat} {Q : State → Prop}
variable {cc bytes : ByteArray} {nL maxL pc n index mc ms : Nat} {ls : Array Slot} {rest st As : List Value} {E : EN} {Ts : List Cond} {A A0 : Nat → Prop} {H0 : Heap} {own C : String} {y : MethodName} {ret : Option FieldType} {rm : Room} {B : Heap → Prop} {Qc : Array Value → State → Outcome → State → Prop} {free : Addr → Prop} {b : Addr} {av : List Value}
theorem hT0 {w0 : Cond} : ∀ w ∈ tbw, w ∈ w0 :: tbw := fun _ h => List.mem_cons_of_mem _ h
theorem gw (hT : ∀ w ∈ tbw, w ∈ Ts) (hc : Cond.code y bytes maxL ret ∈ tbw) : GoodIn Ts (Cond.code y bytes maxL ret :: tbw) := by
  intro w hw
  have h : w ∈ tbw := by
    rcases List.mem_cons.mp hw with rfl | h
    · exact hc
    · exact h
  exact ⟨hT w h, good_of_word (tbw_good w h)⟩
theorem cB0 (ht : ∀ w ∈ Ts, w.before args s = true) (hT : ∀ w ∈ tbw, w ∈ Ts) (hl : lk0 own index y bytes maxL ret n) (hrc : rm.cells = mc) (hrs : rm.slots = ms) (hR : rm.frames + 1 ≤ R.frames ∧ 8 + (maxL + 11) + rm.locals ≤ R.locals) : CallB R s args own index y bytes maxL ret (Cond.code y bytes maxL ret :: tbw) rm mc ms n :=
  callB_of n ht (gw hT hl.2.2.1) rfl hrc hrs (ht _ (hT _ hl.2.1)) (ht _ (hT _ hl.1)) hl.2.2.2 hR
/-- a call, whatever it gives: invokevirtual -/
theorem runV (S : CallFix p m c cc nL s args Ts own) (hT : ∀ w ∈ tbw, w ∈ Ts) (hk : kk E s) (hM : Met l y (Cond.code y bytes maxL ret :: tbw) rm (Pq E (.ref b :: As) B) Qc mc ms free) (hl : lkV own index C y bytes maxL ret n) (hrc : rm.cells = mc) (hrs : rm.slots = ms) (hR : rm.frames + 1 ≤ R.frames ∧ 8 + (maxL + 11) + rm.locals ≤ R.locals)
    (hv : ∃ cell : Cell, H[b]? = some cell ∧ cell.vm.isStatics = false ∧ s.vm.findClass C = some cell.cls) (hB : B H) (hls : ls.size = nL) (hn : As.length = n) (hst : st = As.reverse ++ .ref b :: rest) (hW : (rest.map fun v => v.category).sum ≤ 8) (hdg : decode cc pc = .ok (.invokevirtual index, 3)) (hf : cells + mc ≤ R.cells ∧ slots + ms ≤ R.slots) :
    va_Run p l e R s m args below meth c H locs cells slots mc ms (F0 m pc ls st) rest (Qc (Value.ref b :: As).toArray) free :=
  va_runV S hM ⟨cB0 S.2.2.2.2 hT hl.1 hrc hrs hR, S.2.2.2.2 _ (hT _ hl.2.1), S.2.2.2.2 _ (hT _ hl.2.2)⟩ ⟨Pq.blind, hv, fun U hU hW => ⟨rfl, by rw [hU]; exact hB, hk.warm hW⟩⟩ rfl hn hls hst (lv_room hW) hdg hf
theorem runS (S : CallFix p m c cc nL s args Ts own) (hT : ∀ w ∈ tbw, w ∈ Ts) (hk : kk E s) (hM : Met l y (Cond.code y bytes maxL ret :: tbw) rm (Pq E As B) Qc mc ms free) (hl : lkS own index y bytes maxL ret n) (hrc : rm.cells = mc) (hrs : rm.slots = ms) (hR : rm.frames + 1 ≤ R.frames ∧ 8 + (maxL + 11) + rm.locals ≤ R.locals)
    (hB : B H) (hls : ls.size = nL) (hn : As.length = n) (hst : st = As.reverse ++ rest) (hW : (rest.map fun v => v.category).sum ≤ 8) (hdg : decode cc pc = .ok (.invokestatic index, 3)) (hf : cells + mc ≤ R.cells ∧ slots + ms ≤ R.slots) :
    va_Run p l e R s m args below meth c H locs cells slots mc ms (F0 m pc ls st) rest (Qc As.toArray) free :=
  va_runS S hM ⟨cB0 S.2.2.2.2 hT hl.1 hrc hrs hR, S.2.2.2.2 _ (hT _ hl.2)⟩ ⟨Pq.blind, fun U hU hW => ⟨rfl, by rw [hU]; exact hB, hk.warm hW⟩⟩ rfl hn hls hst (lv_room hW) hdg hf
theorem runI (S : CallFix p m c cc nL s args Ts own) (hT : ∀ w ∈ tbw, w ∈ Ts) (hk : kk E s) (hM : Met l y (Cond.code y bytes maxL none :: tbw) rm (Pq E (.ref b :: As) B) Qc mc ms free) (hl : lkI own index y bytes maxL n) (hrc : rm.cells = mc) (hrs : rm.slots = ms) (hR : rm.frames + 1 ≤ R.frames ∧ 8 + (maxL + 11) + rm.locals ≤ R.locals)
    (hB : B H) (hls : ls.size = nL) (hn : As.length = n) (hst : st = As.reverse ++ .ref b :: rest) (hW : (rest.map fun v => v.category).sum ≤ 8) (hdg : decode cc pc = .ok (.invokespecial index, 3)) (hf : cells + mc ≤ R.cells ∧ slots + ms ≤ R.slots) :
    va_Run p l e R s m args below meth c H locs cells slots mc ms (F0 m pc ls st) rest (Qc (Value.ref b :: As).toArray) free :=
  va_runI S hM ⟨cB0 S.2.2.2.2 hT hl.1 hrc hrs hR, hl.2.1, S.2.2.2.2 _ (hT _ hl.2.2)⟩ ⟨Pq.blind, fun U hU hW => ⟨rfl, by rw [hU]; exact hB, hk.warm hW⟩⟩ rfl hn hls hst (lv_room hW) hdg hf
/-- behind a call that writes nothing -/
theorem aft_qi {post : Int32 → Prop} {a : Array Value} (hr : va_Run p l e R s m args below meth c H locs cells slots 0 0 (F0 m pc ls st) rest (qi post a) nof) (k : ∀ r : Int32, post r → W p l e R s m args below meth c H locs cells slots Q (F0 m (pc + 3) ls (.int r :: rest))) : W p l e R s m args below meth c H locs cells slots Q (F0 m pc ls st) := by
  intro T hT X
  obtain ⟨v, st₀, t, T', L, h0, X', hL, e1, e2, ⟨r, hv, hp, hh⟩, stp⟩ := hr T hT X
  cases hv
  obtain ⟨t2, a1, b1⟩ := k r hp T' (by rw [e1, hh, h0]) (Stand.forget X' (fun q h => (hL q h).elim))
  exact ⟨t2, stp t2 a1, b1⟩
theorem aft_qr {post : Option Nat → Prop} {a : Array Value} (hr : va_Run p l e R s m args below meth c H locs cells slots 0 0 (F0 m pc ls st) rest (qr post a) nof) (k : ∀ r : Option Nat, post r → W p l e R s m args below meth c H locs cells slots Q (F0 m (pc + 3) ls (va_rf r :: rest))) : W p l e R s m args below meth c H locs cells slots Q (F0 m pc ls st) := by
  intro T hT X
  obtain ⟨v, st₀, t, T', L, h0, X', hL, e1, e2, ⟨r, hv, hp, hh⟩, stp⟩ := hr T hT X
  cases hv
  obtain ⟨t2, a1, b1⟩ := k r hp T' (by rw [e1, hh, h0]) (Stand.forget X' (fun q h => (hL q h).elim))
  exact ⟨t2, stp t2 a1, b1⟩
theorem aft_S {v : Option Value} {st₀ t T' : State} {L : List Loc} (hS : va_S A0 H0 H locs) (hA : ∀ q, A q → A0 q) (h0 : st₀.heap = H) (e1 : T'.heap = t.heap) (hF : va_F A st₀ t) (hL : ∀ q ∈ L, A q.base) : H.size ≤ T'.heap.size ∧ (∀ q : Nat, q < H.size → ¬ A q → T'.heap[q]? = H[q]?) ∧ va_S A0 H0 T'.heap (locs ++ L) := by
  obtain ⟨hz, hk⟩ := hF
  rw [h0] at hz hk
  refine ⟨by rw [e1]; exact hz, fun q h1 h2 => by rw [e1]; exact hk q h1 h2, Nat.le_trans hS.1 (by rw [e1]; exact hz), fun q h1 h2 => ?_, fun q hq => ?_⟩
  · rw [e1, hk q (Nat.lt_of_lt_of_le h1 hS.1) (fun z => h2 (hA q z))]
    exact hS.2.1 q h1 h2
  · rcases List.mem_append.mp hq with h | h
    · exact hS.2.2 q h
    · exact hA _ (hL q h)
/-- behind a call that writes in A alone -/
theorem aft_Qi {post : Int32 → Heap → Prop} {a : Array Value} (hr : va_Run p l e R s m args below meth c H locs cells slots mc ms (F0 m pc ls st) rest (Qi post A a) A) (hS : va_S A0 H0 H locs) (hA : ∀ q, A q → A0 q)
    (k : ∀ (r : Int32) (H1 : Heap) (locs1 : List Loc), post r H1 → H.size ≤ H1.size → (∀ q : Nat, q < H.size → ¬ A q → H1[q]? = H[q]?) → va_S A0 H0 H1 locs1 → W p l e R s m args below meth c H1 locs1 (cells + mc) (slots + ms) Q (F0 m (pc + 3) ls (.int r :: rest))) : W p l e R s m args below meth c H locs cells slots Q (F0 m pc ls st) := by
  intro T hT X
  obtain ⟨v, st₀, t, T', L, h0, X', hL, e1, e2, ⟨⟨r, hv, hp⟩, hF⟩, stp⟩ := hr T hT X
  cases hv
  obtain ⟨g1, g2, g3⟩ := aft_S (v := none) hS hA h0 e1 hF hL
  obtain ⟨t2, a1, b1⟩ := k r T'.heap (locs ++ L) (by rw [e1]; exact hp) g1 g2 g3 T' rfl X'
  exact ⟨t2, stp t2 a1, b1⟩
theorem aft_Qr {post : Option Nat → Heap → Prop} {a : Array Value} (hr : va_Run p l e R s m args below meth c H locs cells slots mc ms (F0 m pc ls st) rest (Qr post A a) A) (hS : va_S A0 H0 H locs) (hA : ∀ q, A q → A0 q)
    (k : ∀ (r : Option Nat) (H1 : Heap) (locs1 : List Loc), post r H1 → H.size ≤ H1.size → (∀ q : Nat, q < H.size → ¬ A q → H1[q]? = H[q]?) → va_S A0 H0 H1 locs1 → W p l e R s m args below meth c H1 locs1 (cells + mc) (slots + ms) Q (F0 m (pc + 3) ls (va_rf r :: rest))) : W p l e R s m args below meth c H locs cells slots Q (F0 m pc ls st) := by
  intro T hT X
  obtain ⟨v, st₀, t, T', L, h0, X', hL, e1, e2, ⟨⟨r, hv, hp⟩, hF⟩, stp⟩ := hr T hT X
  cases hv
  obtain ⟨g1, g2, g3⟩ := aft_S (v := none) hS hA h0 e1 hF hL
  obtain ⟨t2, a1, b1⟩ := k r T'.heap (locs ++ L) (by rw [e1]; exact hp) g1 g2 g3 T' rfl X'
  exact ⟨t2, stp t2 a1, b1⟩
theorem aft_Qv {post : Heap → Prop} {a : Array Value} (hr : va_Run p l e R s m args below meth c H locs cells slots mc ms (F0 m pc ls st) rest (Qv post A a) A) (hS : va_S A0 H0 H locs) (hA : ∀ q, A q → A0 q)
    (k : ∀ (H1 : Heap) (locs1 : List Loc), post H1 → H.size ≤ H1.size → (∀ q : Nat, q < H.size → ¬ A q → H1[q]? = H[q]?) → va_S A0 H0 H1 locs1 → W p l e R s m args below meth c H1 locs1 (cells + mc) (slots + ms) Q (F0 m (pc + 3) ls rest)) : W p l e R s m args below meth c H locs cells slots Q (F0 m pc ls st) := by
  intro T hT X
  obtain ⟨v, st₀, t, T', L, h0, X', hL, e1, e2, ⟨⟨hv, hp⟩, hF⟩, stp⟩ := hr T hT X
  cases hv
  obtain ⟨g1, g2, g3⟩ := aft_S (v := none) hS hA h0 e1 hF hL
  obtain ⟨t2, a1, b1⟩ := k T'.heap (locs ++ L) (by rw [e1]; exact hp) g1 g2 g3 T' rfl X'
  exact ⟨t2, stp t2 a1, b1⟩
/-- a method's entry -/
theorem ent {w : List Cond} (hw : w = Cond.code y cc maxL ret :: tbw) (hy : plainName y.cls = true) (hav : (lg_sl av).length ≤ maxL)
    (body : ∀ (p : Program) (e : Env) (s : State) (m : MethodId) (below : List Frame) (meth : Method) (c : Code), CallFix p m c cc maxL s av.toArray (Cond.code y cc maxL ret :: tbw) y.cls → meth.sig.returnType = ret → meth.locks = false → meth.name = y.name → kk E s → B s.heap → ∀ ls : Array Slot, lv_has ls maxL (lv_args 0 av) →
      W p l e rm s m av.toArray below meth c s.heap [] 0 0 (MQ below Qc av.toArray s mc ms free) (F0 m 0 ls [])) : Met l y w rm (Pq E av B) Qc mc ms free := by
  subst hw
  refine Met.ofW (cc := cc) (maxL := maxL) (ret := ret) hy rfl ?_
  intro p e s m args below meth c s₁ B hml hv
  obtain ⟨rfl, hB, hk⟩ := hv
  rw [lg_entry_eq]
  exact body p e s m below meth c ⟨B.exec, B.bytes, hml, findClass_of_methodNamed B.named, atoms_spec (ws := Cond.code y cc maxL ret :: tbw) B.pre⟩ B.returns B.notSynchronized (name_of_methodNamed B.named B.method).1 hk hB _ (lv_entry av hav)
/-- answers -/
theorem ret_qi {post : Int32 → Prop} {v : Int32} (S : CallFix p m c cc nL s args Ts own) (hr : meth.sig.returnType = some .int) (hlk : meth.locks = false) (hp : post v) (hdg : decode cc pc = .ok (.ireturn, 1)) : W p l e R s m args below meth c s.heap [] cells slots (MQ below (qi post) args s cells slots nof) (F0 m pc ls [.int v]) :=
  W.iret S.1 S.2.1 hr (fun t ht _ => ⟨v, rfl, hp, ht⟩) (fun _ h => absurd h List.not_mem_nil) hdg hlk
theorem ret_qz {post : Int32 → Prop} {v : Int32} (S : CallFix p m c cc nL s args Ts own) (hr : meth.sig.returnType = some .boolean) (hlk : meth.locks = false) (hn : narrow .boolean (.int v) = .int v) (hp : post v) (hdg : decode cc pc = .ok (.ireturn, 1)) : W p l e R s m args below meth c s.heap [] cells slots (MQ below (qi post) args s cells slots nof) (F0 m pc ls [.int v]) :=
  W.zret S.1 S.2.1 hr hn (fun t ht _ => ⟨v, rfl, hp, ht⟩) (fun _ h => absurd h List.not_mem_nil) hdg hlk
theorem ret_qr {post : Option Nat → Prop} {o : String} {v : Option Nat} (S : CallFix p m c cc nL s args Ts own) (hr : meth.sig.returnType = some (.object o)) (hlk : meth.locks = false) (hp : post v) (hdg : decode cc pc = .ok (.areturn, 1)) : W p l e R s m args below meth c s.heap [] cells slots (MQ below (qr post) args s cells slots nof) (F0 m pc ls [va_rf v]) :=
  W.aret S.1 S.2.1 hr (Or.inl ⟨_, rfl⟩) (va_rf_or v) (fun t ht _ => ⟨v, rfl, hp, ht⟩) (fun _ h => absurd h List.not_mem_nil) hdg hlk
theorem ret_Qi {post : Int32 → Heap → Prop} {v : Int32} (S : CallFix p m c cc nL s args Ts own) (hr : meth.sig.returnType = some .int) (hlk : meth.locks = false) (hS : va_S A s.heap H locs) (hp : post v H) (hdg : decode cc pc = .ok (.ireturn, 1)) : W p l e R s m args below meth c H locs cells slots (MQ below (Qi post A) args s cells slots A) (F0 m pc ls [.int v]) :=
  W.iret S.1 S.2.1 hr (fun t ht _ => ⟨⟨v, rfl, by rw [ht]; exact hp⟩, hS.F ht⟩) hS.2.2 hdg hlk
theorem ret_Qz {post : Int32 → Heap → Prop} {v : Int32} (S : CallFix p m c cc nL s args Ts own) (hr : meth.sig.returnType = some .boolean) (hlk : meth.locks = false) (hn : narrow .boolean (.int v) = .int v) (hS : va_S A s.heap H locs) (hp : post v H) (hdg : decode cc pc = .ok (.ireturn, 1)) : W p l e R s m args below meth c H locs cells slots (MQ below (Qi post A) args s cells slots A) (F0 m pc ls [.int v]) :=
  W.zret S.1 S.2.1 hr hn (fun t ht _ => ⟨⟨v, rfl, by rw [ht]; exact hp⟩, hS.F ht⟩) hS.2.2 hdg hlk
theorem ret_Qr {post : Option Nat → Heap → Prop} {o : String} {v : Option Nat} (S : CallFix p m c cc nL s args Ts own) (hr : meth.sig.returnType = some (.object o)) (hlk : meth.locks = false) (hS : va_S A s.heap H locs) (hp : post v H) (hdg : decode cc pc = .ok (.areturn, 1)) : W p l e R s m args below meth c H locs cells slots (MQ below (Qr post A) args s cells slots A) (F0 m pc ls [va_rf v]) :=
  W.aret S.1 S.2.1 hr (Or.inl ⟨_, rfl⟩) (va_rf_or v) (fun t ht _ => ⟨⟨v, rfl, by rw [ht]; exact hp⟩, hS.F ht⟩) hS.2.2 hdg hlk
theorem ret_Qv {post : Heap → Prop} (S : CallFix p m c cc nL s args Ts own) (hr : meth.sig.returnType = none) (hlk : meth.locks = false) (hS : va_S A s.heap H locs) (hp : post H) (hdg : decode cc pc = .ok (.return_, 1)) : W p l e R s m args below meth c H locs cells slots (MQ below (Qv post A) args s cells slots A) (F0 m pc ls []) :=
  W.vret S.1 S.2.1 hr (fun t ht _ => ⟨⟨rfl, by rw [ht]; exact hp⟩, hS.F ht⟩) hS.2.2 hdg hlk
/-- the number on top, by another name -/
theorem lv_is {x y : Int32} (h : x = y) (k : W p l e R s m args below meth c H locs cells slots Q (F0 m pc ls (.int y :: rest))) : W p l e R s m args below meth c H locs cells slots Q (F0 m pc ls (.int x :: rest)) := h ▸ k
theorem lv_isr {x y : Option Nat} (h : x = y) (k : W p l e R s m args below meth c H locs cells slots Q (F0 m pc ls (va_rf y :: rest))) : W p l e R s m args below meth c H locs cells slots Q (F0 m pc ls (va_rf x :: rest)) := h ▸ k
end KA
end
section
/-! the pool's world: its cells, and a row for each way in which its methods touch them -/
abbrev DM : Type := Nat × Nat × Nat
abbrev DM.n (d : DM) : Nat := d.1
abbrev DM.P (d : DM) : Nat := d.2.1
abbrev DM.w (d : DM) : Nat := d.2.2
def dm_ok (d : DM) : Prop := 1 ≤ d.n ∧ d.n ≤ 32 ∧ 1 ≤ d.P ∧ d.P ≤ 200 ∧ 1 ≤ d.w ∧ d.w ≤ 8
abbrev XA : Type := Nat × Nat × Nat × Nat × (Nat → Nat) × (Nat → Nat)
abbrev XA.p (a : XA) : Nat := a.1
abbrev XA.d (a : XA) : Nat := a.2.1
abbrev XA.f (a : XA) : Nat := a.2.2.1
abbrev XA.t (a : XA) : Nat := a.2.2.2.1
abbrev XA.fr (a : XA) : Nat → Nat := a.2.2.2.2.1
abbrev XA.wd (a : XA) : Nat → Nat := a.2.2.2.2.2
/-- hand, reads, writes, disk, table (numbers of frames), page, pins, isDirty, isMarked, words -/
abbrev XS : Type := Int32 × Int32 × Int32 × (Nat → Int32) × (Nat → Option Nat) × (Nat → Int32) × (Nat → Int32) × (Nat → Int32) × (Nat → Int32) × (Nat → Nat → Int32)
def xWf (a : XA) (pg pn di mk : Nat → Int32) : Nat → Nat × va_E := fun i => (a.fr i, .inr (1, [.int (nI i), .ref (a.wd i), .int (pg i), .int (pn i), .int (di i), .int (mk i)]))
def xWw (E : EN) (d : DM) (a : XA) (ww : Nat → Nat → Int32) : Nat → Nat × va_E := fun i => (a.wd i, .inl (E.cI, d.w, .inl (ww i)))
def xW (E : EN) (d : DM) (a : XA) : XS → va_W := fun (hd, rd, wr, dk, ti, pg, pn, di, mq, ww) =>
  (a.p, .inr (0, [.int (nI d.P), .int (nI d.w), .ref a.d, .ref a.f, .ref a.t, .int hd, .int rd, .int wr])) ::
  (a.d, .inl (E.cI, d.P * d.w, .inl dk)) ::
  (a.f, .inl (E.cF, d.n, .inr (.inr (.inr (.inr (fun i => some (a.fr i))))))) ::
  (a.t, .inl (E.cF, 64, .inr (.inr (.inr (.inr (fun k => (ti k).map a.fr)))))) ::
  ((List.range d.n).map (xWf a pg pn di mq) ++ (List.range d.n).map (xWw E d a ww))
def xP (E : EN) (d : DM) (a : XA) (σ : XS) (H : Heap) : Prop := va_P E.D classes (xW E d a σ) H
def xD (E : EN) (d : DM) (a : XA) (A : Nat → Prop) : Prop := ∀ σ : XS, va_D A (xW E d a σ)
theorem rng_at {α : Type} {n i : Nat} (f : Nat → α) (L : List α) (hi : i < n) : ((List.range n).map f ++ L)[i]? = some (f i) := by
  rw [List.getElem?_append_left (by simpa using hi), List.getElem?_map, List.getElem?_range hi]
  rfl
theorem rng_at2 {α : Type} {n i : Nat} (f g : Nat → α) (hi : i < n) : ((List.range n).map f ++ (List.range n).map g)[n + i]? = some (g i) := by
  rw [List.getElem?_append_right (by simp), List.length_map, List.length_range, Nat.add_sub_cancel_left, List.getElem?_map, List.getElem?_range hi]
  rfl
theorem rng_set {α : Type} {n i : Nat} (f : Nat → α) (v : α) : ((List.range n).map f).set i v = (List.range n).map (fun j => if j = i then v else f j) := by
  apply List.ext_getElem?
  intro k
  by_cases hk : k < n
  · by_cases h : k = i
    · subst h
      rw [List.getElem?_set_self (by simpa using hk), List.getElem?_map, List.getElem?_range hk]
      simp
    · rw [List.getElem?_set_ne (Ne.symm h), List.getElem?_map, List.getElem?_map, List.getElem?_range hk]
      simp [h]
  · rw [List.getElem?_eq_none (by simp; omega), List.getElem?_eq_none (by simp; omega)]
theorem rng_set1 {α : Type} {n i : Nat} (f : Nat → α) (L : List α) (v : α) (hi : i < n) : ((List.range n).map f ++ L).set i v = (List.range n).map (fun j => if j = i then v else f j) ++ L := by
  rw [List.set_append_left _ _ (by simpa using hi), rng_set]
theorem rng_set2 {α : Type} {n i : Nat} (f g : Nat → α) (v : α) : ((List.range n).map f ++ (List.range n).map g).set (n + i) v = (List.range n).map f ++ (List.range n).map (fun j => if j = i then v else g j) := by
  rw [List.set_append_right _ _ (by simp), List.length_map, List.length_range, Nat.add_sub_cancel_left, rng_set]
section XK
variable {E : EN} {d : DM} {a : XA} {hd rd wr : Int32} {dk : Nat → Int32} {ti : Nat → Option Nat} {pg pn di mk : Nat → Int32} {ww : Nat → Nat → Int32} {i : Nat}
theorem xW_fr (hi : i < d.n) : (xW E d a (hd, rd, wr, dk, ti, pg, pn, di, mk, ww))[4 + i]? = some (a.fr i, .inr (1, [.int (nI i), .ref (a.wd i), .int (pg i), .int (pn i), .int (di i), .int (mk i)])) := by
  rw [Nat.add_comm 4 i]
  exact rng_at (xWf a pg pn di mk) _ hi
theorem xW_wd (hi : i < d.n) : (xW E d a (hd, rd, wr, dk, ti, pg, pn, di, mk, ww))[4 + (d.n + i)]? = some (a.wd i, .inl (E.cI, d.w, .inl (ww i))) := by
  rw [Nat.add_comm 4 (d.n + i)]
  exact rng_at2 (xWf a pg pn di mk) (xWw E d a ww) hi
theorem xW_set4 {h0 h1 h2 h3 x : Nat × va_E} {L : va_W} (k : Nat) : (h0 :: h1 :: h2 :: h3 :: L).set (4 + k) x = h0 :: h1 :: h2 :: h3 :: L.set k x := by
  rw [Nat.add_comm 4 k]
  rfl
theorem xW_pg (hi : i < d.n) (v : Int32) : (xW E d a (hd, rd, wr, dk, ti, pg, pn, di, mk, ww)).set (4 + i) (a.fr i, .inr (1, [.int (nI i), .ref (a.wd i), .int v, .int (pn i), .int (di i), .int (mk i)])) = xW E d a (hd, rd, wr, dk, ti, upd pg i v, pn, di, mk, ww) := by
  unfold xW
  rw [xW_set4, rng_set1 _ _ _ hi]
  congr 6
  funext j
  by_cases h : j = i
  · subst h; simp [xWf, upd]
  · simp [xWf, upd, h]
theorem xW_pn (hi : i < d.n) (v : Int32) : (xW E d a (hd, rd, wr, dk, ti, pg, pn, di, mk, ww)).set (4 + i) (a.fr i, .inr (1, [.int (nI i), .ref (a.wd i), .int (pg i), .int v, .int (di i), .int (mk i)])) = xW E d a (hd, rd, wr, dk, ti, pg, upd pn i v, di, mk, ww) := by
  unfold xW
  rw [xW_set4, rng_set1 _ _ _ hi]
  congr 6
  funext j
  by_cases h : j = i
  · subst h; simp [xWf, upd]
  · simp [xWf, upd, h]
theorem xW_di (hi : i < d.n) (v : Int32) : (xW E d a (hd, rd, wr, dk, ti, pg, pn, di, mk, ww)).set (4 + i) (a.fr i, .inr (1, [.int (nI i), .ref (a.wd i), .int (pg i), .int (pn i), .int v, .int (mk i)])) = xW E d a (hd, rd, wr, dk, ti, pg, pn, upd di i v, mk, ww) := by
  unfold xW
  rw [xW_set4, rng_set1 _ _ _ hi]
  congr 6
  funext j
  by_cases h : j = i
  · subst h; simp [xWf, upd]
  · simp [xWf, upd, h]
theorem xW_mk (hi : i < d.n) (v : Int32) : (xW E d a (hd, rd, wr, dk, ti, pg, pn, di, mk, ww)).set (4 + i) (a.fr i, .inr (1, [.int (nI i), .ref (a.wd i), .int (pg i), .int (pn i), .int (di i), .int v])) = xW E d a (hd, rd, wr, dk, ti, pg, pn, di, upd mk i v, ww) := by
  unfold xW
  rw [xW_set4, rng_set1 _ _ _ hi]
  congr 6
  funext j
  by_cases h : j = i
  · subst h; simp [xWf, upd]
  · simp [xWf, upd, h]
theorem xW_ww (f : Nat → Int32) : (xW E d a (hd, rd, wr, dk, ti, pg, pn, di, mk, ww)).set (4 + (d.n + i)) (a.wd i, .inl (E.cI, d.w, .inl f)) = xW E d a (hd, rd, wr, dk, ti, pg, pn, di, mk, va_up ww i f) := by
  unfold xW
  rw [xW_set4, rng_set2]
  congr 6
  funext j
  by_cases h : j = i
  · subst h; simp [xWw, va_up]
  · simp [xWw, va_up, h]
theorem ti_up (j : Nat) (r : Option Nat) : va_up (fun k => (ti k).map a.fr) j (r.map a.fr) = fun k => (va_up ti j r k).map a.fr := by
  funext k
  by_cases h : k = j
  · subst h; simp [va_up]
  · simp [va_up, h]
end XK
section XR
variable {p : Program} {l : Launch} {e : Env} {R : Room} {s : State} {m : MethodId} {args : Array Value} {below : List Frame} {meth : Method} {c : Code} {H : Heap} {locs : List Loc} {cells slots : Nat} {Q : State → Prop}
variable {cc : ByteArray} {nL pc index : Nat} {ls : Array Slot} {rest : List Value} {E : EN} {w0 : Cond} {A : Nat → Prop} {H0 : Heap}
variable {d : DM} {a : XA} {hd rd wr : Int32} {dk : Nat → Int32} {ti : Nat → Option Nat} {pg pn di mk : Nat → Int32} {ww : Nat → Nat → Int32} {i j : Nat}
theorem nI_in0 {j N : Nat} (h : j < N) (hN : N < 2 ^ 31) : vp_in (nI j) N ∧ (nI j).toNatClampNeg = j := ⟨vp_in_nI h hN, nI_clamp (by omega)⟩
/-- a field of the pool -/
theorem xg (S : CallFix p m c cc nL s args (w0 :: tbw) R_X) (hk : kk E s) (hP : xP E d a (hd, rd, wr, dk, ti, pg, pn, di, mk, ww) H) (k : Nat) (hk8 : k < 8) (hF : (F_X k).1 = R_X) (hl : Cond.fieldLink R_X index R_X (F_X k).2.1 (F_X k).2.2.1 ∈ tbw) {v : Value} (hv : [Value.int (nI d.P), .int (nI d.w), .ref a.d, .ref a.f, .ref a.t, .int hd, .int rd, .int wr][k]? = some v) (hdg : decode cc pc = .ok (.getfield index, 3))
    (kk : W p l e R s m args below meth c H locs cells slots Q (F0 m (pc + 3) ls (v :: rest))) : W p l e R s m args below meth c H locs cells slots Q (F0 m pc ls (.ref a.p :: rest)) :=
  va_get (D := E.D) (ci := 0) (C := R_X) (T := F_X) (N := 8) S.1 S.2.1 S.2.2.2.2 (fun w h => hT0 _ (i_X w h)) S.2.2.2.1 hk.1 hP 0 rfl rfl k hk8 (S.2.2.2.2 _ (hT0 _ hl)) (fun x h9 => hF ▸ h9) hv hdg kk
theorem xput (S : CallFix p m c cc nL s args (w0 :: tbw) R_X) (hk : kk E s) (hD : xD E d a A) (hS : va_S A H0 H locs) {σ σ' : XS} (hP : xP E d a σ H) (k : Nat) (hk8 : k < 8) (hF : (F_X k).1 = R_X) (hl : Cond.fieldLink R_X index R_X (F_X k).2.1 (F_X k).2.2.1 ∈ tbw) (hfin : (F_X k).2.2.2 = false) (hds : parseFieldDescriptor (F_X k).2.2.1 = some .int) {v : Int32} {fs : List Value} (he : (xW E d a σ)[0]? = some (a.p, .inr (0, fs))) (hlen : k < fs.length) (hset : (xW E d a σ).set 0 (a.p, .inr (0, fs.set k (.int v))) = xW E d a σ') (hdg : decode cc pc = .ok (.putfield index, 3))
    (kk : ∀ (H1 : Heap) (locs1 : List Loc), xP E d a σ' H1 → va_S A H0 H1 locs1 → W p l e R s m args below meth c H1 locs1 cells slots Q (F0 m (pc + 3) ls rest)) : W p l e R s m args below meth c H locs cells slots Q (F0 m pc ls (.int v :: .ref a.p :: rest)) :=
  va_put (D := E.D) (ci := 0) (C := R_X) (T := F_X) (N := 8) S.1 S.2.1 S.2.2.2.2 (fun w h => hT0 _ (i_X w h)) t_X t_X_ok n_X S.2.2.2.1 hk.1 hP (hD _) hS 0 he rfl k hk8 (S.2.2.2.2 _ (hT0 _ hl)) (fun x h9 => hF ▸ h9) hfin hds rfl rfl hlen hdg (fun H1 locs1 hP1 _ hS1 => kk H1 locs1 (by rw [hset] at hP1; exact hP1) hS1)
theorem xp_hand (S : CallFix p m c cc nL s args (w0 :: tbw) R_X) (hk : kk E s) (hD : xD E d a A) (hS : va_S A H0 H locs) (hP : xP E d a (hd, rd, wr, dk, ti, pg, pn, di, mk, ww) H) {v : Int32} (hdg : decode cc pc = .ok (.putfield 44, 3))
    (kk : ∀ (H1 : Heap) (locs1 : List Loc), xP E d a (v, rd, wr, dk, ti, pg, pn, di, mk, ww) H1 → va_S A H0 H1 locs1 → W p l e R s m args below meth c H1 locs1 cells slots Q (F0 m (pc + 3) ls rest)) : W p l e R s m args below meth c H locs cells slots Q (F0 m pc ls (.int v :: .ref a.p :: rest)) :=
  xput S hk hD hS hP 5 (by decide) rfl fl_X_44 rfl (by decide +kernel) rfl (Nat.le_of_ble_eq_true rfl) rfl hdg kk
theorem xp_reads (S : CallFix p m c cc nL s args (w0 :: tbw) R_X) (hk : kk E s) (hD : xD E d a A) (hS : va_S A H0 H locs) (hP : xP E d a (hd, rd, wr, dk, ti, pg, pn, di, mk, ww) H) {v : Int32} (hdg : decode cc pc = .ok (.putfield 47, 3))
    (kk : ∀ (H1 : Heap) (locs1 : List Loc), xP E d a (hd, v, wr, dk, ti, pg, pn, di, mk, ww) H1 → va_S A H0 H1 locs1 → W p l e R s m args below meth c H1 locs1 cells slots Q (F0 m (pc + 3) ls rest)) : W p l e R s m args below meth c H locs cells slots Q (F0 m pc ls (.int v :: .ref a.p :: rest)) :=
  xput S hk hD hS hP 6 (by decide) rfl fl_X_47 rfl (by decide +kernel) rfl (Nat.le_of_ble_eq_true rfl) rfl hdg kk
theorem xp_writes (S : CallFix p m c cc nL s args (w0 :: tbw) R_X) (hk : kk E s) (hD : xD E d a A) (hS : va_S A H0 H locs) (hP : xP E d a (hd, rd, wr, dk, ti, pg, pn, di, mk, ww) H) {v : Int32} (hdg : decode cc pc = .ok (.putfield 50, 3))
    (kk : ∀ (H1 : Heap) (locs1 : List Loc), xP E d a (hd, rd, v, dk, ti, pg, pn, di, mk, ww) H1 → va_S A H0 H1 locs1 → W p l e R s m args below meth c H1 locs1 cells slots Q (F0 m (pc + 3) ls rest)) : W p l e R s m args below meth c H locs cells slots Q (F0 m pc ls (.int v :: .ref a.p :: rest)) :=
  xput S hk hD hS hP 7 (by decide) rfl fl_X_50 rfl (by decide +kernel) rfl (Nat.le_of_ble_eq_true rfl) rfl hdg kk
/-- a field of a frame, out of the pool's methods -/
theorem fg (S : CallFix p m c cc nL s args (w0 :: tbw) R_X) (hk : kk E s) (hP : xP E d a (hd, rd, wr, dk, ti, pg, pn, di, mk, ww) H) (hi : i < d.n) (k : Nat) (hk6 : k < 6) (hF : (F_F k).1 = R_F) (hl : va_Nw (.fieldLinkNest R_X index R_F (F_F k).2.1 (F_F k).2.2.1 R_X) s) {v : Value} (hv : [Value.int (nI i), .ref (a.wd i), .int (pg i), .int (pn i), .int (di i), .int (mk i)][k]? = some v) (hdg : decode cc pc = .ok (.getfield index, 3))
    (kk : W p l e R s m args below meth c H locs cells slots Q (F0 m (pc + 3) ls (v :: rest))) : W p l e R s m args below meth c H locs cells slots Q (F0 m pc ls (.ref (a.fr i) :: rest)) :=
  va_getN (D := E.D) (ci := 1) (C := R_F) (T := F_F) (N := 6) S.1 S.2.1 S.2.2.2.2 (fun w h => hT0 _ (i_F w h)) S.2.2.2.1 hk.1 hP (4 + i) (xW_fr hi) rfl k hk6 (va_Nw.use rfl hl) (fun x h9 => hF ▸ h9) hv hdg kk
theorem fput (S : CallFix p m c cc nL s args (w0 :: tbw) R_X) (hk : kk E s) (hD : xD E d a A) (hS : va_S A H0 H locs) {σ' : XS} (hP : xP E d a (hd, rd, wr, dk, ti, pg, pn, di, mk, ww) H) (hi : i < d.n) (k : Nat) (hk6 : k < 6) (hF : (F_F k).1 = R_F) (hl : va_Nw (.fieldLinkNest R_X index R_F (F_F k).2.1 (F_F k).2.2.1 R_X) s) (hfin : (F_F k).2.2.2 = false) {ty : FieldType} (hds : parseFieldDescriptor (F_F k).2.2.1 = some ty) {v : Value} (hn : narrow ty v = v) (hfit : fits ty v = true) (hset : (xW E d a (hd, rd, wr, dk, ti, pg, pn, di, mk, ww)).set (4 + i) (a.fr i, .inr (1, [Value.int (nI i), .ref (a.wd i), .int (pg i), .int (pn i), .int (di i), .int (mk i)].set k v)) = xW E d a σ') (hdg : decode cc pc = .ok (.putfield index, 3))
    (kk : ∀ (H1 : Heap) (locs1 : List Loc), xP E d a σ' H1 → va_S A H0 H1 locs1 → W p l e R s m args below meth c H1 locs1 cells slots Q (F0 m (pc + 3) ls rest)) : W p l e R s m args below meth c H locs cells slots Q (F0 m pc ls (v :: .ref (a.fr i) :: rest)) :=
  va_putN (D := E.D) (ci := 1) (C := R_F) (T := F_F) (N := 6) S.1 S.2.1 S.2.2.2.2 (fun w h => hT0 _ (i_F w h)) t_F t_F_ok n_F S.2.2.2.1 hk.1 hP (hD _) hS (4 + i) (xW_fr hi) rfl k hk6 (va_Nw.use rfl hl) (fun x h9 => hF ▸ h9) hfin hds hn hfit hk6 hdg (fun H1 locs1 hP1 _ hS1 => kk H1 locs1 (by rw [hset] at hP1; exact hP1) hS1)
theorem fp_page (S : CallFix p m c cc nL s args (w0 :: tbw) R_X) (hk : kk E s) (hD : xD E d a A) (hS : va_S A H0 H locs) (hP : xP E d a (hd, rd, wr, dk, ti, pg, pn, di, mk, ww) H) (hi : i < d.n) {v : Int32} (hdg : decode cc pc = .ok (.putfield 57, 3))
    (kk : ∀ (H1 : Heap) (locs1 : List Loc), xP E d a (hd, rd, wr, dk, ti, upd pg i v, pn, di, mk, ww) H1 → va_S A H0 H1 locs1 → W p l e R s m args below meth c H1 locs1 cells slots Q (F0 m (pc + 3) ls rest)) : W p l e R s m args below meth c H locs cells slots Q (F0 m pc ls (.int v :: .ref (a.fr i) :: rest)) :=
  fput S hk hD hS hP hi 2 (by decide) rfl hk.2.2.2.1 rfl (ty := .int) (by decide +kernel) rfl rfl (xW_pg hi v) hdg kk
theorem fp_pins (S : CallFix p m c cc nL s args (w0 :: tbw) R_X) (hk : kk E s) (hD : xD E d a A) (hS : va_S A H0 H locs) (hP : xP E d a (hd, rd, wr, dk, ti, pg, pn, di, mk, ww) H) (hi : i < d.n) {v : Int32} (hdg : decode cc pc = .ok (.putfield 80, 3))
    (kk : ∀ (H1 : Heap) (locs1 : List Loc), xP E d a (hd, rd, wr, dk, ti, pg, upd pn i v, di, mk, ww) H1 → va_S A H0 H1 locs1 → W p l e R s m args below meth c H1 locs1 cells slots Q (F0 m (pc + 3) ls rest)) : W p l e R s m args below meth c H locs cells slots Q (F0 m pc ls (.int v :: .ref (a.fr i) :: rest)) :=
  fput S hk hD hS hP hi 3 (by decide) rfl hk.2.2.2.2.1 rfl (ty := .int) (by decide +kernel) rfl rfl (xW_pn hi v) hdg kk
theorem fp_dirty (S : CallFix p m c cc nL s args (w0 :: tbw) R_X) (hk : kk E s) (hD : xD E d a A) (hS : va_S A H0 H locs) (hP : xP E d a (hd, rd, wr, dk, ti, pg, pn, di, mk, ww) H) (hi : i < d.n) {v : Int32} (hn : narrow .boolean (.int v) = .int v) (hfit : fits .boolean (.int v) = true) (hdg : decode cc pc = .ok (.putfield 76, 3))
    (kk : ∀ (H1 : Heap) (locs1 : List Loc), xP E d a (hd, rd, wr, dk, ti, pg, pn, upd di i v, mk, ww) H1 → va_S A H0 H1 locs1 → W p l e R s m args below meth c H1 locs1 cells slots Q (F0 m (pc + 3) ls rest)) : W p l e R s m args below meth c H locs cells slots Q (F0 m pc ls (.int v :: .ref (a.fr i) :: rest)) :=
  fput S hk hD hS hP hi 4 (by decide) rfl hk.2.2.2.2.2.1 rfl (ty := .boolean) (by decide +kernel) hn hfit (xW_di hi v) hdg kk
theorem fp_mark (S : CallFix p m c cc nL s args (w0 :: tbw) R_X) (hk : kk E s) (hD : xD E d a A) (hS : va_S A H0 H locs) (hP : xP E d a (hd, rd, wr, dk, ti, pg, pn, di, mk, ww) H) (hi : i < d.n) {v : Int32} (hn : narrow .boolean (.int v) = .int v) (hfit : fits .boolean (.int v) = true) (hdg : decode cc pc = .ok (.putfield 83, 3))
    (kk : ∀ (H1 : Heap) (locs1 : List Loc), xP E d a (hd, rd, wr, dk, ti, pg, pn, di, upd mk i v, ww) H1 → va_S A H0 H1 locs1 → W p l e R s m args below meth c H1 locs1 cells slots Q (F0 m (pc + 3) ls rest)) : W p l e R s m args below meth c H locs cells slots Q (F0 m pc ls (.int v :: .ref (a.fr i) :: rest)) :=
  fput S hk hD hS hP hi 5 (by decide) rfl hk.2.2.2.2.2.2.1 rfl (ty := .boolean) (by decide +kernel) hn hfit (xW_mk hi v) hdg kk
/-- arrays: the frames, the table, the disk, a frame's words -/
theorem xf_len (S : CallFix p m c cc nL s args (w0 :: tbw) R_X) (hk : kk E s) (hP : xP E d a (hd, rd, wr, dk, ti, pg, pn, di, mk, ww) H) (hdg : decode cc pc = .ok (.arraylength, 1))
    (kk : W p l e R s m args below meth c H locs cells slots Q (F0 m (pc + 1) ls (.int (nI d.n) :: rest))) : W p l e R s m args below meth c H locs cells slots Q (F0 m pc ls (.ref a.f :: rest)) :=
  va_alen (D := E.D) S.1 S.2.1 hk.1 hP 2 1 rfl rfl rfl hdg kk
theorem xd_len (S : CallFix p m c cc nL s args (w0 :: tbw) R_X) (hk : kk E s) (hP : xP E d a (hd, rd, wr, dk, ti, pg, pn, di, mk, ww) H) (hdg : decode cc pc = .ok (.arraylength, 1))
    (kk : W p l e R s m args below meth c H locs cells slots Q (F0 m (pc + 1) ls (.int (nI (d.P * d.w)) :: rest))) : W p l e R s m args below meth c H locs cells slots Q (F0 m pc ls (.ref a.d :: rest)) :=
  va_alen (D := E.D) S.1 S.2.1 hk.1 hP 1 0 rfl rfl rfl hdg kk
theorem xf_ld (S : CallFix p m c cc nL s args (w0 :: tbw) R_X) (hk : kk E s) (hP : xP E d a (hd, rd, wr, dk, ti, pg, pn, di, mk, ww) H) (hn : d.n < 2 ^ 31) (hi : i < d.n) (hdg : decode cc pc = .ok (.aaload, 1))
    (kk : W p l e R s m args below meth c H locs cells slots Q (F0 m (pc + 1) ls (.ref (a.fr i) :: rest))) : W p l e R s m args below meth c H locs cells slots Q (F0 m pc ls (.int (nI i) :: .ref a.f :: rest)) :=
  va_aldq (D := E.D) S.1 S.2.1 hk.1 hP 2 1 rfl rfl (vp_in_nI hi hn) hdg (by rw [nI_clamp (by omega)]; exact kk)
theorem xt_ld (S : CallFix p m c cc nL s args (w0 :: tbw) R_X) (hk : kk E s) (hP : xP E d a (hd, rd, wr, dk, ti, pg, pn, di, mk, ww) H) (hj : j < 64) (hdg : decode cc pc = .ok (.aaload, 1))
    (kk : W p l e R s m args below meth c H locs cells slots Q (F0 m (pc + 1) ls (va_rf ((ti j).map a.fr) :: rest))) : W p l e R s m args below meth c H locs cells slots Q (F0 m pc ls (.int (nI j) :: .ref a.t :: rest)) :=
  va_aldq (D := E.D) S.1 S.2.1 hk.1 hP 3 1 rfl rfl (vp_in_nI hj (by decide)) hdg (by rw [nI_clamp (by omega)]; exact kk)
theorem xt_st (S : CallFix p m c cc nL s args (w0 :: tbw) R_X) (hk : kk E s) (hD : xD E d a A) (hS : va_S A H0 H locs) (hP : xP E d a (hd, rd, wr, dk, ti, pg, pn, di, mk, ww) H) (hj : j < 64) (hi : i < d.n) (hdg : decode cc pc = .ok (.aastore, 1))
    (kk : ∀ (H1 : Heap) (locs1 : List Loc), xP E d a (hd, rd, wr, dk, va_up ti j (some i), pg, pn, di, mk, ww) H1 → va_S A H0 H1 locs1 → W p l e R s m args below meth c H1 locs1 cells slots Q (F0 m (pc + 1) ls rest)) : W p l e R s m args below meth c H locs cells slots Q (F0 m pc ls (.ref (a.fr i) :: .int (nI j) :: .ref a.t :: rest)) := by
  refine va_astq (D := E.D) S.1 S.2.1 hk.1 hP (hD _) hS 3 1 (4 + i) 1 rfl rfl (xW_fr hi) rfl (vp_in_nI hj (by decide)) hdg (fun H1 locs1 hP1 _ hS1 => kk H1 locs1 ?_ hS1)
  rw [nI_clamp (by omega)] at hP1
  rw [show (some (a.fr i) : Option Nat) = (some i).map a.fr from rfl, ti_up] at hP1
  exact hP1
theorem xt_stN (S : CallFix p m c cc nL s args (w0 :: tbw) R_X) (hk : kk E s) (hD : xD E d a A) (hS : va_S A H0 H locs) (hP : xP E d a (hd, rd, wr, dk, ti, pg, pn, di, mk, ww) H) (hj : j < 64) (hdg : decode cc pc = .ok (.aastore, 1))
    (kk : ∀ (H1 : Heap) (locs1 : List Loc), xP E d a (hd, rd, wr, dk, va_up ti j none, pg, pn, di, mk, ww) H1 → va_S A H0 H1 locs1 → W p l e R s m args below meth c H1 locs1 cells slots Q (F0 m (pc + 1) ls rest)) : W p l e R s m args below meth c H locs cells slots Q (F0 m pc ls (.null :: .int (nI j) :: .ref a.t :: rest)) := by
  refine va_astqN (D := E.D) S.1 S.2.1 hk.1 hP (hD _) hS 3 1 rfl rfl (vp_in_nI hj (by decide)) hdg (fun H1 locs1 hP1 _ hS1 => kk H1 locs1 ?_ hS1)
  rw [nI_clamp (by omega)] at hP1
  rw [show (none : Option Nat) = (none : Option Nat).map a.fr from rfl, ti_up] at hP1
  exact hP1
theorem xd_ld (S : CallFix p m c cc nL s args (w0 :: tbw) R_X) (hk : kk E s) (hP : xP E d a (hd, rd, wr, dk, ti, pg, pn, di, mk, ww) H) (hn : d.P * d.w < 2 ^ 31) (hj : j < d.P * d.w) (hdg : decode cc pc = .ok (.iaload, 1))
    (kk : W p l e R s m args below meth c H locs cells slots Q (F0 m (pc + 1) ls (.int (dk j) :: rest))) : W p l e R s m args below meth c H locs cells slots Q (F0 m pc ls (.int (nI j) :: .ref a.d :: rest)) :=
  va_iald (D := E.D) S.1 S.2.1 hk.1 hP 1 0 rfl rfl (vp_in_nI hj hn) hdg (by rw [nI_clamp (by omega)]; exact kk)
theorem xd_st (S : CallFix p m c cc nL s args (w0 :: tbw) R_X) (hk : kk E s) (hD : xD E d a A) (hS : va_S A H0 H locs) (hP : xP E d a (hd, rd, wr, dk, ti, pg, pn, di, mk, ww) H) (hn : d.P * d.w < 2 ^ 31) (hj : j < d.P * d.w) {v : Int32} (hdg : decode cc pc = .ok (.iastore, 1))
    (kk : ∀ (H1 : Heap) (locs1 : List Loc), xP E d a (hd, rd, wr, upd dk j v, ti, pg, pn, di, mk, ww) H1 → va_S A H0 H1 locs1 → W p l e R s m args below meth c H1 locs1 cells slots Q (F0 m (pc + 1) ls rest)) : W p l e R s m args below meth c H locs cells slots Q (F0 m pc ls (.int v :: .int (nI j) :: .ref a.d :: rest)) := by
  refine va_iast (D := E.D) S.1 S.2.1 hk.1 hP (hD _) hS 1 0 rfl rfl (vp_in_nI hj hn) hdg (fun H1 locs1 hP1 _ hS1 => kk H1 locs1 ?_ hS1)
  rw [nI_clamp (by omega)] at hP1
  exact hP1
theorem xw_ld (S : CallFix p m c cc nL s args (w0 :: tbw) R_X) (hk : kk E s) (hP : xP E d a (hd, rd, wr, dk, ti, pg, pn, di, mk, ww) H) (hn : d.w < 2 ^ 31) (hi : i < d.n) (hj : j < d.w) (hdg : decode cc pc = .ok (.iaload, 1))
    (kk : W p l e R s m args below meth c H locs cells slots Q (F0 m (pc + 1) ls (.int (ww i j) :: rest))) : W p l e R s m args below meth c H locs cells slots Q (F0 m pc ls (.int (nI j) :: .ref (a.wd i) :: rest)) :=
  va_iald (D := E.D) S.1 S.2.1 hk.1 hP (4 + (d.n + i)) 0 (xW_wd hi) rfl (vp_in_nI hj hn) hdg (by rw [nI_clamp (by omega)]; exact kk)
theorem xw_st (S : CallFix p m c cc nL s args (w0 :: tbw) R_X) (hk : kk E s) (hD : xD E d a A) (hS : va_S A H0 H locs) (hP : xP E d a (hd, rd, wr, dk, ti, pg, pn, di, mk, ww) H) (hn : d.w < 2 ^ 31) (hi : i < d.n) (hj : j < d.w) {v : Int32} (hdg : decode cc pc = .ok (.iastore, 1))
    (kk : ∀ (H1 : Heap) (locs1 : List Loc), xP E d a (hd, rd, wr, dk, ti, pg, pn, di, mk, va_up ww i (upd (ww i) j v)) H1 → va_S A H0 H1 locs1 → W p l e R s m args below meth c H1 locs1 cells slots Q (F0 m (pc + 1) ls rest)) : W p l e R s m args below meth c H locs cells slots Q (F0 m pc ls (.int v :: .int (nI j) :: .ref (a.wd i) :: rest)) := by
  refine va_iast (D := E.D) S.1 S.2.1 hk.1 hP (hD _) hS (4 + (d.n + i)) 0 (xW_wd hi) rfl (vp_in_nI hj hn) hdg (fun H1 locs1 hP1 _ hS1 => kk H1 locs1 ?_ hS1)
  rw [nI_clamp (by omega), xW_ww] at hP1
  exact hP1
/-- arraycopy: words to disk, disk to words, words to words -/
theorem xc_wd (S : CallFix p m c cc nL s args (w0 :: tbw) R_X) (hk : kk E s) (hD : xD E d a A) (hS : va_S A H0 H locs) (hP : xP E d a (hd, rd, wr, dk, ti, pg, pn, di, mk, ww) H) (hls : ls.size = nL) (hi : i < d.n) (hw : d.w < 2 ^ 31) (hj : j + d.w ≤ d.P * d.w) (hpw : d.P * d.w < 2 ^ 31) (hfr : 1 ≤ R.frames) (hlo : (rest.map fun v => v.category).sum + (nativeFrameWords "java/lang/System" "arraycopy" 5 + 11) ≤ R.locals) (hdg : decode cc pc = .ok (.invokestatic 70, 3))
    (kk : ∀ (H1 : Heap) (locs1 : List Loc), xP E d a (hd, rd, wr, va_cpy (ww i) dk 0 j d.w, ti, pg, pn, di, mk, ww) H1 → va_S A H0 H1 locs1 → W p l e R s m args below meth c H1 locs1 cells slots Q (F0 m (pc + 3) ls rest)) : W p l e R s m args below meth c H locs cells slots Q (F0 m pc ls (.int (nI d.w) :: .int (nI j) :: .ref a.d :: .int 0 :: .ref (a.wd i) :: rest)) := by
  have c1 : (nI j).toNatClampNeg = j := nI_clamp (by omega)
  have c2 : (nI d.w).toNatClampNeg = d.w := nI_clamp hw
  have c3 : (0 : Int32).toNatClampNeg = 0 := rfl
  refine va_copyi (D := E.D) S.1 S.2.1 (by rw [hls]; exact S.2.2.1) S.2.2.2.1 (S.2.2.2.2 _ (hT0 _ ml_X_70)) (S.2.2.2.2 _ (hT0 _ nat_copy)) (S.2.2.2.2 _ (hT0 _ st_copy)) (S.2.2.2.2 _ (hT0 _ ini_Y)) hk.1 hP (hD _) hS (4 + (d.n + i)) 1 0 0 (ty := .int) (xW_wd hi) rfl rfl rfl rfl (by decide) (nI_pos (by omega)) (nI_pos hw) (by rw [c2, c3]; omega) (by rw [c1, c2]; exact hj) (fun _ _ => rfl) hfr hlo hdg (fun H1 locs1 hP1 _ hS1 => kk H1 locs1 ?_ hS1)
  rw [c1, c2, c3] at hP1
  exact hP1
theorem xc_dw (S : CallFix p m c cc nL s args (w0 :: tbw) R_X) (hk : kk E s) (hD : xD E d a A) (hS : va_S A H0 H locs) (hP : xP E d a (hd, rd, wr, dk, ti, pg, pn, di, mk, ww) H) (hls : ls.size = nL) (hi : i < d.n) (hw : d.w < 2 ^ 31) (hj : j + d.w ≤ d.P * d.w) (hpw : d.P * d.w < 2 ^ 31) (hfr : 1 ≤ R.frames) (hlo : (rest.map fun v => v.category).sum + (nativeFrameWords "java/lang/System" "arraycopy" 5 + 11) ≤ R.locals) (hdg : decode cc pc = .ok (.invokestatic 70, 3))
    (kk : ∀ (H1 : Heap) (locs1 : List Loc), xP E d a (hd, rd, wr, dk, ti, pg, pn, di, mk, va_up ww i (va_cpy dk (ww i) j 0 d.w)) H1 → va_S A H0 H1 locs1 → W p l e R s m args below meth c H1 locs1 cells slots Q (F0 m (pc + 3) ls rest)) : W p l e R s m args below meth c H locs cells slots Q (F0 m pc ls (.int (nI d.w) :: .int 0 :: .ref (a.wd i) :: .int (nI j) :: .ref a.d :: rest)) := by
  have c1 : (nI j).toNatClampNeg = j := nI_clamp (by omega)
  have c2 : (nI d.w).toNatClampNeg = d.w := nI_clamp hw
  have c3 : (0 : Int32).toNatClampNeg = 0 := rfl
  refine va_copyi (D := E.D) S.1 S.2.1 (by rw [hls]; exact S.2.2.1) S.2.2.2.1 (S.2.2.2.2 _ (hT0 _ ml_X_70)) (S.2.2.2.2 _ (hT0 _ nat_copy)) (S.2.2.2.2 _ (hT0 _ st_copy)) (S.2.2.2.2 _ (hT0 _ ini_Y)) hk.1 hP (hD _) hS 1 (4 + (d.n + i)) 0 0 (ty := .int) rfl (xW_wd hi) rfl rfl rfl (nI_pos (by omega)) (by decide) (nI_pos hw) (by rw [c1, c2]; exact hj) (by rw [c2, c3]; omega) (fun _ _ => rfl) hfr hlo hdg (fun H1 locs1 hP1 _ hS1 => kk H1 locs1 ?_ hS1)
  rw [c1, c2, c3, xW_ww] at hP1
  exact hP1
theorem xc_ww (S : CallFix p m c cc nL s args (w0 :: tbw) R_X) (hk : kk E s) (hD : xD E d a A) (hS : va_S A H0 H locs) (hP : xP E d a (hd, rd, wr, dk, ti, pg, pn, di, mk, ww) H) (hls : ls.size = nL) (hi : i < d.n) (hj : j < d.n) (hw : d.w < 2 ^ 31) (hfr : 1 ≤ R.frames) (hlo : (rest.map fun v => v.category).sum + (nativeFrameWords "java/lang/System" "arraycopy" 5 + 11) ≤ R.locals) (hdg : decode cc pc = .ok (.invokestatic 70, 3))
    (kk : ∀ (H1 : Heap) (locs1 : List Loc), xP E d a (hd, rd, wr, dk, ti, pg, pn, di, mk, va_up ww i (va_cpy (ww j) (ww i) 0 0 d.w)) H1 → va_S A H0 H1 locs1 → W p l e R s m args below meth c H1 locs1 cells slots Q (F0 m (pc + 3) ls rest)) : W p l e R s m args below meth c H locs cells slots Q (F0 m pc ls (.int (nI d.w) :: .int 0 :: .ref (a.wd i) :: .int 0 :: .ref (a.wd j) :: rest)) := by
  have c2 : (nI d.w).toNatClampNeg = d.w := nI_clamp hw
  have c3 : (0 : Int32).toNatClampNeg = 0 := rfl
  refine va_copyi (D := E.D) S.1 S.2.1 (by rw [hls]; exact S.2.2.1) S.2.2.2.1 (S.2.2.2.2 _ (hT0 _ ml_X_70)) (S.2.2.2.2 _ (hT0 _ nat_copy)) (S.2.2.2.2 _ (hT0 _ st_copy)) (S.2.2.2.2 _ (hT0 _ ini_Y)) hk.1 hP (hD _) hS (4 + (d.n + j)) (4 + (d.n + i)) 0 0 (ty := .int) (xW_wd hj) (xW_wd hi) rfl rfl rfl (by decide) (by decide) (nI_pos hw) (by rw [c2, c3]; omega) (by rw [c2, c3]; omega) (fun _ _ => rfl) hfr hlo hdg (fun H1 locs1 hP1 _ hS1 => kk H1 locs1 ?_ hS1)
  rw [c2, c3, xW_ww] at hP1
  exact hP1
/-- the receiver of a call on the pool, on a frame -/
theorem xrec (hk : kk E s) {σ : XS} (hP : xP E d a σ H) : ∃ cell : Cell, H[a.p]? = some cell ∧ cell.vm.isStatics = false ∧ s.vm.findClass R_X = some cell.cls := va_recv (q := (R_X, F_X, 8)) hk.1 hP (ci := 0) (q0 := 0) rfl rfl
theorem frec (hk : kk E s) (hP : xP E d a (hd, rd, wr, dk, ti, pg, pn, di, mk, ww) H) (hi : i < d.n) : ∃ cell : Cell, H[a.fr i]? = some cell ∧ cell.vm.isStatics = false ∧ s.vm.findClass R_F = some cell.cls := va_recv (q := (R_F, F_F, 6)) hk.1 hP (ci := 1) (q0 := 4 + i) rfl (xW_fr hi)
end XR
end
section
/-! the reference's world: its cells, and a row for each way in which its methods touch them -/
abbrev MA : Type := Nat × Nat × Nat × Nat × Nat × Nat × Nat
abbrev MA.o (b : MA) : Nat := b.1
abbrev MA.d (b : MA) : Nat := b.2.1
abbrev MA.m (b : MA) : Nat := b.2.2.1
abbrev MA.p (b : MA) : Nat := b.2.2.2.1
abbrev MA.n (b : MA) : Nat := b.2.2.2.2.1
abbrev MA.y (b : MA) : Nat := b.2.2.2.2.2.1
abbrev MA.k (b : MA) : Nat := b.2.2.2.2.2.2
/-- at, reads, writes, disk, memory, page, pins, dirty, mark -/
abbrev MS : Type := Int32 × Int32 × Int32 × (Nat → Int32) × (Nat → Int32) × (Nat → Int32) × (Nat → Int32) × (Nat → Int32) × (Nat → Int32)
def mW (E : EN) (d : DM) (b : MA) : MS → va_W := fun (hd, rd, wr, dk, mm, pg, pn, di, mq) =>
  [(b.o, .inr (2, [.int (nI d.n), .int (nI d.P), .int (nI d.w), .ref b.d, .ref b.m, .ref b.p, .ref b.n, .ref b.y, .ref b.k, .int hd, .int rd, .int wr])),
   (b.d, .inl (E.cI, 1600, .inl dk)), (b.m, .inl (E.cI, 256, .inl mm)), (b.p, .inl (E.cI, 32, .inl pg)), (b.n, .inl (E.cI, 32, .inl pn)), (b.y, .inl (E.cZ, 32, .inl di)), (b.k, .inl (E.cZ, 32, .inl mq))]
def mP (E : EN) (d : DM) (b : MA) (σ : MS) (H : Heap) : Prop := va_P E.D classes (mW E d b σ) H
def mD (E : EN) (d : DM) (b : MA) (A : Nat → Prop) : Prop := ∀ σ : MS, va_D A (mW E d b σ)
section MR
variable {p : Program} {l : Launch} {e : Env} {R : Room} {s : State} {m : MethodId} {args : Array Value} {below : List Frame} {meth : Method} {c : Code} {H : Heap} {locs : List Loc} {cells slots : Nat} {Q : State → Prop}
variable {cc : ByteArray} {nL pc index : Nat} {ls : Array Slot} {rest : List Value} {E : EN} {w0 : Cond} {A : Nat → Prop} {H0 : Heap}
variable {d : DM} {b : MA} {hd rd wr : Int32} {dk mm : Nat → Int32} {pg pn di mk : Nat → Int32} {i j : Nat}
theorem mg (S : CallFix p m c cc nL s args (w0 :: tbw) R_M) (hk : kk E s) (hP : mP E d b (hd, rd, wr, dk, mm, pg, pn, di, mk) H) (k : Nat) (hk8 : k < 12) (hF : (F_M k).1 = R_M) (hl : Cond.fieldLink R_M index R_M (F_M k).2.1 (F_M k).2.2.1 ∈ tbw) {v : Value} (hv : [Value.int (nI d.n), .int (nI d.P), .int (nI d.w), .ref b.d, .ref b.m, .ref b.p, .ref b.n, .ref b.y, .ref b.k, .int hd, .int rd, .int wr][k]? = some v) (hdg : decode cc pc = .ok (.getfield index, 3))
    (kk : W p l e R s m args below meth c H locs cells slots Q (F0 m (pc + 3) ls (v :: rest))) : W p l e R s m args below meth c H locs cells slots Q (F0 m pc ls (.ref b.o :: rest)) :=
  va_get (D := E.D) (ci := 2) (C := R_M) (T := F_M) (N := 12) S.1 S.2.1 S.2.2.2.2 (fun w h => hT0 _ (i_M w h)) S.2.2.2.1 hk.1 hP 0 rfl rfl k hk8 (S.2.2.2.2 _ (hT0 _ hl)) (fun x h9 => hF ▸ h9) hv hdg kk
theorem mp_at (S : CallFix p m c cc nL s args (w0 :: tbw) R_M) (hk : kk E s) (hD : mD E d b A) (hS : va_S A H0 H locs) (hP : mP E d b (hd, rd, wr, dk, mm, pg, pn, di, mk) H) {v : Int32} (hdg : decode cc pc = .ok (.putfield 46, 3))
    (kk : ∀ (H1 : Heap) (locs1 : List Loc), mP E d b (v, rd, wr, dk, mm, pg, pn, di, mk) H1 → va_S A H0 H1 locs1 → W p l e R s m args below meth c H1 locs1 cells slots Q (F0 m (pc + 3) ls rest)) : W p l e R s m args below meth c H locs cells slots Q (F0 m pc ls (.int v :: .ref b.o :: rest)) :=
  va_put (D := E.D) (ci := 2) (C := R_M) (T := F_M) (N := 12) S.1 S.2.1 S.2.2.2.2 (fun w h => hT0 _ (i_M w h)) t_M t_M_ok n_M S.2.2.2.1 hk.1 hP (hD _) hS 0 rfl rfl 9 (by decide) (S.2.2.2.2 _ (hT0 _ fl_M_46)) (fun _ h9 => h9) rfl (ty := .int) (by decide +kernel) rfl rfl (Nat.le_of_ble_eq_true rfl) hdg (fun H1 locs1 hP1 _ hS1 => kk H1 locs1 hP1 hS1)
theorem mp_reads (S : CallFix p m c cc nL s args (w0 :: tbw) R_M) (hk : kk E s) (hD : mD E d b A) (hS : va_S A H0 H locs) (hP : mP E d b (hd, rd, wr, dk, mm, pg, pn, di, mk) H) {v : Int32} (hdg : decode cc pc = .ok (.putfield 49, 3))
    (kk : ∀ (H1 : Heap) (locs1 : List Loc), mP E d b (hd, v, wr, dk, mm, pg, pn, di, mk) H1 → va_S A H0 H1 locs1 → W p l e R s m args below meth c H1 locs1 cells slots Q (F0 m (pc + 3) ls rest)) : W p l e R s m args below meth c H locs cells slots Q (F0 m pc ls (.int v :: .ref b.o :: rest)) :=
  va_put (D := E.D) (ci := 2) (C := R_M) (T := F_M) (N := 12) S.1 S.2.1 S.2.2.2.2 (fun w h => hT0 _ (i_M w h)) t_M t_M_ok n_M S.2.2.2.1 hk.1 hP (hD _) hS 0 rfl rfl 10 (by decide) (S.2.2.2.2 _ (hT0 _ fl_M_49)) (fun _ h9 => h9) rfl (ty := .int) (by decide +kernel) rfl rfl (Nat.le_of_ble_eq_true rfl) hdg (fun H1 locs1 hP1 _ hS1 => kk H1 locs1 hP1 hS1)
theorem mp_writes (S : CallFix p m c cc nL s args (w0 :: tbw) R_M) (hk : kk E s) (hD : mD E d b A) (hS : va_S A H0 H locs) (hP : mP E d b (hd, rd, wr, dk, mm, pg, pn, di, mk) H) {v : Int32} (hdg : decode cc pc = .ok (.putfield 52, 3))
    (kk : ∀ (H1 : Heap) (locs1 : List Loc), mP E d b (hd, rd, v, dk, mm, pg, pn, di, mk) H1 → va_S A H0 H1 locs1 → W p l e R s m args below meth c H1 locs1 cells slots Q (F0 m (pc + 3) ls rest)) : W p l e R s m args below meth c H locs cells slots Q (F0 m pc ls (.int v :: .ref b.o :: rest)) :=
  va_put (D := E.D) (ci := 2) (C := R_M) (T := F_M) (N := 12) S.1 S.2.1 S.2.2.2.2 (fun w h => hT0 _ (i_M w h)) t_M t_M_ok n_M S.2.2.2.1 hk.1 hP (hD _) hS 0 rfl rfl 11 (by decide) (S.2.2.2.2 _ (hT0 _ fl_M_52)) (fun _ h9 => h9) rfl (ty := .int) (by decide +kernel) rfl rfl (Nat.le_of_ble_eq_true rfl) hdg (fun H1 locs1 hP1 _ hS1 => kk H1 locs1 hP1 hS1)
theorem ml_dk (S : CallFix p m c cc nL s args (w0 :: tbw) R_M) (hk : kk E s) (hP : mP E d b (hd, rd, wr, dk, mm, pg, pn, di, mk) H) (hj : j < 1600) (hdg : decode cc pc = .ok (.iaload, 1))
    (kk : W p l e R s m args below meth c H locs cells slots Q (F0 m (pc + 1) ls (.int (dk j) :: rest))) : W p l e R s m args below meth c H locs cells slots Q (F0 m pc ls (.int (nI j) :: .ref b.d :: rest)) :=
  va_iald (D := E.D) S.1 S.2.1 hk.1 hP 1 0 rfl rfl (vp_in_nI hj (by decide)) hdg (by rw [nI_clamp (by omega)]; exact kk)
theorem ms_dk (S : CallFix p m c cc nL s args (w0 :: tbw) R_M) (hk : kk E s) (hD : mD E d b A) (hS : va_S A H0 H locs) (hP : mP E d b (hd, rd, wr, dk, mm, pg, pn, di, mk) H) (hj : j < 1600) {v : Int32} (hdg : decode cc pc = .ok (.iastore, 1))
    (kk : ∀ (H1 : Heap) (locs1 : List Loc), mP E d b (hd, rd, wr, upd dk j v, mm, pg, pn, di, mk) H1 → va_S A H0 H1 locs1 → W p l e R s m args below meth c H1 locs1 cells slots Q (F0 m (pc + 1) ls rest)) : W p l e R s m args below meth c H locs cells slots Q (F0 m pc ls (.int v :: .int (nI j) :: .ref b.d :: rest)) := by
  refine va_iast (D := E.D) S.1 S.2.1 hk.1 hP (hD _) hS 1 0 rfl rfl (vp_in_nI hj (by decide)) hdg (fun H1 locs1 hP1 _ hS1 => kk H1 locs1 ?_ hS1)
  rw [nI_clamp (by omega)] at hP1
  exact hP1
theorem ml_mm (S : CallFix p m c cc nL s args (w0 :: tbw) R_M) (hk : kk E s) (hP : mP E d b (hd, rd, wr, dk, mm, pg, pn, di, mk) H) (hj : j < 256) (hdg : decode cc pc = .ok (.iaload, 1))
    (kk : W p l e R s m args below meth c H locs cells slots Q (F0 m (pc + 1) ls (.int (mm j) :: rest))) : W p l e R s m args below meth c H locs cells slots Q (F0 m pc ls (.int (nI j) :: .ref b.m :: rest)) :=
  va_iald (D := E.D) S.1 S.2.1 hk.1 hP 2 0 rfl rfl (vp_in_nI hj (by decide)) hdg (by rw [nI_clamp (by omega)]; exact kk)
theorem ms_mm (S : CallFix p m c cc nL s args (w0 :: tbw) R_M) (hk : kk E s) (hD : mD E d b A) (hS : va_S A H0 H locs) (hP : mP E d b (hd, rd, wr, dk, mm, pg, pn, di, mk) H) (hj : j < 256) {v : Int32} (hdg : decode cc pc = .ok (.iastore, 1))
    (kk : ∀ (H1 : Heap) (locs1 : List Loc), mP E d b (hd, rd, wr, dk, upd mm j v, pg, pn, di, mk) H1 → va_S A H0 H1 locs1 → W p l e R s m args below meth c H1 locs1 cells slots Q (F0 m (pc + 1) ls rest)) : W p l e R s m args below meth c H locs cells slots Q (F0 m pc ls (.int v :: .int (nI j) :: .ref b.m :: rest)) := by
  refine va_iast (D := E.D) S.1 S.2.1 hk.1 hP (hD _) hS 2 0 rfl rfl (vp_in_nI hj (by decide)) hdg (fun H1 locs1 hP1 _ hS1 => kk H1 locs1 ?_ hS1)
  rw [nI_clamp (by omega)] at hP1
  exact hP1
theorem ml_pg (S : CallFix p m c cc nL s args (w0 :: tbw) R_M) (hk : kk E s) (hP : mP E d b (hd, rd, wr, dk, mm, pg, pn, di, mk) H) (hj : j < 32) (hdg : decode cc pc = .ok (.iaload, 1))
    (kk : W p l e R s m args below meth c H locs cells slots Q (F0 m (pc + 1) ls (.int (pg j) :: rest))) : W p l e R s m args below meth c H locs cells slots Q (F0 m pc ls (.int (nI j) :: .ref b.p :: rest)) :=
  va_iald (D := E.D) S.1 S.2.1 hk.1 hP 3 0 rfl rfl (vp_in_nI hj (by decide)) hdg (by rw [nI_clamp (by omega)]; exact kk)
theorem ms_pg (S : CallFix p m c cc nL s args (w0 :: tbw) R_M) (hk : kk E s) (hD : mD E d b A) (hS : va_S A H0 H locs) (hP : mP E d b (hd, rd, wr, dk, mm, pg, pn, di, mk) H) (hj : j < 32) {v : Int32} (hdg : decode cc pc = .ok (.iastore, 1))
    (kk : ∀ (H1 : Heap) (locs1 : List Loc), mP E d b (hd, rd, wr, dk, mm, upd pg j v, pn, di, mk) H1 → va_S A H0 H1 locs1 → W p l e R s m args below meth c H1 locs1 cells slots Q (F0 m (pc + 1) ls rest)) : W p l e R s m args below meth c H locs cells slots Q (F0 m pc ls (.int v :: .int (nI j) :: .ref b.p :: rest)) := by
  refine va_iast (D := E.D) S.1 S.2.1 hk.1 hP (hD _) hS 3 0 rfl rfl (vp_in_nI hj (by decide)) hdg (fun H1 locs1 hP1 _ hS1 => kk H1 locs1 ?_ hS1)
  rw [nI_clamp (by omega)] at hP1
  exact hP1
theorem ml_pn (S : CallFix p m c cc nL s args (w0 :: tbw) R_M) (hk : kk E s) (hP : mP E d b (hd, rd, wr, dk, mm, pg, pn, di, mk) H) (hj : j < 32) (hdg : decode cc pc = .ok (.iaload, 1))
    (kk : W p l e R s m args below meth c H locs cells slots Q (F0 m (pc + 1) ls (.int (pn j) :: rest))) : W p l e R s m args below meth c H locs cells slots Q (F0 m pc ls (.int (nI j) :: .ref b.n :: rest)) :=
  va_iald (D := E.D) S.1 S.2.1 hk.1 hP 4 0 rfl rfl (vp_in_nI hj (by decide)) hdg (by rw [nI_clamp (by omega)]; exact kk)
theorem ms_pn (S : CallFix p m c cc nL s args (w0 :: tbw) R_M) (hk : kk E s) (hD : mD E d b A) (hS : va_S A H0 H locs) (hP : mP E d b (hd, rd, wr, dk, mm, pg, pn, di, mk) H) (hj : j < 32) {v : Int32} (hdg : decode cc pc = .ok (.iastore, 1))
    (kk : ∀ (H1 : Heap) (locs1 : List Loc), mP E d b (hd, rd, wr, dk, mm, pg, upd pn j v, di, mk) H1 → va_S A H0 H1 locs1 → W p l e R s m args below meth c H1 locs1 cells slots Q (F0 m (pc + 1) ls rest)) : W p l e R s m args below meth c H locs cells slots Q (F0 m pc ls (.int v :: .int (nI j) :: .ref b.n :: rest)) := by
  refine va_iast (D := E.D) S.1 S.2.1 hk.1 hP (hD _) hS 4 0 rfl rfl (vp_in_nI hj (by decide)) hdg (fun H1 locs1 hP1 _ hS1 => kk H1 locs1 ?_ hS1)
  rw [nI_clamp (by omega)] at hP1
  exact hP1
theorem ml_di (S : CallFix p m c cc nL s args (w0 :: tbw) R_M) (hk : kk E s) (hP : mP E d b (hd, rd, wr, dk, mm, pg, pn, di, mk) H) (hj : j < 32) (hdg : decode cc pc = .ok (.baload, 1))
    (kk : W p l e R s m args below meth c H locs cells slots Q (F0 m (pc + 1) ls (.int (di j) :: rest))) : W p l e R s m args below meth c H locs cells slots Q (F0 m pc ls (.int (nI j) :: .ref b.y :: rest)) :=
  va_zald (D := E.D) S.1 S.2.1 hk.1 hP 5 2 rfl rfl (vp_in_nI hj (by decide)) hdg (by rw [nI_clamp (by omega)]; exact kk)
theorem ms_di (S : CallFix p m c cc nL s args (w0 :: tbw) R_M) (hk : kk E s) (hD : mD E d b A) (hS : va_S A H0 H locs) (hP : mP E d b (hd, rd, wr, dk, mm, pg, pn, di, mk) H) (hj : j < 32) {v : Int32} (hn : vp_nar .boolean v = v) (hdg : decode cc pc = .ok (.bastore, 1))
    (kk : ∀ (H1 : Heap) (locs1 : List Loc), mP E d b (hd, rd, wr, dk, mm, pg, pn, upd di j v, mk) H1 → va_S A H0 H1 locs1 → W p l e R s m args below meth c H1 locs1 cells slots Q (F0 m (pc + 1) ls rest)) : W p l e R s m args below meth c H locs cells slots Q (F0 m pc ls (.int v :: .int (nI j) :: .ref b.y :: rest)) := by
  refine va_zast (D := E.D) S.1 S.2.1 hk.1 hP (hD _) hS 5 2 rfl rfl (vp_in_nI hj (by decide)) hdg (fun H1 locs1 hP1 _ hS1 => kk H1 locs1 ?_ hS1)
  rw [nI_clamp (by omega), hn] at hP1
  exact hP1
theorem ml_mk (S : CallFix p m c cc nL s args (w0 :: tbw) R_M) (hk : kk E s) (hP : mP E d b (hd, rd, wr, dk, mm, pg, pn, di, mk) H) (hj : j < 32) (hdg : decode cc pc = .ok (.baload, 1))
    (kk : W p l e R s m args below meth c H locs cells slots Q (F0 m (pc + 1) ls (.int (mk j) :: rest))) : W p l e R s m args below meth c H locs cells slots Q (F0 m pc ls (.int (nI j) :: .ref b.k :: rest)) :=
  va_zald (D := E.D) S.1 S.2.1 hk.1 hP 6 2 rfl rfl (vp_in_nI hj (by decide)) hdg (by rw [nI_clamp (by omega)]; exact kk)
theorem ms_mk (S : CallFix p m c cc nL s args (w0 :: tbw) R_M) (hk : kk E s) (hD : mD E d b A) (hS : va_S A H0 H locs) (hP : mP E d b (hd, rd, wr, dk, mm, pg, pn, di, mk) H) (hj : j < 32) {v : Int32} (hn : vp_nar .boolean v = v) (hdg : decode cc pc = .ok (.bastore, 1))
    (kk : ∀ (H1 : Heap) (locs1 : List Loc), mP E d b (hd, rd, wr, dk, mm, pg, pn, di, upd mk j v) H1 → va_S A H0 H1 locs1 → W p l e R s m args below meth c H1 locs1 cells slots Q (F0 m (pc + 1) ls rest)) : W p l e R s m args below meth c H locs cells slots Q (F0 m pc ls (.int v :: .int (nI j) :: .ref b.k :: rest)) := by
  refine va_zast (D := E.D) S.1 S.2.1 hk.1 hP (hD _) hS 6 2 rfl rfl (vp_in_nI hj (by decide)) hdg (fun H1 locs1 hP1 _ hS1 => kk H1 locs1 ?_ hS1)
  rw [nI_clamp (by omega), hn] at hP1
  exact hP1
theorem mrec (hk : kk E s) {σ : MS} (hP : mP E d b σ H) : ∃ cell : Cell, H[b.o]? = some cell ∧ cell.vm.isStatics = false ∧ s.vm.findClass R_M = some cell.cls := va_recv (q := (R_M, F_M, 12)) hk.1 hP (ci := 2) (q0 := 0) rfl rfl
end MR
end
section
/-! what both compute: one state, one answer for each call -/
/-- disk (page, word), memory (frame, word), page, pins, dirty, mark, hand, reads, writes -/
abbrev St : Type := (Nat → Nat → Int32) × (Nat → Nat → Int32) × (Nat → Int32) × (Nat → Int32) × (Nat → Int32) × (Nat → Int32) × Nat × Int32 × Int32
abbrev St.dk (S : St) : Nat → Nat → Int32 := S.1
abbrev St.mm (S : St) : Nat → Nat → Int32 := S.2.1
abbrev St.pg (S : St) : Nat → Int32 := S.2.2.1
abbrev St.pn (S : St) : Nat → Int32 := S.2.2.2.1
abbrev St.di (S : St) : Nat → Int32 := S.2.2.2.2.1
abbrev St.mk (S : St) : Nat → Int32 := S.2.2.2.2.2.1
abbrev St.hd (S : St) : Nat := S.2.2.2.2.2.2.1
abbrev St.rd (S : St) : Int32 := S.2.2.2.2.2.2.2.1
abbrev St.wr (S : St) : Int32 := S.2.2.2.2.2.2.2.2
def isPg (d : DM) (p : Int32) : Prop := 0 ≤ p ∧ p < nI d.P
def isWd (d : DM) (o : Int32) : Prop := 0 ≤ o ∧ o < nI d.w
/-- the first of n frames that has the page p -/
def fo (pg : Nat → Int32) (p : Int32) : Nat → Option Nat
  | 0 => none
  | n + 1 => match fo pg p n with
    | some i => some i
    | none => if 0 ≤ p ∧ pg n = p then some n else none
def foI : Option Nat → Int32
  | none => -5
  | some i => nI i
/-- how many of n frames have pins -/
def cnt (pn : Nat → Int32) : Nat → Nat
  | 0 => 0
  | n + 1 => cnt pn n + if 0 < pn n then 1 else 0
/-- the hand's way: at most so many steps -/
def clk (n : Nat) (pn : Nat → Int32) : Nat → Nat → (Nat → Int32) → Option (Nat × Nat × (Nat → Int32))
  | 0, _, _ => none
  | f + 1, hd, mq =>
    if pn hd = 0 then
      if mq hd = 0 then some (hd, (if hd + 1 = n then 0 else hd + 1), mq) else clk n pn f (if hd + 1 = n then 0 else hd + 1) (upd mq hd 0)
    else clk n pn f (if hd + 1 = n then 0 else hd + 1) mq
def s_wr (S : St) (i : Nat) : St := (va_up S.dk (S.pg i).toNatClampNeg (S.mm i), S.mm, S.pg, S.pn, upd S.di i 0, S.mk, S.hd, S.rd, S.wr + 1)
def s_em (S : St) (i : Nat) : St := (S.dk, S.mm, upd S.pg i (-1), upd S.pn i 0, upd S.di i 0, upd S.mk i 0, S.hd, S.rd, S.wr)
def s_ld (S : St) (i : Nat) (p : Int32) : St := (S.dk, va_up S.mm i (S.dk p.toNatClampNeg), upd S.pg i p, S.pn, S.di, S.mk, S.hd, S.rd + 1, S.wr)
def s_pin (S : St) (i : Nat) : St := (S.dk, S.mm, S.pg, upd S.pn i (S.pn i + 1), S.di, upd S.mk i 1, S.hd, S.rd, S.wr)
def s_hm (S : St) (hd : Nat) (mk : Nat → Int32) : St := (S.dk, S.mm, S.pg, S.pn, S.di, mk, hd, S.rd, S.wr)
/-- a frame goes out: written if it has to be, and emptied -/
def s_out (S : St) (i : Nat) : St := if S.pg i ≠ -1 ∧ S.di i ≠ 0 then s_em (s_wr S i) i else s_em S i
/-- the next empty frame, and what is left -/
def s_next (d : DM) (S : St) : Option (Nat × St) := match clk d.n S.pn (2 * d.n + 2) S.hd S.mk with
  | none => none
  | some (i, hd, mq) => some (i, s_out (s_hm S hd mq) i)
def o_fetch (d : DM) (S : St) (p : Int32) : Int32 × St :=
  if 0 ≤ p ∧ p < nI d.P then
    match fo S.pg p d.n with
    | some i => (nI i, s_pin S i)
    | none => if cnt S.pn d.n = d.n then (-1, S) else
      match s_next d S with
      | none => (0, S)
      | some (i, S') => (nI i, s_pin (s_ld S' i p) i)
  else (-2, S)
def isPin (d : DM) (S : St) (f : Int32) : Prop := (0 ≤ f ∧ f < nI d.n) ∧ S.pn f.toNatClampNeg ≠ 0
def o_unpin (d : DM) (S : St) (f : Int32) : Int32 × St :=
  if (0 ≤ f ∧ f < nI d.n) ∧ S.pn f.toNatClampNeg ≠ 0 then (S.pn f.toNatClampNeg - 1, (S.dk, S.mm, S.pg, upd S.pn f.toNatClampNeg (S.pn f.toNatClampNeg - 1), S.di, S.mk, S.hd, S.rd, S.wr)) else (-3, S)
def o_readWord (d : DM) (S : St) (f o : Int32) : Int32 :=
  if ((0 ≤ f ∧ f < nI d.n) ∧ S.pn f.toNatClampNeg ≠ 0) ∧ 0 ≤ o ∧ o < nI d.w then S.mm f.toNatClampNeg o.toNatClampNeg else 0
def o_writeWord (d : DM) (S : St) (f o v : Int32) : Int32 × St :=
  if (0 ≤ f ∧ f < nI d.n) ∧ S.pn f.toNatClampNeg ≠ 0 then
    if 0 ≤ o ∧ o < nI d.w then (0, (S.dk, va_up S.mm f.toNatClampNeg (upd (S.mm f.toNatClampNeg) o.toNatClampNeg v), S.pg, S.pn, upd S.di f.toNatClampNeg 1, S.mk, S.hd, S.rd, S.wr)) else (-4, S)
  else (-3, S)
def o_flush (d : DM) (S : St) (p : Int32) : Int32 × St := match fo S.pg p d.n with
  | none => (0, S)
  | some i => if S.di i = 0 then (0, S) else (1, s_wr S i)
def o_fl : Nat → St → Nat × St
  | 0, S => (0, S)
  | k + 1, S => if (o_fl k S).2.di k = 0 then o_fl k S else ((o_fl k S).1 + 1, s_wr (o_fl k S).2 k)
def o_drop (d : DM) (S : St) (p : Int32) : Int32 × St := match fo S.pg p d.n with
  | none => (0, S)
  | some i => if 0 < S.pn i then (0, S) else (1, s_em S i)
def o_src (d : DM) (S : St) (q : Int32) : Nat → Int32 := match fo S.pg q d.n with
  | none => S.dk q.toNatClampNeg
  | some g => S.mm g
def o_copy (d : DM) (S : St) (p q : Int32) : Int32 × St :=
  if (0 ≤ p ∧ p < nI d.P) ∧ (0 ≤ q ∧ q < nI d.P) then
    match fo S.pg p d.n with
    | none => (-3, S)
    | some i => if S.pn i = 0 then (-3, S) else (0, (S.dk, va_up S.mm i (o_src d S q), S.pg, S.pn, upd S.di i 1, S.mk, S.hd, S.rd, S.wr))
  else (-2, S)
def o_diskWord (d : DM) (S : St) (p o : Int32) : Int32 := if (0 ≤ p ∧ p < nI d.P) ∧ (0 ≤ o ∧ o < nI d.w) then S.dk p.toNatClampNeg o.toNatClampNeg else 0
def o_resident (d : DM) (S : St) (p : Int32) : Int32 := match fo S.pg p d.n with
  | none => 0
  | some _ => 1
def o_told (d : DM) (S : St) (f t : Int32) : Int32 :=
  if 0 ≤ f ∧ f < nI d.n then
    if t = 0 then S.pg f.toNatClampNeg else if t = 1 then S.pn f.toNatClampNeg else if t = 2 then (if S.di f.toNatClampNeg = 0 then 0 else 1) else if t = 3 then (if S.mk f.toNatClampNeg = 0 then 0 else 1) else -5
  else -5
def o_init : St := (fun _ _ => 0, fun _ _ => 0, fun _ => -1, fun _ => 0, fun _ => 0, fun _ => 0, 0, 0, 0)
def o_reset (S : St) : St := (fun _ _ => 0, S.mm, fun _ => -1, fun _ => 0, fun _ => 0, fun _ => 0, 0, 0, 0)
/-- what holds between calls: N bounds the pins -/
def Inv (d : DM) (N : Nat) (S : St) : Prop := S.hd < d.n ∧ (∀ i, i < d.n → S.pg i = -1 ∨ ∃ p, p < d.P ∧ S.pg i = nI p) ∧ (∀ i j, i < d.n → j < d.n → S.pg i = S.pg j → S.pg i ≠ -1 → i = j) ∧ (∀ i, i < d.n → S.pg i = -1 → S.pn i = 0 ∧ S.di i = 0 ∧ S.mk i = 0) ∧ (∀ i, i < d.n → ∃ q, q ≤ N ∧ S.pn i = nI q)
theorem upd_s {f : Nat → Int32} {k : Nat} {x : Int32} : upd f k x k = x := by simp [upd]
theorem upd_n {f : Nat → Int32} {k j : Nat} {x : Int32} (h : j ≠ k) : upd f k x j = f j := by simp [upd, h]
theorem upd_id {f : Nat → Int32} {k : Nat} {x : Int32} (h : f k = x) : upd f k x = f := by
  funext j
  by_cases e : j = k
  · subst e; rw [upd_s, h]
  · rw [upd_n e]
theorem upd_up (f : Nat → Int32) (k : Nat) (x : Int32) : upd f k x = va_up f k x := rfl
/-! frames by pages -/
theorem fo_some {pg : Nat → Int32} {p : Int32} : ∀ {n i : Nat}, fo pg p n = some i → i < n ∧ 0 ≤ p ∧ pg i = p
  | 0, i, h => by simp [fo] at h
  | n + 1, i, h => by
    simp only [fo] at h
    cases hf : fo pg p n with
    | some j =>
      rw [hf] at h
      cases h
      have := fo_some hf
      exact ⟨by omega, this.2⟩
    | none =>
      rw [hf] at h
      by_cases hc : 0 ≤ p ∧ pg n = p
      · rw [if_pos hc] at h
        cases h
        exact ⟨by omega, hc⟩
      · rw [if_neg hc] at h
        cases h
theorem fo_none {pg : Nat → Int32} {p : Int32} : ∀ {n : Nat}, fo pg p n = none → ∀ i, i < n → ¬ (0 ≤ p ∧ pg i = p)
  | 0, _, i, h => by omega
  | n + 1, h, i, hi => by
    simp only [fo] at h
    cases hf : fo pg p n with
    | some j => rw [hf] at h; cases h
    | none =>
      rw [hf] at h
      by_cases hc : 0 ≤ p ∧ pg n = p
      · rw [if_pos hc] at h; cases h
      · by_cases e : i = n
        · subst e; exact hc
        · exact fo_none hf i (by omega)
theorem fo_mono {pg : Nat → Int32} {p : Int32} {k i : Nat} (h : fo pg p k = some i) : ∀ n, k ≤ n → fo pg p n = some i := by
  intro n
  induction n with
  | zero => intro hk; have : k = 0 := by omega
            subst this; exact h
  | succ n ih =>
    intro hk
    by_cases e : k = n + 1
    · subst e; exact h
    · simp only [fo, ih (by omega)]
theorem fo_succ_none {pg : Nat → Int32} {p : Int32} {k : Nat} (h : fo pg p k = none) (hc : ¬ (0 ≤ p ∧ pg k = p)) : fo pg p (k + 1) = none := by
  simp only [fo, h, if_neg hc]
theorem fo_succ_some {pg : Nat → Int32} {p : Int32} {k : Nat} (h : fo pg p k = none) (hc : 0 ≤ p ∧ pg k = p) : fo pg p (k + 1) = some k := by
  simp only [fo, h, if_pos hc]
/-- the only frame that has the page -/
theorem fo_only {pg : Nat → Int32} {p : Int32} {n i : Nat} (hi : i < n) (hp : 0 ≤ p) (he : pg i = p) (hu : ∀ j, j < n → pg j = p → j = i) : fo pg p n = some i := by
  cases h : fo pg p n with
  | none => exact absurd ⟨hp, he⟩ (fo_none h i hi)
  | some j =>
    obtain ⟨h1, -, h2⟩ := fo_some h
    rw [hu j h1 h2]
/-! pins -/
theorem cnt_le (pn : Nat → Int32) : ∀ n, cnt pn n ≤ n
  | 0 => Nat.le_refl _
  | n + 1 => by
    have := cnt_le pn n
    simp only [cnt]
    split <;> omega
theorem cnt_free {pn : Nat → Int32} : ∀ {n : Nat}, cnt pn n ≠ n → ∃ i, i < n ∧ ¬ 0 < pn i
  | 0, h => absurd rfl h
  | n + 1, h => by
    by_cases hp : 0 < pn n
    · simp only [cnt, if_pos hp] at h
      obtain ⟨i, h1, h2⟩ := cnt_free (pn := pn) (n := n) (fun e => h (by omega))
      exact ⟨i, by omega, h2⟩
    · exact ⟨n, by omega, hp⟩
/-! the hand -/
theorem clk_A {n : Nat} {pn : Nat → Int32} {j : Nat} (hj : j < n) (h0 : pn j = 0) : ∀ (k f hd : Nat) (mk : Nat → Int32), hd < n → mk j = 0 → (hd + k = j ∨ hd + k = j + n) → k < f → ∃ r, clk n pn f hd mk = some r := by
  intro k
  induction k with
  | zero =>
    intro f hd mk hh hm hk hf
    have e : hd = j := by omega
    subst e
    cases f with
    | zero => omega
    | succ f => exact ⟨_, by simp only [clk, if_pos h0, if_pos hm]; rfl⟩
  | succ k ih =>
    intro f hd mk hh hm hk hf
    cases f with
    | zero => omega
    | succ f =>
      have hn : (if hd + 1 = n then 0 else hd + 1) < n ∧ ((if hd + 1 = n then 0 else hd + 1) + k = j ∨ (if hd + 1 = n then 0 else hd + 1) + k = j + n) := by
        split <;> omega
      simp only [clk]
      by_cases c1 : pn hd = 0
      · rw [if_pos c1]
        by_cases c2 : mk hd = 0
        · rw [if_pos c2]; exact ⟨_, rfl⟩
        · rw [if_neg c2]
          refine ih f _ _ hn.1 ?_ hn.2 (by omega)
          by_cases e : j = hd
          · subst e; exact absurd hm c2
          · rw [upd_n e]; exact hm
      · rw [if_neg c1]
        exact ih f _ _ hn.1 hm hn.2 (by omega)
theorem clk_B {n : Nat} {pn : Nat → Int32} {j : Nat} (hj : j < n) (h0 : pn j = 0) : ∀ (k f hd : Nat) (mk : Nat → Int32), hd < n → (hd + k = j ∨ hd + k = j + n) → k + n < f → ∃ r, clk n pn f hd mk = some r := by
  intro k
  induction k with
  | zero =>
    intro f hd mk hh hk hf
    have e : hd = j := by omega
    subst e
    cases f with
    | zero => omega
    | succ f =>
      simp only [clk, if_pos h0]
      by_cases c2 : mk hd = 0
      · rw [if_pos c2]; exact ⟨_, rfl⟩
      · rw [if_neg c2]
        refine clk_A hj h0 (n - 1) f _ _ ?_ upd_s ?_ (by omega)
        · split <;> omega
        · split <;> omega
  | succ k ih =>
    intro f hd mk hh hk hf
    cases f with
    | zero => omega
    | succ f =>
      have hn : (if hd + 1 = n then 0 else hd + 1) < n ∧ ((if hd + 1 = n then 0 else hd + 1) + k = j ∨ (if hd + 1 = n then 0 else hd + 1) + k = j + n) := by
        split <;> omega
      simp only [clk]
      by_cases c1 : pn hd = 0
      · rw [if_pos c1]
        by_cases c2 : mk hd = 0
        · rw [if_pos c2]; exact ⟨_, rfl⟩
        · rw [if_neg c2]
          exact ih f _ _ hn.1 hn.2 (by omega)
      · rw [if_neg c1]
        exact ih f _ _ hn.1 hn.2 (by omega)
/-- some frame without pins: the hand finds one -/
theorem clk_ok {n : Nat} {pn mk : Nat → Int32} {j hd : Nat} (hj : j < n) (h0 : pn j = 0) (hh : hd < n) : ∃ r, clk n pn (2 * n + 2) hd mk = some r := by
  by_cases h : hd ≤ j
  · exact clk_B hj h0 (j - hd) _ hd mk hh (by omega) (by omega)
  · exact clk_B hj h0 (j + n - hd) _ hd mk hh (by omega) (by omega)
/-- what the hand finds -/
theorem clk_spec {n : Nat} {pn : Nat → Int32} : ∀ (f hd : Nat) (mk : Nat → Int32) (i hd' : Nat) (mk' : Nat → Int32), hd < n → clk n pn f hd mk = some (i, hd', mk') → i < n ∧ pn i = 0 ∧ mk' i = 0 ∧ hd' < n ∧ ∀ j, mk j = 0 → mk' j = 0 := by
  intro f
  induction f with
  | zero => intro hd mk i hd' mk' _ h; simp [clk] at h
  | succ f ih =>
    intro hd mk i hd' mk' hh h
    have hn : (if hd + 1 = n then 0 else hd + 1) < n := by split <;> omega
    simp only [clk] at h
    by_cases c1 : pn hd = 0
    · rw [if_pos c1] at h
      by_cases c2 : mk hd = 0
      · rw [if_pos c2] at h
        cases h
        exact ⟨hh, c1, c2, hn, fun _ h => h⟩
      · rw [if_neg c2] at h
        obtain ⟨g1, g2, g3, g4, g5⟩ := ih _ _ _ _ _ hn h
        refine ⟨g1, g2, g3, g4, fun j hj => g5 j ?_⟩
        by_cases e : j = hd
        · subst e; exact upd_s
        · rw [upd_n e]; exact hj
    · rw [if_neg c1] at h
      exact ih _ _ _ _ _ hn h
end
section
/-! the table: gone along from a page's own place; closed up again when a page goes -/
def ds (h j : Nat) : Nat := (j + 64 - h) % 64
def hm (p : Int32) : Nat := p.toNatClampNeg * 37 % 64
theorem hm_lt (p : Int32) : hm p < 64 := Nat.mod_lt _ (by decide)
def Tab (n : Nat) (ti : Nat → Option Nat) (pg : Nat → Int32) : Prop :=
  (∀ k i, k < 64 → ti k = some i → i < n ∧ pg i ≠ -1) ∧
  (∀ k k' i, k < 64 → k' < 64 → ti k = some i → ti k' = some i → k = k') ∧
  (∀ i, i < n → pg i ≠ -1 → ∃ k, k < 64 ∧ ti k = some i ∧ ∀ j, j < 64 → ds (hm (pg i)) j < ds (hm (pg i)) k → ti j ≠ none)
/-- where the walk from p's own place ends -/
def Plc (ti : Nat → Option Nat) (pg : Nat → Int32) (p : Int32) (k : Nat) : Prop :=
  k < 64 ∧ (∀ j, j < 64 → ds (hm p) j < ds (hm p) k → ∃ i, ti j = some i ∧ pg i ≠ p) ∧ (ti k = none ∨ ∃ i, ti k = some i ∧ pg i = p)
theorem pigeon : ∀ (n m : Nat) (f : Nat → Nat), (∀ k, k < m → f k < n) → (∀ k k', k < m → k' < m → f k = f k' → k = k') → m ≤ n := by
  intro n
  induction n with
  | zero =>
    intro m f h _
    by_cases hm : m = 0
    · omega
    · exact absurd (h 0 (by omega)) (by omega)
  | succ n ih =>
    intro m f h hi
    by_cases hm : m = 0
    · omega
    · have key : m - 1 ≤ n := by
        refine ih (m - 1) (fun k => if f k = n then f (m - 1) else f k) (fun k hk => ?_) (fun k k' hk hk' e => ?_)
        · by_cases c : f k = n
          · rw [if_pos c]
            have h1 := h (m - 1) (by omega)
            have h2 : f (m - 1) ≠ n := fun z => by have := hi k (m - 1) (by omega) (by omega) (by omega); omega
            omega
          · rw [if_neg c]
            have h1 := h k (by omega)
            omega
        · by_cases c : f k = n <;> by_cases c' : f k' = n
          · exact hi k k' (by omega) (by omega) (by omega)
          · simp only [if_pos c, if_neg c'] at e
            have := hi (m - 1) k' (by omega) (by omega) e
            omega
          · simp only [if_neg c, if_pos c'] at e
            have := hi k (m - 1) (by omega) (by omega) e
            omega
          · simp only [if_neg c, if_neg c'] at e
            exact hi k k' (by omega) (by omega) e
      omega
theorem Tab.null {n : Nat} {ti : Nat → Option Nat} {pg : Nat → Int32} (h : Tab n ti pg) (hn : n ≤ 32) : ∃ z, z < 64 ∧ ti z = none := by
  apply Classical.byContradiction
  intro hc
  have hs : ∀ k, k < 64 → ∃ i, ti k = some i := by
    intro k hk
    cases e : ti k with
    | none => exact absurd ⟨k, hk, e⟩ hc
    | some i => exact ⟨i, rfl⟩
  have := pigeon n 64 (fun k => (ti k).getD 0) (fun k hk => by
    obtain ⟨i, hi⟩ := hs k hk
    simp only [hi, Option.getD_some]
    exact (h.1 k i hk hi).1) (fun k k' hk hk' e => by
    obtain ⟨i, hi⟩ := hs k hk
    obtain ⟨i', hi'⟩ := hs k' hk'
    simp only [hi, hi', Option.getD_some] at e
    subst e
    exact h.2.1 k k' i hk hk' hi hi')
  omega
/-- the walk goes on: an invariant of its loop -/
def Pw (ti : Nat → Option Nat) (pg : Nat → Int32) (p : Int32) (k : Nat) : Prop := k < 64 ∧ ∀ j, j < 64 → ds (hm p) j < ds (hm p) k → ∃ i, ti j = some i ∧ pg i ≠ p
theorem Pw.start {ti : Nat → Option Nat} {pg : Nat → Int32} {p : Int32} : Pw ti pg p (hm p) := by
  have h := hm_lt p
  refine ⟨h, fun j hj hd => ?_⟩
  generalize hm p = a at *
  unfold ds at hd
  omega
theorem Pw.step {ti : Nat → Option Nat} {pg : Nat → Int32} {p : Int32} {k i z : Nat} (h : Pw ti pg p k) (hi : ti k = some i) (hp : pg i ≠ p) (hz : z < 64) (hzn : ti z = none) : Pw ti pg p ((k + 1) % 64) ∧ ds (hm p) ((k + 1) % 64) = ds (hm p) k + 1 := by
  have hh := hm_lt p
  obtain ⟨hk, h⟩ := h
  have hzk : z ≠ k := fun e => by rw [e, hi] at hzn; cases hzn
  have hz2 : ¬ ds (hm p) z < ds (hm p) k := fun q => by
    obtain ⟨i', g, -⟩ := h z hz q
    rw [hzn] at g; cases g
  unfold Pw
  generalize hm p = a at *
  have hne : ds a ((k + 1) % 64) = ds a k + 1 := by
    unfold ds at *
    omega
  refine ⟨⟨Nat.mod_lt _ (by decide), fun j hj hd => ?_⟩, hne⟩
  by_cases e : j = k
  · subst e; exact ⟨i, hi, hp⟩
  · refine h j hj ?_
    unfold ds at *
    omega
theorem Plc.found {n : Nat} {ti : Nat → Option Nat} {pg : Nat → Int32} {p : Int32} {k i : Nat} (hT : Tab n ti pg) (hu : ∀ i j, i < n → j < n → pg i = pg j → pg i ≠ -1 → i = j) (h : Plc ti pg p k) (hi : i < n) (hp : pg i = p) (hp1 : p ≠ -1) : ti k = some i := by
  obtain ⟨hk, hw, he⟩ := h
  obtain ⟨k0, h1, h2, h3⟩ := hT.2.2 i hi (by rw [hp]; exact hp1)
  rw [hp] at h3
  rcases he with e | ⟨i', e, e'⟩
  · have hkk : k ≠ k0 := fun z => by rw [z, h2] at e; cases e
    rcases Nat.lt_or_ge (ds (hm p) k) (ds (hm p) k0) with q | q
    · exact absurd e (h3 k hk q)
    · rcases Nat.lt_or_ge (ds (hm p) k0) (ds (hm p) k) with q2 | q2
      · obtain ⟨i2, g1, g2⟩ := hw k0 h1 q2
        rw [h2] at g1; cases g1
        exact absurd hp g2
      · have hh := hm_lt p
        generalize hm p = a at *
        exfalso
        apply hkk
        unfold ds at *
        omega
  · have h4 := hT.1 k i' hk e
    rw [hu i' i h4.1 hi (by rw [e', hp]) (by rw [e']; exact hp1)] at e
    exact e
theorem Plc.absent {n : Nat} {ti : Nat → Option Nat} {pg : Nat → Int32} {p : Int32} {k : Nat} (ht : ∀ k i, k < 64 → ti k = some i → pg i ≠ p) (h : Plc ti pg p k) : ti k = none := by
  obtain ⟨hk, hw, he⟩ := h
  rcases he with e | ⟨i, e, e'⟩
  · exact e
  · exact absurd e' (ht k i hk e)
/-- a page is put in -/
theorem Tab.put {n : Nat} {ti : Nat → Option Nat} {pg : Nat → Int32} {p : Int32} {k i : Nat} (hT : Tab n ti pg) (hi : i < n) (h0 : pg i = -1) (hp1 : p ≠ -1) (h : Plc ti (upd pg i p) p k) (hk0 : ti k = none) : Tab n (va_up ti k (some i)) (upd pg i p) := by
  obtain ⟨hk, hw, -⟩ := h
  have hne : ∀ k' i', k' < 64 → ti k' = some i' → i' ≠ i := fun k' i' h1 h2 e => (hT.1 k' i' h1 h2).2 (by rw [e]; exact h0)
  refine ⟨fun k' i' h1 h2 => ?_, fun k1 k2 i' h1 h2 e1 e2 => ?_, fun i' h1 h2 => ?_⟩
  · by_cases e : k' = k
    · subst e
      rw [va_up_self] at h2
      cases h2
      exact ⟨hi, by rw [upd_s]; exact hp1⟩
    · rw [va_up_ne _ _ e] at h2
      have := hT.1 k' i' h1 h2
      exact ⟨this.1, by rw [upd_n (hne k' i' h1 h2)]; exact this.2⟩
  · by_cases c1 : k1 = k <;> by_cases c2 : k2 = k
    · omega
    · subst c1
      rw [va_up_self] at e1; cases e1
      rw [va_up_ne _ _ c2] at e2
      exact absurd rfl (hne k2 _ h2 e2)
    · subst c2
      rw [va_up_self] at e2; cases e2
      rw [va_up_ne _ _ c1] at e1
      exact absurd rfl (hne k1 _ h1 e1)
    · rw [va_up_ne _ _ c1] at e1
      rw [va_up_ne _ _ c2] at e2
      exact hT.2.1 k1 k2 i' h1 h2 e1 e2
  · by_cases c : i' = i
    · subst c
      refine ⟨k, hk, va_up_self _ _ _, fun j hj hd => ?_⟩
      rw [upd_s] at hd
      obtain ⟨i2, g1, -⟩ := hw j hj hd
      have : j ≠ k := fun z => by rw [z, hk0] at g1; cases g1
      rw [va_up_ne _ _ this, g1]
      exact fun z => by cases z
    · rw [upd_n c] at h2 ⊢
      obtain ⟨k', g1, g2, g3⟩ := hT.2.2 i' h1 h2
      have hkk : k' ≠ k := fun z => by rw [z, hk0] at g2; cases g2
      refine ⟨k', g1, by rw [va_up_ne _ _ hkk]; exact g2, fun j hj hd => ?_⟩
      by_cases e : j = k
      · rw [e, va_up_self]; exact fun z => by cases z
      · rw [va_up_ne _ _ e]; exact g3 j hj hd
/-- the gap g goes up: an invariant of the loop that closes it; the place t is looked at, z is empty -/
def Fi (n : Nat) (ti : Nat → Option Nat) (pg : Nat → Int32) (i g t z : Nat) : Prop :=
  (g < 64 ∧ t < 64 ∧ z < 64 ∧ t ≠ g ∧ z ≠ g ∧ ti z = none) ∧
  (∀ k i', k < 64 → k ≠ g → ti k = some i' → i' < n ∧ pg i' ≠ -1 ∧ i' ≠ i) ∧
  (∀ k k' i', k < 64 → k' < 64 → k ≠ g → k' ≠ g → ti k = some i' → ti k' = some i' → k = k') ∧
  (∀ i', i' < n → pg i' ≠ -1 → i' ≠ i → ∃ k, k < 64 ∧ k ≠ g ∧ ti k = some i' ∧ (∀ j, j < 64 → ds (hm (pg i')) j < ds (hm (pg i')) k → j ≠ g → ti j ≠ none) ∧ (ds (hm (pg i')) g < ds (hm (pg i')) k → ds g t ≤ ds g k)) ∧
  (∀ j, j < 64 → 0 < ds g j → ds g j < ds g t → ti j ≠ none)
theorem Fi.start {n : Nat} {ti : Nat → Option Nat} {pg : Nat → Int32} {i g z : Nat} (hT : Tab n ti pg) (hg : g < 64) (hi : ti g = some i) (hz : z < 64) (hzn : ti z = none) : Fi n ti pg i g ((g + 1) % 64) z := by
  have hzg : z ≠ g := fun e => by rw [e, hi] at hzn; cases hzn
  have hnk : ∀ k, k < 64 → k ≠ g → ti k = some i → False := fun k h1 h2 h3 => h2 (hT.2.1 k g i h1 hg h3 hi)
  refine ⟨⟨hg, by omega, hz, by omega, hzg, hzn⟩, fun k i' h1 h2 h3 => ?_, fun k k' i' h1 h2 _ _ h3 h4 => hT.2.1 k k' i' h1 h2 h3 h4, fun i' h1 h2 h3 => ?_, fun j hj h1 h2 => ?_⟩
  · have := hT.1 k i' h1 h3
    exact ⟨this.1, this.2, fun e => hnk k h1 h2 (by rw [← e]; exact h3)⟩
  · obtain ⟨k, g1, g2, g3⟩ := hT.2.2 i' h1 h2
    have hkg : k ≠ g := fun e => by rw [e, hi] at g2; cases g2; exact h3 rfl
    refine ⟨k, g1, hkg, g2, fun j hj hd _ => g3 j hj hd, fun _ => ?_⟩
    unfold ds
    omega
  · exfalso
    unfold ds at *
    omega
/-- the one at t stays -/
theorem Fi.stay {n : Nat} {ti : Nat → Option Nat} {pg : Nat → Int32} {i g t z i2 : Nat} (h : Fi n ti pg i g t z) (hi : ti t = some i2) (hs : 0 < ds g (hm (pg i2)) ∧ ds g (hm (pg i2)) ≤ ds g t) : Fi n ti pg i g ((t + 1) % 64) z ∧ ds t z = ds ((t + 1) % 64) z + 1 := by
  obtain ⟨⟨hg, ht, hz, htg, hzg, hzn⟩, hA, hB, hC, hD⟩ := h
  have hzt : z ≠ t := fun e => by rw [e, hi] at hzn; cases hzn
  have hz2 : ¬ (0 < ds g z ∧ ds g z < ds g t) := fun q => hD z hz q.1 q.2 hzn
  have hz3 : ds g t < ds g z := by unfold ds at *; omega
  refine ⟨⟨⟨hg, Nat.mod_lt _ (by decide), hz, by unfold ds at *; omega, hzg, hzn⟩, hA, hB, fun i' h1 h2 h3 => ?_, fun j hj h1 h2 => ?_⟩, by unfold ds at *; omega⟩
  · obtain ⟨k, g1, g2, g3, g4, g5⟩ := hC i' h1 h2 h3
    refine ⟨k, g1, g2, g3, g4, fun q => ?_⟩
    have q2 := g5 q
    by_cases e : k = t
    · subst e
      rw [hi] at g3
      cases g3
      have hh := hm_lt (pg i2)
      generalize hm (pg i2) = a at *
      exfalso
      unfold ds at *
      omega
    · unfold ds at *
      omega
  · by_cases e : j = t
    · subst e; rw [hi]; exact fun q => by cases q
    · refine hD j hj h1 ?_
      unfold ds at *
      omega
/-- the one at t moves up into the gap -/
theorem Fi.move {n : Nat} {ti : Nat → Option Nat} {pg : Nat → Int32} {i g t z i2 : Nat} (h : Fi n ti pg i g t z) (hi : ti t = some i2) (hs : ¬ (0 < ds g (hm (pg i2)) ∧ ds g (hm (pg i2)) ≤ ds g t)) : Fi n (va_up ti g (some i2)) pg i t ((t + 1) % 64) z ∧ ds t z = ds ((t + 1) % 64) z + 1 := by
  obtain ⟨⟨hg, ht, hz, htg, hzg, hzn⟩, hA, hB, hC, hD⟩ := h
  have hzt : z ≠ t := fun e => by rw [e, hi] at hzn; cases hzn
  have h2A := hA t i2 ht htg hi
  refine ⟨⟨⟨ht, Nat.mod_lt _ (by decide), hz, by omega, hzt, by rw [va_up_ne _ _ hzg]; exact hzn⟩, fun k i' h1 h2 h3 => ?_, fun k k' i' h1 h2 h3 h4 h5 h6 => ?_, fun i' h1 h2 h3 => ?_, fun j hj h1 h2 => ?_⟩, by unfold ds at *; omega⟩
  · by_cases e : k = g
    · rw [e, va_up_self] at h3
      cases h3
      exact h2A
    · rw [va_up_ne _ _ e] at h3
      exact hA k i' h1 e h3
  · by_cases c1 : k = g <;> by_cases c2 : k' = g
    · omega
    · rw [c1, va_up_self] at h5; cases h5
      rw [va_up_ne _ _ c2] at h6
      exact absurd (hB k' t i2 h2 ht c2 htg h6 hi) h4
    · rw [c2, va_up_self] at h6; cases h6
      rw [va_up_ne _ _ c1] at h5
      exact absurd (hB k t i2 h1 ht c1 htg h5 hi) h3
    · rw [va_up_ne _ _ c1] at h5
      rw [va_up_ne _ _ c2] at h6
      exact hB k k' i' h1 h2 c1 c2 h5 h6
  · obtain ⟨k, g1, g2, g3, g4, g5⟩ := hC i' h1 h2 h3
    by_cases e : i' = i2
    · subst e
      have hkt : k = t := hB k t i' g1 ht g2 htg g3 hi
      subst hkt
      have hh := hm_lt (pg i')
      refine ⟨g, hg, Ne.symm htg, va_up_self _ _ _, fun j hj hd _ => ?_, fun q => ?_⟩
      · have hjg : j ≠ g := fun z => by rw [z] at hd; omega
        rw [va_up_ne _ _ hjg]
        refine g4 j hj ?_ hjg
        generalize hm (pg i') = a at *
        unfold ds at *
        omega
      · exfalso
        generalize hm (pg i') = a at *
        unfold ds at *
        omega
    · have hkt : k ≠ t := fun z => by rw [z, hi] at g3; cases g3; exact e rfl
      refine ⟨k, g1, hkt, by rw [va_up_ne _ _ g2]; exact g3, fun j hj hd hjt => ?_, fun _ => by unfold ds; omega⟩
      by_cases c : j = g
      · rw [c, va_up_self]; exact fun q => by cases q
      · rw [va_up_ne _ _ c]
        exact g4 j hj hd c
  · exfalso
    unfold ds at *
    omega
/-- t is empty: the gap is closed -/
theorem Fi.done {n : Nat} {ti : Nat → Option Nat} {pg : Nat → Int32} {i g t z : Nat} (h : Fi n ti pg i g t z) (ht0 : ti t = none) : Tab n (va_up ti g none) (upd pg i (-1)) := by
  obtain ⟨⟨hg, ht, hz, htg, hzg, hzn⟩, hA, hB, hC, hD⟩ := h
  have hng : ∀ k i', va_up ti g none k = some i' → k ≠ g ∧ ti k = some i' := fun k i' h => by
    by_cases e : k = g
    · rw [e, va_up_self] at h; cases h
    · rw [va_up_ne _ _ e] at h; exact ⟨e, h⟩
  refine ⟨fun k i' h1 h2 => ?_, fun k k' i' h1 h2 h3 h4 => ?_, fun i' h1 h2 => ?_⟩
  · obtain ⟨e1, e2⟩ := hng k i' h2
    have := hA k i' h1 e1 e2
    exact ⟨this.1, by rw [upd_n this.2.2]; exact this.2.1⟩
  · obtain ⟨e1, e2⟩ := hng k i' h3
    obtain ⟨e3, e4⟩ := hng k' i' h4
    exact hB k k' i' h1 h2 e1 e3 e2 e4
  · have hne : i' ≠ i := fun e => by rw [e, upd_s] at h2; exact h2 rfl
    rw [upd_n hne] at h2 ⊢
    obtain ⟨k, g1, g2, g3, g4, g5⟩ := hC i' h1 h2 hne
    refine ⟨k, g1, by rw [va_up_ne _ _ g2]; exact g3, fun j hj hd => ?_⟩
    by_cases c : j = g
    · exfalso
      rw [c] at hd
      have q2 := g5 hd
      have hkt : k ≠ t := fun z => by rw [z, ht0] at g3; cases g3
      have hh := hm_lt (pg i')
      refine g4 t ht ?_ htg ht0
      generalize hm (pg i') = a at *
      unfold ds at *
      omega
    · rw [va_up_ne _ _ c]
      exact g4 j hj hd c
end
section
/-! the pool's methods that write nothing -/
set_option maxHeartbeats 4000000 in
set_option maxRecDepth 100000 in
/-- whether q is a page -/
theorem c_X_isPage (l : Launch) (E : EN) (d : DM) (a : XA) (hd rd wr : Int32) (dk : Nat → Int32) (ti : Nat → Option Nat) (pg pn di mk : Nat → Int32) (ww : Nat → Nat → Int32) (q : Int32) : Met l y_X_isPage (Cond.code y_X_isPage b_X_isPage 2 (some .boolean) :: tbw) (k2_rm 0 0) (Pq E [.ref a.p, .int q] (xP E d a (hd, rd, wr, dk, ti, pg, pn, di, mk, ww))) (qi (fun r => r = if 0 ≤ q ∧ q < nI d.P then 1 else 0)) 0 0 nof := by
  refine ent rfl (by decide) (Nat.le_of_ble_eq_true rfl) ?_
  intro p e s m below meth c S hr hlk hnm hk hP ls hl
  obtain ⟨hx, hb, hml, hown, hts⟩ := id S
  have hl : lv_has ls 2 [(0, .ref a.p), (1, .int q)] := hl
  refine lv_iload_n hx hb d_X_isPage_0 rfl (lv_at hl 1 rfl) ?_
  refine lv_if_lt (tgt := 16) hx hb d_X_isPage_1 (by decide) (fun c1 => ?_) (fun c1 => ?_)
  · refine lv_iconst (v := 0) hx hb d_X_isPage_16 (by decide) ?_
    exact ret_qz S hr hlk rfl (by rw [if_neg (fun z => absurd z.1 (Int32.not_le.mpr c1))]) d_X_isPage_17
  · refine lv_iload_n hx hb d_X_isPage_4 rfl (lv_at hl 1 rfl) ?_
    refine lv_aload_n hx hb d_X_isPage_5 rfl (lv_at hl 0 rfl) ?_
    refine xg S hk hP 0 (by decide) rfl fl_X_24 rfl d_X_isPage_6 ?_
    refine lv_icmp_ge (tgt := 16) hx hb d_X_isPage_9 (by decide) (fun c2 => ?_) (fun c2 => ?_)
    · refine lv_iconst (v := 0) hx hb d_X_isPage_16 (by decide) ?_
      exact ret_qz S hr hlk rfl (by rw [if_neg (fun z => absurd z.2 (Int32.not_lt.mpr c2))]) d_X_isPage_17
    · refine lv_iconst (v := 1) hx hb d_X_isPage_12 (by decide) ?_
      refine lv_goto (tgt := 17) hx hb d_X_isPage_13 (by decide) ?_
      exact ret_qz S hr hlk rfl (by rw [if_pos ⟨Int32.not_lt.mp c1, Int32.not_le.mp c2⟩]) d_X_isPage_17
set_option maxHeartbeats 4000000 in
set_option maxRecDepth 100000 in
/-- whether q is a word -/
theorem c_X_isWord (l : Launch) (E : EN) (d : DM) (a : XA) (hd rd wr : Int32) (dk : Nat → Int32) (ti : Nat → Option Nat) (pg pn di mk : Nat → Int32) (ww : Nat → Nat → Int32) (q : Int32) : Met l y_X_isWord (Cond.code y_X_isWord b_X_isWord 2 (some .boolean) :: tbw) (k2_rm 0 0) (Pq E [.ref a.p, .int q] (xP E d a (hd, rd, wr, dk, ti, pg, pn, di, mk, ww))) (qi (fun r => r = if 0 ≤ q ∧ q < nI d.w then 1 else 0)) 0 0 nof := by
  refine ent rfl (by decide) (Nat.le_of_ble_eq_true rfl) ?_
  intro p e s m below meth c S hr hlk hnm hk hP ls hl
  obtain ⟨hx, hb, hml, hown, hts⟩ := id S
  have hl : lv_has ls 2 [(0, .ref a.p), (1, .int q)] := hl
  refine lv_iload_n hx hb d_X_isWord_0 rfl (lv_at hl 1 rfl) ?_
  refine lv_if_lt (tgt := 16) hx hb d_X_isWord_1 (by decide) (fun c1 => ?_) (fun c1 => ?_)
  · refine lv_iconst (v := 0) hx hb d_X_isWord_16 (by decide) ?_
    exact ret_qz S hr hlk rfl (by rw [if_neg (fun z => absurd z.1 (Int32.not_le.mpr c1))]) d_X_isWord_17
  · refine lv_iload_n hx hb d_X_isWord_4 rfl (lv_at hl 1 rfl) ?_
    refine lv_aload_n hx hb d_X_isWord_5 rfl (lv_at hl 0 rfl) ?_
    refine xg S hk hP 1 (by decide) rfl fl_X_28 rfl d_X_isWord_6 ?_
    refine lv_icmp_ge (tgt := 16) hx hb d_X_isWord_9 (by decide) (fun c2 => ?_) (fun c2 => ?_)
    · refine lv_iconst (v := 0) hx hb d_X_isWord_16 (by decide) ?_
      exact ret_qz S hr hlk rfl (by rw [if_neg (fun z => absurd z.2 (Int32.not_lt.mpr c2))]) d_X_isWord_17
    · refine lv_iconst (v := 1) hx hb d_X_isWord_12 (by decide) ?_
      refine lv_goto (tgt := 17) hx hb d_X_isWord_13 (by decide) ?_
      exact ret_qz S hr hlk rfl (by rw [if_pos ⟨Int32.not_lt.mp c1, Int32.not_le.mp c2⟩]) d_X_isWord_17
theorem hm_mul {k : Nat} (h : k < 200) : nI k * 37 - nI k * 37 / 64 * 64 = nI (hm (nI k)) := by
  rw [show (37 : Int32) = nI 37 from rfl, show (64 : Int32) = nI 64 from rfl, pk_mul, pk_rem (by omega) (by decide) (by decide)]
  unfold hm
  rw [nI_clamp (by omega)]
set_option maxHeartbeats 4000000 in
set_option maxRecDepth 100000 in
/-- a page's own place -/
theorem c_X_home (l : Launch) (E : EN) (d : DM) (a : XA) (B : Heap → Prop) (k : Nat) (hk2 : k < 200) : Met l y_X_home (Cond.code y_X_home b_X_home 1 (some .int) :: tbw) (k2_rm 0 0) (Pq E [.int (nI k)] B) (qi (fun r => r = nI (hm (nI k)))) 0 0 nof := by
  refine ent rfl (by decide) (Nat.le_of_ble_eq_true rfl) ?_
  intro p e s m below meth c S hr hlk hnm hk hP ls hl
  obtain ⟨hx, hb, hml, hown, hts⟩ := id S
  have hl : lv_has ls 1 [(0, .int (nI k))] := hl
  refine lv_iload_n hx hb d_X_home_0 rfl (lv_at hl 0 rfl) ?_
  refine lv_bipush (v := 37) hx hb d_X_home_1 (by decide) ?_
  refine lv_imul hx hb d_X_home_3 ?_
  refine lv_bipush (v := 64) hx hb d_X_home_4 (by decide) ?_
  refine lv_irem hx hb d_X_home_6 (by decide) ?_
  refine lv_is (y := nI (hm (nI k))) (hm_mul hk2) ?_
  exact ret_qi S hr hlk rfl d_X_home_7
section
variable {p : Program} {l : Launch} {e : Env} {R : Room} {s : State} {m : MethodId} {args : Array Value} {below : List Frame} {meth : Method} {c : Code} {H : Heap} {locs : List Loc} {cells slots : Nat} {Q : State → Prop}
variable {E : EN} {w0 : Cond} {A : Nat → Prop} {H0 : Heap} {d : DM} {a : XA} {b : MA} {hd rd wr : Int32} {dk mm : Nat → Int32} {ti : Nat → Option Nat} {pg pn di mk : Nat → Int32} {ww : Nat → Nat → Int32}
theorem nI_next {k : Nat} (h : k < 64) : nI k + 1 - (nI k + 1) / 64 * 64 = nI ((k + 1) % 64) := by
  rw [nI_1, show (64 : Int32) = nI 64 from rfl, pk_rem (by omega) (by decide) (by decide)]
set_option maxHeartbeats 4000000 in
set_option maxRecDepth 100000 in
theorem lp_X_place (S : CallFix p m c b_X_place 3 s args (w0 :: tbw) R_X) (hk : kk E s) (hP : xP E d a (hd, rd, wr, dk, ti, pg, pn, di, mk, ww) H) {q : Int32} {z : Nat} (hz : z < 64) (hzn : ti z = none) (hti : ∀ k i, k < 64 → ti k = some i → i < d.n)
    (hex : ∀ (k : Nat) (ls : Array Slot), Plc ti pg q k → lv_has ls 3 [(0, .ref a.p), (1, .int q), (2, .int (nI k))] → W p l e R s m args below meth c H locs cells slots Q (F0 m 37 ls [])) :
    ∀ (n k : Nat) (ls : Array Slot), 64 ≤ ds (hm q) k + n → Pw ti pg q k → lv_has ls 3 [(0, .ref a.p), (1, .int q), (2, .int (nI k))] → W p l e R s m args below meth c H locs cells slots Q (F0 m 5 ls []) := by
  obtain ⟨hx, hb, hml, hown, hts⟩ := id S
  intro n
  induction n with
  | zero =>
    intro k ls h1 h2 hl
    have := hm_lt q
    have := h2.1
    unfold ds at h1
    omega
  | succ n ih =>
    intro k ls h1 h2 hl
    have hk64 := h2.1
    refine lv_aload_n hx hb d_X_place_5 rfl (lv_at hl 0 rfl) ?_
    refine xg S hk hP 4 (by decide) rfl fl_X_11 rfl d_X_place_6 ?_
    refine lv_iload_n hx hb d_X_place_9 rfl (lv_at hl 2 rfl) ?_
    refine xt_ld S hk hP (hk64) d_X_place_10 ?_
    cases ht : ti k with
    | none =>
      refine lv_ifnullN (tgt := 37) hx hb d_X_place_11 (by decide) ?_
      exact hex k ls ⟨hk64, h2.2, Or.inl ht⟩ hl
    | some i =>
      have hi : i < d.n := hti k i hk64 ht
      refine lv_ifnull hx hb d_X_place_11 ?_
      refine lv_aload_n hx hb d_X_place_14 rfl (lv_at hl 0 rfl) ?_
      refine xg S hk hP 4 (by decide) rfl fl_X_11 rfl d_X_place_15 ?_
      refine lv_iload_n hx hb d_X_place_18 rfl (lv_at hl 2 rfl) ?_
      refine xt_ld S hk hP (hk64) d_X_place_19 ?_
      refine lv_isr (y := some (a.fr i)) (by rw [ht]; rfl) ?_
      refine fg S hk hP hi 2 (by decide) rfl hk.2.2.2.1 rfl d_X_place_20 ?_
      refine lv_iload_n hx hb d_X_place_23 rfl (lv_at hl 1 rfl) ?_
      refine lv_icmp_eq (tgt := 37) hx hb d_X_place_24 (by decide) (fun c1 => ?_) (fun c1 => ?_)
      · exact hex k ls ⟨hk64, h2.2, Or.inr ⟨i, ht, c1⟩⟩ hl
      · obtain ⟨g1, g2⟩ := h2.step ht c1 hz hzn
        refine lv_iload_n hx hb d_X_place_27 rfl (lv_at hl 2 rfl) ?_
        refine lv_iconst (v := 1) hx hb d_X_place_28 (by decide) ?_
        refine lv_iadd hx hb d_X_place_29 ?_
        refine lv_bipush (v := 64) hx hb d_X_place_30 (by decide) ?_
        refine lv_irem hx hb d_X_place_32 (by decide) ?_
        refine lv_is (y := nI ((k + 1) % 64)) (nI_next hk64) ?_
        refine lv_istore_n (lv' := [(2, .int (nI ((k + 1) % 64))), (0, .ref a.p), (1, .int q)]) hx hb d_X_place_33 rfl hl (by decide) rfl (fun ls hl => ?_)
        refine lv_goto (tgt := 5) hx hb d_X_place_34 (by decide) ?_
        have hl := lv_sub (l' := [(0, .ref a.p), (1, .int q), (2, .int (nI ((k + 1) % 64)))]) hl [1, 2, 0] rfl
        exact ih ((k + 1) % 64) ls (by omega) g1 hl
end
set_option maxHeartbeats 4000000 in
set_option maxRecDepth 100000 in
/-- where the walk from the page's own place ends -/
theorem c_X_place (l : Launch) (E : EN) (d : DM) (a : XA) (hd rd wr : Int32) (dk : Nat → Int32) (ti : Nat → Option Nat) (pg pn di mk : Nat → Int32) (ww : Nat → Nat → Int32) (q : Nat) (hq : q < 200) {z : Nat} (hz : z < 64) (hzn : ti z = none) (hti : ∀ k i, k < 64 → ti k = some i → i < d.n) : Met l y_X_place (Cond.code y_X_place b_X_place 3 (some .int) :: tbw) (k2_rm 1 20) (Pq E [.ref a.p, .int (nI q)] (xP E d a (hd, rd, wr, dk, ti, pg, pn, di, mk, ww))) (qi (fun r => ∃ k, r = nI k ∧ Plc ti pg (nI q) k)) 0 0 nof := by
  refine ent rfl (by decide) (Nat.le_of_ble_eq_true rfl) ?_
  intro p e s m below meth c S hr hlk hnm hk hP ls hl
  obtain ⟨hx, hb, hml, hown, hts⟩ := id S
  have hl : lv_has ls 3 [(0, .ref a.p), (1, .int (nI q))] := hl
  refine lv_iload_n hx hb d_X_place_0 rfl (lv_at hl 1 rfl) ?_
  refine aft_qi (runS (As := [.int (nI q)]) (rest := []) S hT0 hk (c_X_home l E d a (fun _ => True) q hq) k_X_53 rfl rfl ⟨Nat.le_of_ble_eq_true rfl, Nat.le_of_ble_eq_true rfl⟩ trivial hl.1 rfl rfl (Nat.le_of_ble_eq_true rfl) d_X_place_1 ⟨Nat.le_refl _, Nat.le_refl _⟩) (fun r hr1 => ?_)
  refine lv_is (y := nI (hm (nI q))) (hr1) ?_
  refine lv_istore_n (lv' := [(2, .int (nI (hm (nI q)))), (0, .ref a.p), (1, .int (nI q))]) hx hb d_X_place_4 rfl hl (by decide) rfl (fun ls hl => ?_)
  have hl := lv_sub (l' := [(0, .ref a.p), (1, .int (nI q)), (2, .int (nI (hm (nI q))))]) hl [1, 2, 0] rfl
  refine lp_X_place S hk hP hz hzn hti (fun k ls h hl => ?_) 64 (hm (nI q)) ls (Nat.le_add_left _ _) Pw.start hl
  refine lv_iload_n hx hb d_X_place_37 rfl (lv_at hl 2 rfl) ?_
  exact ret_qi S hr hlk ⟨k, rfl, h⟩ d_X_place_38
end
section
/-! how the two worlds stand for the one state -/
def RX (E : EN) (d : DM) (a : XA) (S : St) (H : Heap) : Prop := ∃ (fk : Nat → Int32) (ti : Nat → Option Nat) (ww : Nat → Nat → Int32), xP E d a (nI S.hd, S.rd, S.wr, fk, ti, S.pg, S.pn, S.di, S.mk, ww) H ∧ (∀ p j, p < d.P → j < d.w → fk (p * d.w + j) = S.dk p j) ∧ (∀ i j, i < d.n → j < d.w → ww i j = S.mm i j) ∧ Tab d.n ti S.pg
def RM (E : EN) (d : DM) (b : MA) (S : St) (H : Heap) : Prop := ∃ (fk fm : Nat → Int32), mP E d b (nI S.hd, S.rd, S.wr, fk, fm, S.pg, S.pn, S.di, S.mk) H ∧ (∀ p j, p < d.P → j < d.w → fk (8 * p + j) = S.dk p j) ∧ (∀ i j, i < d.n → j < d.w → fm (8 * i + j) = S.mm i j)
/-- the pages that frames have: pages, each once -/
def PgOk (d : DM) (pg : Nat → Int32) : Prop := (∀ i, i < d.n → pg i = -1 ∨ ∃ p, p < d.P ∧ pg i = nI p) ∧ (∀ i j, i < d.n → j < d.n → pg i = pg j → pg i ≠ -1 → i = j)
theorem Inv.pgOk {d : DM} {N : Nat} {S : St} (h : Inv d N S) : PgOk d S.pg := ⟨h.2.1, h.2.2.1⟩
theorem nI_m1 {j : Nat} (h : j < 2 ^ 31) : nI j ≠ -1 := by
  intro e
  have h1 := congrArg Int32.toInt e
  rw [nI_toInt h] at h1
  have h2 : (-1 : Int32).toInt = -1 := by decide
  omega
theorem nI_m5 {j : Nat} (h : j < 2 ^ 31) : nI j ≠ -5 := by
  intro e
  have h1 := congrArg Int32.toInt e
  rw [nI_toInt h] at h1
  have h2 : (-5 : Int32).toInt = -5 := by decide
  omega
/-- a number from 0 to P -/
theorem inN {q : Int32} {P : Nat} (hP : P < 2 ^ 31) (h0 : ¬ q < 0) (h1 : ¬ nI P ≤ q) : ∃ j, j < P ∧ q = nI j := by
  obtain ⟨j, hj, rfl⟩ := nI_of h0
  rcases Nat.lt_or_ge j P with h | h
  · exact ⟨j, h, rfl⟩
  · exact absurd (nI_le h hj) h1
theorem inN2 {q : Int32} {P : Nat} (hP : P < 2 ^ 31) (h : 0 ≤ q ∧ q < nI P) : ∃ j, j < P ∧ q = nI j := inN hP (Int32.not_lt.mpr h.1) (Int32.not_le.mpr h.2)
theorem inN3 {j P : Nat} (hP : P < 2 ^ 31) (h : j < P) : 0 ≤ nI j ∧ nI j < nI P := ⟨nI_pos' (by omega), nI_lt h hP⟩
/-- a page that isn't one is in no frame -/
theorem fo_out {d : DM} {pg : Nat → Int32} {q : Int32} (hg : PgOk d pg) (hP : d.P < 2 ^ 31) (h : ¬ (0 ≤ q ∧ q < nI d.P)) : fo pg q d.n = none := by
  cases hf : fo pg q d.n with
  | none => rfl
  | some i =>
    obtain ⟨h1, h2, h3⟩ := fo_some hf
    exfalso
    rcases hg.1 i h1 with e | ⟨p, hp, e⟩
    · rw [h3] at e
      rw [e] at h2
      exact absurd h2 (by decide)
    · rw [h3] at e
      rw [e] at h
      exact h (inN3 hP hp)
/-- the walk from a page's own place ends at the frame that has it -/
theorem fo_tab {d : DM} {ti : Nat → Option Nat} {pg : Nat → Int32} {j k : Nat} (hg : PgOk d pg) (hT : Tab d.n ti pg) (hj : j < 2 ^ 31) (h : Plc ti pg (nI j) k) : ti k = fo pg (nI j) d.n := by
  cases hf : fo pg (nI j) d.n with
  | none =>
    refine Plc.absent (n := d.n) (fun k' i hk' hi e => ?_) h
    exact fo_none hf i (hT.1 k' i hk' hi).1 ⟨nI_pos' hj, e⟩
  | some i =>
    obtain ⟨h1, h2, h3⟩ := fo_some hf
    exact Plc.found hT hg.2 h h1 h3 (nI_m1 hj)
end
section
/-! the pool: find, pinnedFrame, pinned -/
set_option maxHeartbeats 4000000 in
set_option maxRecDepth 100000 in
/-- the frame that has the page, or null -/
theorem c_X_find (l : Launch) (E : EN) (d : DM) (a : XA) (hd rd wr : Int32) (dk : Nat → Int32) (ti : Nat → Option Nat) (pg pn di mk : Nat → Int32) (ww : Nat → Nat → Int32) (q : Int32) (hdm : dm_ok d) (hg : PgOk d pg) (hT : Tab d.n ti pg) : Met l y_X_find (Cond.code y_X_find b_X_find 2 (some (.object "FramePool$Frame")) :: tbw) (k2_rm 2 42) (Pq E [.ref a.p, .int q] (xP E d a (hd, rd, wr, dk, ti, pg, pn, di, mk, ww))) (qr (fun r => r = (fo pg q d.n).map a.fr)) 0 0 nof := by
  refine ent rfl (by decide) (Nat.le_of_ble_eq_true rfl) ?_
  intro p e s m below meth c S hr hlk hnm hk hP ls hl
  obtain ⟨hx, hb, hml, hown, hts⟩ := id S
  have hl : lv_has ls 2 [(0, .ref a.p), (1, .int q)] := hl
  obtain ⟨hn1, hn2, hP1, hP2, hw1, hw2⟩ := id hdm
  refine lv_aload_n hx hb d_X_find_0 rfl (lv_at hl 0 rfl) ?_
  refine lv_iload_n hx hb d_X_find_1 rfl (lv_at hl 1 rfl) ?_
  refine aft_qi (runV (As := [.int q]) (rest := []) S hT0 hk (c_X_isPage l E d a hd rd wr dk ti pg pn di mk ww q) k_X_60 rfl rfl ⟨Nat.le_of_ble_eq_true rfl, Nat.le_of_ble_eq_true rfl⟩ (xrec hk hP) hP hl.1 rfl rfl (Nat.le_of_ble_eq_true rfl) d_X_find_2 ⟨Nat.le_refl _, Nat.le_refl _⟩) (fun r hr1 => ?_)
  refine lv_if_eq (tgt := 21) hx hb d_X_find_5 (by decide) (fun c1 => ?_) (fun c1 => ?_)
  · have c2 : ¬ (0 ≤ q ∧ q < nI d.P) := fun z => by rw [hr1, if_pos z] at c1; exact absurd c1 (by decide)
    refine lv_null hx hb d_X_find_21 ?_
    exact ret_qr (v := none) S hr hlk (by rw [fo_out hg (by omega) c2]; rfl) d_X_find_22
  · have c2 : 0 ≤ q ∧ q < nI d.P := Classical.byContradiction fun z => c1 (by rw [hr1, if_neg z])
    obtain ⟨j, hj, rfl⟩ := inN2 (by omega) c2
    obtain ⟨z, hz, hzn⟩ := hT.null hn2
    refine lv_aload_n hx hb d_X_find_8 rfl (lv_at hl 0 rfl) ?_
    refine xg S hk hP 4 (by decide) rfl fl_X_11 rfl d_X_find_9 ?_
    refine lv_aload_n hx hb d_X_find_12 rfl (lv_at hl 0 rfl) ?_
    refine lv_iload_n hx hb d_X_find_13 rfl (lv_at hl 1 rfl) ?_
    refine aft_qi (runV (As := [.int (nI j)]) (rest := [.ref a.t]) S hT0 hk (c_X_place l E d a hd rd wr dk ti pg pn di mk ww j (by omega) hz hzn (fun k i h1 h2 => (hT.1 k i h1 h2).1)) k_X_64 rfl rfl ⟨Nat.le_of_ble_eq_true rfl, Nat.le_of_ble_eq_true rfl⟩ (xrec hk hP) hP hl.1 rfl rfl (Nat.le_of_ble_eq_true rfl) d_X_find_14 ⟨Nat.le_refl _, Nat.le_refl _⟩) (fun r2 hr2 => ?_)
    obtain ⟨k, rfl, hpl⟩ := hr2
    refine xt_ld S hk hP (hpl.1) d_X_find_17 ?_
    refine lv_goto (tgt := 22) hx hb d_X_find_18 (by decide) ?_
    exact ret_qr S hr hlk (by rw [fo_tab hg hT (by omega) hpl]) d_X_find_22
set_option maxHeartbeats 4000000 in
set_option maxRecDepth 100000 in
/-- the frame with pins, or null -/
theorem c_X_pinnedFrame (l : Launch) (E : EN) (d : DM) (a : XA) (hd rd wr : Int32) (dk : Nat → Int32) (ti : Nat → Option Nat) (pg pn di mk : Nat → Int32) (ww : Nat → Nat → Int32) (f : Int32) (hdm : dm_ok d) : Met l y_X_pinnedFrame (Cond.code y_X_pinnedFrame b_X_pinnedFrame 2 (some (.object "FramePool$Frame")) :: tbw) (k2_rm 0 0) (Pq E [.ref a.p, .int f] (xP E d a (hd, rd, wr, dk, ti, pg, pn, di, mk, ww))) (qr (fun r => r = if (0 ≤ f ∧ f < nI d.n) ∧ pn f.toNatClampNeg ≠ 0 then some (a.fr f.toNatClampNeg) else none)) 0 0 nof := by
  refine ent rfl (by decide) (Nat.le_of_ble_eq_true rfl) ?_
  intro p e s m below meth c S hr hlk hnm hk hP ls hl
  obtain ⟨hx, hb, hml, hown, hts⟩ := id S
  have hl : lv_has ls 2 [(0, .ref a.p), (1, .int f)] := hl
  obtain ⟨hn1, hn2, hP1, hP2, hw1, hw2⟩ := id hdm
  refine lv_iload_n hx hb d_X_pinnedFrame_0 rfl (lv_at hl 1 rfl) ?_
  refine lv_if_lt (tgt := 25) hx hb d_X_pinnedFrame_1 (by decide) (fun c1 => ?_) (fun c1 => ?_)
  · refine lv_null hx hb d_X_pinnedFrame_25 ?_
    refine lv_goto (tgt := 35) hx hb d_X_pinnedFrame_26 (by decide) ?_
    exact ret_qr (v := none) S hr hlk (by rw [if_neg (fun z => absurd z.1.1 (Int32.not_le.mpr c1))]) d_X_pinnedFrame_35
  · refine lv_iload_n hx hb d_X_pinnedFrame_4 rfl (lv_at hl 1 rfl) ?_
    refine lv_aload_n hx hb d_X_pinnedFrame_5 rfl (lv_at hl 0 rfl) ?_
    refine xg S hk hP 3 (by decide) rfl fl_X_35 rfl d_X_pinnedFrame_6 ?_
    refine xf_len S hk hP d_X_pinnedFrame_9 ?_
    refine lv_icmp_ge (tgt := 25) hx hb d_X_pinnedFrame_10 (by decide) (fun c2 => ?_) (fun c2 => ?_)
    · refine lv_null hx hb d_X_pinnedFrame_25 ?_
      refine lv_goto (tgt := 35) hx hb d_X_pinnedFrame_26 (by decide) ?_
      exact ret_qr (v := none) S hr hlk (by rw [if_neg (fun z => absurd z.1.2 (Int32.not_lt.mpr c2))]) d_X_pinnedFrame_35
    · obtain ⟨j, hj, rfl⟩ := inN (by omega) c1 c2
      have hcl : (nI j).toNatClampNeg = j := nI_clamp (by omega)
      rw [hcl]
      refine lv_aload_n hx hb d_X_pinnedFrame_13 rfl (lv_at hl 0 rfl) ?_
      refine xg S hk hP 3 (by decide) rfl fl_X_35 rfl d_X_pinnedFrame_14 ?_
      refine lv_iload_n hx hb d_X_pinnedFrame_17 rfl (lv_at hl 1 rfl) ?_
      refine xf_ld S hk hP (by omega) (hj) d_X_pinnedFrame_18 ?_
      refine fg S hk hP hj 3 (by decide) rfl hk.2.2.2.2.1 rfl d_X_pinnedFrame_19 ?_
      refine lv_if_ne (tgt := 29) hx hb d_X_pinnedFrame_22 (by decide) (fun c3 => ?_) (fun c3 => ?_)
      · refine lv_aload_n hx hb d_X_pinnedFrame_29 rfl (lv_at hl 0 rfl) ?_
        refine xg S hk hP 3 (by decide) rfl fl_X_35 rfl d_X_pinnedFrame_30 ?_
        refine lv_iload_n hx hb d_X_pinnedFrame_33 rfl (lv_at hl 1 rfl) ?_
        refine xf_ld S hk hP (by omega) (hj) d_X_pinnedFrame_34 ?_
        exact ret_qr (v := some (a.fr j)) S hr hlk (by rw [if_pos ⟨inN3 (by omega) hj, c3⟩]) d_X_pinnedFrame_35
      · refine lv_null hx hb d_X_pinnedFrame_25 ?_
        refine lv_goto (tgt := 35) hx hb d_X_pinnedFrame_26 (by decide) ?_
        exact ret_qr (v := none) S hr hlk (by rw [if_neg (fun z => z.2 c3)]) d_X_pinnedFrame_35
section
variable {p : Program} {l : Launch} {e : Env} {R : Room} {s : State} {m : MethodId} {args : Array Value} {below : List Frame} {meth : Method} {c : Code} {H : Heap} {locs : List Loc} {cells slots : Nat} {Q : State → Prop}
variable {E : EN} {w0 : Cond} {A : Nat → Prop} {H0 : Heap} {d : DM} {a : XA} {b : MA} {hd rd wr : Int32} {dk mm : Nat → Int32} {ti : Nat → Option Nat} {pg pn di mk : Nat → Int32} {ww : Nat → Nat → Int32}
set_option maxHeartbeats 4000000 in
set_option maxRecDepth 100000 in
theorem lp_X_pinned (S : CallFix p m c b_X_pinned 6 s args (w0 :: tbw) R_X) (hk : kk E s) (hP : xP E d a (hd, rd, wr, dk, ti, pg, pn, di, mk, ww) H) (hn : d.n ≤ 32)
    (hex : ∀ (ls : Array Slot), lv_has ls 6 [(0, .ref a.p), (1, .int (nI (cnt pn d.n))), (2, .ref a.f), (3, .int (nI d.n)), (4, .int (nI d.n))] → W p l e R s m args below meth c H locs cells slots Q (F0 m 47 ls [])) :
    ∀ (n k : Nat) (ls : Array Slot), k ≤ d.n → d.n + 1 ≤ k + n → lv_has ls 6 [(0, .ref a.p), (1, .int (nI (cnt pn k))), (2, .ref a.f), (3, .int (nI d.n)), (4, .int (nI k))] → W p l e R s m args below meth c H locs cells slots Q (F0 m 13 ls []) := by
  obtain ⟨hx, hb, hml, hown, hts⟩ := id S
  intro n
  induction n with
  | zero =>
    intro k ls h1 h2 hl
    omega
  | succ n ih =>
    intro k ls h1 h2 hl
    refine lv_iload hx hb d_X_pinned_13 (lv_at hl 4 rfl) ?_
    refine lv_iload_n hx hb d_X_pinned_15 rfl (lv_at hl 3 rfl) ?_
    refine lv_icmp_ge (tgt := 47) hx hb d_X_pinned_16 (by decide) (fun c1 => ?_) (fun c1 => ?_)
    · have e : k = d.n := by
        rcases Nat.lt_or_ge k d.n with h | h
        · exact absurd c1 (nI_ge h (by omega))
        · omega
      subst e
      exact hex ls hl
    · have hlt : k < d.n := by
        rcases Nat.lt_or_ge k d.n with h | h
        · exact h
        · exact absurd (nI_le h (by omega)) c1
      refine lv_aload_n hx hb d_X_pinned_19 rfl (lv_at hl 2 rfl) ?_
      refine lv_iload hx hb d_X_pinned_20 (lv_at hl 4 rfl) ?_
      refine xf_ld S hk hP (by omega) (hlt) d_X_pinned_22 ?_
      refine lv_astore (lv' := [(5, .ref (a.fr k)), (0, .ref a.p), (1, .int (nI (cnt pn k))), (2, .ref a.f), (3, .int (nI d.n)), (4, .int (nI k))]) hx hb d_X_pinned_23 hl (by decide) rfl (fun ls hl => ?_)
      refine lv_iload_n hx hb d_X_pinned_25 rfl (lv_at hl 2 rfl) ?_
      refine lv_aload hx hb d_X_pinned_26 (lv_at hl 0 rfl) ?_
      refine fg S hk hP hlt 3 (by decide) rfl hk.2.2.2.2.1 rfl d_X_pinned_28 ?_
      refine lv_if_le (tgt := 38) hx hb d_X_pinned_31 (by decide) (fun c2 => ?_) (fun c2 => ?_)
      · refine lv_iconst (v := 0) hx hb d_X_pinned_38 (by decide) ?_
        refine lv_iadd hx hb d_X_pinned_39 ?_
        refine lv_is (y := nI (cnt pn (k + 1))) (by simp only [cnt, if_neg (Int32.not_lt.mpr c2)]; exact (by rw [show (0 : Int32) = nI 0 from rfl, nI_add])) ?_
        refine lv_istore_n (lv' := [(1, .int (nI (cnt pn (k + 1)))), (5, .ref (a.fr k)), (0, .ref a.p), (2, .ref a.f), (3, .int (nI d.n)), (4, .int (nI k))]) hx hb d_X_pinned_40 rfl hl (by decide) rfl (fun ls hl => ?_)
        refine lv_iinc (v := nI (k + 1)) (lv' := [(4, .int (nI (k + 1))), (1, .int (nI (cnt pn (k + 1)))), (5, .ref (a.fr k)), (0, .ref a.p), (2, .ref a.f), (3, .int (nI d.n))]) hx hb d_X_pinned_41 hl (k := 5) rfl (nI_1 k) (by decide) rfl (fun ls hl => ?_)
        refine lv_goto (tgt := 13) hx hb d_X_pinned_44 (by decide) ?_
        have hl := lv_sub (l' := [(0, .ref a.p), (1, .int (nI (cnt pn (k + 1)))), (2, .ref a.f), (3, .int (nI d.n)), (4, .int (nI (k + 1)))]) hl [3, 1, 4, 5, 0] rfl
        exact ih (k + 1) ls hlt (by omega) hl
      · refine lv_iconst (v := 1) hx hb d_X_pinned_34 (by decide) ?_
        refine lv_goto (tgt := 39) hx hb d_X_pinned_35 (by decide) ?_
        refine lv_iadd hx hb d_X_pinned_39 ?_
        refine lv_is (y := nI (cnt pn (k + 1))) (by simp only [cnt, if_pos (Int32.not_le.mp c2)]; exact nI_1 _) ?_
        refine lv_istore_n (lv' := [(1, .int (nI (cnt pn (k + 1)))), (5, .ref (a.fr k)), (0, .ref a.p), (2, .ref a.f), (3, .int (nI d.n)), (4, .int (nI k))]) hx hb d_X_pinned_40 rfl hl (by decide) rfl (fun ls hl => ?_)
        refine lv_iinc (v := nI (k + 1)) (lv' := [(4, .int (nI (k + 1))), (1, .int (nI (cnt pn (k + 1)))), (5, .ref (a.fr k)), (0, .ref a.p), (2, .ref a.f), (3, .int (nI d.n))]) hx hb d_X_pinned_41 hl (k := 5) rfl (nI_1 k) (by decide) rfl (fun ls hl => ?_)
        refine lv_goto (tgt := 13) hx hb d_X_pinned_44 (by decide) ?_
        have hl := lv_sub (l' := [(0, .ref a.p), (1, .int (nI (cnt pn (k + 1)))), (2, .ref a.f), (3, .int (nI d.n)), (4, .int (nI (k + 1)))]) hl [3, 1, 4, 5, 0] rfl
        exact ih (k + 1) ls hlt (by omega) hl
end
set_option maxHeartbeats 4000000 in
set_option maxRecDepth 100000 in
/-- how many frames have pins -/
theorem c_X_pinned (l : Launch) (E : EN) (d : DM) (a : XA) (hd rd wr : Int32) (dk : Nat → Int32) (ti : Nat → Option Nat) (pg pn di mk : Nat → Int32) (ww : Nat → Nat → Int32) (hdm : dm_ok d) : Met l y_X_pinned (Cond.code y_X_pinned b_X_pinned 6 (some .int) :: tbw) (k2_rm 0 0) (Pq E [.ref a.p] (xP E d a (hd, rd, wr, dk, ti, pg, pn, di, mk, ww))) (qi (fun r => r = nI (cnt pn d.n))) 0 0 nof := by
  refine ent rfl (by decide) (Nat.le_of_ble_eq_true rfl) ?_
  intro p e s m below meth c S hr hlk hnm hk hP ls hl
  obtain ⟨hx, hb, hml, hown, hts⟩ := id S
  have hl : lv_has ls 6 [(0, .ref a.p)] := hl
  obtain ⟨hn1, hn2, hP1, hP2, hw1, hw2⟩ := id hdm
  refine lv_iconst (v := 0) hx hb d_X_pinned_0 (by decide) ?_
  refine lv_istore_n (lv' := [(1, .int 0), (0, .ref a.p)]) hx hb d_X_pinned_1 rfl hl (by decide) rfl (fun ls hl => ?_)
  refine lv_aload_n hx hb d_X_pinned_2 rfl (lv_at hl 1 rfl) ?_
  refine xg S hk hP 3 (by decide) rfl fl_X_35 rfl d_X_pinned_3 ?_
  refine lv_astore_n (lv' := [(2, .ref a.f), (1, .int 0), (0, .ref a.p)]) hx hb d_X_pinned_6 rfl hl (by decide) rfl (fun ls hl => ?_)
  refine lv_aload_n hx hb d_X_pinned_7 rfl (lv_at hl 0 rfl) ?_
  refine xf_len S hk hP d_X_pinned_8 ?_
  refine lv_istore_n (lv' := [(3, .int (nI d.n)), (2, .ref a.f), (1, .int 0), (0, .ref a.p)]) hx hb d_X_pinned_9 rfl hl (by decide) rfl (fun ls hl => ?_)
  refine lv_iconst (v := 0) hx hb d_X_pinned_10 (by decide) ?_
  refine lv_istore (lv' := [(4, .int 0), (3, .int (nI d.n)), (2, .ref a.f), (1, .int 0), (0, .ref a.p)]) hx hb d_X_pinned_11 hl (by decide) rfl (fun ls hl => ?_)
  have hl := lv_sub (l' := [(0, .ref a.p), (1, .int 0), (2, .ref a.f), (3, .int (nI d.n)), (4, .int 0)]) hl [4, 3, 2, 1, 0] rfl
  refine lp_X_pinned S hk hP hn2 (fun ls hl => ?_) (d.n + 1) 0 ls (Nat.zero_le _) (by omega) hl
  refine lv_iload_n hx hb d_X_pinned_47 rfl (lv_at hl 1 rfl) ?_
  exact ret_qi S hr hlk rfl d_X_pinned_48
end
section
/-! the pool's methods that write: a frame is emptied, written, forgotten -/
section
variable {cc : ByteArray} {nL pc index i j : Nat} {ls : Array Slot} {rest : List Value}
variable {p : Program} {l : Launch} {e : Env} {R : Room} {s : State} {m : MethodId} {args : Array Value} {below : List Frame} {meth : Method} {c : Code} {H : Heap} {locs : List Loc} {cells slots : Nat} {Q : State → Prop}
variable {E : EN} {w0 : Cond} {A : Nat → Prop} {H0 : Heap} {d : DM} {a : XA} {b : MA} {hd rd wr : Int32} {dk mm : Nat → Int32} {ti : Nat → Option Nat} {pg pn di mk : Nat → Int32} {ww : Nat → Nat → Int32}
theorem cput (S : CallFix p m c cc nL s args (w0 :: tbw) R_F) (hk : kk E s) (hD : xD E d a A) (hS : va_S A H0 H locs) {σ' : XS} (hP : xP E d a (hd, rd, wr, dk, ti, pg, pn, di, mk, ww) H) (hi : i < d.n) (k : Nat) (hk6 : k < 6) (hF : (F_F k).1 = R_F) (hl : Cond.fieldLink R_F index R_F (F_F k).2.1 (F_F k).2.2.1 ∈ tbw) (hfin : (F_F k).2.2.2 = false) {ty : FieldType} (hds : parseFieldDescriptor (F_F k).2.2.1 = some ty) {v : Value} (hn : narrow ty v = v) (hfit : fits ty v = true) (hset : (xW E d a (hd, rd, wr, dk, ti, pg, pn, di, mk, ww)).set (4 + i) (a.fr i, .inr (1, [Value.int (nI i), .ref (a.wd i), .int (pg i), .int (pn i), .int (di i), .int (mk i)].set k v)) = xW E d a σ') (hdg : decode cc pc = .ok (.putfield index, 3))
    (kk : ∀ (H1 : Heap) (locs1 : List Loc), xP E d a σ' H1 → va_S A H0 H1 locs1 → W p l e R s m args below meth c H1 locs1 cells slots Q (F0 m (pc + 3) ls rest)) : W p l e R s m args below meth c H locs cells slots Q (F0 m pc ls (v :: .ref (a.fr i) :: rest)) :=
  va_put (D := E.D) (ci := 1) (C := R_F) (T := F_F) (N := 6) S.1 S.2.1 S.2.2.2.2 (fun w h => hT0 _ (i_F w h)) t_F t_F_ok n_F S.2.2.2.1 hk.1 hP (hD _) hS (4 + i) (xW_fr hi) rfl k hk6 (S.2.2.2.2 _ (hT0 _ hl)) (fun x h9 => hF ▸ h9) hfin hds hn hfit hk6 hdg (fun H1 locs1 hP1 _ hS1 => kk H1 locs1 (by rw [hset] at hP1; exact hP1) hS1)
end
set_option maxHeartbeats 4000000 in
set_option maxRecDepth 100000 in
/-- a frame is emptied -/
theorem c_F_clear (l : Launch) (E : EN) (d : DM) (a : XA) (hd rd wr : Int32) (dk : Nat → Int32) (ti : Nat → Option Nat) (pg pn di mk : Nat → Int32) (ww : Nat → Nat → Int32) (i : Nat) (hi : i < d.n) (A : Nat → Prop) (hD : xD E d a A) : Met l y_F_clear (Cond.code y_F_clear b_F_clear 1 none :: tbw) (k2_rm 0 0) (Pq E [.ref (a.fr i)] (xP E d a (hd, rd, wr, dk, ti, pg, pn, di, mk, ww))) (Qv (xP E d a (hd, rd, wr, dk, ti, upd pg i (-1), upd pn i 0, upd di i 0, upd mk i 0, ww)) A) 0 0 A := by
  refine ent rfl (by decide) (Nat.le_of_ble_eq_true rfl) ?_
  intro p e s m below meth c S hr hlk hnm hk hP ls hl
  obtain ⟨hx, hb, hml, hown, hts⟩ := id S
  have hl : lv_has ls 1 [(0, .ref (a.fr i))] := hl
  have hS : va_S A s.heap s.heap [] := va_S.rf
  refine lv_aload_n hx hb d_F_clear_0 rfl (lv_at hl 0 rfl) ?_
  refine lv_iconst (v := -1) hx hb d_F_clear_1 (by decide) ?_
  refine cput S hk hD hS hP hi 2 (by decide) rfl fl_F_9 rfl (ty := .int) (by decide +kernel) rfl rfl (xW_pg hi (-1)) d_F_clear_2 (fun H locs hP hS => ?_)
  refine lv_aload_n hx hb d_F_clear_5 rfl (lv_at hl 0 rfl) ?_
  refine lv_iconst (v := 0) hx hb d_F_clear_6 (by decide) ?_
  refine cput S hk hD hS hP hi 3 (by decide) rfl fl_F_22 rfl (ty := .int) (by decide +kernel) rfl rfl (xW_pn hi (0)) d_F_clear_7 (fun H locs hP hS => ?_)
  refine lv_aload_n hx hb d_F_clear_10 rfl (lv_at hl 0 rfl) ?_
  refine lv_iconst (v := 0) hx hb d_F_clear_11 (by decide) ?_
  refine cput S hk hD hS hP hi 4 (by decide) rfl fl_F_25 rfl (ty := .boolean) (by decide +kernel) rfl rfl (xW_di hi (0)) d_F_clear_12 (fun H locs hP hS => ?_)
  refine lv_aload_n hx hb d_F_clear_15 rfl (lv_at hl 0 rfl) ?_
  refine lv_iconst (v := 0) hx hb d_F_clear_16 (by decide) ?_
  refine cput S hk hD hS hP hi 5 (by decide) rfl fl_F_29 rfl (ty := .boolean) (by decide +kernel) rfl rfl (xW_mk hi (0)) d_F_clear_17 (fun H locs hP hS => ?_)
  exact ret_Qv S hr hlk hS hP d_F_clear_20
set_option maxHeartbeats 4000000 in
set_option maxRecDepth 100000 in
/-- a frame's words go to the disk -/
theorem c_X_write (l : Launch) (E : EN) (d : DM) (a : XA) (hd rd wr : Int32) (dk : Nat → Int32) (ti : Nat → Option Nat) (pg pn di mk : Nat → Int32) (ww : Nat → Nat → Int32) (i : Nat) (hi : i < d.n) (hdm : dm_ok d) {q : Nat} (hq : q < d.P) (hpq : pg i = nI q) (A : Nat → Prop) (hD : xD E d a A) : Met l y_X_write (Cond.code y_X_write b_X_write 2 none :: tbw) (k2_rm 1 18) (Pq E [.ref a.p, .ref (a.fr i)] (xP E d a (hd, rd, wr, dk, ti, pg, pn, di, mk, ww))) (Qv (xP E d a (hd, rd, wr + 1, va_cpy (ww i) dk 0 (q * d.w) d.w, ti, pg, pn, upd di i 0, mk, ww)) A) 0 0 A := by
  refine ent rfl (by decide) (Nat.le_of_ble_eq_true rfl) ?_
  intro p e s m below meth c S hr hlk hnm hk hP ls hl
  obtain ⟨hx, hb, hml, hown, hts⟩ := id S
  have hl : lv_has ls 2 [(0, .ref a.p), (1, .ref (a.fr i))] := hl
  obtain ⟨hn1, hn2, hP1, hP2, hw1, hw2⟩ := id hdm
  have hS : va_S A s.heap s.heap [] := va_S.rf
  have hb1 : q * d.w + d.w ≤ d.P * d.w := by
    have := Nat.mul_le_mul_right d.w (show q + 1 ≤ d.P by omega)
    rw [Nat.add_mul, Nat.one_mul] at this
    exact this
  have hb2 : d.P * d.w ≤ 200 * 8 := Nat.mul_le_mul hP2 hw2
  refine lv_aload_n hx hb d_X_write_0 rfl (lv_at hl 1 rfl) ?_
  refine fg S hk hP hi 1 (by decide) rfl hk.2.2.1 rfl d_X_write_1 ?_
  refine lv_iconst (v := 0) hx hb d_X_write_4 (by decide) ?_
  refine lv_aload_n hx hb d_X_write_5 rfl (lv_at hl 0 rfl) ?_
  refine xg S hk hP 2 (by decide) rfl fl_X_31 rfl d_X_write_6 ?_
  refine lv_aload_n hx hb d_X_write_9 rfl (lv_at hl 1 rfl) ?_
  refine fg S hk hP hi 2 (by decide) rfl hk.2.2.2.1 rfl d_X_write_10 ?_
  refine lv_is (y := nI q) (hpq) ?_
  refine lv_aload_n hx hb d_X_write_13 rfl (lv_at hl 0 rfl) ?_
  refine xg S hk hP 1 (by decide) rfl fl_X_28 rfl d_X_write_14 ?_
  refine lv_imul hx hb d_X_write_17 ?_
  refine lv_is (y := nI (q * d.w)) (pk_mul q d.w) ?_
  refine lv_aload_n hx hb d_X_write_18 rfl (lv_at hl 0 rfl) ?_
  refine xg S hk hP 1 (by decide) rfl fl_X_28 rfl d_X_write_19 ?_
  refine xc_wd S hk hD hS hP hl.1 hi (by omega) hb1 (by omega) (Nat.le_refl _) (by decide +kernel) d_X_write_22 (fun H locs hP hS => ?_)
  refine lv_aload_n hx hb d_X_write_25 rfl (lv_at hl 1 rfl) ?_
  refine lv_iconst (v := 0) hx hb d_X_write_26 (by decide) ?_
  refine fp_dirty S hk hD hS hP hi rfl rfl d_X_write_27 (fun H locs hP hS => ?_)
  refine lv_aload_n hx hb d_X_write_30 rfl (lv_at hl 0 rfl) ?_
  refine lv_dup hx hb d_X_write_31 rfl ?_
  refine xg S hk hP 7 (by decide) rfl fl_X_50 rfl d_X_write_32 ?_
  refine lv_iconst (v := 1) hx hb d_X_write_35 (by decide) ?_
  refine lv_iadd hx hb d_X_write_36 ?_
  refine xp_writes S hk hD hS hP d_X_write_37 (fun H locs hP hS => ?_)
  exact ret_Qv S hr hlk hS hP d_X_write_40
section
variable {p : Program} {l : Launch} {e : Env} {R : Room} {s : State} {m : MethodId} {args : Array Value} {below : List Frame} {meth : Method} {c : Code} {H : Heap} {locs : List Loc} {cells slots : Nat} {Q : State → Prop}
variable {E : EN} {w0 : Cond} {A : Nat → Prop} {H0 : Heap} {d : DM} {a : XA} {b : MA} {hd rd wr : Int32} {dk mm : Nat → Int32} {ti : Nat → Option Nat} {pg pn di mk : Nat → Int32} {ww : Nat → Nat → Int32}
set_option maxHeartbeats 4000000 in
set_option maxRecDepth 100000 in
theorem lp_X_forget (S : CallFix p m c b_X_forget 6 s args (w0 :: tbw) R_X) (hk : kk E s) (hD : xD E d a A) (hdm : dm_ok d) (hg : PgOk d pg) {i z : Nat} (hR : 1 ≤ R.frames ∧ 20 ≤ R.locals) (hcs : cells ≤ R.cells ∧ slots ≤ R.slots)
    (hex : ∀ (ti : Nat → Option Nat) (g t : Nat) (H : Heap) (locs : List Loc) (ls : Array Slot), Fi d.n ti pg i g t z → ti t = none → xP E d a (hd, rd, wr, dk, ti, pg, pn, di, mk, ww) H → va_S A H0 H locs → lv_has ls 6 [(0, .ref a.p), (1, .ref (a.fr i)), (2, .int (nI g)), (3, .int (nI t))] → W p l e R s m args below meth c H locs cells slots Q (F0 m 112 ls [])) :
    ∀ (n : Nat) (ti : Nat → Option Nat) (g t : Nat) (H : Heap) (locs : List Loc) (ls : Array Slot), ds t z < n → Fi d.n ti pg i g t z → xP E d a (hd, rd, wr, dk, ti, pg, pn, di, mk, ww) H → va_S A H0 H locs → lv_has ls 6 [(0, .ref a.p), (1, .ref (a.fr i)), (2, .int (nI g)), (3, .int (nI t))] → W p l e R s m args below meth c H locs cells slots Q (F0 m 16 ls []) := by
  obtain ⟨hx, hb, hml, hown, hts⟩ := id S
  obtain ⟨hn1, hn2, hP1, hP2, hw1, hw2⟩ := id hdm
  intro n
  induction n with
  | zero =>
    intro ti g t H locs ls h1
    omega
  | succ n ih =>
    intro ti g t H locs ls h1 hF hP hS hl
    obtain ⟨hg64, ht64, hz64, -⟩ := id hF.1
    refine lv_aload_n hx hb d_X_forget_16 rfl (lv_at hl 0 rfl) ?_
    refine xg S hk hP 4 (by decide) rfl fl_X_11 rfl d_X_forget_17 ?_
    refine lv_iload_n hx hb d_X_forget_20 rfl (lv_at hl 3 rfl) ?_
    refine xt_ld S hk hP (ht64) d_X_forget_21 ?_
    cases ht : ti t with
    | none =>
      refine lv_ifnullN (tgt := 112) hx hb d_X_forget_22 (by decide) ?_
      exact hex ti g t H locs ls hF ht hP hS hl
    | some i2 =>
      have h2A := hF.2.1 t i2 ht64 hF.1.2.2.2.1 ht
      obtain ⟨q, hq, eq⟩ : ∃ q, q < d.P ∧ pg i2 = nI q := (hg.1 i2 h2A.1).resolve_left h2A.2.1
      refine lv_ifnull hx hb d_X_forget_22 ?_
      refine lv_aload_n hx hb d_X_forget_25 rfl (lv_at hl 0 rfl) ?_
      refine xg S hk hP 4 (by decide) rfl fl_X_11 rfl d_X_forget_26 ?_
      refine lv_iload_n hx hb d_X_forget_29 rfl (lv_at hl 3 rfl) ?_
      refine xt_ld S hk hP (ht64) d_X_forget_30 ?_
      refine lv_isr (y := some (a.fr i2)) (by rw [ht]; rfl) ?_
      refine fg S hk hP h2A.1 2 (by decide) rfl hk.2.2.2.1 rfl d_X_forget_31 ?_
      refine lv_is (y := nI q) (eq) ?_
      refine aft_qi (runS (As := [.int (nI q)]) (rest := []) S hT0 hk (c_X_home l E d a (fun _ => True) q (by omega)) k_X_53 rfl rfl ⟨hR.1, hR.2⟩ trivial hl.1 rfl rfl (Nat.le_of_ble_eq_true rfl) d_X_forget_34 hcs) (fun r hr1 => ?_)
      refine lv_is (y := nI (hm (pg i2))) (by rw [hr1, eq]) ?_
      refine lv_istore (lv' := [(4, .int (nI (hm (pg i2)))), (0, .ref a.p), (1, .ref (a.fr i)), (2, .int (nI g)), (3, .int (nI t))]) hx hb d_X_forget_37 hl (by decide) rfl (fun ls hl => ?_)
      have hh := hm_lt (pg i2)
      have stay : 0 < ds g (hm (pg i2)) ∧ ds g (hm (pg i2)) ≤ ds g t → W p l e R s m args below meth c H locs cells slots Q (F0 m 81 ls [.int 1]) := by
        intro hs
        obtain ⟨g1, g2⟩ := hF.stay ht hs
        refine lv_istore (lv' := [(5, .int 1), (4, .int (nI (hm (pg i2)))), (0, .ref a.p), (1, .ref (a.fr i)), (2, .int (nI g)), (3, .int (nI t))]) hx hb d_X_forget_81 hl (by decide) rfl (fun ls hl => ?_)
        refine lv_iload hx hb d_X_forget_83 (lv_at hl 0 rfl) ?_
        refine lv_if_ne (tgt := 102) hx hb d_X_forget_85 (by decide) (fun c4 => ?_) (fun c4 => ?_)
        · refine lv_iload_n hx hb d_X_forget_102 rfl (lv_at hl 5 rfl) ?_
          refine lv_iconst (v := 1) hx hb d_X_forget_103 (by decide) ?_
          refine lv_iadd hx hb d_X_forget_104 ?_
          refine lv_bipush (v := 64) hx hb d_X_forget_105 (by decide) ?_
          refine lv_irem hx hb d_X_forget_107 (by decide) ?_
          refine lv_is (y := nI ((t + 1) % 64)) (nI_next ht64) ?_
          refine lv_istore_n (lv' := [(3, .int (nI ((t + 1) % 64))), (5, .int 1), (4, .int (nI (hm (pg i2)))), (0, .ref a.p), (1, .ref (a.fr i)), (2, .int (nI g))]) hx hb d_X_forget_108 rfl hl (by decide) rfl (fun ls hl => ?_)
          refine lv_goto (tgt := 16) hx hb d_X_forget_109 (by decide) ?_
          have hl := lv_sub (l' := [(0, .ref a.p), (1, .ref (a.fr i)), (2, .int (nI g)), (3, .int (nI ((t + 1) % 64)))]) hl [3, 4, 5, 0] rfl
          exact ih ti g ((t + 1) % 64) H locs ls (by omega) g1 hP hS hl
        · exact absurd c4 (by decide)
      have move : ¬ (0 < ds g (hm (pg i2)) ∧ ds g (hm (pg i2)) ≤ ds g t) → W p l e R s m args below meth c H locs cells slots Q (F0 m 81 ls [.int 0]) := by
        intro hs
        obtain ⟨g1, g2⟩ := hF.move ht hs
        refine lv_istore (lv' := [(5, .int 0), (4, .int (nI (hm (pg i2)))), (0, .ref a.p), (1, .ref (a.fr i)), (2, .int (nI g)), (3, .int (nI t))]) hx hb d_X_forget_81 hl (by decide) rfl (fun ls hl => ?_)
        refine lv_iload hx hb d_X_forget_83 (lv_at hl 0 rfl) ?_
        refine lv_if_ne (tgt := 102) hx hb d_X_forget_85 (by decide) (fun c4 => ?_) (fun c4 => ?_)
        · exact absurd rfl c4
        · refine lv_aload_n hx hb d_X_forget_88 rfl (lv_at hl 2 rfl) ?_
          refine xg S hk hP 4 (by decide) rfl fl_X_11 rfl d_X_forget_89 ?_
          refine lv_iload_n hx hb d_X_forget_92 rfl (lv_at hl 4 rfl) ?_
          refine lv_aload_n hx hb d_X_forget_93 rfl (lv_at hl 2 rfl) ?_
          refine xg S hk hP 4 (by decide) rfl fl_X_11 rfl d_X_forget_94 ?_
          refine lv_iload_n hx hb d_X_forget_97 rfl (lv_at hl 5 rfl) ?_
          refine xt_ld S hk hP (ht64) d_X_forget_98 ?_
          refine lv_isr (y := some (a.fr i2)) (by rw [ht]; rfl) ?_
          refine xt_st S hk hD hS hP (hg64) (h2A.1) d_X_forget_99 (fun H locs hP hS => ?_)
          refine lv_iload_n hx hb d_X_forget_100 rfl (lv_at hl 5 rfl) ?_
          refine lv_istore_n (lv' := [(2, .int (nI t)), (5, .int 0), (4, .int (nI (hm (pg i2)))), (0, .ref a.p), (1, .ref (a.fr i)), (3, .int (nI t))]) hx hb d_X_forget_101 rfl hl (by decide) rfl (fun ls hl => ?_)
          refine lv_iload_n hx hb d_X_forget_102 rfl (lv_at hl 5 rfl) ?_
          refine lv_iconst (v := 1) hx hb d_X_forget_103 (by decide) ?_
          refine lv_iadd hx hb d_X_forget_104 ?_
          refine lv_bipush (v := 64) hx hb d_X_forget_105 (by decide) ?_
          refine lv_irem hx hb d_X_forget_107 (by decide) ?_
          refine lv_is (y := nI ((t + 1) % 64)) (nI_next ht64) ?_
          refine lv_istore_n (lv' := [(3, .int (nI ((t + 1) % 64))), (2, .int (nI t)), (5, .int 0), (4, .int (nI (hm (pg i2)))), (0, .ref a.p), (1, .ref (a.fr i))]) hx hb d_X_forget_108 rfl hl (by decide) rfl (fun ls hl => ?_)
          refine lv_goto (tgt := 16) hx hb d_X_forget_109 (by decide) ?_
          have hl := lv_sub (l' := [(0, .ref a.p), (1, .ref (a.fr i)), (2, .int (nI t)), (3, .int (nI ((t + 1) % 64)))]) hl [4, 5, 1, 0] rfl
          exact ih (va_up ti g (some i2)) t ((t + 1) % 64) H locs ls (by omega) g1 hP hS hl
      refine lv_iload_n hx hb d_X_forget_39 rfl (lv_at hl 3 rfl) ?_
      refine lv_iload_n hx hb d_X_forget_40 rfl (lv_at hl 4 rfl) ?_
      refine lv_icmp_ge (tgt := 64) hx hb d_X_forget_41 (by decide) (fun c1 => ?_) (fun c1 => ?_)
      · have c1' := (nI_leI (by omega) (by omega)).mp c1
        refine lv_iload hx hb d_X_forget_64 (lv_at hl 0 rfl) ?_
        refine lv_iload_n hx hb d_X_forget_66 rfl (lv_at hl 3 rfl) ?_
        refine lv_icmp_gt (tgt := 76) hx hb d_X_forget_67 (by decide) (fun c2 => ?_) (fun c2 => ?_)
        · have c2' := (nI_ltI (by omega) (by omega)).mp c2
          refine lv_iconst (v := 1) hx hb d_X_forget_76 (by decide) ?_
          refine lv_goto (tgt := 81) hx hb d_X_forget_77 (by decide) ?_
          refine stay ?_
          generalize hm (pg i2) = u at *
          have := hF.1.2.2.2.1
          unfold ds
          omega
        · have c2' := mt (nI_ltI (by omega) (by omega)).mpr c2
          refine lv_iload hx hb d_X_forget_70 (lv_at hl 0 rfl) ?_
          refine lv_iload_n hx hb d_X_forget_72 rfl (lv_at hl 4 rfl) ?_
          refine lv_icmp_gt (tgt := 80) hx hb d_X_forget_73 (by decide) (fun c3 => ?_) (fun c3 => ?_)
          · have c3' := (nI_ltI (by omega) (by omega)).mp c3
            refine lv_iconst (v := 0) hx hb d_X_forget_80 (by decide) ?_
            refine move ?_
            generalize hm (pg i2) = u at *
            have := hF.1.2.2.2.1
            unfold ds
            omega
          · have c3' := mt (nI_ltI (by omega) (by omega)).mpr c3
            refine lv_iconst (v := 1) hx hb d_X_forget_76 (by decide) ?_
            refine lv_goto (tgt := 81) hx hb d_X_forget_77 (by decide) ?_
            refine stay ?_
            generalize hm (pg i2) = u at *
            have := hF.1.2.2.2.1
            unfold ds
            omega
      · have c1' := mt (nI_leI (by omega) (by omega)).mpr c1
        refine lv_iload hx hb d_X_forget_44 (lv_at hl 0 rfl) ?_
        refine lv_iload_n hx hb d_X_forget_46 rfl (lv_at hl 3 rfl) ?_
        refine lv_icmp_le (tgt := 60) hx hb d_X_forget_47 (by decide) (fun c2 => ?_) (fun c2 => ?_)
        · have c2' := (nI_leI (by omega) (by omega)).mp c2
          refine lv_iconst (v := 0) hx hb d_X_forget_60 (by decide) ?_
          refine lv_goto (tgt := 81) hx hb d_X_forget_61 (by decide) ?_
          refine move ?_
          generalize hm (pg i2) = u at *
          unfold ds
          omega
        · have c2' := mt (nI_leI (by omega) (by omega)).mpr c2
          refine lv_iload hx hb d_X_forget_50 (lv_at hl 0 rfl) ?_
          refine lv_iload_n hx hb d_X_forget_52 rfl (lv_at hl 4 rfl) ?_
          refine lv_icmp_gt (tgt := 60) hx hb d_X_forget_53 (by decide) (fun c3 => ?_) (fun c3 => ?_)
          · have c3' := (nI_ltI (by omega) (by omega)).mp c3
            refine lv_iconst (v := 0) hx hb d_X_forget_60 (by decide) ?_
            refine lv_goto (tgt := 81) hx hb d_X_forget_61 (by decide) ?_
            refine move ?_
            generalize hm (pg i2) = u at *
            unfold ds
            omega
          · have c3' := mt (nI_ltI (by omega) (by omega)).mpr c3
            refine lv_iconst (v := 1) hx hb d_X_forget_56 (by decide) ?_
            refine lv_goto (tgt := 81) hx hb d_X_forget_57 (by decide) ?_
            refine stay ?_
            generalize hm (pg i2) = u at *
            unfold ds
            omega
end
set_option maxHeartbeats 4000000 in
set_option maxRecDepth 100000 in
/-- a frame's page goes out of the table -/
theorem c_X_forget (l : Launch) (E : EN) (d : DM) (a : XA) (hd rd wr : Int32) (dk : Nat → Int32) (ti : Nat → Option Nat) (pg pn di mk : Nat → Int32) (ww : Nat → Nat → Int32) (i : Nat) (hi : i < d.n) (hdm : dm_ok d) (hg : PgOk d pg) (hT : Tab d.n ti pg) (hpi : pg i ≠ -1) (A : Nat → Prop) (hD : xD E d a A) : Met l y_X_forget (Cond.code y_X_forget b_X_forget 6 none :: tbw) (k2_rm 2 42) (Pq E [.ref a.p, .ref (a.fr i)] (xP E d a (hd, rd, wr, dk, ti, pg, pn, di, mk, ww))) (Qv (fun H => ∃ ti', xP E d a (hd, rd, wr, dk, ti', upd pg i (-1), upd pn i 0, upd di i 0, upd mk i 0, ww) H ∧ Tab d.n ti' (upd pg i (-1))) A) 0 0 A := by
  refine ent rfl (by decide) (Nat.le_of_ble_eq_true rfl) ?_
  intro p e s m below meth c S hr hlk hnm hk hP ls hl
  obtain ⟨hx, hb, hml, hown, hts⟩ := id S
  have hl : lv_has ls 6 [(0, .ref a.p), (1, .ref (a.fr i))] := hl
  obtain ⟨hn1, hn2, hP1, hP2, hw1, hw2⟩ := id hdm
  have hS : va_S A s.heap s.heap [] := va_S.rf
  obtain ⟨q, hq, eq⟩ : ∃ q, q < d.P ∧ pg i = nI q := (hg.1 i hi).resolve_left hpi
  obtain ⟨z, hz, hzn⟩ := hT.null hn2
  refine lv_aload_n hx hb d_X_forget_0 rfl (lv_at hl 0 rfl) ?_
  refine lv_aload_n hx hb d_X_forget_1 rfl (lv_at hl 1 rfl) ?_
  refine fg S hk hP hi 2 (by decide) rfl hk.2.2.2.1 rfl d_X_forget_2 ?_
  refine lv_is (y := nI q) (eq) ?_
  refine aft_qi (runV (As := [.int (nI q)]) (rest := []) S hT0 hk (c_X_place l E d a hd rd wr dk ti pg pn di mk ww q (by omega) hz hzn (fun k i h1 h2 => (hT.1 k i h1 h2).1)) k_X_64 rfl rfl ⟨Nat.le_of_ble_eq_true rfl, Nat.le_of_ble_eq_true rfl⟩ (xrec hk hP) hP hl.1 rfl rfl (Nat.le_of_ble_eq_true rfl) d_X_forget_5 ⟨Nat.le_refl _, Nat.le_refl _⟩) (fun r hr1 => ?_)
  obtain ⟨g, rfl, hpl⟩ := hr1
  have hgi : ti g = some i := Plc.found hT hg.2 hpl hi eq (nI_m1 (by omega))
  refine lv_istore_n (lv' := [(2, .int (nI g)), (0, .ref a.p), (1, .ref (a.fr i))]) hx hb d_X_forget_8 rfl hl (by decide) rfl (fun ls hl => ?_)
  refine lv_iload_n hx hb d_X_forget_9 rfl (lv_at hl 0 rfl) ?_
  refine lv_iconst (v := 1) hx hb d_X_forget_10 (by decide) ?_
  refine lv_iadd hx hb d_X_forget_11 ?_
  refine lv_bipush (v := 64) hx hb d_X_forget_12 (by decide) ?_
  refine lv_irem hx hb d_X_forget_14 (by decide) ?_
  refine lv_is (y := nI ((g + 1) % 64)) (nI_next hpl.1) ?_
  refine lv_istore_n (lv' := [(3, .int (nI ((g + 1) % 64))), (2, .int (nI g)), (0, .ref a.p), (1, .ref (a.fr i))]) hx hb d_X_forget_15 rfl hl (by decide) rfl (fun ls hl => ?_)
  have hl := lv_sub (l' := [(0, .ref a.p), (1, .ref (a.fr i)), (2, .int (nI g)), (3, .int (nI ((g + 1) % 64)))]) hl [2, 3, 1, 0] rfl
  refine lp_X_forget S hk hD hdm hg (i := i) (z := z) ⟨Nat.le_of_ble_eq_true rfl, Nat.le_of_ble_eq_true rfl⟩ ⟨Nat.le_refl _, Nat.le_refl _⟩ (fun ti g t H locs ls hF ht hP hS hl => ?_) 65 ti g ((g + 1) % 64) s.heap [] ls (by unfold ds; omega) (Fi.start hT hpl.1 hgi hz hzn) hP hS hl
  refine lv_aload_n hx hb d_X_forget_112 rfl (lv_at hl 0 rfl) ?_
  refine xg S hk hP 4 (by decide) rfl fl_X_11 rfl d_X_forget_113 ?_
  refine lv_iload_n hx hb d_X_forget_116 rfl (lv_at hl 2 rfl) ?_
  refine lv_null hx hb d_X_forget_117 ?_
  refine xt_stN S hk hD hS hP (hF.1.1) d_X_forget_118 (fun H locs hP hS => ?_)
  refine lv_aload_n hx hb d_X_forget_119 rfl (lv_at hl 1 rfl) ?_
  refine aft_Qv (runV (As := []) (rest := []) S hT0 hk (c_F_clear l E d a hd rd wr dk (va_up ti g none) pg pn di mk ww i hi A hD) k_X_41 rfl rfl ⟨Nat.le_of_ble_eq_true rfl, Nat.le_of_ble_eq_true rfl⟩ (frec hk hP hi) hP hl.1 rfl rfl (Nat.le_of_ble_eq_true rfl) d_X_forget_120 ⟨Nat.le_refl _, Nat.le_refl _⟩) hS (fun _ h => h) (fun H locs hP _ _ hS => ?_)
  exact ret_Qv S hr hlk hS ⟨_, hP, hF.done ht⟩ d_X_forget_123
end
section
/-! plain rows for next and fetch -/
theorem cp_wr {d : DM} {fk : Nat → Int32} {ww : Nat → Nat → Int32} {dk mm : Nat → Nat → Int32} {i q : Nat} (h1 : ∀ p j, p < d.P → j < d.w → fk (p * d.w + j) = dk p j) (h2 : ∀ i j, i < d.n → j < d.w → ww i j = mm i j) (hi : i < d.n) : ∀ p j, p < d.P → j < d.w → va_cpy (ww i) fk 0 (q * d.w) d.w (p * d.w + j) = va_up dk q (mm i) p j := by
  intro p j hp hj
  by_cases e : p = q
  · subst e
    rw [pk_cpy_in (by omega) (by omega), va_up_self, Nat.zero_add, Nat.add_sub_cancel_left]
    exact h2 i j hi hj
  · have hne : p * d.w + j < q * d.w ∨ q * d.w + d.w ≤ p * d.w + j := by
      rcases Nat.lt_or_ge p q with h | h
      · have := Nat.mul_le_mul_right d.w (show p + 1 ≤ q by omega)
        rw [Nat.add_mul, Nat.one_mul] at this
        omega
      · have := Nat.mul_le_mul_right d.w (show q + 1 ≤ p by omega)
        rw [Nat.add_mul, Nat.one_mul] at this
        omega
    rw [pk_cpy_out hne, va_up_ne _ _ e]
    exact h1 p j hp hj
theorem cp_ld {d : DM} {fk : Nat → Int32} {ww : Nat → Nat → Int32} {dk mm : Nat → Nat → Int32} {i q : Nat} (h1 : ∀ p j, p < d.P → j < d.w → fk (p * d.w + j) = dk p j) (h2 : ∀ i j, i < d.n → j < d.w → ww i j = mm i j) (hq : q < d.P) : ∀ i' j, i' < d.n → j < d.w → va_up ww i (va_cpy fk (ww i) (q * d.w) 0 d.w) i' j = va_up mm i (dk q) i' j := by
  intro i' j hi' hj
  by_cases e : i' = i
  · subst e
    rw [va_up_self, va_up_self, pk_cpy_in (by omega) (by omega), Nat.sub_zero]
    exact h1 q j hq hj
  · rw [va_up_ne _ _ e, va_up_ne _ _ e]
    exact h2 i' j hi' hj
theorem cp_ww {d : DM} {ww : Nat → Nat → Int32} {mm : Nat → Nat → Int32} {i g : Nat} (h2 : ∀ i j, i < d.n → j < d.w → ww i j = mm i j) (hg : g < d.n) : ∀ i' j, i' < d.n → j < d.w → va_up ww i (va_cpy (ww g) (ww i) 0 0 d.w) i' j = va_up mm i (mm g) i' j := by
  intro i' j hi' hj
  by_cases e : i' = i
  · subst e
    rw [va_up_self, va_up_self, pk_cpy_in (by omega) (by omega), Nat.sub_zero, Nat.zero_add]
    exact h2 g j hg hj
  · rw [va_up_ne _ _ e, va_up_ne _ _ e]
    exact h2 i' j hi' hj
theorem up_ww {d : DM} {ww : Nat → Nat → Int32} {mm : Nat → Nat → Int32} {i k : Nat} {v : Int32} (h2 : ∀ i j, i < d.n → j < d.w → ww i j = mm i j) (hi : i < d.n) : ∀ i' j, i' < d.n → j < d.w → va_up ww i (upd (ww i) k v) i' j = va_up mm i (upd (mm i) k v) i' j := by
  intro i' j hi' hj
  by_cases e : i' = i
  · subst e
    rw [va_up_self, va_up_self]
    by_cases c : j = k
    · subst c; rw [upd_s, upd_s]
    · rw [upd_n c, upd_n c]; exact h2 i' j hi hj
  · rw [va_up_ne _ _ e, va_up_ne _ _ e]
    exact h2 i' j hi' hj
/-- the hand's next place -/
theorem nI_hand {h n : Nat} (hh : h < n) (hn : n ≤ 32) : nI h + 1 - (nI h + 1) / nI n * nI n = nI (if h + 1 = n then 0 else h + 1) := by
  rw [nI_1, pk_rem (by omega) (by omega) (by omega)]
  by_cases e : h + 1 = n
  · rw [if_pos e, e, Nat.mod_self]
  · rw [if_neg e, Nat.mod_eq_of_lt (by omega)]
/-- what next leaves -/
theorem s_out_pg (S : St) (i : Nat) : (s_out S i).pg = upd S.pg i (-1) := by unfold s_out; split <;> rfl
theorem s_out_pn (S : St) (i : Nat) : (s_out S i).pn = upd S.pn i 0 := by unfold s_out; split <;> rfl
theorem s_out_mk (S : St) (i : Nat) : (s_out S i).mk = upd S.mk i 0 := by unfold s_out; split <;> rfl
theorem s_out_hd (S : St) (i : Nat) : (s_out S i).hd = S.hd := by unfold s_out; split <;> rfl
theorem s_out_di (S : St) (i : Nat) : (s_out S i).di = upd S.di i 0 := by
  unfold s_out; split
  · show upd (upd S.di i 0) i 0 = _
    funext j
    by_cases e : j = i
    · subst e; rw [upd_s, upd_s]
    · rw [upd_n e, upd_n e]
  · rfl
theorem s_next_some {d : DM} {S : St} {i hd : Nat} {mk : Nat → Int32} (h : clk d.n S.pn (2 * d.n + 2) S.hd S.mk = some (i, hd, mk)) : s_next d S = some (i, s_out (s_hm S hd mk) i) := by
  unfold s_next
  rw [h]
/-- pins are none or more than none -/
theorem pn_pos {d : DM} {N : Nat} {S : St} (hI : Inv d N S) (hN : N < 2 ^ 31) {i : Nat} (hi : i < d.n) : 0 < S.pn i ↔ S.pn i ≠ 0 := by
  obtain ⟨q, hq, e⟩ := hI.2.2.2.2 i hi
  rw [e, show (0 : Int32) = nI 0 from rfl, nI_ltI (by omega) (by omega)]
  constructor
  · intro h z
    have := (nI_eq (by omega) (by omega)).mp z
    omega
  · intro h
    rcases Nat.eq_zero_or_pos q with z | z
    · exact absurd (by rw [z]) h
    · exact z
theorem next_ok {d : DM} {N : Nat} {S : St} (hI : Inv d N S) (hN : N < 2 ^ 31) (hc : cnt S.pn d.n ≠ d.n) : ∃ (i hd : Nat) (mk : Nat → Int32), clk d.n S.pn (2 * d.n + 2) S.hd S.mk = some (i, hd, mk) ∧ i < d.n ∧ S.pn i = 0 ∧ mk i = 0 ∧ hd < d.n := by
  obtain ⟨j, hj, h0⟩ := cnt_free hc
  have h0 : S.pn j = 0 := Classical.byContradiction fun z => h0 ((pn_pos hI hN hj).mpr z)
  obtain ⟨⟨i, hd, mk⟩, h⟩ := clk_ok (mk := S.mk) hj h0 hI.1
  obtain ⟨g1, g2, g3, g4, -⟩ := clk_spec _ _ _ _ _ _ hI.1 h
  exact ⟨i, hd, mk, h, g1, g2, g3, g4⟩
end
section
/-! the pool: next, fetch -/
section
variable {p : Program} {l : Launch} {e : Env} {R : Room} {s : State} {m : MethodId} {args : Array Value} {below : List Frame} {meth : Method} {c : Code} {H : Heap} {locs : List Loc} {cells slots : Nat} {Q : State → Prop}
variable {E : EN} {w0 : Cond} {A : Nat → Prop} {H0 : Heap} {d : DM} {a : XA} {b : MA} {hd rd wr : Int32} {dk mm : Nat → Int32} {ti : Nat → Option Nat} {pg pn di mk : Nat → Int32} {ww : Nat → Nat → Int32}
set_option maxHeartbeats 4000000 in
set_option maxRecDepth 100000 in
theorem lp_X_next (S : CallFix p m c b_X_next 3 s args (w0 :: tbw) R_X) (hk : kk E s) (hD : xD E d a A) (hdm : dm_ok d) {i hd' : Nat} {mk' : Nat → Int32}
    (hex : ∀ (H : Heap) (locs : List Loc) (ls : Array Slot), xP E d a (nI hd', rd, wr, dk, ti, pg, pn, di, mk', ww) H → va_S A H0 H locs → lv_has ls 3 [(0, .ref a.p), (1, .ref (a.fr i))] → W p l e R s m args below meth c H locs cells slots Q (F0 m 66 ls [])) :
    ∀ (f h : Nat) (mk : Nat → Int32) (H : Heap) (locs : List Loc) (ls : Array Slot), h < d.n → clk d.n pn f h mk = some (i, hd', mk') → xP E d a (nI h, rd, wr, dk, ti, pg, pn, di, mk, ww) H → va_S A H0 H locs → lv_has ls 3 [(0, .ref a.p), (1, .null)] → W p l e R s m args below meth c H locs cells slots Q (F0 m 2 ls []) := by
  obtain ⟨hx, hb, hml, hown, hts⟩ := id S
  obtain ⟨hn1, hn2, hP1, hP2, hw1, hw2⟩ := id hdm
  intro f
  induction f with
  | zero =>
    intro h mk H locs ls h1 h2
    simp [clk] at h2
  | succ f ih =>
    intro h mk H locs ls h1 h2 hP hS hl
    have hnx : (if h + 1 = d.n then 0 else h + 1) < d.n := by split <;> omega
    simp only [clk] at h2
    refine lv_aload_nN hx hb d_X_next_2 rfl (lv_at hl 1 rfl) ?_
    refine lv_ifnonnullN hx hb d_X_next_3 ?_
    refine lv_aload_n hx hb d_X_next_6 rfl (lv_at hl 0 rfl) ?_
    refine xg S hk hP 3 (by decide) rfl fl_X_35 rfl d_X_next_7 ?_
    refine lv_aload_n hx hb d_X_next_10 rfl (lv_at hl 0 rfl) ?_
    refine xg S hk hP 5 (by decide) rfl fl_X_44 rfl d_X_next_11 ?_
    refine xf_ld S hk hP (by omega) (h1) d_X_next_14 ?_
    refine lv_astore_n (lv' := [(2, .ref (a.fr h)), (0, .ref a.p), (1, .null)]) hx hb d_X_next_15 rfl hl (by decide) rfl (fun ls hl => ?_)
    refine lv_aload_n hx hb d_X_next_16 rfl (lv_at hl 1 rfl) ?_
    refine lv_aload_n hx hb d_X_next_17 rfl (lv_at hl 1 rfl) ?_
    refine xg S hk hP 5 (by decide) rfl fl_X_44 rfl d_X_next_18 ?_
    refine lv_iconst (v := 1) hx hb d_X_next_21 (by decide) ?_
    refine lv_iadd hx hb d_X_next_22 ?_
    refine lv_aload_n hx hb d_X_next_23 rfl (lv_at hl 1 rfl) ?_
    refine xg S hk hP 3 (by decide) rfl fl_X_35 rfl d_X_next_24 ?_
    refine xf_len S hk hP d_X_next_27 ?_
    refine lv_irem hx hb d_X_next_28 (nI_ne0 (by omega) (by omega)) ?_
    refine lv_is (y := nI (if h + 1 = d.n then 0 else h + 1)) (nI_hand h1 hn2) ?_
    refine xp_hand S hk hD hS hP d_X_next_29 (fun H locs hP hS => ?_)
    refine lv_aload_n hx hb d_X_next_32 rfl (lv_at hl 0 rfl) ?_
    refine fg S hk hP h1 3 (by decide) rfl hk.2.2.2.2.1 rfl d_X_next_33 ?_
    refine lv_if_ne (tgt := 54) hx hb d_X_next_36 (by decide) (fun c1 => ?_) (fun c1 => ?_)
    · rw [if_neg c1] at h2
      refine lv_aload_n hx hb d_X_next_54 rfl (lv_at hl 0 rfl) ?_
      refine fg S hk hP h1 3 (by decide) rfl hk.2.2.2.2.1 rfl d_X_next_55 ?_
      refine lv_if_ne (tgt := 63) hx hb d_X_next_58 (by decide) (fun c3 => ?_) (fun c3 => ?_)
      · refine lv_goto (tgt := 2) hx hb d_X_next_63 (by decide) ?_
        have hl := lv_sub (l' := [(0, .ref a.p), (1, .null)]) hl [1, 2] rfl
        exact ih _ mk H locs ls hnx h2 hP hS hl
      · exact absurd c3 c1
    · rw [if_pos c1] at h2
      refine lv_aload_n hx hb d_X_next_39 rfl (lv_at hl 0 rfl) ?_
      refine fg S hk hP h1 5 (by decide) rfl hk.2.2.2.2.2.2.1 rfl d_X_next_40 ?_
      refine lv_if_eq (tgt := 54) hx hb d_X_next_43 (by decide) (fun c2 => ?_) (fun c2 => ?_)
      · rw [if_pos c2] at h2
        refine lv_aload_n hx hb d_X_next_54 rfl (lv_at hl 0 rfl) ?_
        refine fg S hk hP h1 3 (by decide) rfl hk.2.2.2.2.1 rfl d_X_next_55 ?_
        refine lv_if_ne (tgt := 63) hx hb d_X_next_58 (by decide) (fun c3 => ?_) (fun c3 => ?_)
        · exact absurd c1 c3
        · refine lv_aload_n hx hb d_X_next_61 rfl (lv_at hl 0 rfl) ?_
          refine lv_astore_n (lv' := [(1, .ref (a.fr h)), (2, .ref (a.fr h)), (0, .ref a.p)]) hx hb d_X_next_62 rfl hl (by decide) rfl (fun ls hl => ?_)
          refine lv_goto (tgt := 2) hx hb d_X_next_63 (by decide) ?_
          refine lv_aload_n hx hb d_X_next_2 rfl (lv_at hl 0 rfl) ?_
          refine lv_ifnonnull (tgt := 66) hx hb d_X_next_3 (by decide) ?_
          have hl := lv_sub (l' := [(0, .ref a.p), (1, .ref (a.fr h))]) hl [2, 0] rfl
          cases h2
          exact hex H locs ls hP hS hl
      · rw [if_neg c2] at h2
        refine lv_aload_n hx hb d_X_next_46 rfl (lv_at hl 0 rfl) ?_
        refine lv_iconst (v := 0) hx hb d_X_next_47 (by decide) ?_
        refine fp_mark S hk hD hS hP h1 rfl rfl d_X_next_48 (fun H locs hP hS => ?_)
        refine lv_goto (tgt := 63) hx hb d_X_next_51 (by decide) ?_
        refine lv_goto (tgt := 2) hx hb d_X_next_63 (by decide) ?_
        have hl := lv_sub (l' := [(0, .ref a.p), (1, .null)]) hl [1, 2] rfl
        exact ih _ (upd mk h 0) H locs ls hnx h2 hP hS hl
end
set_option maxHeartbeats 4000000 in
set_option maxRecDepth 100000 in
/-- the next empty frame -/
theorem c_X_next (l : Launch) (E : EN) (d : DM) (a : XA) (T : St) {N : Nat} (hI : Inv d N T) (hN : N < 2 ^ 31) (hc : cnt T.pn d.n ≠ d.n) (hdm : dm_ok d) (A : Nat → Prop) (hD : xD E d a A) : Met l y_X_next (Cond.code y_X_next b_X_next 3 (some (.object "FramePool$Frame")) :: tbw) (k2_rm 3 67) (Pq E [.ref a.p] (RX E d a T)) (Qr (fun r H => ∃ i T', s_next d T = some (i, T') ∧ i < d.n ∧ r = some (a.fr i) ∧ RX E d a T' H) A) 0 0 A := by
  refine ent rfl (by decide) (Nat.le_of_ble_eq_true rfl) ?_
  intro p e s m below meth c S hr hlk hnm hk hP ls hl
  obtain ⟨hx, hb, hml, hown, hts⟩ := id S
  have hl : lv_has ls 3 [(0, .ref a.p)] := hl
  obtain ⟨hn1, hn2, hP1, hP2, hw1, hw2⟩ := id hdm
  have hS : va_S A s.heap s.heap [] := va_S.rf
  obtain ⟨fk, ti, ww, hP, hdk, hww, hT⟩ := hP
  obtain ⟨i, hd, mk, hclk, hi, hpi, hmi, hhd⟩ := next_ok hI hN hc
  have hsn := s_next_some hclk
  refine lv_null hx hb d_X_next_0 ?_
  refine lv_astore_nN (lv' := [(1, .null), (0, .ref a.p)]) hx hb d_X_next_1 rfl hl (by decide) rfl (fun ls hl => ?_)
  have hl := lv_sub (l' := [(0, .ref a.p), (1, .null)]) hl [1, 0] rfl
  refine lp_X_next S hk hD hdm (i := i) (hd' := hd) (mk' := mk) (fun H locs ls hP hS hl => ?_) (2 * d.n + 2) T.hd T.mk s.heap [] ls hI.1 hclk hP hS hl
  refine lv_aload_n hx hb d_X_next_66 rfl (lv_at hl 1 rfl) ?_
  refine fg S hk hP hi 2 (by decide) rfl hk.2.2.2.1 rfl d_X_next_67 ?_
  refine lv_iconst (v := -1) hx hb d_X_next_70 (by decide) ?_
  refine lv_icmp_eq (tgt := 91) hx hb d_X_next_71 (by decide) (fun c1 => ?_) (fun c1 => ?_)
  · refine lv_aload_n hx hb d_X_next_91 rfl (lv_at hl 1 rfl) ?_
    have he := hI.2.2.2.1 i hi c1
    refine ret_Qr (v := some (a.fr i)) S hr hlk hS ⟨i, _, hsn, hi, rfl, ?_⟩ d_X_next_92
    rw [show s_out (s_hm T hd mk) i = s_em (s_hm T hd mk) i from if_neg (fun z => z.1 c1)]
    refine ⟨fk, ti, ww, ?_, hdk, hww, ?_⟩
    · show xP E d a (nI hd, T.rd, T.wr, fk, ti, upd T.pg i (-1), upd T.pn i 0, upd T.di i 0, upd mk i 0, ww) H
      rw [upd_id c1, upd_id hpi, upd_id he.2.1, upd_id hmi]
      exact hP
    · show Tab d.n ti (upd T.pg i (-1))
      rw [upd_id c1]
      exact hT
  · refine lv_aload_n hx hb d_X_next_74 rfl (lv_at hl 1 rfl) ?_
    refine fg S hk hP hi 4 (by decide) rfl hk.2.2.2.2.2.1 rfl d_X_next_75 ?_
    refine lv_if_eq (tgt := 86) hx hb d_X_next_78 (by decide) (fun c2 => ?_) (fun c2 => ?_)
    · refine lv_aload_n hx hb d_X_next_86 rfl (lv_at hl 0 rfl) ?_
      refine lv_aload_n hx hb d_X_next_87 rfl (lv_at hl 1 rfl) ?_
      refine aft_Qv (runV (As := [.ref (a.fr i)]) (rest := []) S hT0 hk (c_X_forget l E d a (nI hd) T.rd T.wr fk ti T.pg T.pn T.di mk ww i hi hdm hI.pgOk hT c1 A hD) k_X_90 rfl rfl ⟨Nat.le_of_ble_eq_true rfl, Nat.le_of_ble_eq_true rfl⟩ (xrec hk hP) hP hl.1 rfl rfl (Nat.le_of_ble_eq_true rfl) d_X_next_88 ⟨Nat.le_refl _, Nat.le_refl _⟩) hS (fun _ h => h) (fun H locs hP _ _ hS => ?_)
      obtain ⟨ti2, hP, hT2⟩ := hP
      refine lv_aload_n hx hb d_X_next_91 rfl (lv_at hl 1 rfl) ?_
      refine ret_Qr (v := some (a.fr i)) S hr hlk hS ⟨i, _, hsn, hi, rfl, ?_⟩ d_X_next_92
      rw [show s_out (s_hm T hd mk) i = s_em (s_hm T hd mk) i from if_neg (fun z => z.2 c2)]
      exact ⟨fk, ti2, ww, hP, hdk, hww, hT2⟩
    · obtain ⟨q, hq, eq⟩ : ∃ q, q < d.P ∧ T.pg i = nI q := (hI.2.1 i hi).resolve_left c1
      refine lv_aload_n hx hb d_X_next_81 rfl (lv_at hl 0 rfl) ?_
      refine lv_aload_n hx hb d_X_next_82 rfl (lv_at hl 1 rfl) ?_
      refine aft_Qv (runV (As := [.ref (a.fr i)]) (rest := []) S hT0 hk (c_X_write l E d a (nI hd) T.rd T.wr fk ti T.pg T.pn T.di mk ww i hi hdm hq eq A hD) k_X_86 rfl rfl ⟨Nat.le_of_ble_eq_true rfl, Nat.le_of_ble_eq_true rfl⟩ (xrec hk hP) hP hl.1 rfl rfl (Nat.le_of_ble_eq_true rfl) d_X_next_83 ⟨Nat.le_refl _, Nat.le_refl _⟩) hS (fun _ h => h) (fun H locs hP _ _ hS => ?_)
      refine lv_aload_n hx hb d_X_next_86 rfl (lv_at hl 0 rfl) ?_
      refine lv_aload_n hx hb d_X_next_87 rfl (lv_at hl 1 rfl) ?_
      refine aft_Qv (runV (As := [.ref (a.fr i)]) (rest := []) S hT0 hk (c_X_forget l E d a (nI hd) T.rd (T.wr + 1) (va_cpy (ww i) fk 0 (q * d.w) d.w) ti T.pg T.pn (upd T.di i 0) mk ww i hi hdm hI.pgOk hT c1 A hD) k_X_90 rfl rfl ⟨Nat.le_of_ble_eq_true rfl, Nat.le_of_ble_eq_true rfl⟩ (xrec hk hP) hP hl.1 rfl rfl (Nat.le_of_ble_eq_true rfl) d_X_next_88 ⟨Nat.le_refl _, Nat.le_refl _⟩) hS (fun _ h => h) (fun H locs hP _ _ hS => ?_)
      obtain ⟨ti2, hP, hT2⟩ := hP
      refine lv_aload_n hx hb d_X_next_91 rfl (lv_at hl 1 rfl) ?_
      refine ret_Qr (v := some (a.fr i)) S hr hlk hS ⟨i, _, hsn, hi, rfl, ?_⟩ d_X_next_92
      rw [show s_out (s_hm T hd mk) i = s_em (s_wr (s_hm T hd mk) i) i from if_pos ⟨c1, c2⟩]
      have hcl : (T.pg i).toNatClampNeg = q := by rw [eq]; exact nI_clamp (by omega)
      refine ⟨_, ti2, ww, hP, ?_, hww, hT2⟩
      show ∀ p j, p < d.P → j < d.w → va_cpy (ww i) fk 0 (q * d.w) d.w (p * d.w + j) = va_up T.dk (T.pg i).toNatClampNeg (T.mm i) p j
      rw [hcl]
      exact cp_wr hdk hww hi
set_option maxHeartbeats 4000000 in
set_option maxRecDepth 100000 in
/-- a page comes in, with one pin more -/
theorem c_X_fetch (l : Launch) (E : EN) (d : DM) (a : XA) (T : St) (q : Int32) {N : Nat} (hI : Inv d N T) (hN : N < 2 ^ 31) (hdm : dm_ok d) (A : Nat → Prop) (hD : xD E d a A) : Met l y_X_fetch (Cond.code y_X_fetch b_X_fetch 3 (some .int) :: tbw) (k2_rm 4 89) (Pq E [.ref a.p, .int q] (RX E d a T)) (Qi (fun r H => r = (o_fetch d T q).1 ∧ RX E d a (o_fetch d T q).2 H) A) 0 0 A := by
  refine ent rfl (by decide) (Nat.le_of_ble_eq_true rfl) ?_
  intro p e s m below meth c S hr hlk hnm hk hP ls hl
  obtain ⟨hx, hb, hml, hown, hts⟩ := id S
  have hl : lv_has ls 3 [(0, .ref a.p), (1, .int q)] := hl
  obtain ⟨hn1, hn2, hP1, hP2, hw1, hw2⟩ := id hdm
  have hS : va_S A s.heap s.heap [] := va_S.rf
  obtain ⟨fk, ti, ww, hP, hdk, hww, hT⟩ := hP
  refine lv_aload_n hx hb d_X_fetch_0 rfl (lv_at hl 0 rfl) ?_
  refine lv_iload_n hx hb d_X_fetch_1 rfl (lv_at hl 1 rfl) ?_
  refine aft_qi (runV (As := [.int q]) (rest := []) S hT0 hk (c_X_isPage l E d a (nI T.hd) T.rd T.wr fk ti T.pg T.pn T.di T.mk ww q) k_X_60 rfl rfl ⟨Nat.le_of_ble_eq_true rfl, Nat.le_of_ble_eq_true rfl⟩ (xrec hk hP) hP hl.1 rfl rfl (Nat.le_of_ble_eq_true rfl) d_X_fetch_2 ⟨Nat.le_refl _, Nat.le_refl _⟩) (fun r hr1 => ?_)
  refine lv_if_ne (tgt := 11) hx hb d_X_fetch_5 (by decide) (fun c1 => ?_) (fun c1 => ?_)
  · have c2 : 0 ≤ q ∧ q < nI d.P := Classical.byContradiction fun z => c1 (by rw [hr1, if_neg z])
    obtain ⟨q, hq, rfl⟩ := inN2 (by omega) c2
    have hcl : (nI q).toNatClampNeg = q := nI_clamp (by omega)
    refine lv_aload_n hx hb d_X_fetch_11 rfl (lv_at hl 0 rfl) ?_
    refine lv_iload_n hx hb d_X_fetch_12 rfl (lv_at hl 1 rfl) ?_
    refine aft_qr (runV (As := [.int (nI q)]) (rest := []) S hT0 hk (c_X_find l E d a (nI T.hd) T.rd T.wr fk ti T.pg T.pn T.di T.mk ww (nI q) hdm hI.pgOk hT) k_X_93 rfl rfl ⟨Nat.le_of_ble_eq_true rfl, Nat.le_of_ble_eq_true rfl⟩ (xrec hk hP) hP hl.1 rfl rfl (Nat.le_of_ble_eq_true rfl) d_X_fetch_13 ⟨Nat.le_refl _, Nat.le_refl _⟩) (fun r2 hr2 => ?_)
    subst hr2
    cases hfo : fo T.pg (nI q) d.n with
    | some i =>
      have hi : i < d.n := (fo_some hfo).1
      have ho : o_fetch d T (nI q) = (nI i, s_pin T i) := by simp only [o_fetch, if_pos c2, hfo]
      refine lv_astore_n (lv' := [(2, .ref (a.fr i)), (0, .ref a.p), (1, .int (nI q))]) hx hb d_X_fetch_16 rfl hl (by decide) rfl (fun ls hl => ?_)
      refine lv_aload_n hx hb d_X_fetch_17 rfl (lv_at hl 0 rfl) ?_
      refine lv_ifnonnull (tgt := 88) hx hb d_X_fetch_18 (by decide) ?_
      refine lv_aload_n hx hb d_X_fetch_88 rfl (lv_at hl 0 rfl) ?_
      refine lv_dup hx hb d_X_fetch_89 rfl ?_
      refine fg S hk hP hi 3 (by decide) rfl hk.2.2.2.2.1 rfl d_X_fetch_90 ?_
      refine lv_iconst (v := 1) hx hb d_X_fetch_93 (by decide) ?_
      refine lv_iadd hx hb d_X_fetch_94 ?_
      refine fp_pins S hk hD hS hP hi d_X_fetch_95 (fun H locs hP hS => ?_)
      refine lv_aload_n hx hb d_X_fetch_98 rfl (lv_at hl 0 rfl) ?_
      refine lv_iconst (v := 1) hx hb d_X_fetch_99 (by decide) ?_
      refine fp_mark S hk hD hS hP hi rfl rfl d_X_fetch_100 (fun H locs hP hS => ?_)
      refine lv_aload_n hx hb d_X_fetch_103 rfl (lv_at hl 0 rfl) ?_
      refine fg S hk hP hi 0 (by decide) rfl hk.2.1 rfl d_X_fetch_104 ?_
      exact ret_Qi S hr hlk hS (by rw [ho]; exact ⟨rfl, fk, ti, ww, hP, hdk, hww, hT⟩) d_X_fetch_107
    | none =>
      refine lv_astore_nN (lv' := [(2, .null), (0, .ref a.p), (1, .int (nI q))]) hx hb d_X_fetch_16 rfl hl (by decide) rfl (fun ls hl => ?_)
      refine lv_aload_nN hx hb d_X_fetch_17 rfl (lv_at hl 0 rfl) ?_
      refine lv_ifnonnullN hx hb d_X_fetch_18 ?_
      refine lv_aload_n hx hb d_X_fetch_21 rfl (lv_at hl 1 rfl) ?_
      refine aft_qi (runV (As := []) (rest := []) S hT0 hk (c_X_pinned l E d a (nI T.hd) T.rd T.wr fk ti T.pg T.pn T.di T.mk ww hdm) k_X_97 rfl rfl ⟨Nat.le_of_ble_eq_true rfl, Nat.le_of_ble_eq_true rfl⟩ (xrec hk hP) hP hl.1 rfl rfl (Nat.le_of_ble_eq_true rfl) d_X_fetch_22 ⟨Nat.le_refl _, Nat.le_refl _⟩) (fun r3 hr3 => ?_)
      subst hr3
      refine lv_aload_n hx hb d_X_fetch_25 rfl (lv_at hl 1 rfl) ?_
      refine xg S hk hP 3 (by decide) rfl fl_X_35 rfl d_X_fetch_26 ?_
      refine xf_len S hk hP d_X_fetch_29 ?_
      refine lv_icmp_ne (tgt := 35) hx hb d_X_fetch_30 (by decide) (fun c3 => ?_) (fun c3 => ?_)
      · have c4 : cnt T.pn d.n ≠ d.n := fun z => c3 (by rw [z])
        refine lv_aload_n hx hb d_X_fetch_35 rfl (lv_at hl 1 rfl) ?_
        refine aft_Qr (runV (As := []) (rest := []) S hT0 hk (c_X_next l E d a T hI hN c4 hdm A hD) k_X_101 rfl rfl ⟨Nat.le_of_ble_eq_true rfl, Nat.le_of_ble_eq_true rfl⟩ (xrec hk hP) ⟨fk, ti, ww, hP, hdk, hww, hT⟩ hl.1 rfl rfl (Nat.le_of_ble_eq_true rfl) d_X_fetch_36 ⟨Nat.le_refl _, Nat.le_refl _⟩) hS (fun _ h => h) (fun r4 H locs hr4 _ _ hS => ?_)
        obtain ⟨i, T2, hsn, hi, rfl, fk2, ti2, ww2, hP, hdk2, hww2, hT2⟩ := hr4
        have ho : o_fetch d T (nI q) = (nI i, s_pin (s_ld T2 i (nI q)) i) := by simp only [o_fetch, if_pos c2, hfo, if_neg c4, hsn]
        obtain ⟨j, hd', mk', hclk, -⟩ := next_ok hI hN c4
        have e1 := hsn.symm.trans (s_next_some hclk)
        have hpg : T2.pg = upd T.pg i (-1) := by
          cases e1
          exact s_out_pg _ _
        have hpi : T2.pg i = -1 := by rw [hpg, upd_s]
        have hout : ∀ k i', k < 64 → ti2 k = some i' → upd T2.pg i (nI q) i' ≠ nI q := by
          intro k i' hk' hi'
          have h1 := hT2.1 k i' hk' hi'
          have hne : i' ≠ i := fun z => h1.2 (by rw [z]; exact hpi)
          rw [upd_n hne, hpg, upd_n hne]
          exact fun z => fo_none hfo i' h1.1 ⟨c2.1, z⟩
        obtain ⟨z, hz, hzn⟩ := hT2.null hn2
        have hb1 : q * d.w + d.w ≤ d.P * d.w := by
          have := Nat.mul_le_mul_right d.w (show q + 1 ≤ d.P by omega)
          rw [Nat.add_mul, Nat.one_mul] at this
          exact this
        have hb2 : d.P * d.w ≤ 200 * 8 := Nat.mul_le_mul hP2 hw2
        refine lv_astore_n (lv' := [(2, .ref (a.fr i)), (0, .ref a.p), (1, .int (nI q))]) hx hb d_X_fetch_39 rfl hl (by decide) rfl (fun ls hl => ?_)
        refine lv_aload_n hx hb d_X_fetch_40 rfl (lv_at hl 1 rfl) ?_
        refine xg S hk hP 2 (by decide) rfl fl_X_31 rfl d_X_fetch_41 ?_
        refine lv_iload_n hx hb d_X_fetch_44 rfl (lv_at hl 2 rfl) ?_
        refine lv_aload_n hx hb d_X_fetch_45 rfl (lv_at hl 1 rfl) ?_
        refine xg S hk hP 1 (by decide) rfl fl_X_28 rfl d_X_fetch_46 ?_
        refine lv_imul hx hb d_X_fetch_49 ?_
        refine lv_is (y := nI (q * d.w)) (pk_mul q d.w) ?_
        refine lv_aload_n hx hb d_X_fetch_50 rfl (lv_at hl 0 rfl) ?_
        refine fg S hk hP hi 1 (by decide) rfl hk.2.2.1 rfl d_X_fetch_51 ?_
        refine lv_iconst (v := 0) hx hb d_X_fetch_54 (by decide) ?_
        refine lv_aload_n hx hb d_X_fetch_55 rfl (lv_at hl 1 rfl) ?_
        refine xg S hk hP 1 (by decide) rfl fl_X_28 rfl d_X_fetch_56 ?_
        refine xc_dw S hk hD hS hP hl.1 hi (by omega) hb1 (by omega) (Nat.le_of_ble_eq_true rfl) (by decide +kernel) d_X_fetch_59 (fun H locs hP hS => ?_)
        refine lv_aload_n hx hb d_X_fetch_62 rfl (lv_at hl 1 rfl) ?_
        refine lv_dup hx hb d_X_fetch_63 rfl ?_
        refine xg S hk hP 6 (by decide) rfl fl_X_47 rfl d_X_fetch_64 ?_
        refine lv_iconst (v := 1) hx hb d_X_fetch_67 (by decide) ?_
        refine lv_iadd hx hb d_X_fetch_68 ?_
        refine xp_reads S hk hD hS hP d_X_fetch_69 (fun H locs hP hS => ?_)
        refine lv_aload_n hx hb d_X_fetch_72 rfl (lv_at hl 0 rfl) ?_
        refine lv_iload_n hx hb d_X_fetch_73 rfl (lv_at hl 2 rfl) ?_
        refine fp_page S hk hD hS hP hi d_X_fetch_74 (fun H locs hP hS => ?_)
        refine lv_aload_n hx hb d_X_fetch_77 rfl (lv_at hl 1 rfl) ?_
        refine xg S hk hP 4 (by decide) rfl fl_X_11 rfl d_X_fetch_78 ?_
        refine lv_aload_n hx hb d_X_fetch_81 rfl (lv_at hl 1 rfl) ?_
        refine lv_iload_n hx hb d_X_fetch_82 rfl (lv_at hl 2 rfl) ?_
        refine aft_qi (runV (As := [.int (nI q)]) (rest := [.ref a.t]) S hT0 hk (c_X_place l E d a (nI T2.hd) (T2.rd + 1) T2.wr fk2 ti2 (upd T2.pg i (nI q)) T2.pn T2.di T2.mk (va_up ww2 i (va_cpy fk2 (ww2 i) (q * d.w) 0 d.w)) q (by omega) hz hzn (fun k i h1 h2 => (hT2.1 k i h1 h2).1)) k_X_64 rfl rfl ⟨Nat.le_of_ble_eq_true rfl, Nat.le_of_ble_eq_true rfl⟩ (xrec hk hP) hP hl.1 rfl rfl (Nat.le_of_ble_eq_true rfl) d_X_fetch_83 ⟨Nat.le_refl _, Nat.le_refl _⟩) (fun r5 hr5 => ?_)
        obtain ⟨k, rfl, hpl⟩ := hr5
        have hk0 : ti2 k = none := Plc.absent (n := d.n) hout hpl
        refine lv_aload_n hx hb d_X_fetch_86 rfl (lv_at hl 0 rfl) ?_
        refine xt_st S hk hD hS hP (hpl.1) (hi) d_X_fetch_87 (fun H locs hP hS => ?_)
        refine lv_aload_n hx hb d_X_fetch_88 rfl (lv_at hl 0 rfl) ?_
        refine lv_dup hx hb d_X_fetch_89 rfl ?_
        refine fg S hk hP hi 3 (by decide) rfl hk.2.2.2.2.1 rfl d_X_fetch_90 ?_
        refine lv_iconst (v := 1) hx hb d_X_fetch_93 (by decide) ?_
        refine lv_iadd hx hb d_X_fetch_94 ?_
        refine fp_pins S hk hD hS hP hi d_X_fetch_95 (fun H locs hP hS => ?_)
        refine lv_aload_n hx hb d_X_fetch_98 rfl (lv_at hl 0 rfl) ?_
        refine lv_iconst (v := 1) hx hb d_X_fetch_99 (by decide) ?_
        refine fp_mark S hk hD hS hP hi rfl rfl d_X_fetch_100 (fun H locs hP hS => ?_)
        refine lv_aload_n hx hb d_X_fetch_103 rfl (lv_at hl 0 rfl) ?_
        refine fg S hk hP hi 0 (by decide) rfl hk.2.1 rfl d_X_fetch_104 ?_
        refine ret_Qi S hr hlk hS ?_ d_X_fetch_107
        rw [ho]
        refine ⟨rfl, fk2, va_up ti2 k (some i), _, hP, hdk2, ?_, hT2.put hi hpi (nI_m1 (by omega)) hpl hk0⟩
        show ∀ i' j, i' < d.n → j < d.w → va_up ww2 i (va_cpy fk2 (ww2 i) (q * d.w) 0 d.w) i' j = va_up T2.mm i (T2.dk (nI q).toNatClampNeg) i' j
        rw [hcl]
        exact cp_ld hdk2 hww2 hq
      · have c4 : cnt T.pn d.n = d.n := (nI_eq (by have := cnt_le T.pn d.n; omega) (by omega)).mp c3
        have ho : o_fetch d T (nI q) = (-1, T) := by simp only [o_fetch, if_pos c2, hfo, if_pos c4]
        refine lv_iconst (v := -1) hx hb d_X_fetch_33 (by decide) ?_
        exact ret_Qi S hr hlk hS (by rw [ho]; exact ⟨rfl, fk, ti, ww, hP, hdk, hww, hT⟩) d_X_fetch_34
  · have c2 : ¬ (0 ≤ q ∧ q < nI d.P) := fun z => by rw [hr1, if_pos z] at c1; exact absurd c1 (by decide)
    have ho : o_fetch d T q = (-2, T) := if_neg c2
    refine lv_bipush (v := -2) hx hb d_X_fetch_8 (by decide) ?_
    exact ret_Qi S hr hlk hS (by rw [ho]; exact ⟨rfl, fk, ti, ww, hP, hdk, hww, hT⟩) d_X_fetch_10
end
section
/-! the pool's public methods -/
set_option maxHeartbeats 4000000 in
set_option maxRecDepth 100000 in
theorem c_X_unpin (l : Launch) (E : EN) (d : DM) (a : XA) (T : St) (f : Int32) (hdm : dm_ok d) (A : Nat → Prop) (hD : xD E d a A) : Met l y_X_unpin (Cond.code y_X_unpin b_X_unpin 3 (some .int) :: tbw) (k2_rm 1 21) (Pq E [.ref a.p, .int f] (RX E d a T)) (Qi (fun r H => r = (o_unpin d T f).1 ∧ RX E d a (o_unpin d T f).2 H) A) 0 0 A := by
  refine ent rfl (by decide) (Nat.le_of_ble_eq_true rfl) ?_
  intro p e s m below meth c S hr hlk hnm hk hP ls hl
  obtain ⟨hx, hb, hml, hown, hts⟩ := id S
  have hl : lv_has ls 3 [(0, .ref a.p), (1, .int f)] := hl
  obtain ⟨hn1, hn2, hP1, hP2, hw1, hw2⟩ := id hdm
  have hS : va_S A s.heap s.heap [] := va_S.rf
  obtain ⟨fk, ti, ww, hP, hdk, hww, hT⟩ := hP
  refine lv_aload_n hx hb d_X_unpin_0 rfl (lv_at hl 0 rfl) ?_
  refine lv_iload_n hx hb d_X_unpin_1 rfl (lv_at hl 1 rfl) ?_
  refine aft_qr (runV (As := [.int f]) (rest := []) S hT0 hk (c_X_pinnedFrame l E d a (nI T.hd) T.rd T.wr fk ti T.pg T.pn T.di T.mk ww f hdm) k_X_108 rfl rfl ⟨Nat.le_of_ble_eq_true rfl, Nat.le_of_ble_eq_true rfl⟩ (xrec hk hP) hP hl.1 rfl rfl (Nat.le_of_ble_eq_true rfl) d_X_unpin_2 ⟨Nat.le_refl _, Nat.le_refl _⟩) (fun r hr1 => ?_)
  by_cases c1 : (0 ≤ f ∧ f < nI d.n) ∧ T.pn f.toNatClampNeg ≠ 0
  · obtain ⟨j, hj, rfl⟩ := inN2 (by omega) c1.1
    have hcl : (nI j).toNatClampNeg = j := nI_clamp (by omega)
    rw [if_pos c1, hcl] at hr1
    subst hr1
    refine lv_astore_n (lv' := [(2, .ref (a.fr j)), (0, .ref a.p), (1, .int (nI j))]) hx hb d_X_unpin_5 rfl hl (by decide) rfl (fun ls hl => ?_)
    refine lv_aload_n hx hb d_X_unpin_6 rfl (lv_at hl 0 rfl) ?_
    refine lv_ifnonnull (tgt := 13) hx hb d_X_unpin_7 (by decide) ?_
    refine lv_aload_n hx hb d_X_unpin_13 rfl (lv_at hl 0 rfl) ?_
    refine lv_dup hx hb d_X_unpin_14 rfl ?_
    refine fg S hk hP hj 3 (by decide) rfl hk.2.2.2.2.1 rfl d_X_unpin_15 ?_
    refine lv_iconst (v := 1) hx hb d_X_unpin_18 (by decide) ?_
    refine lv_isub hx hb d_X_unpin_19 ?_
    refine fp_pins S hk hD hS hP hj d_X_unpin_20 (fun H locs hP hS => ?_)
    refine lv_aload_n hx hb d_X_unpin_23 rfl (lv_at hl 0 rfl) ?_
    refine fg S hk hP hj 3 (by decide) rfl hk.2.2.2.2.1 rfl d_X_unpin_24 ?_
    refine lv_is (y := T.pn j - 1) (upd_s) ?_
    have ho : o_unpin d T (nI j) = (T.pn j - 1, (T.dk, T.mm, T.pg, upd T.pn j (T.pn j - 1), T.di, T.mk, T.hd, T.rd, T.wr)) := by
      unfold o_unpin
      rw [if_pos c1, hcl]
    exact ret_Qi S hr hlk hS (by rw [ho]; exact ⟨rfl, fk, ti, ww, hP, hdk, hww, hT⟩) d_X_unpin_27
  · rw [if_neg c1] at hr1
    subst hr1
    refine lv_astore_nN (lv' := [(2, .null), (0, .ref a.p), (1, .int f)]) hx hb d_X_unpin_5 rfl hl (by decide) rfl (fun ls hl => ?_)
    refine lv_aload_nN hx hb d_X_unpin_6 rfl (lv_at hl 0 rfl) ?_
    refine lv_ifnonnullN hx hb d_X_unpin_7 ?_
    refine lv_bipush (v := -3) hx hb d_X_unpin_10 (by decide) ?_
    have ho : o_unpin d T f = (-3, T) := if_neg c1
    exact ret_Qi S hr hlk hS (by rw [ho]; exact ⟨rfl, fk, ti, ww, hP, hdk, hww, hT⟩) d_X_unpin_12
set_option maxHeartbeats 4000000 in
set_option maxRecDepth 100000 in
/-- a word of a frame with pins -/
theorem c_X_readWord (l : Launch) (E : EN) (d : DM) (a : XA) (T : St) (f o : Int32) (hdm : dm_ok d) : Met l y_X_readWord (Cond.code y_X_readWord b_X_readWord 4 (some .int) :: tbw) (k2_rm 1 21) (Pq E [.ref a.p, .int f, .int o] (RX E d a T)) (qi (fun r => r = o_readWord d T f o)) 0 0 nof := by
  refine ent rfl (by decide) (Nat.le_of_ble_eq_true rfl) ?_
  intro p e s m below meth c S hr hlk hnm hk hP ls hl
  obtain ⟨hx, hb, hml, hown, hts⟩ := id S
  have hl : lv_has ls 4 [(0, .ref a.p), (1, .int f), (2, .int o)] := hl
  obtain ⟨hn1, hn2, hP1, hP2, hw1, hw2⟩ := id hdm
  obtain ⟨fk, ti, ww, hP, hdk, hww, hT⟩ := hP
  refine lv_aload_n hx hb d_X_readWord_0 rfl (lv_at hl 0 rfl) ?_
  refine lv_iload_n hx hb d_X_readWord_1 rfl (lv_at hl 1 rfl) ?_
  refine aft_qr (runV (As := [.int f]) (rest := []) S hT0 hk (c_X_pinnedFrame l E d a (nI T.hd) T.rd T.wr fk ti T.pg T.pn T.di T.mk ww f hdm) k_X_108 rfl rfl ⟨Nat.le_of_ble_eq_true rfl, Nat.le_of_ble_eq_true rfl⟩ (xrec hk hP) hP hl.1 rfl rfl (Nat.le_of_ble_eq_true rfl) d_X_readWord_2 ⟨Nat.le_refl _, Nat.le_refl _⟩) (fun r hr1 => ?_)
  by_cases c1 : (0 ≤ f ∧ f < nI d.n) ∧ T.pn f.toNatClampNeg ≠ 0
  · obtain ⟨j, hj, rfl⟩ := inN2 (by omega) c1.1
    have hcl : (nI j).toNatClampNeg = j := nI_clamp (by omega)
    rw [if_pos c1, hcl] at hr1
    subst hr1
    refine lv_astore_n (lv' := [(3, .ref (a.fr j)), (0, .ref a.p), (1, .int (nI j)), (2, .int o)]) hx hb d_X_readWord_5 rfl hl (by decide) rfl (fun ls hl => ?_)
    refine lv_aload_n hx hb d_X_readWord_6 rfl (lv_at hl 0 rfl) ?_
    refine lv_ifnull hx hb d_X_readWord_7 ?_
    refine lv_aload_n hx hb d_X_readWord_10 rfl (lv_at hl 1 rfl) ?_
    refine lv_iload_n hx hb d_X_readWord_11 rfl (lv_at hl 3 rfl) ?_
    refine aft_qi (runV (As := [.int o]) (rest := []) S hT0 hk (c_X_isWord l E d a (nI T.hd) T.rd T.wr fk ti T.pg T.pn T.di T.mk ww o) k_X_111 rfl rfl ⟨Nat.le_of_ble_eq_true rfl, Nat.le_of_ble_eq_true rfl⟩ (xrec hk hP) hP hl.1 rfl rfl (Nat.le_of_ble_eq_true rfl) d_X_readWord_12 ⟨Nat.le_refl _, Nat.le_refl _⟩) (fun r2 hr2 => ?_)
    refine lv_if_ne (tgt := 22) hx hb d_X_readWord_15 (by decide) (fun c2 => ?_) (fun c2 => ?_)
    · have c3 : 0 ≤ o ∧ o < nI d.w := Classical.byContradiction fun z => c2 (by rw [hr2, if_neg z])
      obtain ⟨k, hk1, rfl⟩ := inN2 (by omega) c3
      have hcl2 : (nI k).toNatClampNeg = k := nI_clamp (by omega)
      refine lv_aload_n hx hb d_X_readWord_22 rfl (lv_at hl 0 rfl) ?_
      refine fg S hk hP hj 1 (by decide) rfl hk.2.2.1 rfl d_X_readWord_23 ?_
      refine lv_iload_n hx hb d_X_readWord_26 rfl (lv_at hl 3 rfl) ?_
      refine xw_ld S hk hP (by omega) (hj) (hk1) d_X_readWord_27 ?_
      exact ret_qi S hr hlk (by unfold o_readWord; rw [if_pos ⟨c1, c3⟩, hcl, hcl2]; exact hww j k hj hk1) d_X_readWord_28
    · have c3 : ¬ (0 ≤ o ∧ o < nI d.w) := fun z => by rw [hr2, if_pos z] at c2; exact absurd c2 (by decide)
      refine lv_iconst (v := 0) hx hb d_X_readWord_18 (by decide) ?_
      refine lv_goto (tgt := 28) hx hb d_X_readWord_19 (by decide) ?_
      exact ret_qi S hr hlk (by unfold o_readWord; rw [if_neg (fun z => c3 z.2)]) d_X_readWord_28
  · rw [if_neg c1] at hr1
    subst hr1
    refine lv_astore_nN (lv' := [(3, .null), (0, .ref a.p), (1, .int f), (2, .int o)]) hx hb d_X_readWord_5 rfl hl (by decide) rfl (fun ls hl => ?_)
    refine lv_aload_nN hx hb d_X_readWord_6 rfl (lv_at hl 0 rfl) ?_
    refine lv_ifnullN (tgt := 18) hx hb d_X_readWord_7 (by decide) ?_
    refine lv_iconst (v := 0) hx hb d_X_readWord_18 (by decide) ?_
    refine lv_goto (tgt := 28) hx hb d_X_readWord_19 (by decide) ?_
    exact ret_qi S hr hlk (by unfold o_readWord; rw [if_neg (fun z => c1 z.1)]) d_X_readWord_28
set_option maxHeartbeats 4000000 in
set_option maxRecDepth 100000 in
theorem c_X_writeWord (l : Launch) (E : EN) (d : DM) (a : XA) (T : St) (f o v : Int32) (hdm : dm_ok d) (A : Nat → Prop) (hD : xD E d a A) : Met l y_X_writeWord (Cond.code y_X_writeWord b_X_writeWord 5 (some .int) :: tbw) (k2_rm 1 21) (Pq E [.ref a.p, .int f, .int o, .int v] (RX E d a T)) (Qi (fun r H => r = (o_writeWord d T f o v).1 ∧ RX E d a (o_writeWord d T f o v).2 H) A) 0 0 A := by
  refine ent rfl (by decide) (Nat.le_of_ble_eq_true rfl) ?_
  intro p e s m below meth c S hr hlk hnm hk hP ls hl
  obtain ⟨hx, hb, hml, hown, hts⟩ := id S
  have hl : lv_has ls 5 [(0, .ref a.p), (1, .int f), (2, .int o), (3, .int v)] := hl
  obtain ⟨hn1, hn2, hP1, hP2, hw1, hw2⟩ := id hdm
  have hS : va_S A s.heap s.heap [] := va_S.rf
  obtain ⟨fk, ti, ww, hP, hdk, hww, hT⟩ := hP
  refine lv_aload_n hx hb d_X_writeWord_0 rfl (lv_at hl 0 rfl) ?_
  refine lv_iload_n hx hb d_X_writeWord_1 rfl (lv_at hl 1 rfl) ?_
  refine aft_qr (runV (As := [.int f]) (rest := []) S hT0 hk (c_X_pinnedFrame l E d a (nI T.hd) T.rd T.wr fk ti T.pg T.pn T.di T.mk ww f hdm) k_X_108 rfl rfl ⟨Nat.le_of_ble_eq_true rfl, Nat.le_of_ble_eq_true rfl⟩ (xrec hk hP) hP hl.1 rfl rfl (Nat.le_of_ble_eq_true rfl) d_X_writeWord_2 ⟨Nat.le_refl _, Nat.le_refl _⟩) (fun r hr1 => ?_)
  by_cases c1 : (0 ≤ f ∧ f < nI d.n) ∧ T.pn f.toNatClampNeg ≠ 0
  · obtain ⟨j, hj, rfl⟩ := inN2 (by omega) c1.1
    have hcl : (nI j).toNatClampNeg = j := nI_clamp (by omega)
    rw [if_pos c1, hcl] at hr1
    subst hr1
    refine lv_astore (lv' := [(4, .ref (a.fr j)), (0, .ref a.p), (1, .int (nI j)), (2, .int o), (3, .int v)]) hx hb d_X_writeWord_5 hl (by decide) rfl (fun ls hl => ?_)
    refine lv_aload hx hb d_X_writeWord_7 (lv_at hl 0 rfl) ?_
    refine lv_ifnonnull (tgt := 15) hx hb d_X_writeWord_9 (by decide) ?_
    refine lv_aload_n hx hb d_X_writeWord_15 rfl (lv_at hl 1 rfl) ?_
    refine lv_iload_n hx hb d_X_writeWord_16 rfl (lv_at hl 3 rfl) ?_
    refine aft_qi (runV (As := [.int o]) (rest := []) S hT0 hk (c_X_isWord l E d a (nI T.hd) T.rd T.wr fk ti T.pg T.pn T.di T.mk ww o) k_X_111 rfl rfl ⟨Nat.le_of_ble_eq_true rfl, Nat.le_of_ble_eq_true rfl⟩ (xrec hk hP) hP hl.1 rfl rfl (Nat.le_of_ble_eq_true rfl) d_X_writeWord_17 ⟨Nat.le_refl _, Nat.le_refl _⟩) (fun r2 hr2 => ?_)
    refine lv_if_ne (tgt := 26) hx hb d_X_writeWord_20 (by decide) (fun c2 => ?_) (fun c2 => ?_)
    · have c3 : 0 ≤ o ∧ o < nI d.w := Classical.byContradiction fun z => c2 (by rw [hr2, if_neg z])
      obtain ⟨k, hk1, rfl⟩ := inN2 (by omega) c3
      have hcl2 : (nI k).toNatClampNeg = k := nI_clamp (by omega)
      refine lv_aload hx hb d_X_writeWord_26 (lv_at hl 0 rfl) ?_
      refine fg S hk hP hj 1 (by decide) rfl hk.2.2.1 rfl d_X_writeWord_28 ?_
      refine lv_iload_n hx hb d_X_writeWord_31 rfl (lv_at hl 3 rfl) ?_
      refine lv_iload_n hx hb d_X_writeWord_32 rfl (lv_at hl 4 rfl) ?_
      refine xw_st S hk hD hS hP (by omega) (hj) (hk1) d_X_writeWord_33 (fun H locs hP hS => ?_)
      refine lv_aload hx hb d_X_writeWord_34 (lv_at hl 0 rfl) ?_
      refine lv_iconst (v := 1) hx hb d_X_writeWord_36 (by decide) ?_
      refine fp_dirty S hk hD hS hP hj rfl rfl d_X_writeWord_37 (fun H locs hP hS => ?_)
      refine lv_iconst (v := 0) hx hb d_X_writeWord_40 (by decide) ?_
      have ho : o_writeWord d T (nI j) (nI k) v = (0, (T.dk, va_up T.mm j (upd (T.mm j) k v), T.pg, T.pn, upd T.di j 1, T.mk, T.hd, T.rd, T.wr)) := by
        unfold o_writeWord
        rw [if_pos c1, if_pos c3, hcl, hcl2]
      exact ret_Qi S hr hlk hS (by rw [ho]; exact ⟨rfl, fk, ti, _, hP, hdk, up_ww hww hj, hT⟩) d_X_writeWord_41
    · have c3 : ¬ (0 ≤ o ∧ o < nI d.w) := fun z => by rw [hr2, if_pos z] at c2; exact absurd c2 (by decide)
      refine lv_bipush (v := -4) hx hb d_X_writeWord_23 (by decide) ?_
      have ho : o_writeWord d T (nI j) o v = (-4, T) := by
        unfold o_writeWord
        rw [if_pos c1, if_neg c3]
      exact ret_Qi S hr hlk hS (by rw [ho]; exact ⟨rfl, fk, ti, ww, hP, hdk, hww, hT⟩) d_X_writeWord_25
  · rw [if_neg c1] at hr1
    subst hr1
    refine lv_astoreN (lv' := [(4, .null), (0, .ref a.p), (1, .int f), (2, .int o), (3, .int v)]) hx hb d_X_writeWord_5 hl (by decide) rfl (fun ls hl => ?_)
    refine lv_aloadN hx hb d_X_writeWord_7 (lv_at hl 0 rfl) ?_
    refine lv_ifnonnullN hx hb d_X_writeWord_9 ?_
    refine lv_bipush (v := -3) hx hb d_X_writeWord_12 (by decide) ?_
    have ho : o_writeWord d T f o v = (-3, T) := if_neg c1
    exact ret_Qi S hr hlk hS (by rw [ho]; exact ⟨rfl, fk, ti, ww, hP, hdk, hww, hT⟩) d_X_writeWord_14
set_option maxHeartbeats 4000000 in
set_option maxRecDepth 100000 in
theorem c_X_flush (l : Launch) (E : EN) (d : DM) (a : XA) (T : St) (q : Int32) {N : Nat} (hI : Inv d N T) (hN : N < 2 ^ 31) (hdm : dm_ok d) (A : Nat → Prop) (hD : xD E d a A) : Met l y_X_flush (Cond.code y_X_flush b_X_flush 3 (some .int) :: tbw) (k2_rm 3 63) (Pq E [.ref a.p, .int q] (RX E d a T)) (Qi (fun r H => r = (o_flush d T q).1 ∧ RX E d a (o_flush d T q).2 H) A) 0 0 A := by
  refine ent rfl (by decide) (Nat.le_of_ble_eq_true rfl) ?_
  intro p e s m below meth c S hr hlk hnm hk hP ls hl
  obtain ⟨hx, hb, hml, hown, hts⟩ := id S
  have hl : lv_has ls 3 [(0, .ref a.p), (1, .int q)] := hl
  obtain ⟨hn1, hn2, hP1, hP2, hw1, hw2⟩ := id hdm
  have hS : va_S A s.heap s.heap [] := va_S.rf
  obtain ⟨fk, ti, ww, hP, hdk, hww, hT⟩ := hP
  refine lv_aload_n hx hb d_X_flush_0 rfl (lv_at hl 0 rfl) ?_
  refine lv_iload_n hx hb d_X_flush_1 rfl (lv_at hl 1 rfl) ?_
  refine aft_qr (runV (As := [.int q]) (rest := []) S hT0 hk (c_X_find l E d a (nI T.hd) T.rd T.wr fk ti T.pg T.pn T.di T.mk ww q hdm hI.pgOk hT) k_X_93 rfl rfl ⟨Nat.le_of_ble_eq_true rfl, Nat.le_of_ble_eq_true rfl⟩ (xrec hk hP) hP hl.1 rfl rfl (Nat.le_of_ble_eq_true rfl) d_X_flush_2 ⟨Nat.le_refl _, Nat.le_refl _⟩) (fun r hr1 => ?_)
  subst hr1
  cases hfo : fo T.pg q d.n with
  | none =>
    refine lv_astore_nN (lv' := [(2, .null), (0, .ref a.p), (1, .int q)]) hx hb d_X_flush_5 rfl hl (by decide) rfl (fun ls hl => ?_)
    refine lv_aload_nN hx hb d_X_flush_6 rfl (lv_at hl 0 rfl) ?_
    refine lv_ifnullN (tgt := 17) hx hb d_X_flush_7 (by decide) ?_
    refine lv_iconst (v := 0) hx hb d_X_flush_17 (by decide) ?_
    have ho : o_flush d T q = (0, T) := by simp only [o_flush, hfo]
    exact ret_Qi S hr hlk hS (by rw [ho]; exact ⟨rfl, fk, ti, ww, hP, hdk, hww, hT⟩) d_X_flush_18
  | some i =>
    obtain ⟨hi, hq0, hpq⟩ := fo_some hfo
    have hne : T.pg i ≠ -1 := fun z => by rw [← hpq, z] at hq0; exact absurd hq0 (by decide)
    obtain ⟨k, hk1, ek⟩ : ∃ k, k < d.P ∧ T.pg i = nI k := (hI.2.1 i hi).resolve_left hne
    have hcl : (T.pg i).toNatClampNeg = k := by rw [ek]; exact nI_clamp (by omega)
    refine lv_astore_n (lv' := [(2, .ref (a.fr i)), (0, .ref a.p), (1, .int q)]) hx hb d_X_flush_5 rfl hl (by decide) rfl (fun ls hl => ?_)
    refine lv_aload_n hx hb d_X_flush_6 rfl (lv_at hl 0 rfl) ?_
    refine lv_ifnull hx hb d_X_flush_7 ?_
    refine lv_aload_n hx hb d_X_flush_10 rfl (lv_at hl 0 rfl) ?_
    refine fg S hk hP hi 4 (by decide) rfl hk.2.2.2.2.2.1 rfl d_X_flush_11 ?_
    refine lv_if_ne (tgt := 19) hx hb d_X_flush_14 (by decide) (fun c1 => ?_) (fun c1 => ?_)
    · refine lv_aload_n hx hb d_X_flush_19 rfl (lv_at hl 1 rfl) ?_
      refine lv_aload_n hx hb d_X_flush_20 rfl (lv_at hl 0 rfl) ?_
      refine aft_Qv (runV (As := [.ref (a.fr i)]) (rest := []) S hT0 hk (c_X_write l E d a (nI T.hd) T.rd T.wr fk ti T.pg T.pn T.di T.mk ww i hi hdm hk1 ek A hD) k_X_86 rfl rfl ⟨Nat.le_of_ble_eq_true rfl, Nat.le_of_ble_eq_true rfl⟩ (xrec hk hP) hP hl.1 rfl rfl (Nat.le_of_ble_eq_true rfl) d_X_flush_21 ⟨Nat.le_refl _, Nat.le_refl _⟩) hS (fun _ h => h) (fun H locs hP _ _ hS => ?_)
      refine lv_iconst (v := 1) hx hb d_X_flush_24 (by decide) ?_
      have ho : o_flush d T q = (1, s_wr T i) := by simp only [o_flush, hfo, if_neg c1]
      refine ret_Qi S hr hlk hS ?_ d_X_flush_25
      rw [ho]
      refine ⟨rfl, _, ti, ww, hP, ?_, hww, hT⟩
      show ∀ p j, p < d.P → j < d.w → va_cpy (ww i) fk 0 (k * d.w) d.w (p * d.w + j) = va_up T.dk (T.pg i).toNatClampNeg (T.mm i) p j
      rw [hcl]
      exact cp_wr hdk hww hi
    · refine lv_iconst (v := 0) hx hb d_X_flush_17 (by decide) ?_
      have ho : o_flush d T q = (0, T) := by simp only [o_flush, hfo, if_pos c1]
      exact ret_Qi S hr hlk hS (by rw [ho]; exact ⟨rfl, fk, ti, ww, hP, hdk, hww, hT⟩) d_X_flush_18
set_option maxHeartbeats 4000000 in
set_option maxRecDepth 100000 in
theorem c_X_drop (l : Launch) (E : EN) (d : DM) (a : XA) (T : St) (q : Int32) {N : Nat} (hI : Inv d N T) (hN : N < 2 ^ 31) (hdm : dm_ok d) (A : Nat → Prop) (hD : xD E d a A) : Met l y_X_drop (Cond.code y_X_drop b_X_drop 3 (some .boolean) :: tbw) (k2_rm 3 67) (Pq E [.ref a.p, .int q] (RX E d a T)) (Qi (fun r H => r = (o_drop d T q).1 ∧ RX E d a (o_drop d T q).2 H) A) 0 0 A := by
  refine ent rfl (by decide) (Nat.le_of_ble_eq_true rfl) ?_
  intro p e s m below meth c S hr hlk hnm hk hP ls hl
  obtain ⟨hx, hb, hml, hown, hts⟩ := id S
  have hl : lv_has ls 3 [(0, .ref a.p), (1, .int q)] := hl
  obtain ⟨hn1, hn2, hP1, hP2, hw1, hw2⟩ := id hdm
  have hS : va_S A s.heap s.heap [] := va_S.rf
  obtain ⟨fk, ti, ww, hP, hdk, hww, hT⟩ := hP
  refine lv_aload_n hx hb d_X_drop_0 rfl (lv_at hl 0 rfl) ?_
  refine lv_iload_n hx hb d_X_drop_1 rfl (lv_at hl 1 rfl) ?_
  refine aft_qr (runV (As := [.int q]) (rest := []) S hT0 hk (c_X_find l E d a (nI T.hd) T.rd T.wr fk ti T.pg T.pn T.di T.mk ww q hdm hI.pgOk hT) k_X_93 rfl rfl ⟨Nat.le_of_ble_eq_true rfl, Nat.le_of_ble_eq_true rfl⟩ (xrec hk hP) hP hl.1 rfl rfl (Nat.le_of_ble_eq_true rfl) d_X_drop_2 ⟨Nat.le_refl _, Nat.le_refl _⟩) (fun r hr1 => ?_)
  subst hr1
  cases hfo : fo T.pg q d.n with
  | none =>
    refine lv_astore_nN (lv' := [(2, .null), (0, .ref a.p), (1, .int q)]) hx hb d_X_drop_5 rfl hl (by decide) rfl (fun ls hl => ?_)
    refine lv_aload_nN hx hb d_X_drop_6 rfl (lv_at hl 0 rfl) ?_
    refine lv_ifnullN (tgt := 17) hx hb d_X_drop_7 (by decide) ?_
    refine lv_iconst (v := 0) hx hb d_X_drop_17 (by decide) ?_
    have ho : o_drop d T q = (0, T) := by simp only [o_drop, hfo]
    exact ret_Qz S hr hlk rfl hS (by rw [ho]; exact ⟨rfl, fk, ti, ww, hP, hdk, hww, hT⟩) d_X_drop_18
  | some i =>
    obtain ⟨hi, hq0, hpq⟩ := fo_some hfo
    have hne : T.pg i ≠ -1 := fun z => by rw [← hpq, z] at hq0; exact absurd hq0 (by decide)
    obtain ⟨k, hk1, ek⟩ : ∃ k, k < d.P ∧ T.pg i = nI k := (hI.2.1 i hi).resolve_left hne
    have hcl : (T.pg i).toNatClampNeg = k := by rw [ek]; exact nI_clamp (by omega)
    refine lv_astore_n (lv' := [(2, .ref (a.fr i)), (0, .ref a.p), (1, .int q)]) hx hb d_X_drop_5 rfl hl (by decide) rfl (fun ls hl => ?_)
    refine lv_aload_n hx hb d_X_drop_6 rfl (lv_at hl 0 rfl) ?_
    refine lv_ifnull hx hb d_X_drop_7 ?_
    refine lv_aload_n hx hb d_X_drop_10 rfl (lv_at hl 0 rfl) ?_
    refine fg S hk hP hi 3 (by decide) rfl hk.2.2.2.2.1 rfl d_X_drop_11 ?_
    refine lv_if_le (tgt := 19) hx hb d_X_drop_14 (by decide) (fun c1 => ?_) (fun c1 => ?_)
    · refine lv_aload_n hx hb d_X_drop_19 rfl (lv_at hl 1 rfl) ?_
      refine lv_aload_n hx hb d_X_drop_20 rfl (lv_at hl 0 rfl) ?_
      refine aft_Qv (runV (As := [.ref (a.fr i)]) (rest := []) S hT0 hk (c_X_forget l E d a (nI T.hd) T.rd T.wr fk ti T.pg T.pn T.di T.mk ww i hi hdm hI.pgOk hT hne A hD) k_X_90 rfl rfl ⟨Nat.le_of_ble_eq_true rfl, Nat.le_of_ble_eq_true rfl⟩ (xrec hk hP) hP hl.1 rfl rfl (Nat.le_of_ble_eq_true rfl) d_X_drop_21 ⟨Nat.le_refl _, Nat.le_refl _⟩) hS (fun _ h => h) (fun H locs hP _ _ hS => ?_)
      obtain ⟨ti2, hP, hT2⟩ := hP
      refine lv_iconst (v := 1) hx hb d_X_drop_24 (by decide) ?_
      have ho : o_drop d T q = (1, s_em T i) := by simp only [o_drop, hfo, if_neg (Int32.not_lt.mpr c1)]
      exact ret_Qz S hr hlk rfl hS (by rw [ho]; exact ⟨rfl, fk, ti2, ww, hP, hdk, hww, hT2⟩) d_X_drop_25
    · refine lv_iconst (v := 0) hx hb d_X_drop_17 (by decide) ?_
      have ho : o_drop d T q = (0, T) := by simp only [o_drop, hfo, if_pos (Int32.not_le.mp c1)]
      exact ret_Qz S hr hlk rfl hS (by rw [ho]; exact ⟨rfl, fk, ti, ww, hP, hdk, hww, hT⟩) d_X_drop_18
set_option maxHeartbeats 4000000 in
set_option maxRecDepth 100000 in
theorem c_X_copy (l : Launch) (E : EN) (d : DM) (a : XA) (T : St) (q q2 : Int32) {N : Nat} (hI : Inv d N T) (hN : N < 2 ^ 31) (hdm : dm_ok d) (A : Nat → Prop) (hD : xD E d a A) : Met l y_X_copy (Cond.code y_X_copy b_X_copy 5 (some .int) :: tbw) (k2_rm 3 63) (Pq E [.ref a.p, .int q, .int q2] (RX E d a T)) (Qi (fun r H => r = (o_copy d T q q2).1 ∧ RX E d a (o_copy d T q q2).2 H) A) 0 0 A := by
  refine ent rfl (by decide) (Nat.le_of_ble_eq_true rfl) ?_
  intro p e s m below meth c S hr hlk hnm hk hP ls hl
  obtain ⟨hx, hb, hml, hown, hts⟩ := id S
  have hl : lv_has ls 5 [(0, .ref a.p), (1, .int q), (2, .int q2)] := hl
  obtain ⟨hn1, hn2, hP1, hP2, hw1, hw2⟩ := id hdm
  have hS : va_S A s.heap s.heap [] := va_S.rf
  obtain ⟨fk, ti, ww, hP, hdk, hww, hT⟩ := hP
  refine lv_aload_n hx hb d_X_copy_0 rfl (lv_at hl 0 rfl) ?_
  refine lv_iload_n hx hb d_X_copy_1 rfl (lv_at hl 1 rfl) ?_
  refine aft_qi (runV (As := [.int q]) (rest := []) S hT0 hk (c_X_isPage l E d a (nI T.hd) T.rd T.wr fk ti T.pg T.pn T.di T.mk ww q) k_X_60 rfl rfl ⟨Nat.le_of_ble_eq_true rfl, Nat.le_of_ble_eq_true rfl⟩ (xrec hk hP) hP hl.1 rfl rfl (Nat.le_of_ble_eq_true rfl) d_X_copy_2 ⟨Nat.le_refl _, Nat.le_refl _⟩) (fun r1 hr1 => ?_)
  refine lv_if_eq (tgt := 16) hx hb d_X_copy_5 (by decide) (fun b1 => ?_) (fun b1 => ?_)
  · have c1 : ¬ (0 ≤ q ∧ q < nI d.P) := fun z => by rw [hr1, if_pos z] at b1; exact absurd b1 (by decide)
    refine lv_bipush (v := -2) hx hb d_X_copy_16 (by decide) ?_
    have ho : o_copy d T q q2 = (-2, T) := if_neg (fun z => c1 z.1)
    exact ret_Qi S hr hlk hS (by rw [ho]; exact ⟨rfl, fk, ti, ww, hP, hdk, hww, hT⟩) d_X_copy_18
  · have c1 : 0 ≤ q ∧ q < nI d.P := Classical.byContradiction fun z => b1 (by rw [hr1, if_neg z])
    refine lv_aload_n hx hb d_X_copy_8 rfl (lv_at hl 0 rfl) ?_
    refine lv_iload_n hx hb d_X_copy_9 rfl (lv_at hl 2 rfl) ?_
    refine aft_qi (runV (As := [.int q2]) (rest := []) S hT0 hk (c_X_isPage l E d a (nI T.hd) T.rd T.wr fk ti T.pg T.pn T.di T.mk ww q2) k_X_60 rfl rfl ⟨Nat.le_of_ble_eq_true rfl, Nat.le_of_ble_eq_true rfl⟩ (xrec hk hP) hP hl.1 rfl rfl (Nat.le_of_ble_eq_true rfl) d_X_copy_10 ⟨Nat.le_refl _, Nat.le_refl _⟩) (fun r2 hr2 => ?_)
    refine lv_if_ne (tgt := 19) hx hb d_X_copy_13 (by decide) (fun b2 => ?_) (fun b2 => ?_)
    · have c2 : 0 ≤ q2 ∧ q2 < nI d.P := Classical.byContradiction fun z => b2 (by rw [hr2, if_neg z])
      refine lv_aload_n hx hb d_X_copy_19 rfl (lv_at hl 0 rfl) ?_
      refine lv_iload_n hx hb d_X_copy_20 rfl (lv_at hl 1 rfl) ?_
      refine aft_qr (runV (As := [.int q]) (rest := []) S hT0 hk (c_X_find l E d a (nI T.hd) T.rd T.wr fk ti T.pg T.pn T.di T.mk ww q hdm hI.pgOk hT) k_X_93 rfl rfl ⟨Nat.le_of_ble_eq_true rfl, Nat.le_of_ble_eq_true rfl⟩ (xrec hk hP) hP hl.1 rfl rfl (Nat.le_of_ble_eq_true rfl) d_X_copy_21 ⟨Nat.le_refl _, Nat.le_refl _⟩) (fun r3 hr3 => ?_)
      subst hr3
      cases hfo : fo T.pg q d.n with
      | none =>
        refine lv_astore_nN (lv' := [(3, .null), (0, .ref a.p), (1, .int q), (2, .int q2)]) hx hb d_X_copy_24 rfl hl (by decide) rfl (fun ls hl => ?_)
        refine lv_aload_nN hx hb d_X_copy_25 rfl (lv_at hl 0 rfl) ?_
        refine lv_ifnullN (tgt := 36) hx hb d_X_copy_26 (by decide) ?_
        refine lv_bipush (v := -3) hx hb d_X_copy_36 (by decide) ?_
        have ho : o_copy d T q q2 = (-3, T) := by simp only [o_copy, if_pos (And.intro c1 c2), hfo]
        exact ret_Qi S hr hlk hS (by rw [ho]; exact ⟨rfl, fk, ti, ww, hP, hdk, hww, hT⟩) d_X_copy_38
      | some i =>
        have hi : i < d.n := (fo_some hfo).1
        refine lv_astore_n (lv' := [(3, .ref (a.fr i)), (0, .ref a.p), (1, .int q), (2, .int q2)]) hx hb d_X_copy_24 rfl hl (by decide) rfl (fun ls hl => ?_)
        refine lv_aload_n hx hb d_X_copy_25 rfl (lv_at hl 0 rfl) ?_
        refine lv_ifnull hx hb d_X_copy_26 ?_
        refine lv_aload_n hx hb d_X_copy_29 rfl (lv_at hl 0 rfl) ?_
        refine fg S hk hP hi 3 (by decide) rfl hk.2.2.2.2.1 rfl d_X_copy_30 ?_
        refine lv_if_ne (tgt := 39) hx hb d_X_copy_33 (by decide) (fun b3 => ?_) (fun b3 => ?_)
        · have ho : o_copy d T q q2 = (0, (T.dk, va_up T.mm i (o_src d T q2), T.pg, T.pn, upd T.di i 1, T.mk, T.hd, T.rd, T.wr)) := by simp only [o_copy, if_pos (And.intro c1 c2), hfo, if_neg b3]
          refine lv_aload_n hx hb d_X_copy_39 rfl (lv_at hl 1 rfl) ?_
          refine lv_iload_n hx hb d_X_copy_40 rfl (lv_at hl 3 rfl) ?_
          refine aft_qr (runV (As := [.int q2]) (rest := []) S hT0 hk (c_X_find l E d a (nI T.hd) T.rd T.wr fk ti T.pg T.pn T.di T.mk ww q2 hdm hI.pgOk hT) k_X_93 rfl rfl ⟨Nat.le_of_ble_eq_true rfl, Nat.le_of_ble_eq_true rfl⟩ (xrec hk hP) hP hl.1 rfl rfl (Nat.le_of_ble_eq_true rfl) d_X_copy_41 ⟨Nat.le_refl _, Nat.le_refl _⟩) (fun r4 hr4 => ?_)
          subst hr4
          cases hf2 : fo T.pg q2 d.n with
          | none =>
            have hsrc : o_src d T q2 = T.dk q2.toNatClampNeg := by simp only [o_src, hf2]
            obtain ⟨k, hk1, rfl⟩ := inN2 (by omega) c2
            have hcl : (nI k).toNatClampNeg = k := nI_clamp (by omega)
            have hb1 : k * d.w + d.w ≤ d.P * d.w := by
              have := Nat.mul_le_mul_right d.w (show k + 1 ≤ d.P by omega)
              rw [Nat.add_mul, Nat.one_mul] at this
              exact this
            have hb2 : d.P * d.w ≤ 200 * 8 := Nat.mul_le_mul hP2 hw2
            refine lv_astoreN (lv' := [(4, .null), (3, .ref (a.fr i)), (0, .ref a.p), (1, .int q), (2, .int (nI k))]) hx hb d_X_copy_44 hl (by decide) rfl (fun ls hl => ?_)
            refine lv_aloadN hx hb d_X_copy_46 (lv_at hl 0 rfl) ?_
            refine lv_ifnullN (tgt := 72) hx hb d_X_copy_48 (by decide) ?_
            refine lv_aload_n hx hb d_X_copy_72 rfl (lv_at hl 2 rfl) ?_
            refine xg S hk hP 2 (by decide) rfl fl_X_31 rfl d_X_copy_73 ?_
            refine lv_iload_n hx hb d_X_copy_76 rfl (lv_at hl 4 rfl) ?_
            refine lv_aload_n hx hb d_X_copy_77 rfl (lv_at hl 2 rfl) ?_
            refine xg S hk hP 1 (by decide) rfl fl_X_28 rfl d_X_copy_78 ?_
            refine lv_imul hx hb d_X_copy_81 ?_
            refine lv_is (y := nI (k * d.w)) (pk_mul k d.w) ?_
            refine lv_aload_n hx hb d_X_copy_82 rfl (lv_at hl 1 rfl) ?_
            refine fg S hk hP hi 1 (by decide) rfl hk.2.2.1 rfl d_X_copy_83 ?_
            refine lv_iconst (v := 0) hx hb d_X_copy_86 (by decide) ?_
            refine lv_aload_n hx hb d_X_copy_87 rfl (lv_at hl 2 rfl) ?_
            refine xg S hk hP 1 (by decide) rfl fl_X_28 rfl d_X_copy_88 ?_
            refine xc_dw S hk hD hS hP hl.1 hi (by omega) hb1 (by omega) (Nat.le_of_ble_eq_true rfl) (by decide +kernel) d_X_copy_91 (fun H locs hP hS => ?_)
            refine lv_aload_n hx hb d_X_copy_94 rfl (lv_at hl 1 rfl) ?_
            refine lv_iconst (v := 1) hx hb d_X_copy_95 (by decide) ?_
            refine fp_dirty S hk hD hS hP hi rfl rfl d_X_copy_96 (fun H locs hP hS => ?_)
            refine lv_iconst (v := 0) hx hb d_X_copy_99 (by decide) ?_
            refine ret_Qi S hr hlk hS ?_ d_X_copy_100
            rw [ho, hsrc, hcl]
            exact ⟨rfl, fk, ti, _, hP, hdk, cp_ld hdk hww hk1, hT⟩
          | some g =>
            have hg : g < d.n := (fo_some hf2).1
            have hsrc : o_src d T q2 = T.mm g := by simp only [o_src, hf2]
            refine lv_astore (lv' := [(4, .ref (a.fr g)), (3, .ref (a.fr i)), (0, .ref a.p), (1, .int q), (2, .int q2)]) hx hb d_X_copy_44 hl (by decide) rfl (fun ls hl => ?_)
            refine lv_aload hx hb d_X_copy_46 (lv_at hl 0 rfl) ?_
            refine lv_ifnull hx hb d_X_copy_48 ?_
            refine lv_aload hx hb d_X_copy_51 (lv_at hl 0 rfl) ?_
            refine fg S hk hP hg 1 (by decide) rfl hk.2.2.1 rfl d_X_copy_53 ?_
            refine lv_iconst (v := 0) hx hb d_X_copy_56 (by decide) ?_
            refine lv_aload_n hx hb d_X_copy_57 rfl (lv_at hl 1 rfl) ?_
            refine fg S hk hP hi 1 (by decide) rfl hk.2.2.1 rfl d_X_copy_58 ?_
            refine lv_iconst (v := 0) hx hb d_X_copy_61 (by decide) ?_
            refine lv_aload_n hx hb d_X_copy_62 rfl (lv_at hl 2 rfl) ?_
            refine xg S hk hP 1 (by decide) rfl fl_X_28 rfl d_X_copy_63 ?_
            refine xc_ww S hk hD hS hP hl.1 hi hg (by omega) (Nat.le_of_ble_eq_true rfl) (by decide +kernel) d_X_copy_66 (fun H locs hP hS => ?_)
            refine lv_goto (tgt := 94) hx hb d_X_copy_69 (by decide) ?_
            refine lv_aload_n hx hb d_X_copy_94 rfl (lv_at hl 1 rfl) ?_
            refine lv_iconst (v := 1) hx hb d_X_copy_95 (by decide) ?_
            refine fp_dirty S hk hD hS hP hi rfl rfl d_X_copy_96 (fun H locs hP hS => ?_)
            refine lv_iconst (v := 0) hx hb d_X_copy_99 (by decide) ?_
            refine ret_Qi S hr hlk hS ?_ d_X_copy_100
            rw [ho, hsrc]
            exact ⟨rfl, fk, ti, _, hP, hdk, cp_ww hww hg, hT⟩
        · refine lv_bipush (v := -3) hx hb d_X_copy_36 (by decide) ?_
          have ho : o_copy d T q q2 = (-3, T) := by simp only [o_copy, if_pos (And.intro c1 c2), hfo, if_pos b3]
          exact ret_Qi S hr hlk hS (by rw [ho]; exact ⟨rfl, fk, ti, ww, hP, hdk, hww, hT⟩) d_X_copy_38
    · have c2 : ¬ (0 ≤ q2 ∧ q2 < nI d.P) := fun z => by rw [hr2, if_pos z] at b2; exact absurd b2 (by decide)
      refine lv_bipush (v := -2) hx hb d_X_copy_16 (by decide) ?_
      have ho : o_copy d T q q2 = (-2, T) := if_neg (fun z => c2 z.2)
      exact ret_Qi S hr hlk hS (by rw [ho]; exact ⟨rfl, fk, ti, ww, hP, hdk, hww, hT⟩) d_X_copy_18
set_option maxHeartbeats 4000000 in
set_option maxRecDepth 100000 in
theorem c_X_diskWord (l : Launch) (E : EN) (d : DM) (a : XA) (T : St) (q o : Int32) (hdm : dm_ok d) : Met l y_X_diskWord (Cond.code y_X_diskWord b_X_diskWord 3 (some .int) :: tbw) (k2_rm 1 21) (Pq E [.ref a.p, .int q, .int o] (RX E d a T)) (qi (fun r => r = o_diskWord d T q o)) 0 0 nof := by
  refine ent rfl (by decide) (Nat.le_of_ble_eq_true rfl) ?_
  intro p e s m below meth c S hr hlk hnm hk hP ls hl
  obtain ⟨hx, hb, hml, hown, hts⟩ := id S
  have hl : lv_has ls 3 [(0, .ref a.p), (1, .int q), (2, .int o)] := hl
  obtain ⟨hn1, hn2, hP1, hP2, hw1, hw2⟩ := id hdm
  obtain ⟨fk, ti, ww, hP, hdk, hww, hT⟩ := hP
  refine lv_aload_n hx hb d_X_diskWord_0 rfl (lv_at hl 0 rfl) ?_
  refine lv_iload_n hx hb d_X_diskWord_1 rfl (lv_at hl 1 rfl) ?_
  refine aft_qi (runV (As := [.int q]) (rest := []) S hT0 hk (c_X_isPage l E d a (nI T.hd) T.rd T.wr fk ti T.pg T.pn T.di T.mk ww q) k_X_60 rfl rfl ⟨Nat.le_of_ble_eq_true rfl, Nat.le_of_ble_eq_true rfl⟩ (xrec hk hP) hP hl.1 rfl rfl (Nat.le_of_ble_eq_true rfl) d_X_diskWord_2 ⟨Nat.le_refl _, Nat.le_refl _⟩) (fun r1 hr1 => ?_)
  refine lv_if_eq (tgt := 32) hx hb d_X_diskWord_5 (by decide) (fun b1 => ?_) (fun b1 => ?_)
  · have c1 : ¬ (0 ≤ q ∧ q < nI d.P) := fun z => by rw [hr1, if_pos z] at b1; exact absurd b1 (by decide)
    refine lv_iconst (v := 0) hx hb d_X_diskWord_32 (by decide) ?_
    exact ret_qi S hr hlk (by unfold o_diskWord; rw [if_neg (fun z => c1 z.1)]) d_X_diskWord_33
  · have c1 : 0 ≤ q ∧ q < nI d.P := Classical.byContradiction fun z => b1 (by rw [hr1, if_neg z])
    refine lv_aload_n hx hb d_X_diskWord_8 rfl (lv_at hl 0 rfl) ?_
    refine lv_iload_n hx hb d_X_diskWord_9 rfl (lv_at hl 2 rfl) ?_
    refine aft_qi (runV (As := [.int o]) (rest := []) S hT0 hk (c_X_isWord l E d a (nI T.hd) T.rd T.wr fk ti T.pg T.pn T.di T.mk ww o) k_X_111 rfl rfl ⟨Nat.le_of_ble_eq_true rfl, Nat.le_of_ble_eq_true rfl⟩ (xrec hk hP) hP hl.1 rfl rfl (Nat.le_of_ble_eq_true rfl) d_X_diskWord_10 ⟨Nat.le_refl _, Nat.le_refl _⟩) (fun r2 hr2 => ?_)
    refine lv_if_eq (tgt := 32) hx hb d_X_diskWord_13 (by decide) (fun b2 => ?_) (fun b2 => ?_)
    · have c2 : ¬ (0 ≤ o ∧ o < nI d.w) := fun z => by rw [hr2, if_pos z] at b2; exact absurd b2 (by decide)
      refine lv_iconst (v := 0) hx hb d_X_diskWord_32 (by decide) ?_
      exact ret_qi S hr hlk (by unfold o_diskWord; rw [if_neg (fun z => c2 z.2)]) d_X_diskWord_33
    · have c2 : 0 ≤ o ∧ o < nI d.w := Classical.byContradiction fun z => b2 (by rw [hr2, if_neg z])
      obtain ⟨k, hk1, rfl⟩ := inN2 (by omega) c1
      obtain ⟨j, hj, rfl⟩ := inN2 (by omega) c2
      have hcl : (nI k).toNatClampNeg = k := nI_clamp (by omega)
      have hcl2 : (nI j).toNatClampNeg = j := nI_clamp (by omega)
      have hb1 : k * d.w + d.w ≤ d.P * d.w := by
        have := Nat.mul_le_mul_right d.w (show k + 1 ≤ d.P by omega)
        rw [Nat.add_mul, Nat.one_mul] at this
        exact this
      have hb2 : d.P * d.w ≤ 200 * 8 := Nat.mul_le_mul hP2 hw2
      refine lv_aload_n hx hb d_X_diskWord_16 rfl (lv_at hl 0 rfl) ?_
      refine xg S hk hP 2 (by decide) rfl fl_X_31 rfl d_X_diskWord_17 ?_
      refine lv_iload_n hx hb d_X_diskWord_20 rfl (lv_at hl 1 rfl) ?_
      refine lv_aload_n hx hb d_X_diskWord_21 rfl (lv_at hl 0 rfl) ?_
      refine xg S hk hP 1 (by decide) rfl fl_X_28 rfl d_X_diskWord_22 ?_
      refine lv_imul hx hb d_X_diskWord_25 ?_
      refine lv_iload_n hx hb d_X_diskWord_26 rfl (lv_at hl 2 rfl) ?_
      refine lv_iadd hx hb d_X_diskWord_27 ?_
      refine lv_is (y := nI (k * d.w + j)) (by rw [pk_mul, nI_add]) ?_
      refine xd_ld S hk hP (by omega) (by omega) d_X_diskWord_28 ?_
      refine lv_goto (tgt := 33) hx hb d_X_diskWord_29 (by decide) ?_
      exact ret_qi S hr hlk (by unfold o_diskWord; rw [if_pos ⟨c1, c2⟩, hcl, hcl2]; exact hdk k j hk1 hj) d_X_diskWord_33
set_option maxHeartbeats 4000000 in
set_option maxRecDepth 100000 in
theorem c_X_resident (l : Launch) (E : EN) (d : DM) (a : XA) (T : St) (q : Int32) {N : Nat} (hI : Inv d N T) (hN : N < 2 ^ 31) (hdm : dm_ok d)  : Met l y_X_resident (Cond.code y_X_resident b_X_resident 2 (some .boolean) :: tbw) (k2_rm 3 63) (Pq E [.ref a.p, .int q] (RX E d a T)) (qi (fun r => r = o_resident d T q)) 0 0 nof := by
  refine ent rfl (by decide) (Nat.le_of_ble_eq_true rfl) ?_
  intro p e s m below meth c S hr hlk hnm hk hP ls hl
  obtain ⟨hx, hb, hml, hown, hts⟩ := id S
  have hl : lv_has ls 2 [(0, .ref a.p), (1, .int q)] := hl
  obtain ⟨hn1, hn2, hP1, hP2, hw1, hw2⟩ := id hdm
  obtain ⟨fk, ti, ww, hP, hdk, hww, hT⟩ := hP
  refine lv_aload_n hx hb d_X_resident_0 rfl (lv_at hl 0 rfl) ?_
  refine lv_iload_n hx hb d_X_resident_1 rfl (lv_at hl 1 rfl) ?_
  refine aft_qr (runV (As := [.int q]) (rest := []) S hT0 hk (c_X_find l E d a (nI T.hd) T.rd T.wr fk ti T.pg T.pn T.di T.mk ww q hdm hI.pgOk hT) k_X_93 rfl rfl ⟨Nat.le_of_ble_eq_true rfl, Nat.le_of_ble_eq_true rfl⟩ (xrec hk hP) hP hl.1 rfl rfl (Nat.le_of_ble_eq_true rfl) d_X_resident_2 ⟨Nat.le_refl _, Nat.le_refl _⟩) (fun r hr1 => ?_)
  subst hr1
  cases hfo : fo T.pg q d.n with
  | none =>
    refine lv_ifnullN (tgt := 12) hx hb d_X_resident_5 (by decide) ?_
    refine lv_iconst (v := 0) hx hb d_X_resident_12 (by decide) ?_
    exact ret_qz S hr hlk rfl (by simp only [o_resident, hfo]) d_X_resident_13
  | some i =>
    refine lv_ifnull hx hb d_X_resident_5 ?_
    refine lv_iconst (v := 1) hx hb d_X_resident_8 (by decide) ?_
    refine lv_goto (tgt := 13) hx hb d_X_resident_9 (by decide) ?_
    exact ret_qz S hr hlk rfl (by simp only [o_resident, hfo]) d_X_resident_13
set_option maxHeartbeats 4000000 in
set_option maxRecDepth 100000 in
theorem c_X_diskReads (l : Launch) (E : EN) (d : DM) (a : XA) (T : St) : Met l y_X_diskReads (Cond.code y_X_diskReads b_X_diskReads 1 (some .int) :: tbw) (k2_rm 0 0) (Pq E [.ref a.p] (RX E d a T)) (qi (fun r => r = T.rd)) 0 0 nof := by
  refine ent rfl (by decide) (Nat.le_of_ble_eq_true rfl) ?_
  intro p e s m below meth c S hr hlk hnm hk hP ls hl
  obtain ⟨hx, hb, hml, hown, hts⟩ := id S
  have hl : lv_has ls 1 [(0, .ref a.p)] := hl
  obtain ⟨fk, ti, ww, hP, hdk, hww, hT⟩ := hP
  refine lv_aload_n hx hb d_X_diskReads_0 rfl (lv_at hl 0 rfl) ?_
  refine xg S hk hP 6 (by decide) rfl fl_X_47 rfl d_X_diskReads_1 ?_
  exact ret_qi S hr hlk rfl d_X_diskReads_4
set_option maxHeartbeats 4000000 in
set_option maxRecDepth 100000 in
theorem c_X_diskWrites (l : Launch) (E : EN) (d : DM) (a : XA) (T : St) : Met l y_X_diskWrites (Cond.code y_X_diskWrites b_X_diskWrites 1 (some .int) :: tbw) (k2_rm 0 0) (Pq E [.ref a.p] (RX E d a T)) (qi (fun r => r = T.wr)) 0 0 nof := by
  refine ent rfl (by decide) (Nat.le_of_ble_eq_true rfl) ?_
  intro p e s m below meth c S hr hlk hnm hk hP ls hl
  obtain ⟨hx, hb, hml, hown, hts⟩ := id S
  have hl : lv_has ls 1 [(0, .ref a.p)] := hl
  obtain ⟨fk, ti, ww, hP, hdk, hww, hT⟩ := hP
  refine lv_aload_n hx hb d_X_diskWrites_0 rfl (lv_at hl 0 rfl) ?_
  refine xg S hk hP 7 (by decide) rfl fl_X_50 rfl d_X_diskWrites_1 ?_
  exact ret_qi S hr hlk rfl d_X_diskWrites_4
set_option maxHeartbeats 4000000 in
set_option maxRecDepth 100000 in
theorem c_X_hand (l : Launch) (E : EN) (d : DM) (a : XA) (T : St) : Met l y_X_hand (Cond.code y_X_hand b_X_hand 1 (some .int) :: tbw) (k2_rm 0 0) (Pq E [.ref a.p] (RX E d a T)) (qi (fun r => r = nI T.hd)) 0 0 nof := by
  refine ent rfl (by decide) (Nat.le_of_ble_eq_true rfl) ?_
  intro p e s m below meth c S hr hlk hnm hk hP ls hl
  obtain ⟨hx, hb, hml, hown, hts⟩ := id S
  have hl : lv_has ls 1 [(0, .ref a.p)] := hl
  obtain ⟨fk, ti, ww, hP, hdk, hww, hT⟩ := hP
  refine lv_aload_n hx hb d_X_hand_0 rfl (lv_at hl 0 rfl) ?_
  refine xg S hk hP 5 (by decide) rfl fl_X_44 rfl d_X_hand_1 ?_
  exact ret_qi S hr hlk rfl d_X_hand_4
set_option maxHeartbeats 4000000 in
set_option maxRecDepth 100000 in
theorem c_X_told (l : Launch) (E : EN) (d : DM) (a : XA) (T : St) (f t : Int32) (hdm : dm_ok d) : Met l y_X_told (Cond.code y_X_told b_X_told 4 (some .int) :: tbw) (k2_rm 0 0) (Pq E [.ref a.p, .int f, .int t] (RX E d a T)) (qi (fun r => r = o_told d T f t)) 0 0 nof := by
  refine ent rfl (by decide) (Nat.le_of_ble_eq_true rfl) ?_
  intro p e s m below meth c S hr hlk hnm hk hP ls hl
  obtain ⟨hx, hb, hml, hown, hts⟩ := id S
  have hl : lv_has ls 4 [(0, .ref a.p), (1, .int f), (2, .int t)] := hl
  obtain ⟨hn1, hn2, hP1, hP2, hw1, hw2⟩ := id hdm
  obtain ⟨fk, ti, ww, hP, hdk, hww, hT⟩ := hP
  refine lv_iload_n hx hb d_X_told_0 rfl (lv_at hl 1 rfl) ?_
  refine lv_if_lt (tgt := 13) hx hb d_X_told_1 (by decide) (fun b1 => ?_) (fun b1 => ?_)
  · refine lv_bipush (v := -5) hx hb d_X_told_13 (by decide) ?_
    exact ret_qi S hr hlk (by unfold o_told; rw [if_neg (fun z => absurd z.1 (Int32.not_le.mpr b1))]) d_X_told_15
  · refine lv_iload_n hx hb d_X_told_4 rfl (lv_at hl 1 rfl) ?_
    refine lv_aload_n hx hb d_X_told_5 rfl (lv_at hl 0 rfl) ?_
    refine xg S hk hP 3 (by decide) rfl fl_X_35 rfl d_X_told_6 ?_
    refine xf_len S hk hP d_X_told_9 ?_
    refine lv_icmp_lt (tgt := 16) hx hb d_X_told_10 (by decide) (fun b2 => ?_) (fun b2 => ?_)
    · obtain ⟨j, hj, rfl⟩ := inN (by omega) b1 (Int32.not_le.mpr b2)
      have hcl : (nI j).toNatClampNeg = j := nI_clamp (by omega)
      have c1 : 0 ≤ nI j ∧ nI j < nI d.n := inN3 (by omega) hj
      refine lv_aload_n hx hb d_X_told_16 rfl (lv_at hl 0 rfl) ?_
      refine xg S hk hP 3 (by decide) rfl fl_X_35 rfl d_X_told_17 ?_
      refine lv_iload_n hx hb d_X_told_20 rfl (lv_at hl 1 rfl) ?_
      refine xf_ld S hk hP (by omega) (hj) d_X_told_21 ?_
      refine lv_astore_n (lv' := [(3, .ref (a.fr j)), (0, .ref a.p), (1, .int (nI j)), (2, .int t)]) hx hb d_X_told_22 rfl hl (by decide) rfl (fun ls hl => ?_)
      refine lv_iload_n hx hb d_X_told_23 rfl (lv_at hl 3 rfl) ?_
      by_cases t0 : t = 0
      · subst t0
        refine lv_tableIn (tgt := 56) hx hb d_X_told_24 (by decide) (by decide) rfl (by decide) ?_
        refine lv_aload_n hx hb d_X_told_56 rfl (lv_at hl 0 rfl) ?_
        refine fg S hk hP hj 2 (by decide) rfl hk.2.2.2.1 rfl d_X_told_57 ?_
        exact ret_qi S hr hlk (by unfold o_told; rw [if_pos c1, if_pos rfl, hcl]) d_X_told_60
      · by_cases t1 : t = 1
        · subst t1
          refine lv_tableIn (tgt := 61) hx hb d_X_told_24 (by decide) (by decide) rfl (by decide) ?_
          refine lv_aload_n hx hb d_X_told_61 rfl (lv_at hl 0 rfl) ?_
          refine fg S hk hP hj 3 (by decide) rfl hk.2.2.2.2.1 rfl d_X_told_62 ?_
          exact ret_qi S hr hlk (by unfold o_told; rw [if_pos c1, if_neg (show ¬ ((1 : Int32) = 0) by decide), if_pos rfl, hcl]) d_X_told_65
        · by_cases t2 : t = 2
          · subst t2
            refine lv_tableIn (tgt := 66) hx hb d_X_told_24 (by decide) (by decide) rfl (by decide) ?_
            refine lv_aload_n hx hb d_X_told_66 rfl (lv_at hl 0 rfl) ?_
            refine fg S hk hP hj 4 (by decide) rfl hk.2.2.2.2.2.1 rfl d_X_told_67 ?_
            refine lv_if_eq (tgt := 77) hx hb d_X_told_70 (by decide) (fun b3 => ?_) (fun b3 => ?_)
            · refine lv_iconst (v := 0) hx hb d_X_told_77 (by decide) ?_
              exact ret_qi S hr hlk (by unfold o_told; rw [if_pos c1, if_neg (show ¬ ((2 : Int32) = 0) by decide), if_neg (show ¬ ((2 : Int32) = 1) by decide), if_pos rfl, hcl, if_pos b3]) d_X_told_78
            · refine lv_iconst (v := 1) hx hb d_X_told_73 (by decide) ?_
              refine lv_goto (tgt := 78) hx hb d_X_told_74 (by decide) ?_
              exact ret_qi S hr hlk (by unfold o_told; rw [if_pos c1, if_neg (show ¬ ((2 : Int32) = 0) by decide), if_neg (show ¬ ((2 : Int32) = 1) by decide), if_pos rfl, hcl, if_neg b3]) d_X_told_78
          · by_cases t3 : t = 3
            · subst t3
              refine lv_tableIn (tgt := 79) hx hb d_X_told_24 (by decide) (by decide) rfl (by decide) ?_
              refine lv_aload_n hx hb d_X_told_79 rfl (lv_at hl 0 rfl) ?_
              refine fg S hk hP hj 5 (by decide) rfl hk.2.2.2.2.2.2.1 rfl d_X_told_80 ?_
              refine lv_if_eq (tgt := 90) hx hb d_X_told_83 (by decide) (fun b3 => ?_) (fun b3 => ?_)
              · refine lv_iconst (v := 0) hx hb d_X_told_90 (by decide) ?_
                exact ret_qi S hr hlk (by unfold o_told; rw [if_pos c1, if_neg (show ¬ ((3 : Int32) = 0) by decide), if_neg (show ¬ ((3 : Int32) = 1) by decide), if_neg (show ¬ ((3 : Int32) = 2) by decide), if_pos rfl, hcl, if_pos b3]) d_X_told_91
              · refine lv_iconst (v := 1) hx hb d_X_told_86 (by decide) ?_
                refine lv_goto (tgt := 91) hx hb d_X_told_87 (by decide) ?_
                exact ret_qi S hr hlk (by unfold o_told; rw [if_pos c1, if_neg (show ¬ ((3 : Int32) = 0) by decide), if_neg (show ¬ ((3 : Int32) = 1) by decide), if_neg (show ¬ ((3 : Int32) = 2) by decide), if_pos rfl, hcl, if_neg b3]) d_X_told_91
            · have hout : t.toInt < 0 ∨ 3 < t.toInt := by
                have e0 := lv_neT t0 (show (0 : Int32).toInt = 0 by decide)
                have e1 := lv_neT t1 (show (1 : Int32).toInt = 1 by decide)
                have e2 := lv_neT t2 (show (2 : Int32).toInt = 2 by decide)
                have e3 := lv_neT t3 (show (3 : Int32).toInt = 3 by decide)
                omega
              refine lv_tableOut (tgt := 92) hx hb d_X_told_24 hout (by decide) ?_
              refine lv_bipush (v := -5) hx hb d_X_told_92 (by decide) ?_
              exact ret_qi S hr hlk (by unfold o_told; rw [if_pos c1, if_neg t0, if_neg t1, if_neg t2, if_neg t3]) d_X_told_94
    · refine lv_bipush (v := -5) hx hb d_X_told_13 (by decide) ?_
      exact ret_qi S hr hlk (by unfold o_told; rw [if_neg (fun z => b2 z.2)]) d_X_told_15
end
section
/-! the pool's loops over all: flushAll, init -/
theorem o_fl_keep (T : St) : ∀ k, (o_fl k T).2.pg = T.pg ∧ (o_fl k T).2.pn = T.pn ∧ (o_fl k T).2.mk = T.mk ∧ (o_fl k T).2.hd = T.hd ∧ ∀ j, T.di j = 0 → (o_fl k T).2.di j = 0
  | 0 => ⟨rfl, rfl, rfl, rfl, fun _ h => h⟩
  | k + 1 => by
    obtain ⟨h1, h2, h3, h4, h5⟩ := o_fl_keep T k
    simp only [o_fl]
    by_cases c : (o_fl k T).2.di k = 0
    · rw [if_pos c]; exact ⟨h1, h2, h3, h4, h5⟩
    · rw [if_neg c]
      refine ⟨h1, h2, h3, h4, fun j hj => ?_⟩
      show upd (o_fl k T).2.di k 0 j = 0
      by_cases e : j = k
      · subst e; exact upd_s
      · rw [upd_n e]; exact h5 j hj
section
variable {p : Program} {l : Launch} {e : Env} {R : Room} {s : State} {m : MethodId} {args : Array Value} {below : List Frame} {meth : Method} {c : Code} {H : Heap} {locs : List Loc} {cells slots : Nat} {Q : State → Prop}
variable {E : EN} {w0 : Cond} {A : Nat → Prop} {H0 : Heap} {d : DM} {a : XA} {b : MA} {hd rd wr : Int32} {dk mm : Nat → Int32} {ti : Nat → Option Nat} {pg pn di mk : Nat → Int32} {ww : Nat → Nat → Int32}
set_option maxHeartbeats 4000000 in
set_option maxRecDepth 100000 in
theorem lp_X_flushAll (S : CallFix p m c b_X_flushAll 6 s args (w0 :: tbw) R_X) (hk : kk E s) (hD : xD E d a A) (hdm : dm_ok d) {T : St} {N : Nat} (hI : Inv d N T) (hR : 2 ≤ R.frames ∧ 39 ≤ R.locals) (hcs : cells ≤ R.cells ∧ slots ≤ R.slots)
    (hex : ∀ (H : Heap) (locs : List Loc) (ls : Array Slot), RX E d a (o_fl d.n T).2 H → va_S A H0 H locs → lv_has ls 6 [(0, .ref a.p), (1, .int (nI (o_fl d.n T).1)), (2, .ref a.f), (3, .int (nI d.n)), (4, .int (nI d.n))] → W p l e R s m args below meth c H locs cells slots Q (F0 m 48 ls [])) :
    ∀ (n k : Nat) (H : Heap) (locs : List Loc) (ls : Array Slot), k ≤ d.n → d.n + 1 ≤ k + n → RX E d a (o_fl k T).2 H → va_S A H0 H locs → lv_has ls 6 [(0, .ref a.p), (1, .int (nI (o_fl k T).1)), (2, .ref a.f), (3, .int (nI d.n)), (4, .int (nI k))] → W p l e R s m args below meth c H locs cells slots Q (F0 m 13 ls []) := by
  obtain ⟨hx, hb, hml, hown, hts⟩ := id S
  obtain ⟨hn1, hn2, hP1, hP2, hw1, hw2⟩ := id hdm
  intro n
  induction n with
  | zero =>
    intro k H locs ls h1 h2
    omega
  | succ n ih =>
    intro k H locs ls h1 h2 hP hS hl
    refine lv_iload hx hb d_X_flushAll_13 (lv_at hl 4 rfl) ?_
    refine lv_iload_n hx hb d_X_flushAll_15 rfl (lv_at hl 3 rfl) ?_
    refine lv_icmp_ge (tgt := 48) hx hb d_X_flushAll_16 (by decide) (fun c1 => ?_) (fun c1 => ?_)
    · have e : k = d.n := by
        rcases Nat.lt_or_ge k d.n with h | h
        · exact absurd c1 (nI_ge h (by omega))
        · omega
      subst e
      exact hex H locs ls hP hS hl
    · have hlt : k < d.n := by
        rcases Nat.lt_or_ge k d.n with h | h
        · exact h
        · exact absurd (nI_le h (by omega)) c1
      obtain ⟨kp, -, -, -, kd⟩ := o_fl_keep T k
      have hsucc : o_fl (k + 1) T = if (o_fl k T).2.di k = 0 then o_fl k T else ((o_fl k T).1 + 1, s_wr (o_fl k T).2 k) := rfl
      generalize hU : o_fl k T = U at *
      obtain ⟨n0, U⟩ := U
      obtain ⟨fk, ti, ww, hP, hdk, hww, hT⟩ := hP
      dsimp only at *
      refine lv_aload_n hx hb d_X_flushAll_19 rfl (lv_at hl 2 rfl) ?_
      refine lv_iload hx hb d_X_flushAll_20 (lv_at hl 4 rfl) ?_
      refine xf_ld S hk hP (by omega) (hlt) d_X_flushAll_22 ?_
      refine lv_astore (lv' := [(5, .ref (a.fr k)), (0, .ref a.p), (1, .int (nI n0)), (2, .ref a.f), (3, .int (nI d.n)), (4, .int (nI k))]) hx hb d_X_flushAll_23 hl (by decide) rfl (fun ls hl => ?_)
      refine lv_aload hx hb d_X_flushAll_25 (lv_at hl 0 rfl) ?_
      refine fg S hk hP hlt 4 (by decide) rfl hk.2.2.2.2.2.1 rfl d_X_flushAll_27 ?_
      refine lv_if_eq (tgt := 42) hx hb d_X_flushAll_30 (by decide) (fun c2 => ?_) (fun c2 => ?_)
      · rw [if_pos c2] at hsucc
        refine lv_iinc (v := nI (k + 1)) (lv' := [(4, .int (nI (k + 1))), (5, .ref (a.fr k)), (0, .ref a.p), (1, .int (nI n0)), (2, .ref a.f), (3, .int (nI d.n))]) hx hb d_X_flushAll_42 hl (k := 5) rfl (nI_1 k) (by decide) rfl (fun ls hl => ?_)
        refine lv_goto (tgt := 13) hx hb d_X_flushAll_45 (by decide) ?_
        have hl := lv_sub (l' := [(0, .ref a.p), (1, .int (nI n0)), (2, .ref a.f), (3, .int (nI d.n)), (4, .int (nI (k + 1)))]) hl [2, 3, 4, 5, 0] rfl
        exact ih (k + 1) H locs ls hlt (by omega) (by rw [hsucc]; exact ⟨fk, ti, ww, hP, hdk, hww, hT⟩) hS (by rw [hsucc]; exact hl)
      · rw [if_neg c2] at hsucc
        have hne : T.pg k ≠ -1 := fun z => c2 (kd k (hI.2.2.2.1 k hlt z).2.1)
        obtain ⟨q, hq, eq⟩ : ∃ q, q < d.P ∧ U.pg k = nI q := by rw [kp]; exact (hI.2.1 k hlt).resolve_left hne
        have hcl : (U.pg k).toNatClampNeg = q := by rw [eq]; exact nI_clamp (by omega)
        refine lv_aload_n hx hb d_X_flushAll_33 rfl (lv_at hl 1 rfl) ?_
        refine lv_aload hx hb d_X_flushAll_34 (lv_at hl 0 rfl) ?_
        refine aft_Qv (runV (As := [.ref (a.fr k)]) (rest := []) S hT0 hk (c_X_write l E d a (nI U.hd) U.rd U.wr fk ti U.pg U.pn U.di U.mk ww k hlt hdm hq eq A hD) k_X_86 rfl rfl ⟨hR.1, hR.2⟩ (xrec hk hP) hP hl.1 rfl rfl (Nat.le_of_ble_eq_true rfl) d_X_flushAll_36 hcs) hS (fun _ h => h) (fun H locs hP _ _ hS => ?_)
        refine lv_iinc (v := nI (n0 + 1)) (lv' := [(1, .int (nI (n0 + 1))), (5, .ref (a.fr k)), (0, .ref a.p), (2, .ref a.f), (3, .int (nI d.n)), (4, .int (nI k))]) hx hb d_X_flushAll_39 hl (k := 2) rfl (nI_1 n0) (by decide) rfl (fun ls hl => ?_)
        refine lv_iinc (v := nI (k + 1)) (lv' := [(4, .int (nI (k + 1))), (1, .int (nI (n0 + 1))), (5, .ref (a.fr k)), (0, .ref a.p), (2, .ref a.f), (3, .int (nI d.n))]) hx hb d_X_flushAll_42 hl (k := 5) rfl (nI_1 k) (by decide) rfl (fun ls hl => ?_)
        refine lv_goto (tgt := 13) hx hb d_X_flushAll_45 (by decide) ?_
        have hl := lv_sub (l' := [(0, .ref a.p), (1, .int (nI (n0 + 1))), (2, .ref a.f), (3, .int (nI d.n)), (4, .int (nI (k + 1)))]) hl [3, 1, 4, 5, 0] rfl
        refine ih (k + 1) H locs ls hlt (by omega) ?_ hS (by rw [hsucc]; exact hl)
        rw [hsucc]
        refine ⟨_, ti, ww, hP, ?_, hww, hT⟩
        show ∀ p j, p < d.P → j < d.w → va_cpy (ww k) fk 0 (q * d.w) d.w (p * d.w + j) = va_up U.dk (U.pg k).toNatClampNeg (U.mm k) p j
        rw [hcl]
        exact cp_wr hdk hww hlt
end
set_option maxHeartbeats 4000000 in
set_option maxRecDepth 100000 in
theorem c_X_flushAll (l : Launch) (E : EN) (d : DM) (a : XA) (T : St) {N : Nat} (hI : Inv d N T) (hdm : dm_ok d) (A : Nat → Prop) (hD : xD E d a A) : Met l y_X_flushAll (Cond.code y_X_flushAll b_X_flushAll 6 (some .int) :: tbw) (k2_rm 2 39) (Pq E [.ref a.p] (RX E d a T)) (Qi (fun r H => r = nI (o_fl d.n T).1 ∧ RX E d a (o_fl d.n T).2 H) A) 0 0 A := by
  refine ent rfl (by decide) (Nat.le_of_ble_eq_true rfl) ?_
  intro p e s m below meth c S hr hlk hnm hk hP ls hl
  obtain ⟨hx, hb, hml, hown, hts⟩ := id S
  have hl : lv_has ls 6 [(0, .ref a.p)] := hl
  obtain ⟨hn1, hn2, hP1, hP2, hw1, hw2⟩ := id hdm
  have hS : va_S A s.heap s.heap [] := va_S.rf
  have hRX := hP
  obtain ⟨fk, ti, ww, hP, hdk, hww, hT⟩ := hP
  refine lv_iconst (v := 0) hx hb d_X_flushAll_0 (by decide) ?_
  refine lv_istore_n (lv' := [(1, .int 0), (0, .ref a.p)]) hx hb d_X_flushAll_1 rfl hl (by decide) rfl (fun ls hl => ?_)
  refine lv_aload_n hx hb d_X_flushAll_2 rfl (lv_at hl 1 rfl) ?_
  refine xg S hk hP 3 (by decide) rfl fl_X_35 rfl d_X_flushAll_3 ?_
  refine lv_astore_n (lv' := [(2, .ref a.f), (1, .int 0), (0, .ref a.p)]) hx hb d_X_flushAll_6 rfl hl (by decide) rfl (fun ls hl => ?_)
  refine lv_aload_n hx hb d_X_flushAll_7 rfl (lv_at hl 0 rfl) ?_
  refine xf_len S hk hP d_X_flushAll_8 ?_
  refine lv_istore_n (lv' := [(3, .int (nI d.n)), (2, .ref a.f), (1, .int 0), (0, .ref a.p)]) hx hb d_X_flushAll_9 rfl hl (by decide) rfl (fun ls hl => ?_)
  refine lv_iconst (v := 0) hx hb d_X_flushAll_10 (by decide) ?_
  refine lv_istore (lv' := [(4, .int 0), (3, .int (nI d.n)), (2, .ref a.f), (1, .int 0), (0, .ref a.p)]) hx hb d_X_flushAll_11 hl (by decide) rfl (fun ls hl => ?_)
  have hl := lv_sub (l' := [(0, .ref a.p), (1, .int 0), (2, .ref a.f), (3, .int (nI d.n)), (4, .int 0)]) hl [4, 3, 2, 1, 0] rfl
  refine lp_X_flushAll S hk hD hdm hI ⟨Nat.le_of_ble_eq_true rfl, Nat.le_of_ble_eq_true rfl⟩ ⟨Nat.le_refl _, Nat.le_refl _⟩ (fun H locs ls hP hS hl => ?_) (d.n + 1) 0 s.heap [] ls (Nat.zero_le _) (by omega) hRX hS hl
  refine lv_iload_n hx hb d_X_flushAll_48 rfl (lv_at hl 1 rfl) ?_
  exact ret_Qi S hr hlk hS ⟨rfl, hP⟩ d_X_flushAll_49
/-- the first k places hold v -/
def lo {α : Type} (f : Nat → α) (k : Nat) (v : α) : Nat → α := fun j => if j < k then v else f j
theorem lo_0 {α : Type} (f : Nat → α) (v : α) : lo f 0 v = f := by
  funext j
  simp [lo]
theorem lo_up {α : Type} (f : Nat → α) (k : Nat) (v : α) : va_up (lo f k v) k v = lo f (k + 1) v := by
  funext j
  by_cases e : j = k
  · subst e; simp [va_up, lo]
  · rw [va_up_ne _ _ e]
    unfold lo
    by_cases h : j < k
    · rw [if_pos h, if_pos (by omega)]
    · rw [if_neg h, if_neg (by omega)]
theorem lo_upd (f : Nat → Int32) (k : Nat) (v : Int32) : upd (lo f k v) k v = lo f (k + 1) v := lo_up f k v
theorem lo_in {α : Type} {f : Nat → α} {k j : Nat} {v : α} (h : j < k) : lo f k v j = v := if_pos h
theorem xW_same {E : EN} {d : DM} {a : XA} {hd rd wr : Int32} {dk : Nat → Int32} {ti : Nat → Option Nat} {pg pn di mk pg' pn' di' mk' : Nat → Int32} {ww : Nat → Nat → Int32} (h : ∀ i, i < d.n → pg i = pg' i ∧ pn i = pn' i ∧ di i = di' i ∧ mk i = mk' i) : xW E d a (hd, rd, wr, dk, ti, pg, pn, di, mk, ww) = xW E d a (hd, rd, wr, dk, ti, pg', pn', di', mk', ww) := by
  unfold xW
  have e : (List.range d.n).map (xWf a pg pn di mk) = (List.range d.n).map (xWf a pg' pn' di' mk') := by
    apply List.map_congr_left
    intro i hi
    obtain ⟨h1, h2, h3, h4⟩ := h i (List.mem_range.mp hi)
    simp only [xWf, h1, h2, h3, h4]
  dsimp only
  rw [e]
section
variable {p : Program} {l : Launch} {e : Env} {R : Room} {s : State} {m : MethodId} {args : Array Value} {below : List Frame} {meth : Method} {c : Code} {H : Heap} {locs : List Loc} {cells slots : Nat} {Q : State → Prop}
variable {E : EN} {w0 : Cond} {A : Nat → Prop} {H0 : Heap} {d : DM} {a : XA} {b : MA} {hd rd wr : Int32} {dk mm : Nat → Int32} {ti : Nat → Option Nat} {pg pn di mk : Nat → Int32} {ww : Nat → Nat → Int32}
set_option maxHeartbeats 4000000 in
set_option maxRecDepth 100000 in
theorem lp_X_init1 (S : CallFix p m c b_X_init 5 s args (w0 :: tbw) R_X) (hk : kk E s) (hD : xD E d a A) (hdm : dm_ok d) (hR : 1 ≤ R.frames ∧ 20 ≤ R.locals) (hcs : cells ≤ R.cells ∧ slots ≤ R.slots)
    (hex : ∀ (H : Heap) (locs : List Loc) (ls : Array Slot), xP E d a (hd, rd, wr, dk, ti, lo pg d.n (-1), lo pn d.n 0, lo di d.n 0, lo mk d.n 0, ww) H → va_S A H0 H locs → lv_has ls 5 [(0, .ref a.p), (1, .ref a.f), (2, .int (nI d.n)), (3, .int (nI d.n))] → W p l e R s m args below meth c H locs cells slots Q (F0 m 31 ls [])) :
    ∀ (n k : Nat) (H : Heap) (locs : List Loc) (ls : Array Slot), k ≤ d.n → d.n + 1 ≤ k + n → xP E d a (hd, rd, wr, dk, ti, lo pg k (-1), lo pn k 0, lo di k 0, lo mk k 0, ww) H → va_S A H0 H locs → lv_has ls 5 [(0, .ref a.p), (1, .ref a.f), (2, .int (nI d.n)), (3, .int (nI k))] → W p l e R s m args below meth c H locs cells slots Q (F0 m 10 ls []) := by
  obtain ⟨hx, hb, hml, hown, hts⟩ := id S
  obtain ⟨hn1, hn2, hP1, hP2, hw1, hw2⟩ := id hdm
  have hb2 : d.P * d.w ≤ 200 * 8 := Nat.mul_le_mul hP2 hw2
  intro n
  induction n with
  | zero =>
    intro k H locs ls h1 h2
    omega
  | succ n ih =>
    intro k H locs ls h1 h2 hP hS hl
    refine lv_iload_n hx hb d_X_init_10 rfl (lv_at hl 3 rfl) ?_
    refine lv_iload_n hx hb d_X_init_11 rfl (lv_at hl 2 rfl) ?_
    refine lv_icmp_ge (tgt := 31) hx hb d_X_init_12 (by decide) (fun c1 => ?_) (fun c1 => ?_)
    · have e : k = d.n := by
        rcases Nat.lt_or_ge k (d.n) with h | h
        · exact absurd c1 (nI_ge h (by omega))
        · omega
      rw [e] at hP hl
      exact hex H locs ls hP hS hl
    · have hlt : k < d.n := by
        rcases Nat.lt_or_ge k (d.n) with h | h
        · exact h
        · exact absurd (nI_le h (by omega)) c1
      refine lv_aload_n hx hb d_X_init_15 rfl (lv_at hl 1 rfl) ?_
      refine lv_iload_n hx hb d_X_init_16 rfl (lv_at hl 3 rfl) ?_
      refine xf_ld S hk hP (by omega) (hlt) d_X_init_17 ?_
      refine lv_astore (lv' := [(4, .ref (a.fr k)), (0, .ref a.p), (1, .ref a.f), (2, .int (nI d.n)), (3, .int (nI k))]) hx hb d_X_init_18 hl (by decide) rfl (fun ls hl => ?_)
      refine lv_aload hx hb d_X_init_20 (lv_at hl 0 rfl) ?_
      refine aft_Qv (runV (As := []) (rest := []) S hT0 hk (c_F_clear l E d a hd rd wr dk ti (lo pg k (-1)) (lo pn k 0) (lo di k 0) (lo mk k 0) ww k hlt A hD) k_X_41 rfl rfl ⟨hR.1, hR.2⟩ (frec hk hP hlt) hP hl.1 rfl rfl (Nat.le_of_ble_eq_true rfl) d_X_init_22 hcs) hS (fun _ h => h) (fun H locs hP _ _ hS => ?_)
      refine lv_iinc (v := nI (k + 1)) (lv' := [(3, .int (nI (k + 1))), (4, .ref (a.fr k)), (0, .ref a.p), (1, .ref a.f), (2, .int (nI d.n))]) hx hb d_X_init_25 hl (k := 4) rfl (nI_1 k) (by decide) rfl (fun ls hl => ?_)
      refine lv_goto (tgt := 10) hx hb d_X_init_28 (by decide) ?_
      have hl := lv_sub (l' := [(0, .ref a.p), (1, .ref a.f), (2, .int (nI d.n)), (3, .int (nI (k + 1)))]) hl [2, 3, 4, 0] rfl
      rw [lo_upd, lo_upd, lo_upd, lo_upd] at hP
      exact ih (k + 1) H locs ls hlt (by omega) hP hS hl
set_option maxHeartbeats 4000000 in
set_option maxRecDepth 100000 in
theorem lp_X_init2 (S : CallFix p m c b_X_init 5 s args (w0 :: tbw) R_X) (hk : kk E s) (hD : xD E d a A) (hdm : dm_ok d) (hR : 1 ≤ R.frames ∧ 20 ≤ R.locals) (hcs : cells ≤ R.cells ∧ slots ≤ R.slots)
    (hex : ∀ (H : Heap) (locs : List Loc) (ls : Array Slot), xP E d a (hd, rd, wr, dk, lo ti 64 none, pg, pn, di, mk, ww) H → va_S A H0 H locs → lv_has ls 5 [(0, .ref a.p), (1, .int (nI 64))] → W p l e R s m args below meth c H locs cells slots Q (F0 m 52 ls [])) :
    ∀ (n k : Nat) (H : Heap) (locs : List Loc) (ls : Array Slot), k ≤ 64 → 64 + 1 ≤ k + n → xP E d a (hd, rd, wr, dk, lo ti k none, pg, pn, di, mk, ww) H → va_S A H0 H locs → lv_has ls 5 [(0, .ref a.p), (1, .int (nI k))] → W p l e R s m args below meth c H locs cells slots Q (F0 m 33 ls []) := by
  obtain ⟨hx, hb, hml, hown, hts⟩ := id S
  obtain ⟨hn1, hn2, hP1, hP2, hw1, hw2⟩ := id hdm
  have hb2 : d.P * d.w ≤ 200 * 8 := Nat.mul_le_mul hP2 hw2
  intro n
  induction n with
  | zero =>
    intro k H locs ls h1 h2
    omega
  | succ n ih =>
    intro k H locs ls h1 h2 hP hS hl
    refine lv_iload_n hx hb d_X_init_33 rfl (lv_at hl 1 rfl) ?_
    refine lv_bipush (v := 64) hx hb d_X_init_34 (by decide) ?_
    refine lv_is (y := nI 64) (rfl) ?_
    refine lv_icmp_ge (tgt := 52) hx hb d_X_init_36 (by decide) (fun c1 => ?_) (fun c1 => ?_)
    · have e : k = 64 := by
        rcases Nat.lt_or_ge k (64) with h | h
        · exact absurd c1 (nI_ge h (by omega))
        · omega
      rw [e] at hP hl
      exact hex H locs ls hP hS hl
    · have hlt : k < 64 := by
        rcases Nat.lt_or_ge k (64) with h | h
        · exact h
        · exact absurd (nI_le h (by omega)) c1
      refine lv_aload_n hx hb d_X_init_39 rfl (lv_at hl 0 rfl) ?_
      refine xg S hk hP 4 (by decide) rfl fl_X_11 rfl d_X_init_40 ?_
      refine lv_iload_n hx hb d_X_init_43 rfl (lv_at hl 1 rfl) ?_
      refine lv_null hx hb d_X_init_44 ?_
      refine xt_stN S hk hD hS hP (hlt) d_X_init_45 (fun H locs hP hS => ?_)
      refine lv_iinc (v := nI (k + 1)) (lv' := [(1, .int (nI (k + 1))), (0, .ref a.p)]) hx hb d_X_init_46 hl (k := 1) rfl (nI_1 k) (by decide) rfl (fun ls hl => ?_)
      refine lv_goto (tgt := 33) hx hb d_X_init_49 (by decide) ?_
      have hl := lv_sub (l' := [(0, .ref a.p), (1, .int (nI (k + 1)))]) hl [1, 0] rfl
      rw [lo_up] at hP
      exact ih (k + 1) H locs ls hlt (by omega) hP hS hl
set_option maxHeartbeats 4000000 in
set_option maxRecDepth 100000 in
theorem lp_X_init3 (S : CallFix p m c b_X_init 5 s args (w0 :: tbw) R_X) (hk : kk E s) (hD : xD E d a A) (hdm : dm_ok d) (hR : 1 ≤ R.frames ∧ 20 ≤ R.locals) (hcs : cells ≤ R.cells ∧ slots ≤ R.slots)
    (hex : ∀ (H : Heap) (locs : List Loc) (ls : Array Slot), xP E d a (hd, rd, wr, lo dk (d.P * d.w) 0, ti, pg, pn, di, mk, ww) H → va_S A H0 H locs → lv_has ls 5 [(0, .ref a.p), (1, .int (nI (d.P * d.w)))] → W p l e R s m args below meth c H locs cells slots Q (F0 m 76 ls [])) :
    ∀ (n k : Nat) (H : Heap) (locs : List Loc) (ls : Array Slot), k ≤ d.P * d.w → d.P * d.w + 1 ≤ k + n → xP E d a (hd, rd, wr, lo dk k 0, ti, pg, pn, di, mk, ww) H → va_S A H0 H locs → lv_has ls 5 [(0, .ref a.p), (1, .int (nI k))] → W p l e R s m args below meth c H locs cells slots Q (F0 m 54 ls []) := by
  obtain ⟨hx, hb, hml, hown, hts⟩ := id S
  obtain ⟨hn1, hn2, hP1, hP2, hw1, hw2⟩ := id hdm
  have hb2 : d.P * d.w ≤ 200 * 8 := Nat.mul_le_mul hP2 hw2
  intro n
  induction n with
  | zero =>
    intro k H locs ls h1 h2
    omega
  | succ n ih =>
    intro k H locs ls h1 h2 hP hS hl
    refine lv_iload_n hx hb d_X_init_54 rfl (lv_at hl 1 rfl) ?_
    refine lv_aload_n hx hb d_X_init_55 rfl (lv_at hl 0 rfl) ?_
    refine xg S hk hP 2 (by decide) rfl fl_X_31 rfl d_X_init_56 ?_
    refine xd_len S hk hP d_X_init_59 ?_
    refine lv_icmp_ge (tgt := 76) hx hb d_X_init_60 (by decide) (fun c1 => ?_) (fun c1 => ?_)
    · have e : k = d.P * d.w := by
        rcases Nat.lt_or_ge k (d.P * d.w) with h | h
        · exact absurd c1 (nI_ge h (by omega))
        · omega
      rw [e] at hP hl
      exact hex H locs ls hP hS hl
    · have hlt : k < d.P * d.w := by
        rcases Nat.lt_or_ge k (d.P * d.w) with h | h
        · exact h
        · exact absurd (nI_le h (by omega)) c1
      refine lv_aload_n hx hb d_X_init_63 rfl (lv_at hl 0 rfl) ?_
      refine xg S hk hP 2 (by decide) rfl fl_X_31 rfl d_X_init_64 ?_
      refine lv_iload_n hx hb d_X_init_67 rfl (lv_at hl 1 rfl) ?_
      refine lv_iconst (v := 0) hx hb d_X_init_68 (by decide) ?_
      refine xd_st S hk hD hS hP (by omega) (hlt) d_X_init_69 (fun H locs hP hS => ?_)
      refine lv_iinc (v := nI (k + 1)) (lv' := [(1, .int (nI (k + 1))), (0, .ref a.p)]) hx hb d_X_init_70 hl (k := 1) rfl (nI_1 k) (by decide) rfl (fun ls hl => ?_)
      refine lv_goto (tgt := 54) hx hb d_X_init_73 (by decide) ?_
      have hl := lv_sub (l' := [(0, .ref a.p), (1, .int (nI (k + 1)))]) hl [1, 0] rfl
      rw [lo_upd] at hP
      exact ih (k + 1) H locs ls hlt (by omega) hP hS hl
end
set_option maxHeartbeats 4000000 in
set_option maxRecDepth 100000 in
theorem c_X_init (l : Launch) (E : EN) (d : DM) (a : XA) (T : St) (hdm : dm_ok d) (A : Nat → Prop) (hD : xD E d a A) : Met l y_X_init (Cond.code y_X_init b_X_init 5 none :: tbw) (k2_rm 1 20) (Pq E [.ref a.p] (RX E d a T)) (Qv (RX E d a (o_reset T)) A) 0 0 A := by
  refine ent rfl (by decide) (Nat.le_of_ble_eq_true rfl) ?_
  intro p e s m below meth c S hr hlk hnm hk hP ls hl
  obtain ⟨hx, hb, hml, hown, hts⟩ := id S
  have hl : lv_has ls 5 [(0, .ref a.p)] := hl
  obtain ⟨hn1, hn2, hP1, hP2, hw1, hw2⟩ := id hdm
  have hS : va_S A s.heap s.heap [] := va_S.rf
  obtain ⟨fk, ti, ww, hP, hdk, hww, hT⟩ := hP
  refine lv_aload_n hx hb d_X_init_0 rfl (lv_at hl 0 rfl) ?_
  refine xg S hk hP 3 (by decide) rfl fl_X_35 rfl d_X_init_1 ?_
  refine lv_astore_n (lv' := [(1, .ref a.f), (0, .ref a.p)]) hx hb d_X_init_4 rfl hl (by decide) rfl (fun ls hl => ?_)
  refine lv_aload_n hx hb d_X_init_5 rfl (lv_at hl 0 rfl) ?_
  refine xf_len S hk hP d_X_init_6 ?_
  refine lv_istore_n (lv' := [(2, .int (nI d.n)), (1, .ref a.f), (0, .ref a.p)]) hx hb d_X_init_7 rfl hl (by decide) rfl (fun ls hl => ?_)
  refine lv_iconst (v := 0) hx hb d_X_init_8 (by decide) ?_
  refine lv_istore_n (lv' := [(3, .int 0), (2, .int (nI d.n)), (1, .ref a.f), (0, .ref a.p)]) hx hb d_X_init_9 rfl hl (by decide) rfl (fun ls hl => ?_)
  have hl := lv_sub (l' := [(0, .ref a.p), (1, .ref a.f), (2, .int (nI d.n)), (3, .int 0)]) hl [3, 2, 1, 0] rfl
  refine lp_X_init1 (pg := T.pg) (pn := T.pn) (di := T.di) (mk := T.mk) S hk hD hdm ⟨Nat.le_of_ble_eq_true rfl, Nat.le_of_ble_eq_true rfl⟩ ⟨Nat.le_refl _, Nat.le_refl _⟩ (fun H locs ls hP hS hl => ?_) (d.n + 1) 0 s.heap [] ls (Nat.zero_le _) (by omega) (by rw [lo_0, lo_0, lo_0, lo_0]; exact hP) hS hl
  rw [show xP E d a (nI T.hd, T.rd, T.wr, fk, ti, lo T.pg d.n (-1), lo T.pn d.n 0, lo T.di d.n 0, lo T.mk d.n 0, ww) H = xP E d a (nI T.hd, T.rd, T.wr, fk, ti, fun _ => -1, fun _ => 0, fun _ => 0, fun _ => 0, ww) H from congrArg (fun z => va_P E.D classes z H) (xW_same fun i hi => ⟨lo_in hi, lo_in hi, lo_in hi, lo_in hi⟩)] at hP
  refine lv_iconst (v := 0) hx hb d_X_init_31 (by decide) ?_
  refine lv_istore_n (lv' := [(1, .int 0), (0, .ref a.p), (2, .int (nI d.n)), (3, .int (nI d.n))]) hx hb d_X_init_32 rfl hl (by decide) rfl (fun ls hl => ?_)
  have hl := lv_sub (l' := [(0, .ref a.p), (1, .int 0)]) hl [1, 0] rfl
  refine lp_X_init2 (ti := ti) S hk hD hdm ⟨Nat.le_of_ble_eq_true rfl, Nat.le_of_ble_eq_true rfl⟩ ⟨Nat.le_refl _, Nat.le_refl _⟩ (fun H locs ls hP hS hl => ?_) 65 0 H locs ls (Nat.zero_le _) (by omega) (by rw [lo_0]; exact hP) hS hl
  refine lv_iconst (v := 0) hx hb d_X_init_52 (by decide) ?_
  refine lv_istore_n (lv' := [(1, .int 0), (0, .ref a.p)]) hx hb d_X_init_53 rfl hl (by decide) rfl (fun ls hl => ?_)
  have hl := lv_sub (l' := [(0, .ref a.p), (1, .int 0)]) hl [1, 0] rfl
  refine lp_X_init3 (dk := fk) S hk hD hdm ⟨Nat.le_of_ble_eq_true rfl, Nat.le_of_ble_eq_true rfl⟩ ⟨Nat.le_refl _, Nat.le_refl _⟩ (fun H locs ls hP hS hl => ?_) (d.P * d.w + 1) 0 H locs ls (Nat.zero_le _) (by omega) (by rw [lo_0]; exact hP) hS hl
  refine lv_aload_n hx hb d_X_init_76 rfl (lv_at hl 0 rfl) ?_
  refine lv_iconst (v := 0) hx hb d_X_init_77 (by decide) ?_
  refine xp_hand S hk hD hS hP d_X_init_78 (fun H locs hP hS => ?_)
  refine lv_aload_n hx hb d_X_init_81 rfl (lv_at hl 0 rfl) ?_
  refine lv_iconst (v := 0) hx hb d_X_init_82 (by decide) ?_
  refine xp_reads S hk hD hS hP d_X_init_83 (fun H locs hP hS => ?_)
  refine lv_aload_n hx hb d_X_init_86 rfl (lv_at hl 0 rfl) ?_
  refine lv_iconst (v := 0) hx hb d_X_init_87 (by decide) ?_
  refine xp_writes S hk hD hS hP d_X_init_88 (fun H locs hP hS => ?_)
  refine ret_Qv S hr hlk hS ⟨_, _, ww, hP, fun p j hp hj => ?_, hww, ?_⟩ d_X_init_91
  · refine lo_in ?_
    have := Nat.mul_le_mul_right d.w (show p + 1 ≤ d.P by omega)
    rw [Nat.add_mul, Nat.one_mul] at this
    omega
  · refine ⟨fun k i hk' hi' => ?_, fun k k' i hk' _ hi' => ?_, fun i _ hne => absurd rfl hne⟩
    · rw [lo_in hk'] at hi'; cases hi'
    · rw [lo_in hk'] at hi'; cases hi'
end
section
/-! the reference's small methods -/
set_option maxHeartbeats 4000000 in
set_option maxRecDepth 100000 in
theorem c_M_isPage (l : Launch) (E : EN) (d : DM) (b : MA) (hd rd wr : Int32) (dk mm pg pn di mk : Nat → Int32) (q : Int32) : Met l y_M_isPage (Cond.code y_M_isPage b_M_isPage 2 (some .boolean) :: tbw) (k2_rm 0 0) (Pq E [.ref b.o, .int q] (mP E d b (hd, rd, wr, dk, mm, pg, pn, di, mk))) (qi (fun r => r = if 0 ≤ q ∧ q < nI d.P then 1 else 0)) 0 0 nof := by
  refine ent rfl (by decide) (Nat.le_of_ble_eq_true rfl) ?_
  intro p e s m below meth c S hr hlk hnm hk hP ls hl
  obtain ⟨hx, hb, hml, hown, hts⟩ := id S
  have hl : lv_has ls 2 [(0, .ref b.o), (1, .int q)] := hl
  refine lv_iload_n hx hb d_M_isPage_0 rfl (lv_at hl 1 rfl) ?_
  refine lv_if_lt (tgt := 16) hx hb d_M_isPage_1 (by decide) (fun c1 => ?_) (fun c1 => ?_)
  · refine lv_iconst (v := 0) hx hb d_M_isPage_16 (by decide) ?_
    exact ret_qz S hr hlk rfl (by rw [if_neg (fun z => absurd z.1 (Int32.not_le.mpr c1))]) d_M_isPage_17
  · refine lv_iload_n hx hb d_M_isPage_4 rfl (lv_at hl 1 rfl) ?_
    refine lv_aload_n hx hb d_M_isPage_5 rfl (lv_at hl 0 rfl) ?_
    refine mg S hk hP 1 (by decide) rfl fl_M_33 rfl d_M_isPage_6 ?_
    refine lv_icmp_ge (tgt := 16) hx hb d_M_isPage_9 (by decide) (fun c2 => ?_) (fun c2 => ?_)
    · refine lv_iconst (v := 0) hx hb d_M_isPage_16 (by decide) ?_
      exact ret_qz S hr hlk rfl (by rw [if_neg (fun z => absurd z.2 (Int32.not_lt.mpr c2))]) d_M_isPage_17
    · refine lv_iconst (v := 1) hx hb d_M_isPage_12 (by decide) ?_
      refine lv_goto (tgt := 17) hx hb d_M_isPage_13 (by decide) ?_
      exact ret_qz S hr hlk rfl (by rw [if_pos ⟨Int32.not_lt.mp c1, Int32.not_le.mp c2⟩]) d_M_isPage_17
set_option maxHeartbeats 4000000 in
set_option maxRecDepth 100000 in
theorem c_M_isPinned (l : Launch) (E : EN) (d : DM) (b : MA) (hd rd wr : Int32) (dk mm pg pn di mk : Nat → Int32) (f : Int32) (hdm : dm_ok d) : Met l y_M_isPinned (Cond.code y_M_isPinned b_M_isPinned 2 (some .boolean) :: tbw) (k2_rm 0 0) (Pq E [.ref b.o, .int f] (mP E d b (hd, rd, wr, dk, mm, pg, pn, di, mk))) (qi (fun r => r = if (0 ≤ f ∧ f < nI d.n) ∧ 0 < pn f.toNatClampNeg then 1 else 0)) 0 0 nof := by
  refine ent rfl (by decide) (Nat.le_of_ble_eq_true rfl) ?_
  intro p e s m below meth c S hr hlk hnm hk hP ls hl
  obtain ⟨hx, hb, hml, hown, hts⟩ := id S
  have hl : lv_has ls 2 [(0, .ref b.o), (1, .int f)] := hl
  obtain ⟨hn1, hn2, hP1, hP2, hw1, hw2⟩ := id hdm
  refine lv_iload_n hx hb d_M_isPinned_0 rfl (lv_at hl 1 rfl) ?_
  refine lv_if_lt (tgt := 25) hx hb d_M_isPinned_1 (by decide) (fun c1 => ?_) (fun c1 => ?_)
  · refine lv_iconst (v := 0) hx hb d_M_isPinned_25 (by decide) ?_
    exact ret_qz S hr hlk rfl (by rw [if_neg (fun z => absurd z.1.1 (Int32.not_le.mpr c1))]) d_M_isPinned_26
  · refine lv_iload_n hx hb d_M_isPinned_4 rfl (lv_at hl 1 rfl) ?_
    refine lv_aload_n hx hb d_M_isPinned_5 rfl (lv_at hl 0 rfl) ?_
    refine mg S hk hP 0 (by decide) rfl fl_M_29 rfl d_M_isPinned_6 ?_
    refine lv_icmp_ge (tgt := 25) hx hb d_M_isPinned_9 (by decide) (fun c2 => ?_) (fun c2 => ?_)
    · refine lv_iconst (v := 0) hx hb d_M_isPinned_25 (by decide) ?_
      exact ret_qz S hr hlk rfl (by rw [if_neg (fun z => absurd z.1.2 (Int32.not_lt.mpr c2))]) d_M_isPinned_26
    · obtain ⟨j, hj, rfl⟩ := inN (by omega) c1 c2
      have hcl : (nI j).toNatClampNeg = j := nI_clamp (by omega)
      rw [hcl]
      refine lv_aload_n hx hb d_M_isPinned_12 rfl (lv_at hl 0 rfl) ?_
      refine mg S hk hP 6 (by decide) rfl fl_M_19 rfl d_M_isPinned_13 ?_
      refine lv_iload_n hx hb d_M_isPinned_16 rfl (lv_at hl 1 rfl) ?_
      refine ml_pn S hk hP (by omega) d_M_isPinned_17 ?_
      refine lv_if_le (tgt := 25) hx hb d_M_isPinned_18 (by decide) (fun c3 => ?_) (fun c3 => ?_)
      · refine lv_iconst (v := 0) hx hb d_M_isPinned_25 (by decide) ?_
        exact ret_qz S hr hlk rfl (by rw [if_neg (fun z => absurd z.2 (Int32.not_lt.mpr c3))]) d_M_isPinned_26
      · refine lv_iconst (v := 1) hx hb d_M_isPinned_21 (by decide) ?_
        refine lv_goto (tgt := 26) hx hb d_M_isPinned_22 (by decide) ?_
        exact ret_qz S hr hlk rfl (by rw [if_pos ⟨inN3 (by omega) hj, Int32.not_le.mp c3⟩]) d_M_isPinned_26
set_option maxHeartbeats 4000000 in
set_option maxRecDepth 100000 in
theorem c_M_empty (l : Launch) (E : EN) (d : DM) (b : MA) (hd rd wr : Int32) (dk mm pg pn di mk : Nat → Int32) (i : Nat) (hi : i < 32) (A : Nat → Prop) (hD : mD E d b A) : Met l y_M_empty (Cond.code y_M_empty b_M_empty 2 none :: tbw) (k2_rm 0 0) (Pq E [.ref b.o, .int (nI i)] (mP E d b (hd, rd, wr, dk, mm, pg, pn, di, mk))) (Qv (mP E d b (hd, rd, wr, dk, mm, upd pg i (-1), upd pn i 0, upd di i 0, upd mk i 0)) A) 0 0 A := by
  refine ent rfl (by decide) (Nat.le_of_ble_eq_true rfl) ?_
  intro p e s m below meth c S hr hlk hnm hk hP ls hl
  obtain ⟨hx, hb, hml, hown, hts⟩ := id S
  have hl : lv_has ls 2 [(0, .ref b.o), (1, .int (nI i))] := hl
  have hS : va_S A s.heap s.heap [] := va_S.rf
  refine lv_aload_n hx hb d_M_empty_0 rfl (lv_at hl 0 rfl) ?_
  refine mg S hk hP 5 (by decide) rfl fl_M_16 rfl d_M_empty_1 ?_
  refine lv_iload_n hx hb d_M_empty_4 rfl (lv_at hl 1 rfl) ?_
  refine lv_iconst (v := -1) hx hb d_M_empty_5 (by decide) ?_
  refine ms_pg S hk hD hS hP (hi) d_M_empty_6 (fun H locs hP hS => ?_)
  refine lv_aload_n hx hb d_M_empty_7 rfl (lv_at hl 0 rfl) ?_
  refine mg S hk hP 6 (by decide) rfl fl_M_19 rfl d_M_empty_8 ?_
  refine lv_iload_n hx hb d_M_empty_11 rfl (lv_at hl 1 rfl) ?_
  refine lv_iconst (v := 0) hx hb d_M_empty_12 (by decide) ?_
  refine ms_pn S hk hD hS hP (hi) d_M_empty_13 (fun H locs hP hS => ?_)
  refine lv_aload_n hx hb d_M_empty_14 rfl (lv_at hl 0 rfl) ?_
  refine mg S hk hP 7 (by decide) rfl fl_M_22 rfl d_M_empty_15 ?_
  refine lv_iload_n hx hb d_M_empty_18 rfl (lv_at hl 1 rfl) ?_
  refine lv_iconst (v := 0) hx hb d_M_empty_19 (by decide) ?_
  refine ms_di S hk hD hS hP (hi) (rfl) d_M_empty_20 (fun H locs hP hS => ?_)
  refine lv_aload_n hx hb d_M_empty_21 rfl (lv_at hl 0 rfl) ?_
  refine mg S hk hP 8 (by decide) rfl fl_M_26 rfl d_M_empty_22 ?_
  refine lv_iload_n hx hb d_M_empty_25 rfl (lv_at hl 1 rfl) ?_
  refine lv_iconst (v := 0) hx hb d_M_empty_26 (by decide) ?_
  refine ms_mk S hk hD hS hP (hi) (rfl) d_M_empty_27 (fun H locs hP hS => ?_)
  exact ret_Qv S hr hlk hS hP d_M_empty_28
section
variable {p : Program} {l : Launch} {e : Env} {R : Room} {s : State} {m : MethodId} {args : Array Value} {below : List Frame} {meth : Method} {c : Code} {H : Heap} {locs : List Loc} {cells slots : Nat} {Q : State → Prop}
variable {E : EN} {w0 : Cond} {A : Nat → Prop} {H0 : Heap} {d : DM} {a : XA} {b : MA} {hd rd wr : Int32} {dk mm : Nat → Int32} {ti : Nat → Option Nat} {pg pn di mk : Nat → Int32} {ww : Nat → Nat → Int32}
set_option maxHeartbeats 4000000 in
set_option maxRecDepth 100000 in
theorem lp_M_frameOf (S : CallFix p m c b_M_frameOf 3 s args (w0 :: tbw) R_M) (hk : kk E s) (hdm : dm_ok d) (hP : mP E d b (hd, rd, wr, dk, mm, pg, pn, di, mk) H) {q : Int32}
    (hex : ∀ (ls : Array Slot), fo pg q d.n = none → lv_has ls 3 [(0, .ref b.o), (1, .int q), (2, .int (nI d.n))] → W p l e R s m args below meth c H locs cells slots Q (F0 m 32 ls []))
    (hret : ∀ (k : Nat) (ls : Array Slot), fo pg q d.n = some k → W p l e R s m args below meth c H locs cells slots Q (F0 m 25 ls [.int (nI k)])) :
    ∀ (n k : Nat) (ls : Array Slot), k ≤ d.n → d.n + 1 ≤ k + n → fo pg q k = none → lv_has ls 3 [(0, .ref b.o), (1, .int q), (2, .int (nI k))] → W p l e R s m args below meth c H locs cells slots Q (F0 m 2 ls []) := by
  obtain ⟨hx, hb, hml, hown, hts⟩ := id S
  obtain ⟨hn1, hn2, hP1, hP2, hw1, hw2⟩ := id hdm
  intro n
  induction n with
  | zero =>
    intro k ls h1 h2
    omega
  | succ n ih =>
    intro k ls h1 h2 hfo hl
    refine lv_iload_n hx hb d_M_frameOf_2 rfl (lv_at hl 2 rfl) ?_
    refine lv_aload_n hx hb d_M_frameOf_3 rfl (lv_at hl 0 rfl) ?_
    refine mg S hk hP 0 (by decide) rfl fl_M_29 rfl d_M_frameOf_4 ?_
    refine lv_icmp_ge (tgt := 32) hx hb d_M_frameOf_7 (by decide) (fun c1 => ?_) (fun c1 => ?_)
    · have e : k = d.n := by
        rcases Nat.lt_or_ge k (d.n) with h | h
        · exact absurd c1 (nI_ge h (by omega))
        · omega
      rw [e] at hfo hl
      exact hex ls hfo hl
    · have hlt : k < d.n := by
        rcases Nat.lt_or_ge k (d.n) with h | h
        · exact h
        · exact absurd (nI_le h (by omega)) c1
      refine lv_iload_n hx hb d_M_frameOf_10 rfl (lv_at hl 1 rfl) ?_
      refine lv_if_lt (tgt := 26) hx hb d_M_frameOf_11 (by decide) (fun c2 => ?_) (fun c2 => ?_)
      · refine lv_iinc (v := nI (k + 1)) (lv' := [(2, .int (nI (k + 1))), (0, .ref b.o), (1, .int q)]) hx hb d_M_frameOf_26 hl (k := 2) rfl (nI_1 k) (by decide) rfl (fun ls hl => ?_)
        refine lv_goto (tgt := 2) hx hb d_M_frameOf_29 (by decide) ?_
        have hl := lv_sub (l' := [(0, .ref b.o), (1, .int q), (2, .int (nI (k + 1)))]) hl [1, 2, 0] rfl
        exact ih (k + 1) ls hlt (by omega) (fo_succ_none hfo (fun z => absurd z.1 (Int32.not_le.mpr c2))) hl
      · refine lv_aload_n hx hb d_M_frameOf_14 rfl (lv_at hl 0 rfl) ?_
        refine mg S hk hP 5 (by decide) rfl fl_M_16 rfl d_M_frameOf_15 ?_
        refine lv_iload_n hx hb d_M_frameOf_18 rfl (lv_at hl 2 rfl) ?_
        refine ml_pg S hk hP (by omega) d_M_frameOf_19 ?_
        refine lv_iload_n hx hb d_M_frameOf_20 rfl (lv_at hl 1 rfl) ?_
        refine lv_icmp_ne (tgt := 26) hx hb d_M_frameOf_21 (by decide) (fun c3 => ?_) (fun c3 => ?_)
        · refine lv_iinc (v := nI (k + 1)) (lv' := [(2, .int (nI (k + 1))), (0, .ref b.o), (1, .int q)]) hx hb d_M_frameOf_26 hl (k := 2) rfl (nI_1 k) (by decide) rfl (fun ls hl => ?_)
          refine lv_goto (tgt := 2) hx hb d_M_frameOf_29 (by decide) ?_
          have hl := lv_sub (l' := [(0, .ref b.o), (1, .int q), (2, .int (nI (k + 1)))]) hl [1, 2, 0] rfl
          exact ih (k + 1) ls hlt (by omega) (fo_succ_none hfo (fun z => c3 z.2)) hl
        · refine lv_iload_n hx hb d_M_frameOf_24 rfl (lv_at hl 2 rfl) ?_
          exact hret k ls (fo_mono (fo_succ_some hfo ⟨Int32.not_lt.mp c2, c3⟩) d.n hlt)
end
set_option maxHeartbeats 4000000 in
set_option maxRecDepth 100000 in
theorem c_M_frameOf (l : Launch) (E : EN) (d : DM) (b : MA) (hd rd wr : Int32) (dk mm pg pn di mk : Nat → Int32) (q : Int32) (hdm : dm_ok d) : Met l y_M_frameOf (Cond.code y_M_frameOf b_M_frameOf 3 (some .int) :: tbw) (k2_rm 0 0) (Pq E [.ref b.o, .int q] (mP E d b (hd, rd, wr, dk, mm, pg, pn, di, mk))) (qi (fun r => r = foI (fo pg q d.n))) 0 0 nof := by
  refine ent rfl (by decide) (Nat.le_of_ble_eq_true rfl) ?_
  intro p e s m below meth c S hr hlk hnm hk hP ls hl
  obtain ⟨hx, hb, hml, hown, hts⟩ := id S
  have hl : lv_has ls 3 [(0, .ref b.o), (1, .int q)] := hl
  refine lv_iconst (v := 0) hx hb d_M_frameOf_0 (by decide) ?_
  refine lv_istore_n (lv' := [(2, .int 0), (0, .ref b.o), (1, .int q)]) hx hb d_M_frameOf_1 rfl hl (by decide) rfl (fun ls hl => ?_)
  have hl := lv_sub (l' := [(0, .ref b.o), (1, .int q), (2, .int 0)]) hl [1, 2, 0] rfl
  refine lp_M_frameOf S hk hdm hP (fun ls hfo hl => ?_) (fun k ls hfo => ?_) (d.n + 1) 0 ls (Nat.zero_le _) (by omega) rfl hl
  · refine lv_bipush (v := -5) hx hb d_M_frameOf_32 (by decide) ?_
    exact ret_qi S hr hlk (by rw [hfo]; rfl) d_M_frameOf_34
  · exact ret_qi S hr hlk (by rw [hfo]; rfl) d_M_frameOf_25
section
variable {p : Program} {l : Launch} {e : Env} {R : Room} {s : State} {m : MethodId} {args : Array Value} {below : List Frame} {meth : Method} {c : Code} {H : Heap} {locs : List Loc} {cells slots : Nat} {Q : State → Prop}
variable {E : EN} {w0 : Cond} {A : Nat → Prop} {H0 : Heap} {d : DM} {a : XA} {b : MA} {hd rd wr : Int32} {dk mm : Nat → Int32} {ti : Nat → Option Nat} {pg pn di mk : Nat → Int32} {ww : Nat → Nat → Int32}
set_option maxHeartbeats 4000000 in
set_option maxRecDepth 100000 in
theorem lp_M_pinned (S : CallFix p m c b_M_pinned 3 s args (w0 :: tbw) R_M) (hk : kk E s) (hdm : dm_ok d) (hP : mP E d b (hd, rd, wr, dk, mm, pg, pn, di, mk) H)
    (hex : ∀ (ls : Array Slot), lv_has ls 3 [(0, .ref b.o), (1, .int (nI (cnt pn d.n))), (2, .int (nI d.n))] → W p l e R s m args below meth c H locs cells slots Q (F0 m 35 ls [])) :
    ∀ (n k : Nat) (ls : Array Slot), k ≤ d.n → d.n + 1 ≤ k + n → lv_has ls 3 [(0, .ref b.o), (1, .int (nI (cnt pn k))), (2, .int (nI k))] → W p l e R s m args below meth c H locs cells slots Q (F0 m 4 ls []) := by
  obtain ⟨hx, hb, hml, hown, hts⟩ := id S
  obtain ⟨hn1, hn2, hP1, hP2, hw1, hw2⟩ := id hdm
  intro n
  induction n with
  | zero =>
    intro k ls h1 h2
    omega
  | succ n ih =>
    intro k ls h1 h2 hl
    refine lv_iload_n hx hb d_M_pinned_4 rfl (lv_at hl 2 rfl) ?_
    refine lv_aload_n hx hb d_M_pinned_5 rfl (lv_at hl 0 rfl) ?_
    refine mg S hk hP 0 (by decide) rfl fl_M_29 rfl d_M_pinned_6 ?_
    refine lv_icmp_ge (tgt := 35) hx hb d_M_pinned_9 (by decide) (fun c1 => ?_) (fun c1 => ?_)
    · have e : k = d.n := by
        rcases Nat.lt_or_ge k (d.n) with h | h
        · exact absurd c1 (nI_ge h (by omega))
        · omega
      rw [e] at hl
      exact hex ls hl
    · have hlt : k < d.n := by
        rcases Nat.lt_or_ge k (d.n) with h | h
        · exact h
        · exact absurd (nI_le h (by omega)) c1
      refine lv_iload_n hx hb d_M_pinned_12 rfl (lv_at hl 1 rfl) ?_
      refine lv_aload_n hx hb d_M_pinned_13 rfl (lv_at hl 0 rfl) ?_
      refine mg S hk hP 6 (by decide) rfl fl_M_19 rfl d_M_pinned_14 ?_
      refine lv_iload_n hx hb d_M_pinned_17 rfl (lv_at hl 2 rfl) ?_
      refine ml_pn S hk hP (by omega) d_M_pinned_18 ?_
      refine lv_if_le (tgt := 26) hx hb d_M_pinned_19 (by decide) (fun c2 => ?_) (fun c2 => ?_)
      · refine lv_iconst (v := 0) hx hb d_M_pinned_26 (by decide) ?_
        refine lv_iadd hx hb d_M_pinned_27 ?_
        refine lv_is (y := nI (cnt pn (k + 1))) (by simp only [cnt, if_neg (Int32.not_lt.mpr c2)]; exact (by rw [show (0 : Int32) = nI 0 from rfl, nI_add])) ?_
        refine lv_istore_n (lv' := [(1, .int (nI (cnt pn (k + 1)))), (0, .ref b.o), (2, .int (nI k))]) hx hb d_M_pinned_28 rfl hl (by decide) rfl (fun ls hl => ?_)
        refine lv_iinc (v := nI (k + 1)) (lv' := [(2, .int (nI (k + 1))), (1, .int (nI (cnt pn (k + 1)))), (0, .ref b.o)]) hx hb d_M_pinned_29 hl (k := 2) rfl (nI_1 k) (by decide) rfl (fun ls hl => ?_)
        refine lv_goto (tgt := 4) hx hb d_M_pinned_32 (by decide) ?_
        have hl := lv_sub (l' := [(0, .ref b.o), (1, .int (nI (cnt pn (k + 1)))), (2, .int (nI (k + 1)))]) hl [2, 1, 0] rfl
        exact ih (k + 1) ls hlt (by omega) hl
      · refine lv_iconst (v := 1) hx hb d_M_pinned_22 (by decide) ?_
        refine lv_goto (tgt := 27) hx hb d_M_pinned_23 (by decide) ?_
        refine lv_iadd hx hb d_M_pinned_27 ?_
        refine lv_is (y := nI (cnt pn (k + 1))) (by simp only [cnt, if_pos (Int32.not_le.mp c2)]; exact nI_1 _) ?_
        refine lv_istore_n (lv' := [(1, .int (nI (cnt pn (k + 1)))), (0, .ref b.o), (2, .int (nI k))]) hx hb d_M_pinned_28 rfl hl (by decide) rfl (fun ls hl => ?_)
        refine lv_iinc (v := nI (k + 1)) (lv' := [(2, .int (nI (k + 1))), (1, .int (nI (cnt pn (k + 1)))), (0, .ref b.o)]) hx hb d_M_pinned_29 hl (k := 2) rfl (nI_1 k) (by decide) rfl (fun ls hl => ?_)
        refine lv_goto (tgt := 4) hx hb d_M_pinned_32 (by decide) ?_
        have hl := lv_sub (l' := [(0, .ref b.o), (1, .int (nI (cnt pn (k + 1)))), (2, .int (nI (k + 1)))]) hl [2, 1, 0] rfl
        exact ih (k + 1) ls hlt (by omega) hl
end
set_option maxHeartbeats 4000000 in
set_option maxRecDepth 100000 in
theorem c_M_pinned (l : Launch) (E : EN) (d : DM) (b : MA) (hd rd wr : Int32) (dk mm pg pn di mk : Nat → Int32) (hdm : dm_ok d) : Met l y_M_pinned (Cond.code y_M_pinned b_M_pinned 3 (some .int) :: tbw) (k2_rm 0 0) (Pq E [.ref b.o] (mP E d b (hd, rd, wr, dk, mm, pg, pn, di, mk))) (qi (fun r => r = nI (cnt pn d.n))) 0 0 nof := by
  refine ent rfl (by decide) (Nat.le_of_ble_eq_true rfl) ?_
  intro p e s m below meth c S hr hlk hnm hk hP ls hl
  obtain ⟨hx, hb, hml, hown, hts⟩ := id S
  have hl : lv_has ls 3 [(0, .ref b.o)] := hl
  refine lv_iconst (v := 0) hx hb d_M_pinned_0 (by decide) ?_
  refine lv_istore_n (lv' := [(1, .int 0), (0, .ref b.o)]) hx hb d_M_pinned_1 rfl hl (by decide) rfl (fun ls hl => ?_)
  refine lv_iconst (v := 0) hx hb d_M_pinned_2 (by decide) ?_
  refine lv_istore_n (lv' := [(2, .int 0), (1, .int 0), (0, .ref b.o)]) hx hb d_M_pinned_3 rfl hl (by decide) rfl (fun ls hl => ?_)
  have hl := lv_sub (l' := [(0, .ref b.o), (1, .int 0), (2, .int 0)]) hl [2, 1, 0] rfl
  refine lp_M_pinned S hk hdm hP (fun ls hl => ?_) (d.n + 1) 0 ls (Nat.zero_le _) (by omega) hl
  refine lv_iload_n hx hb d_M_pinned_35 rfl (lv_at hl 1 rfl) ?_
  exact ret_qi S hr hlk rfl d_M_pinned_36
end
section
/-! the reference: store, find, fetch -/
/-- k places from B on hold src -/
def bl (g : Nat → Int32) (B k : Nat) (src : Nat → Int32) : Nat → Int32 := fun x => if B ≤ x ∧ x < B + k then src (x - B) else g x
theorem bl_0 (g : Nat → Int32) (B : Nat) (src : Nat → Int32) : bl g B 0 src = g := by
  funext x
  unfold bl
  rw [if_neg (by omega)]
theorem bl_up (g : Nat → Int32) (B k : Nat) (src : Nat → Int32) : upd (bl g B k src) (B + k) (src k) = bl g B (k + 1) src := by
  funext x
  by_cases e : x = B + k
  · subst e
    rw [upd_s]
    unfold bl
    rw [if_pos (by omega), Nat.add_sub_cancel_left]
  · rw [upd_n e]
    unfold bl
    by_cases h : B ≤ x ∧ x < B + k
    · rw [if_pos h, if_pos (by omega)]
    · rw [if_neg h, if_neg (by omega)]
theorem bl_rd {g src : Nat → Int32} {q k u : Nat} (hk : k < 8) : bl g (8 * q) k src (8 * u + k) = g (8 * u + k) := by
  unfold bl
  rw [if_neg (by omega)]
theorem bl_at {g src : Nat → Int32} {q w u j : Nat} (hw : w ≤ 8) (hj : j < w) : bl g (8 * q) w src (8 * u + j) = if u = q then src j else g (8 * u + j) := by
  unfold bl
  by_cases e : u = q
  · subst e
    rw [if_pos (by omega), if_pos rfl, Nat.add_sub_cancel_left]
  · rw [if_neg (by omega), if_neg e]
theorem bl_rel {g src : Nat → Int32} {f : Nat → Nat → Int32} {q w M : Nat} {h : Nat → Int32} (hw : w ≤ 8) (h1 : ∀ p j, p < M → j < w → g (8 * p + j) = f p j) (h2 : ∀ j, j < w → src j = h j) : ∀ p j, p < M → j < w → bl g (8 * q) w src (8 * p + j) = va_up f q h p j := by
  intro p j hp hj
  rw [bl_at hw hj]
  by_cases e : p = q
  · subst e; rw [if_pos rfl, va_up_self]; exact h2 j hj
  · rw [if_neg e, va_up_ne _ _ e]; exact h1 p j hp hj
section
variable {p : Program} {l : Launch} {e : Env} {R : Room} {s : State} {m : MethodId} {args : Array Value} {below : List Frame} {meth : Method} {c : Code} {H : Heap} {locs : List Loc} {cells slots : Nat} {Q : State → Prop}
variable {E : EN} {w0 : Cond} {A : Nat → Prop} {H0 : Heap} {d : DM} {a : XA} {b : MA} {hd rd wr : Int32} {dk mm : Nat → Int32} {ti : Nat → Option Nat} {pg pn di mk : Nat → Int32} {ww : Nat → Nat → Int32}
set_option maxHeartbeats 4000000 in
set_option maxRecDepth 100000 in
theorem lp_M_store (S : CallFix p m c b_M_store 3 s args (w0 :: tbw) R_M) (hk : kk E s) (hD : mD E d b A) (hdm : dm_ok d) {i q : Nat} (hi : i < d.n) (hq : q < d.P) (hpq : pg i = nI q)
    (hex : ∀ (H : Heap) (locs : List Loc) (ls : Array Slot), mP E d b (hd, rd, wr, bl dk (8 * q) d.w (fun j => mm (8 * i + j)), mm, pg, pn, di, mk) H → va_S A H0 H locs → lv_has ls 3 [(0, .ref b.o), (1, .int (nI i)), (2, .int (nI d.w))] → W p l e R s m args below meth c H locs cells slots Q (F0 m 43 ls [])) :
    ∀ (n k : Nat) (H : Heap) (locs : List Loc) (ls : Array Slot), k ≤ d.w → d.w + 1 ≤ k + n → mP E d b (hd, rd, wr, bl dk (8 * q) k (fun j => mm (8 * i + j)), mm, pg, pn, di, mk) H → va_S A H0 H locs → lv_has ls 3 [(0, .ref b.o), (1, .int (nI i)), (2, .int (nI k))] → W p l e R s m args below meth c H locs cells slots Q (F0 m 2 ls []) := by
  obtain ⟨hx, hb, hml, hown, hts⟩ := id S
  obtain ⟨hn1, hn2, hP1, hP2, hw1, hw2⟩ := id hdm
  intro n
  induction n with
  | zero =>
    intro k H locs ls h1 h2
    omega
  | succ n ih =>
    intro k H locs ls h1 h2 hP hS hl
    refine lv_iload_n hx hb d_M_store_2 rfl (lv_at hl 2 rfl) ?_
    refine lv_aload_n hx hb d_M_store_3 rfl (lv_at hl 0 rfl) ?_
    refine mg S hk hP 2 (by decide) rfl fl_M_36 rfl d_M_store_4 ?_
    refine lv_icmp_ge (tgt := 43) hx hb d_M_store_7 (by decide) (fun c1 => ?_) (fun c1 => ?_)
    · have e : k = d.w := by
        rcases Nat.lt_or_ge k (d.w) with h | h
        · exact absurd c1 (nI_ge h (by omega))
        · omega
      rw [e] at hP hl
      exact hex H locs ls hP hS hl
    · have hlt : k < d.w := by
        rcases Nat.lt_or_ge k (d.w) with h | h
        · exact h
        · exact absurd (nI_le h (by omega)) c1
      refine lv_aload_n hx hb d_M_store_10 rfl (lv_at hl 0 rfl) ?_
      refine mg S hk hP 3 (by decide) rfl fl_M_7 rfl d_M_store_11 ?_
      refine lv_bipush (v := 8) hx hb d_M_store_14 (by decide) ?_
      refine lv_aload_n hx hb d_M_store_16 rfl (lv_at hl 0 rfl) ?_
      refine mg S hk hP 5 (by decide) rfl fl_M_16 rfl d_M_store_17 ?_
      refine lv_iload_n hx hb d_M_store_20 rfl (lv_at hl 1 rfl) ?_
      refine ml_pg S hk hP (by omega) d_M_store_21 ?_
      refine lv_is (y := nI q) (hpq) ?_
      refine lv_imul hx hb d_M_store_22 ?_
      refine lv_is (y := nI (8 * q)) (by rw [show (8 : Int32) = nI 8 from rfl, pk_mul]) ?_
      refine lv_iload_n hx hb d_M_store_23 rfl (lv_at hl 2 rfl) ?_
      refine lv_iadd hx hb d_M_store_24 ?_
      refine lv_is (y := nI (8 * q + k)) (nI_add _ _) ?_
      refine lv_aload_n hx hb d_M_store_25 rfl (lv_at hl 0 rfl) ?_
      refine mg S hk hP 4 (by decide) rfl fl_M_13 rfl d_M_store_26 ?_
      refine lv_bipush (v := 8) hx hb d_M_store_29 (by decide) ?_
      refine lv_iload_n hx hb d_M_store_31 rfl (lv_at hl 1 rfl) ?_
      refine lv_imul hx hb d_M_store_32 ?_
      refine lv_is (y := nI (8 * i)) (by rw [show (8 : Int32) = nI 8 from rfl, pk_mul]) ?_
      refine lv_iload_n hx hb d_M_store_33 rfl (lv_at hl 2 rfl) ?_
      refine lv_iadd hx hb d_M_store_34 ?_
      refine lv_is (y := nI (8 * i + k)) (nI_add _ _) ?_
      refine ml_mm S hk hP (by omega) d_M_store_35 ?_
      refine ms_dk S hk hD hS hP (by omega) d_M_store_36 (fun H locs hP hS => ?_)
      refine lv_iinc (v := nI (k + 1)) (lv' := [(2, .int (nI (k + 1))), (0, .ref b.o), (1, .int (nI i))]) hx hb d_M_store_37 hl (k := 2) rfl (nI_1 k) (by decide) rfl (fun ls hl => ?_)
      refine lv_goto (tgt := 2) hx hb d_M_store_40 (by decide) ?_
      have hl := lv_sub (l' := [(0, .ref b.o), (1, .int (nI i)), (2, .int (nI (k + 1)))]) hl [1, 2, 0] rfl
      rw [bl_up dk (8 * q) k (fun j => mm (8 * i + j))] at hP
      exact ih (k + 1) H locs ls hlt (by omega) hP hS hl
end
set_option maxHeartbeats 4000000 in
set_option maxRecDepth 100000 in
/-- a frame's words go to the disk -/
theorem c_M_store (l : Launch) (E : EN) (d : DM) (b : MA) (T : St) (i : Nat) (hi : i < d.n) (hdm : dm_ok d) {q : Nat} (hq : q < d.P) (hpq : T.pg i = nI q) (A : Nat → Prop) (hD : mD E d b A) : Met l y_M_store (Cond.code y_M_store b_M_store 3 none :: tbw) (k2_rm 0 0) (Pq E [.ref b.o, .int (nI i)] (RM E d b T)) (Qv (RM E d b (s_wr T i)) A) 0 0 A := by
  refine ent rfl (by decide) (Nat.le_of_ble_eq_true rfl) ?_
  intro p e s m below meth c S hr hlk hnm hk hP ls hl
  obtain ⟨hx, hb, hml, hown, hts⟩ := id S
  have hl : lv_has ls 3 [(0, .ref b.o), (1, .int (nI i))] := hl
  obtain ⟨hn1, hn2, hP1, hP2, hw1, hw2⟩ := id hdm
  have hS : va_S A s.heap s.heap [] := va_S.rf
  obtain ⟨fk, fm, hP, hdk, hmm⟩ := hP
  have hcl : (T.pg i).toNatClampNeg = q := by rw [hpq]; exact nI_clamp (by omega)
  refine lv_iconst (v := 0) hx hb d_M_store_0 (by decide) ?_
  refine lv_istore_n (lv' := [(2, .int 0), (0, .ref b.o), (1, .int (nI i))]) hx hb d_M_store_1 rfl hl (by decide) rfl (fun ls hl => ?_)
  have hl := lv_sub (l' := [(0, .ref b.o), (1, .int (nI i)), (2, .int 0)]) hl [1, 2, 0] rfl
  refine lp_M_store (dk := fk) S hk hD hdm hi hq hpq (fun H locs ls hP hS hl => ?_) (d.w + 1) 0 s.heap [] ls (Nat.zero_le _) (by omega) (by rw [bl_0]; exact hP) hS hl
  refine lv_aload_n hx hb d_M_store_43 rfl (lv_at hl 0 rfl) ?_
  refine mg S hk hP 7 (by decide) rfl fl_M_22 rfl d_M_store_44 ?_
  refine lv_iload_n hx hb d_M_store_47 rfl (lv_at hl 1 rfl) ?_
  refine lv_iconst (v := 0) hx hb d_M_store_48 (by decide) ?_
  refine ms_di S hk hD hS hP (by omega) (rfl) d_M_store_49 (fun H locs hP hS => ?_)
  refine lv_aload_n hx hb d_M_store_50 rfl (lv_at hl 0 rfl) ?_
  refine lv_dup hx hb d_M_store_51 rfl ?_
  refine mg S hk hP 11 (by decide) rfl fl_M_52 rfl d_M_store_52 ?_
  refine lv_iconst (v := 1) hx hb d_M_store_55 (by decide) ?_
  refine lv_iadd hx hb d_M_store_56 ?_
  refine mp_writes S hk hD hS hP d_M_store_57 (fun H locs hP hS => ?_)
  refine ret_Qv S hr hlk hS ⟨_, fm, hP, ?_, hmm⟩ d_M_store_60
  show ∀ p j, p < d.P → j < d.w → bl fk (8 * q) d.w (fun j => fm (8 * i + j)) (8 * p + j) = va_up T.dk (T.pg i).toNatClampNeg (T.mm i) p j
  rw [hcl]
  exact bl_rel hw2 hdk (fun j hj => hmm i j hi hj)
section
variable {p : Program} {l : Launch} {e : Env} {R : Room} {s : State} {m : MethodId} {args : Array Value} {below : List Frame} {meth : Method} {c : Code} {H : Heap} {locs : List Loc} {cells slots : Nat} {Q : State → Prop}
variable {E : EN} {w0 : Cond} {A : Nat → Prop} {H0 : Heap} {d : DM} {a : XA} {b : MA} {hd rd wr : Int32} {dk mm : Nat → Int32} {ti : Nat → Option Nat} {pg pn di mk : Nat → Int32} {ww : Nat → Nat → Int32}
set_option maxHeartbeats 4000000 in
set_option maxRecDepth 100000 in
theorem lp_M_find (S : CallFix p m c b_M_find 2 s args (w0 :: tbw) R_M) (hk : kk E s) (hD : mD E d b A) (hdm : dm_ok d) (hpn : ∀ i, i < d.n → (0 < pn i ↔ pn i ≠ 0)) {i hd' : Nat} {mk' : Nat → Int32}
    (hex : ∀ (H : Heap) (locs : List Loc) (ls : Array Slot), mP E d b (nI hd', rd, wr, dk, mm, pg, pn, di, mk') H → va_S A H0 H locs → lv_has ls 2 [(0, .ref b.o), (1, .int (nI i))] → W p l e R s m args below meth c H locs cells slots Q (F0 m 87 ls [])) :
    ∀ (f h : Nat) (mk : Nat → Int32) (H : Heap) (locs : List Loc) (ls : Array Slot), h < d.n → (∀ j, j < d.n → pg j = -1 → mk j = 0) → clk d.n pn f h mk = some (i, hd', mk') → mP E d b (nI h, rd, wr, dk, mm, pg, pn, di, mk) H → va_S A H0 H locs → lv_has ls 2 [(0, .ref b.o)] → W p l e R s m args below meth c H locs cells slots Q (F0 m 14 ls []) := by
  obtain ⟨hx, hb, hml, hown, hts⟩ := id S
  obtain ⟨hn1, hn2, hP1, hP2, hw1, hw2⟩ := id hdm
  intro f
  induction f with
  | zero =>
    intro h mk H locs ls h1 h2 h3
    simp [clk] at h3
  | succ f ih =>
    intro h mk H locs ls h1 hmk h2 hP hS hl
    have hnx : (if h + 1 = d.n then 0 else h + 1) < d.n := by split <;> omega
    simp only [clk] at h2
    refine lv_aload_n hx hb d_M_find_14 rfl (lv_at hl 0 rfl) ?_
    refine mg S hk hP 9 (by decide) rfl fl_M_46 rfl d_M_find_15 ?_
    refine lv_istore_n (lv' := [(1, .int (nI h)), (0, .ref b.o)]) hx hb d_M_find_18 rfl hl (by decide) rfl (fun ls hl => ?_)
    have tail : ∀ (H : Heap) (locs : List Loc), mP E d b (nI (if h + 1 = d.n then 0 else h + 1), rd, wr, dk, mm, pg, pn, di, mk) H → va_S A H0 H locs → W p l e R s m args below meth c H locs cells slots Q (F0 m 46 ls []) := by
      intro H locs hP hS
      refine lv_aload_n hx hb d_M_find_46 rfl (lv_at hl 1 rfl) ?_
      refine mg S hk hP 6 (by decide) rfl fl_M_19 rfl d_M_find_47 ?_
      refine lv_iload_n hx hb d_M_find_50 rfl (lv_at hl 0 rfl) ?_
      refine ml_pn S hk hP (by omega) d_M_find_51 ?_
      refine lv_if_le (tgt := 58) hx hb d_M_find_52 (by decide) (fun c1 => ?_) (fun c1 => ?_)
      · have c0 : pn h = 0 := Classical.byContradiction fun z => absurd ((hpn h h1).mpr z) (Int32.not_lt.mpr c1)
        rw [if_pos c0] at h2
        refine lv_aload_n hx hb d_M_find_58 rfl (lv_at hl 1 rfl) ?_
        refine mg S hk hP 5 (by decide) rfl fl_M_16 rfl d_M_find_59 ?_
        refine lv_iload_n hx hb d_M_find_62 rfl (lv_at hl 0 rfl) ?_
        refine ml_pg S hk hP (by omega) d_M_find_63 ?_
        refine lv_iconst (v := -1) hx hb d_M_find_64 (by decide) ?_
        refine lv_icmp_eq (tgt := 87) hx hb d_M_find_65 (by decide) (fun c2 => ?_) (fun c2 => ?_)
        · rw [if_pos (hmk h h1 c2)] at h2
          cases h2
          have hl := lv_sub (l' := [(0, .ref b.o), (1, .int (nI i))]) hl [1, 0] rfl
          exact hex H locs ls hP hS hl
        · refine lv_aload_n hx hb d_M_find_68 rfl (lv_at hl 1 rfl) ?_
          refine mg S hk hP 8 (by decide) rfl fl_M_26 rfl d_M_find_69 ?_
          refine lv_iload_n hx hb d_M_find_72 rfl (lv_at hl 0 rfl) ?_
          refine ml_mk S hk hP (by omega) d_M_find_73 ?_
          refine lv_if_eq (tgt := 87) hx hb d_M_find_74 (by decide) (fun c3 => ?_) (fun c3 => ?_)
          · rw [if_pos c3] at h2
            cases h2
            have hl := lv_sub (l' := [(0, .ref b.o), (1, .int (nI i))]) hl [1, 0] rfl
            exact hex H locs ls hP hS hl
          · rw [if_neg c3] at h2
            refine lv_aload_n hx hb d_M_find_77 rfl (lv_at hl 1 rfl) ?_
            refine mg S hk hP 8 (by decide) rfl fl_M_26 rfl d_M_find_78 ?_
            refine lv_iload_n hx hb d_M_find_81 rfl (lv_at hl 0 rfl) ?_
            refine lv_iconst (v := 0) hx hb d_M_find_82 (by decide) ?_
            refine ms_mk S hk hD hS hP (by omega) (rfl) d_M_find_83 (fun H locs hP hS => ?_)
            refine lv_goto (tgt := 14) hx hb d_M_find_84 (by decide) ?_
            have hl := lv_sub (l' := [(0, .ref b.o)]) hl [1] rfl
            refine ih _ (upd mk h 0) H locs ls hnx (fun j hj hp => ?_) h2 hP hS hl
            by_cases e : j = h
            · subst e; exact upd_s
            · rw [upd_n e]; exact hmk j hj hp
      · have c0 : ¬ pn h = 0 := (hpn h h1).mp (Int32.not_le.mp c1)
        rw [if_neg c0] at h2
        refine lv_goto (tgt := 14) hx hb d_M_find_55 (by decide) ?_
        have hl := lv_sub (l' := [(0, .ref b.o)]) hl [1] rfl
        exact ih _ mk H locs ls hnx hmk h2 hP hS hl
    refine lv_aload_n hx hb d_M_find_19 rfl (lv_at hl 1 rfl) ?_
    refine lv_aload_n hx hb d_M_find_20 rfl (lv_at hl 1 rfl) ?_
    refine mg S hk hP 9 (by decide) rfl fl_M_46 rfl d_M_find_21 ?_
    refine lv_iconst (v := 1) hx hb d_M_find_24 (by decide) ?_
    refine lv_iadd hx hb d_M_find_25 ?_
    refine lv_is (y := nI (h + 1)) (nI_1 h) ?_
    refine lv_aload_n hx hb d_M_find_26 rfl (lv_at hl 1 rfl) ?_
    refine mg S hk hP 0 (by decide) rfl fl_M_29 rfl d_M_find_27 ?_
    refine lv_icmp_ne (tgt := 37) hx hb d_M_find_30 (by decide) (fun c1 => ?_) (fun c1 => ?_)
    · refine lv_aload_n hx hb d_M_find_37 rfl (lv_at hl 1 rfl) ?_
      refine mg S hk hP 9 (by decide) rfl fl_M_46 rfl d_M_find_38 ?_
      refine lv_iconst (v := 1) hx hb d_M_find_41 (by decide) ?_
      refine lv_iadd hx hb d_M_find_42 ?_
      refine lv_is (y := nI (if h + 1 = d.n then 0 else h + 1)) (by rw [if_neg (fun z => c1 (by rw [z]))]; exact nI_1 h) ?_
      refine mp_at S hk hD hS hP d_M_find_43 (fun H locs hP hS => ?_)
      exact tail H locs hP hS
    · refine lv_iconst (v := 0) hx hb d_M_find_33 (by decide) ?_
      refine lv_goto (tgt := 43) hx hb d_M_find_34 (by decide) ?_
      refine lv_is (y := nI (if h + 1 = d.n then 0 else h + 1)) (by rw [if_pos ((nI_eq (by omega) (by omega)).mp c1)]; rfl) ?_
      refine mp_at S hk hD hS hP d_M_find_43 (fun H locs hP hS => ?_)
      exact tail H locs hP hS
end
set_option maxHeartbeats 4000000 in
set_option maxRecDepth 100000 in
/-- the next empty frame -/
theorem c_M_find (l : Launch) (E : EN) (d : DM) (b : MA) (T : St) {N : Nat} (hI : Inv d N T) (hN : N < 2 ^ 31) (hdm : dm_ok d) (A : Nat → Prop) (hD : mD E d b A) : Met l y_M_find (Cond.code y_M_find b_M_find 2 (some .int) :: tbw) (k2_rm 1 22) (Pq E [.ref b.o] (RM E d b T)) (Qi (fun r H => (cnt T.pn d.n = d.n ∧ r = -5 ∧ RM E d b T H) ∨ (cnt T.pn d.n ≠ d.n ∧ ∃ i T', s_next d T = some (i, T') ∧ i < d.n ∧ r = nI i ∧ RM E d b T' H)) A) 0 0 A := by
  refine ent rfl (by decide) (Nat.le_of_ble_eq_true rfl) ?_
  intro p e s m below meth c S hr hlk hnm hk hP ls hl
  obtain ⟨hx, hb, hml, hown, hts⟩ := id S
  have hl : lv_has ls 2 [(0, .ref b.o)] := hl
  obtain ⟨hn1, hn2, hP1, hP2, hw1, hw2⟩ := id hdm
  have hS : va_S A s.heap s.heap [] := va_S.rf
  obtain ⟨fk, fm, hP, hdk, hmm⟩ := hP
  refine lv_aload_n hx hb d_M_find_0 rfl (lv_at hl 0 rfl) ?_
  refine aft_qi (runV (As := []) (rest := []) S hT0 hk (c_M_pinned l E d b (nI T.hd) T.rd T.wr fk fm T.pg T.pn T.di T.mk hdm) k_M_55 rfl rfl ⟨Nat.le_of_ble_eq_true rfl, Nat.le_of_ble_eq_true rfl⟩ (mrec hk hP) hP hl.1 rfl rfl (Nat.le_of_ble_eq_true rfl) d_M_find_1 ⟨Nat.le_refl _, Nat.le_refl _⟩) (fun r1 hr1 => ?_)
  subst hr1
  refine lv_aload_n hx hb d_M_find_4 rfl (lv_at hl 0 rfl) ?_
  refine mg S hk hP 0 (by decide) rfl fl_M_29 rfl d_M_find_5 ?_
  refine lv_icmp_ne (tgt := 14) hx hb d_M_find_8 (by decide) (fun c1 => ?_) (fun c1 => ?_)
  · have hc : cnt T.pn d.n ≠ d.n := fun z => c1 (by rw [z])
    obtain ⟨i, hd, mk, hclk, hi, hpi, hmi, hhd⟩ := next_ok hI hN hc
    have hsn := s_next_some hclk
    refine lp_M_find S hk hD hdm (fun i hi => pn_pos hI hN hi) (i := i) (hd' := hd) (mk' := mk) (fun H locs ls hP hS hl => ?_) (2 * d.n + 2) T.hd T.mk s.heap [] ls hI.1 (fun j hj hp => (hI.2.2.2.1 j hj hp).2.2) hclk hP hS hl
    refine lv_aload_n hx hb d_M_find_87 rfl (lv_at hl 0 rfl) ?_
    refine mg S hk hP 5 (by decide) rfl fl_M_16 rfl d_M_find_88 ?_
    refine lv_iload_n hx hb d_M_find_91 rfl (lv_at hl 1 rfl) ?_
    refine ml_pg S hk hP (by omega) d_M_find_92 ?_
    refine lv_iconst (v := -1) hx hb d_M_find_93 (by decide) ?_
    refine lv_icmp_eq (tgt := 111) hx hb d_M_find_94 (by decide) (fun c2 => ?_) (fun c2 => ?_)
    · refine lv_aload_n hx hb d_M_find_111 rfl (lv_at hl 0 rfl) ?_
      refine lv_iload_n hx hb d_M_find_112 rfl (lv_at hl 1 rfl) ?_
      refine aft_Qv (runV (As := [.int (nI i)]) (rest := []) S hT0 hk (c_M_empty l E d b (nI hd) T.rd T.wr fk fm T.pg T.pn T.di mk i (by omega) A hD) k_M_42 rfl rfl ⟨Nat.le_of_ble_eq_true rfl, Nat.le_of_ble_eq_true rfl⟩ (mrec hk hP) hP hl.1 rfl rfl (Nat.le_of_ble_eq_true rfl) d_M_find_113 ⟨Nat.le_refl _, Nat.le_refl _⟩) hS (fun _ h => h) (fun H locs hP _ _ hS => ?_)
      refine lv_iload_n hx hb d_M_find_116 rfl (lv_at hl 1 rfl) ?_
      refine ret_Qi S hr hlk hS (Or.inr ⟨hc, i, _, hsn, hi, rfl, ?_⟩) d_M_find_117
      rw [show s_out (s_hm T hd mk) i = s_em (s_hm T hd mk) i from if_neg (fun z => z.1 c2)]
      exact ⟨fk, fm, hP, hdk, hmm⟩
    · refine lv_aload_n hx hb d_M_find_97 rfl (lv_at hl 0 rfl) ?_
      refine mg S hk hP 7 (by decide) rfl fl_M_22 rfl d_M_find_98 ?_
      refine lv_iload_n hx hb d_M_find_101 rfl (lv_at hl 1 rfl) ?_
      refine ml_di S hk hP (by omega) d_M_find_102 ?_
      refine lv_if_eq (tgt := 111) hx hb d_M_find_103 (by decide) (fun c3 => ?_) (fun c3 => ?_)
      · refine lv_aload_n hx hb d_M_find_111 rfl (lv_at hl 0 rfl) ?_
        refine lv_iload_n hx hb d_M_find_112 rfl (lv_at hl 1 rfl) ?_
        refine aft_Qv (runV (As := [.int (nI i)]) (rest := []) S hT0 hk (c_M_empty l E d b (nI hd) T.rd T.wr fk fm T.pg T.pn T.di mk i (by omega) A hD) k_M_42 rfl rfl ⟨Nat.le_of_ble_eq_true rfl, Nat.le_of_ble_eq_true rfl⟩ (mrec hk hP) hP hl.1 rfl rfl (Nat.le_of_ble_eq_true rfl) d_M_find_113 ⟨Nat.le_refl _, Nat.le_refl _⟩) hS (fun _ h => h) (fun H locs hP _ _ hS => ?_)
        refine lv_iload_n hx hb d_M_find_116 rfl (lv_at hl 1 rfl) ?_
        refine ret_Qi S hr hlk hS (Or.inr ⟨hc, i, _, hsn, hi, rfl, ?_⟩) d_M_find_117
        rw [show s_out (s_hm T hd mk) i = s_em (s_hm T hd mk) i from if_neg (fun z => z.2 c3)]
        exact ⟨fk, fm, hP, hdk, hmm⟩
      · obtain ⟨q, hq, eq⟩ : ∃ q, q < d.P ∧ T.pg i = nI q := (hI.2.1 i hi).resolve_left c2
        refine lv_aload_n hx hb d_M_find_106 rfl (lv_at hl 0 rfl) ?_
        refine lv_iload_n hx hb d_M_find_107 rfl (lv_at hl 1 rfl) ?_
        refine aft_Qv (runV (As := [.int (nI i)]) (rest := []) S hT0 hk (c_M_store l E d b (s_hm T hd mk) i hi hdm hq eq A hD) k_M_59 rfl rfl ⟨Nat.le_of_ble_eq_true rfl, Nat.le_of_ble_eq_true rfl⟩ (mrec hk hP) ⟨fk, fm, hP, hdk, hmm⟩ hl.1 rfl rfl (Nat.le_of_ble_eq_true rfl) d_M_find_108 ⟨Nat.le_refl _, Nat.le_refl _⟩) hS (fun _ h => h) (fun H locs hP _ _ hS => ?_)
        obtain ⟨fk2, fm2, hP, hdk2, hmm2⟩ := hP
        refine lv_aload_n hx hb d_M_find_111 rfl (lv_at hl 0 rfl) ?_
        refine lv_iload_n hx hb d_M_find_112 rfl (lv_at hl 1 rfl) ?_
        refine aft_Qv (runV (As := [.int (nI i)]) (rest := []) S hT0 hk (c_M_empty l E d b (nI hd) T.rd (T.wr + 1) fk2 fm2 T.pg T.pn (upd T.di i 0) mk i (by omega) A hD) k_M_42 rfl rfl ⟨Nat.le_of_ble_eq_true rfl, Nat.le_of_ble_eq_true rfl⟩ (mrec hk hP) hP hl.1 rfl rfl (Nat.le_of_ble_eq_true rfl) d_M_find_113 ⟨Nat.le_refl _, Nat.le_refl _⟩) hS (fun _ h => h) (fun H locs hP _ _ hS => ?_)
        refine lv_iload_n hx hb d_M_find_116 rfl (lv_at hl 1 rfl) ?_
        refine ret_Qi S hr hlk hS (Or.inr ⟨hc, i, _, hsn, hi, rfl, ?_⟩) d_M_find_117
        rw [show s_out (s_hm T hd mk) i = s_em (s_wr (s_hm T hd mk) i) i from if_pos ⟨c2, c3⟩]
        exact ⟨fk2, fm2, hP, hdk2, hmm2⟩
  · have hc : cnt T.pn d.n = d.n := (nI_eq (by have := cnt_le T.pn d.n; omega) (by omega)).mp c1
    refine lv_bipush (v := -5) hx hb d_M_find_11 (by decide) ?_
    exact ret_Qi S hr hlk hS (Or.inl ⟨hc, rfl, fk, fm, hP, hdk, hmm⟩) d_M_find_13
section
variable {p : Program} {l : Launch} {e : Env} {R : Room} {s : State} {m : MethodId} {args : Array Value} {below : List Frame} {meth : Method} {c : Code} {H : Heap} {locs : List Loc} {cells slots : Nat} {Q : State → Prop}
variable {E : EN} {w0 : Cond} {A : Nat → Prop} {H0 : Heap} {d : DM} {a : XA} {b : MA} {hd rd wr : Int32} {dk mm : Nat → Int32} {ti : Nat → Option Nat} {pg pn di mk : Nat → Int32} {ww : Nat → Nat → Int32}
set_option maxHeartbeats 4000000 in
set_option maxRecDepth 100000 in
theorem lp_M_fetch (S : CallFix p m c b_M_fetch 4 s args (w0 :: tbw) R_M) (hk : kk E s) (hD : mD E d b A) (hdm : dm_ok d) {i q : Nat} (hi : i < d.n) (hq : q < d.P)
    (hex : ∀ (H : Heap) (locs : List Loc) (ls : Array Slot), mP E d b (hd, rd, wr, dk, bl mm (8 * i) d.w (fun j => dk (8 * q + j)), pg, pn, di, mk) H → va_S A H0 H locs → lv_has ls 4 [(0, .ref b.o), (1, .int (nI q)), (2, .int (nI i)), (3, .int (nI d.w))] → W p l e R s m args below meth c H locs cells slots Q (F0 m 74 ls [])) :
    ∀ (n k : Nat) (H : Heap) (locs : List Loc) (ls : Array Slot), k ≤ d.w → d.w + 1 ≤ k + n → mP E d b (hd, rd, wr, dk, bl mm (8 * i) k (fun j => dk (8 * q + j)), pg, pn, di, mk) H → va_S A H0 H locs → lv_has ls 4 [(0, .ref b.o), (1, .int (nI q)), (2, .int (nI i)), (3, .int (nI k))] → W p l e R s m args below meth c H locs cells slots Q (F0 m 38 ls []) := by
  obtain ⟨hx, hb, hml, hown, hts⟩ := id S
  obtain ⟨hn1, hn2, hP1, hP2, hw1, hw2⟩ := id hdm
  intro n
  induction n with
  | zero =>
    intro k H locs ls h1 h2
    omega
  | succ n ih =>
    intro k H locs ls h1 h2 hP hS hl
    refine lv_iload_n hx hb d_M_fetch_38 rfl (lv_at hl 3 rfl) ?_
    refine lv_aload_n hx hb d_M_fetch_39 rfl (lv_at hl 0 rfl) ?_
    refine mg S hk hP 2 (by decide) rfl fl_M_36 rfl d_M_fetch_40 ?_
    refine lv_icmp_ge (tgt := 74) hx hb d_M_fetch_43 (by decide) (fun c1 => ?_) (fun c1 => ?_)
    · have e : k = d.w := by
        rcases Nat.lt_or_ge k (d.w) with h | h
        · exact absurd c1 (nI_ge h (by omega))
        · omega
      rw [e] at hP hl
      exact hex H locs ls hP hS hl
    · have hlt : k < d.w := by
        rcases Nat.lt_or_ge k (d.w) with h | h
        · exact h
        · exact absurd (nI_le h (by omega)) c1
      refine lv_aload_n hx hb d_M_fetch_46 rfl (lv_at hl 0 rfl) ?_
      refine mg S hk hP 4 (by decide) rfl fl_M_13 rfl d_M_fetch_47 ?_
      refine lv_bipush (v := 8) hx hb d_M_fetch_50 (by decide) ?_
      refine lv_iload_n hx hb d_M_fetch_52 rfl (lv_at hl 2 rfl) ?_
      refine lv_imul hx hb d_M_fetch_53 ?_
      refine lv_is (y := nI (8 * i)) (by rw [show (8 : Int32) = nI 8 from rfl, pk_mul]) ?_
      refine lv_iload_n hx hb d_M_fetch_54 rfl (lv_at hl 3 rfl) ?_
      refine lv_iadd hx hb d_M_fetch_55 ?_
      refine lv_is (y := nI (8 * i + k)) (nI_add _ _) ?_
      refine lv_aload_n hx hb d_M_fetch_56 rfl (lv_at hl 0 rfl) ?_
      refine mg S hk hP 3 (by decide) rfl fl_M_7 rfl d_M_fetch_57 ?_
      refine lv_bipush (v := 8) hx hb d_M_fetch_60 (by decide) ?_
      refine lv_iload_n hx hb d_M_fetch_62 rfl (lv_at hl 1 rfl) ?_
      refine lv_imul hx hb d_M_fetch_63 ?_
      refine lv_is (y := nI (8 * q)) (by rw [show (8 : Int32) = nI 8 from rfl, pk_mul]) ?_
      refine lv_iload_n hx hb d_M_fetch_64 rfl (lv_at hl 3 rfl) ?_
      refine lv_iadd hx hb d_M_fetch_65 ?_
      refine lv_is (y := nI (8 * q + k)) (nI_add _ _) ?_
      refine ml_dk S hk hP (by omega) d_M_fetch_66 ?_
      refine ms_mm S hk hD hS hP (by omega) d_M_fetch_67 (fun H locs hP hS => ?_)
      refine lv_iinc (v := nI (k + 1)) (lv' := [(3, .int (nI (k + 1))), (0, .ref b.o), (1, .int (nI q)), (2, .int (nI i))]) hx hb d_M_fetch_68 hl (k := 3) rfl (nI_1 k) (by decide) rfl (fun ls hl => ?_)
      refine lv_goto (tgt := 38) hx hb d_M_fetch_71 (by decide) ?_
      have hl := lv_sub (l' := [(0, .ref b.o), (1, .int (nI q)), (2, .int (nI i)), (3, .int (nI (k + 1)))]) hl [1, 2, 3, 0] rfl
      rw [bl_up mm (8 * i) k (fun j => dk (8 * q + j))] at hP
      exact ih (k + 1) H locs ls hlt (by omega) hP hS hl
end
set_option maxHeartbeats 4000000 in
set_option maxRecDepth 100000 in
/-- a page comes in, with one pin more -/
theorem c_M_fetch (l : Launch) (E : EN) (d : DM) (b : MA) (T : St) (q : Int32) {N : Nat} (hI : Inv d N T) (hN : N < 2 ^ 31) (hdm : dm_ok d) (A : Nat → Prop) (hD : mD E d b A) : Met l y_M_fetch (Cond.code y_M_fetch b_M_fetch 4 (some .int) :: tbw) (k2_rm 2 43) (Pq E [.ref b.o, .int q] (RM E d b T)) (Qi (fun r H => r = (o_fetch d T q).1 ∧ RM E d b (o_fetch d T q).2 H) A) 0 0 A := by
  refine ent rfl (by decide) (Nat.le_of_ble_eq_true rfl) ?_
  intro p e s m below meth c S hr hlk hnm hk hP ls hl
  obtain ⟨hx, hb, hml, hown, hts⟩ := id S
  have hl : lv_has ls 4 [(0, .ref b.o), (1, .int q)] := hl
  obtain ⟨hn1, hn2, hP1, hP2, hw1, hw2⟩ := id hdm
  have hS : va_S A s.heap s.heap [] := va_S.rf
  obtain ⟨fk, fm, hP, hdk, hmm⟩ := hP
  refine lv_aload_n hx hb d_M_fetch_0 rfl (lv_at hl 0 rfl) ?_
  refine lv_iload_n hx hb d_M_fetch_1 rfl (lv_at hl 1 rfl) ?_
  refine aft_qi (runV (As := [.int q]) (rest := []) S hT0 hk (c_M_isPage l E d b (nI T.hd) T.rd T.wr fk fm T.pg T.pn T.di T.mk q) k_M_62 rfl rfl ⟨Nat.le_of_ble_eq_true rfl, Nat.le_of_ble_eq_true rfl⟩ (mrec hk hP) hP hl.1 rfl rfl (Nat.le_of_ble_eq_true rfl) d_M_fetch_2 ⟨Nat.le_refl _, Nat.le_refl _⟩) (fun r hr1 => ?_)
  refine lv_if_ne (tgt := 11) hx hb d_M_fetch_5 (by decide) (fun c1 => ?_) (fun c1 => ?_)
  · have c2 : 0 ≤ q ∧ q < nI d.P := Classical.byContradiction fun z => c1 (by rw [hr1, if_neg z])
    obtain ⟨q, hq, rfl⟩ := inN2 (by omega) c2
    have hcl : (nI q).toNatClampNeg = q := nI_clamp (by omega)
    refine lv_aload_n hx hb d_M_fetch_11 rfl (lv_at hl 0 rfl) ?_
    refine lv_iload_n hx hb d_M_fetch_12 rfl (lv_at hl 1 rfl) ?_
    refine aft_qi (runV (As := [.int (nI q)]) (rest := []) S hT0 hk (c_M_frameOf l E d b (nI T.hd) T.rd T.wr fk fm T.pg T.pn T.di T.mk (nI q) hdm) k_M_66 rfl rfl ⟨Nat.le_of_ble_eq_true rfl, Nat.le_of_ble_eq_true rfl⟩ (mrec hk hP) hP hl.1 rfl rfl (Nat.le_of_ble_eq_true rfl) d_M_fetch_13 ⟨Nat.le_refl _, Nat.le_refl _⟩) (fun r2 hr2 => ?_)
    subst hr2
    cases hfo : fo T.pg (nI q) d.n with
    | some i =>
      have hi : i < d.n := (fo_some hfo).1
      have ho : o_fetch d T (nI q) = (nI i, s_pin T i) := by simp only [o_fetch, if_pos c2, hfo]
      refine lv_is (y := nI i) rfl ?_
      refine lv_istore_n (lv' := [(2, .int (nI i)), (0, .ref b.o), (1, .int (nI q))]) hx hb d_M_fetch_16 rfl hl (by decide) rfl (fun ls hl => ?_)
      refine lv_iload_n hx hb d_M_fetch_17 rfl (lv_at hl 0 rfl) ?_
      refine lv_bipush (v := -5) hx hb d_M_fetch_18 (by decide) ?_
      refine lv_icmp_ne (tgt := 91) hx hb d_M_fetch_20 (by decide) (fun c3 => ?_) (fun c3 => ?_)
      · refine lv_aload_n hx hb d_M_fetch_91 rfl (lv_at hl 1 rfl) ?_
        refine mg S hk hP 6 (by decide) rfl fl_M_19 rfl d_M_fetch_92 ?_
        refine lv_iload_n hx hb d_M_fetch_95 rfl (lv_at hl 0 rfl) ?_
        refine lv_dup2_11 hx hb d_M_fetch_96 rfl rfl ?_
        refine ml_pn S hk hP (by omega) d_M_fetch_97 ?_
        refine lv_iconst (v := 1) hx hb d_M_fetch_98 (by decide) ?_
        refine lv_iadd hx hb d_M_fetch_99 ?_
        refine ms_pn S hk hD hS hP (by omega) d_M_fetch_100 (fun H locs hP hS => ?_)
        refine lv_aload_n hx hb d_M_fetch_101 rfl (lv_at hl 1 rfl) ?_
        refine mg S hk hP 8 (by decide) rfl fl_M_26 rfl d_M_fetch_102 ?_
        refine lv_iload_n hx hb d_M_fetch_105 rfl (lv_at hl 0 rfl) ?_
        refine lv_iconst (v := 1) hx hb d_M_fetch_106 (by decide) ?_
        refine ms_mk S hk hD hS hP (by omega) (rfl) d_M_fetch_107 (fun H locs hP hS => ?_)
        refine lv_iload_n hx hb d_M_fetch_108 rfl (lv_at hl 0 rfl) ?_
        exact ret_Qi S hr hlk hS (by rw [ho]; exact ⟨rfl, fk, fm, hP, hdk, hmm⟩) d_M_fetch_109
      · exact absurd c3 (nI_m5 (by omega))
    | none =>
      refine lv_is (y := -5) rfl ?_
      refine lv_istore_n (lv' := [(2, .int (-5)), (0, .ref b.o), (1, .int (nI q))]) hx hb d_M_fetch_16 rfl hl (by decide) rfl (fun ls hl => ?_)
      refine lv_iload_n hx hb d_M_fetch_17 rfl (lv_at hl 0 rfl) ?_
      refine lv_bipush (v := -5) hx hb d_M_fetch_18 (by decide) ?_
      refine lv_icmp_ne (tgt := 91) hx hb d_M_fetch_20 (by decide) (fun c3 => ?_) (fun c3 => ?_)
      · exact absurd rfl c3
      · refine lv_aload_n hx hb d_M_fetch_23 rfl (lv_at hl 1 rfl) ?_
        refine aft_Qi (runV (As := []) (rest := []) S hT0 hk (c_M_find l E d b T hI hN hdm A hD) k_M_70 rfl rfl ⟨Nat.le_of_ble_eq_true rfl, Nat.le_of_ble_eq_true rfl⟩ (mrec hk hP) ⟨fk, fm, hP, hdk, hmm⟩ hl.1 rfl rfl (Nat.le_of_ble_eq_true rfl) d_M_fetch_24 ⟨Nat.le_refl _, Nat.le_refl _⟩) hS (fun _ h => h) (fun r4 H locs hr4 _ _ hS => ?_)
        rcases hr4 with ⟨c4, rfl, fk2, fm2, hP, hdk2, hmm2⟩ | ⟨c4, i, T2, hsn, hi, rfl, fk2, fm2, hP, hdk2, hmm2⟩
        · refine lv_istore_n (lv' := [(2, .int (-5)), (0, .ref b.o), (1, .int (nI q))]) hx hb d_M_fetch_27 rfl hl (by decide) rfl (fun ls hl => ?_)
          refine lv_iload_n hx hb d_M_fetch_28 rfl (lv_at hl 0 rfl) ?_
          refine lv_bipush (v := -5) hx hb d_M_fetch_29 (by decide) ?_
          refine lv_icmp_ne (tgt := 36) hx hb d_M_fetch_31 (by decide) (fun c5 => ?_) (fun c5 => ?_)
          · exact absurd rfl c5
          · have ho : o_fetch d T (nI q) = (-1, T) := by simp only [o_fetch, if_pos c2, hfo, if_pos c4]
            refine lv_iconst (v := -1) hx hb d_M_fetch_34 (by decide) ?_
            exact ret_Qi S hr hlk hS (by rw [ho]; exact ⟨rfl, fk2, fm2, hP, hdk2, hmm2⟩) d_M_fetch_35
        · refine lv_istore_n (lv' := [(2, .int (nI i)), (0, .ref b.o), (1, .int (nI q))]) hx hb d_M_fetch_27 rfl hl (by decide) rfl (fun ls hl => ?_)
          refine lv_iload_n hx hb d_M_fetch_28 rfl (lv_at hl 0 rfl) ?_
          refine lv_bipush (v := -5) hx hb d_M_fetch_29 (by decide) ?_
          refine lv_icmp_ne (tgt := 36) hx hb d_M_fetch_31 (by decide) (fun c5 => ?_) (fun c5 => ?_)
          · have ho : o_fetch d T (nI q) = (nI i, s_pin (s_ld T2 i (nI q)) i) := by simp only [o_fetch, if_pos c2, hfo, if_neg c4, hsn]
            refine lv_iconst (v := 0) hx hb d_M_fetch_36 (by decide) ?_
            refine lv_istore_n (lv' := [(3, .int 0), (2, .int (nI i)), (0, .ref b.o), (1, .int (nI q))]) hx hb d_M_fetch_37 rfl hl (by decide) rfl (fun ls hl => ?_)
            have hl := lv_sub (l' := [(0, .ref b.o), (1, .int (nI q)), (2, .int (nI i)), (3, .int 0)]) hl [2, 3, 1, 0] rfl
            refine lp_M_fetch (mm := fm2) (dk := fk2) S hk hD hdm hi hq (fun H locs ls hP hS hl => ?_) (d.w + 1) 0 H locs ls (Nat.zero_le _) (by omega) (by rw [bl_0]; exact hP) hS hl
            refine lv_aload_n hx hb d_M_fetch_74 rfl (lv_at hl 0 rfl) ?_
            refine mg S hk hP 5 (by decide) rfl fl_M_16 rfl d_M_fetch_75 ?_
            refine lv_iload_n hx hb d_M_fetch_78 rfl (lv_at hl 2 rfl) ?_
            refine lv_iload_n hx hb d_M_fetch_79 rfl (lv_at hl 1 rfl) ?_
            refine ms_pg S hk hD hS hP (by omega) d_M_fetch_80 (fun H locs hP hS => ?_)
            refine lv_aload_n hx hb d_M_fetch_81 rfl (lv_at hl 0 rfl) ?_
            refine lv_dup hx hb d_M_fetch_82 rfl ?_
            refine mg S hk hP 10 (by decide) rfl fl_M_49 rfl d_M_fetch_83 ?_
            refine lv_iconst (v := 1) hx hb d_M_fetch_86 (by decide) ?_
            refine lv_iadd hx hb d_M_fetch_87 ?_
            refine mp_reads S hk hD hS hP d_M_fetch_88 (fun H locs hP hS => ?_)
            refine lv_aload_n hx hb d_M_fetch_91 rfl (lv_at hl 0 rfl) ?_
            refine mg S hk hP 6 (by decide) rfl fl_M_19 rfl d_M_fetch_92 ?_
            refine lv_iload_n hx hb d_M_fetch_95 rfl (lv_at hl 2 rfl) ?_
            refine lv_dup2_11 hx hb d_M_fetch_96 rfl rfl ?_
            refine ml_pn S hk hP (by omega) d_M_fetch_97 ?_
            refine lv_iconst (v := 1) hx hb d_M_fetch_98 (by decide) ?_
            refine lv_iadd hx hb d_M_fetch_99 ?_
            refine ms_pn S hk hD hS hP (by omega) d_M_fetch_100 (fun H locs hP hS => ?_)
            refine lv_aload_n hx hb d_M_fetch_101 rfl (lv_at hl 0 rfl) ?_
            refine mg S hk hP 8 (by decide) rfl fl_M_26 rfl d_M_fetch_102 ?_
            refine lv_iload_n hx hb d_M_fetch_105 rfl (lv_at hl 2 rfl) ?_
            refine lv_iconst (v := 1) hx hb d_M_fetch_106 (by decide) ?_
            refine ms_mk S hk hD hS hP (by omega) (rfl) d_M_fetch_107 (fun H locs hP hS => ?_)
            refine lv_iload_n hx hb d_M_fetch_108 rfl (lv_at hl 2 rfl) ?_
            refine ret_Qi S hr hlk hS ?_ d_M_fetch_109
            rw [ho]
            refine ⟨rfl, fk2, _, hP, hdk2, ?_⟩
            show ∀ i' j, i' < d.n → j < d.w → bl fm2 (8 * i) d.w (fun j => fk2 (8 * q + j)) (8 * i' + j) = va_up T2.mm i (T2.dk (nI q).toNatClampNeg) i' j
            rw [hcl]
            exact bl_rel hw2 hmm2 (fun j hj => hdk2 q j hq hj)
          · exact absurd c5 (nI_m5 (by omega))
  · have c2 : ¬ (0 ≤ q ∧ q < nI d.P) := fun z => by rw [hr1, if_pos z] at c1; exact absurd c1 (by decide)
    have ho : o_fetch d T q = (-2, T) := if_neg c2
    refine lv_bipush (v := -2) hx hb d_M_fetch_8 (by decide) ?_
    exact ret_Qi S hr hlk hS (by rw [ho]; exact ⟨rfl, fk, fm, hP, hdk, hmm⟩) d_M_fetch_10
end
section
/-! the reference's public methods -/
theorem up_mm {fm : Nat → Int32} {mm : Nat → Nat → Int32} {n w i k : Nat} {v : Int32} (h : ∀ i j, i < n → j < w → fm (8 * i + j) = mm i j) (hi : i < n) (hk : k < w ∧ w ≤ 8) : ∀ i' j, i' < n → j < w → upd fm (8 * i + k) v (8 * i' + j) = va_up mm i (upd (mm i) k v) i' j := by
  intro i' j hi' hj
  by_cases e : i' = i
  · subst e
    rw [va_up_self]
    by_cases c : j = k
    · subst c; rw [upd_s, upd_s]
    · rw [upd_n c, upd_n (by omega)]; exact h i' j hi' hj
  · rw [va_up_ne _ _ e, upd_n (by omega)]
    exact h i' j hi' hj
set_option maxHeartbeats 4000000 in
set_option maxRecDepth 100000 in
theorem c_M_unpin (l : Launch) (E : EN) (d : DM) (b : MA) (T : St) (f : Int32) {N : Nat} (hI : Inv d N T) (hN : N < 2 ^ 31) (hdm : dm_ok d) (A : Nat → Prop) (hD : mD E d b A) : Met l y_M_unpin (Cond.code y_M_unpin b_M_unpin 2 (some .int) :: tbw) (k2_rm 1 21) (Pq E [.ref b.o, .int f] (RM E d b T)) (Qi (fun r H => r = (o_unpin d T f).1 ∧ RM E d b (o_unpin d T f).2 H) A) 0 0 A := by
  refine ent rfl (by decide) (Nat.le_of_ble_eq_true rfl) ?_
  intro p e s m below meth c S hr hlk hnm hk hP ls hl
  obtain ⟨hx, hb, hml, hown, hts⟩ := id S
  have hl : lv_has ls 2 [(0, .ref b.o), (1, .int f)] := hl
  obtain ⟨hn1, hn2, hP1, hP2, hw1, hw2⟩ := id hdm
  have hS : va_S A s.heap s.heap [] := va_S.rf
  obtain ⟨fk, fm, hP, hdk, hmm⟩ := hP
  refine lv_aload_n hx hb d_M_unpin_0 rfl (lv_at hl 0 rfl) ?_
  refine lv_iload_n hx hb d_M_unpin_1 rfl (lv_at hl 1 rfl) ?_
  refine aft_qi (runV (As := [.int f]) (rest := []) S hT0 hk (c_M_isPinned l E d b (nI T.hd) T.rd T.wr fk fm T.pg T.pn T.di T.mk f hdm) k_M_73 rfl rfl ⟨Nat.le_of_ble_eq_true rfl, Nat.le_of_ble_eq_true rfl⟩ (mrec hk hP) hP hl.1 rfl rfl (Nat.le_of_ble_eq_true rfl) d_M_unpin_2 ⟨Nat.le_refl _, Nat.le_refl _⟩) (fun r hr1 => ?_)
  by_cases c1 : (0 ≤ f ∧ f < nI d.n) ∧ T.pn f.toNatClampNeg ≠ 0
  · obtain ⟨j, hj, rfl⟩ := inN2 (by omega) c1.1
    have hcl : (nI j).toNatClampNeg = j := nI_clamp (by omega)
    rw [if_pos ⟨c1.1, by rw [hcl] at c1 ⊢; exact (pn_pos hI hN hj).mpr c1.2⟩] at hr1
    subst hr1
    refine lv_if_ne (tgt := 11) hx hb d_M_unpin_5 (by decide) (fun b1 => ?_) (fun b1 => ?_)
    · refine lv_aload_n hx hb d_M_unpin_11 rfl (lv_at hl 0 rfl) ?_
      refine mg S hk hP 6 (by decide) rfl fl_M_19 rfl d_M_unpin_12 ?_
      refine lv_iload_n hx hb d_M_unpin_15 rfl (lv_at hl 1 rfl) ?_
      refine lv_dup2_11 hx hb d_M_unpin_16 rfl rfl ?_
      refine ml_pn S hk hP (by omega) d_M_unpin_17 ?_
      refine lv_iconst (v := 1) hx hb d_M_unpin_18 (by decide) ?_
      refine lv_isub hx hb d_M_unpin_19 ?_
      refine ms_pn S hk hD hS hP (by omega) d_M_unpin_20 (fun H locs hP hS => ?_)
      refine lv_aload_n hx hb d_M_unpin_21 rfl (lv_at hl 0 rfl) ?_
      refine mg S hk hP 6 (by decide) rfl fl_M_19 rfl d_M_unpin_22 ?_
      refine lv_iload_n hx hb d_M_unpin_25 rfl (lv_at hl 1 rfl) ?_
      refine ml_pn S hk hP (by omega) d_M_unpin_26 ?_
      refine lv_is (y := T.pn j - 1) (upd_s) ?_
      have ho : o_unpin d T (nI j) = (T.pn j - 1, (T.dk, T.mm, T.pg, upd T.pn j (T.pn j - 1), T.di, T.mk, T.hd, T.rd, T.wr)) := by
        unfold o_unpin
        rw [if_pos c1, hcl]
      exact ret_Qi S hr hlk hS (by rw [ho]; exact ⟨rfl, fk, fm, hP, hdk, hmm⟩) d_M_unpin_27
    · exact absurd b1 (by decide)
  · rw [if_neg (fun z => c1 ⟨z.1, by
      obtain ⟨j, hj, rfl⟩ := inN2 (by omega) z.1
      have hcl : (nI j).toNatClampNeg = j := nI_clamp (by omega)
      rw [hcl] at z ⊢
      exact (pn_pos hI hN hj).mp z.2⟩)] at hr1
    subst hr1
    refine lv_if_ne (tgt := 11) hx hb d_M_unpin_5 (by decide) (fun b1 => ?_) (fun b1 => ?_)
    · exact absurd rfl b1
    · refine lv_bipush (v := -3) hx hb d_M_unpin_8 (by decide) ?_
      have ho : o_unpin d T f = (-3, T) := if_neg c1
      exact ret_Qi S hr hlk hS (by rw [ho]; exact ⟨rfl, fk, fm, hP, hdk, hmm⟩) d_M_unpin_10
set_option maxHeartbeats 4000000 in
set_option maxRecDepth 100000 in
theorem c_M_readWord (l : Launch) (E : EN) (d : DM) (b : MA) (T : St) (f o : Int32) {N : Nat} (hI : Inv d N T) (hN : N < 2 ^ 31) (hdm : dm_ok d)  : Met l y_M_readWord (Cond.code y_M_readWord b_M_readWord 3 (some .int) :: tbw) (k2_rm 1 21) (Pq E [.ref b.o, .int f, .int o] (RM E d b T)) (qi (fun r => r = o_readWord d T f o)) 0 0 nof := by
  refine ent rfl (by decide) (Nat.le_of_ble_eq_true rfl) ?_
  intro p e s m below meth c S hr hlk hnm hk hP ls hl
  obtain ⟨hx, hb, hml, hown, hts⟩ := id S
  have hl : lv_has ls 3 [(0, .ref b.o), (1, .int f), (2, .int o)] := hl
  obtain ⟨hn1, hn2, hP1, hP2, hw1, hw2⟩ := id hdm
  obtain ⟨fk, fm, hP, hdk, hmm⟩ := hP
  refine lv_aload_n hx hb d_M_readWord_0 rfl (lv_at hl 0 rfl) ?_
  refine lv_iload_n hx hb d_M_readWord_1 rfl (lv_at hl 1 rfl) ?_
  refine aft_qi (runV (As := [.int f]) (rest := []) S hT0 hk (c_M_isPinned l E d b (nI T.hd) T.rd T.wr fk fm T.pg T.pn T.di T.mk f hdm) k_M_73 rfl rfl ⟨Nat.le_of_ble_eq_true rfl, Nat.le_of_ble_eq_true rfl⟩ (mrec hk hP) hP hl.1 rfl rfl (Nat.le_of_ble_eq_true rfl) d_M_readWord_2 ⟨Nat.le_refl _, Nat.le_refl _⟩) (fun r hr1 => ?_)
  by_cases c1 : (0 ≤ f ∧ f < nI d.n) ∧ T.pn f.toNatClampNeg ≠ 0
  · obtain ⟨j, hj, rfl⟩ := inN2 (by omega) c1.1
    have hcl : (nI j).toNatClampNeg = j := nI_clamp (by omega)
    rw [if_pos ⟨c1.1, by rw [hcl] at c1 ⊢; exact (pn_pos hI hN hj).mpr c1.2⟩] at hr1
    subst hr1
    refine lv_if_eq (tgt := 20) hx hb d_M_readWord_5 (by decide) (fun b1 => ?_) (fun b1 => ?_)
    · exact absurd b1 (by decide)
    · refine lv_iload_n hx hb d_M_readWord_8 rfl (lv_at hl 2 rfl) ?_
      refine lv_if_lt (tgt := 20) hx hb d_M_readWord_9 (by decide) (fun b2 => ?_) (fun b2 => ?_)
      · refine lv_iconst (v := 0) hx hb d_M_readWord_20 (by decide) ?_
        refine lv_goto (tgt := 35) hx hb d_M_readWord_21 (by decide) ?_
        exact ret_qi S hr hlk (by unfold o_readWord; rw [if_neg (fun z => absurd z.2.1 (Int32.not_le.mpr b2))]) d_M_readWord_35
      · refine lv_iload_n hx hb d_M_readWord_12 rfl (lv_at hl 2 rfl) ?_
        refine lv_aload_n hx hb d_M_readWord_13 rfl (lv_at hl 0 rfl) ?_
        refine mg S hk hP 2 (by decide) rfl fl_M_36 rfl d_M_readWord_14 ?_
        refine lv_icmp_lt (tgt := 24) hx hb d_M_readWord_17 (by decide) (fun b3 => ?_) (fun b3 => ?_)
        · obtain ⟨k, hk1, rfl⟩ := inN (by omega) b2 (Int32.not_le.mpr b3)
          have hcl2 : (nI k).toNatClampNeg = k := nI_clamp (by omega)
          have c3 : 0 ≤ nI k ∧ nI k < nI d.w := inN3 (by omega) hk1
          refine lv_aload_n hx hb d_M_readWord_24 rfl (lv_at hl 0 rfl) ?_
          refine mg S hk hP 4 (by decide) rfl fl_M_13 rfl d_M_readWord_25 ?_
          refine lv_bipush (v := 8) hx hb d_M_readWord_28 (by decide) ?_
          refine lv_iload_n hx hb d_M_readWord_30 rfl (lv_at hl 1 rfl) ?_
          refine lv_imul hx hb d_M_readWord_31 ?_
          refine lv_is (y := nI (8 * j)) (by rw [show (8 : Int32) = nI 8 from rfl, pk_mul]) ?_
          refine lv_iload_n hx hb d_M_readWord_32 rfl (lv_at hl 2 rfl) ?_
          refine lv_iadd hx hb d_M_readWord_33 ?_
          refine lv_is (y := nI (8 * j + k)) (nI_add _ _) ?_
          refine ml_mm S hk hP (by omega) d_M_readWord_34 ?_
          exact ret_qi S hr hlk (by unfold o_readWord; rw [if_pos ⟨c1, c3⟩, hcl, hcl2]; exact hmm j k hj hk1) d_M_readWord_35
        · refine lv_iconst (v := 0) hx hb d_M_readWord_20 (by decide) ?_
          refine lv_goto (tgt := 35) hx hb d_M_readWord_21 (by decide) ?_
          exact ret_qi S hr hlk (by unfold o_readWord; rw [if_neg (fun z => b3 z.2.2)]) d_M_readWord_35
  · rw [if_neg (fun z => c1 ⟨z.1, by
      obtain ⟨j, hj, rfl⟩ := inN2 (by omega) z.1
      have hcl : (nI j).toNatClampNeg = j := nI_clamp (by omega)
      rw [hcl] at z ⊢
      exact (pn_pos hI hN hj).mp z.2⟩)] at hr1
    subst hr1
    refine lv_if_eq (tgt := 20) hx hb d_M_readWord_5 (by decide) (fun b1 => ?_) (fun b1 => ?_)
    · refine lv_iconst (v := 0) hx hb d_M_readWord_20 (by decide) ?_
      refine lv_goto (tgt := 35) hx hb d_M_readWord_21 (by decide) ?_
      exact ret_qi S hr hlk (by unfold o_readWord; rw [if_neg (fun z => c1 z.1)]) d_M_readWord_35
    · exact absurd rfl b1
set_option maxHeartbeats 4000000 in
set_option maxRecDepth 100000 in
theorem c_M_writeWord (l : Launch) (E : EN) (d : DM) (b : MA) (T : St) (f o v : Int32) {N : Nat} (hI : Inv d N T) (hN : N < 2 ^ 31) (hdm : dm_ok d) (A : Nat → Prop) (hD : mD E d b A) : Met l y_M_writeWord (Cond.code y_M_writeWord b_M_writeWord 4 (some .int) :: tbw) (k2_rm 1 21) (Pq E [.ref b.o, .int f, .int o, .int v] (RM E d b T)) (Qi (fun r H => r = (o_writeWord d T f o v).1 ∧ RM E d b (o_writeWord d T f o v).2 H) A) 0 0 A := by
  refine ent rfl (by decide) (Nat.le_of_ble_eq_true rfl) ?_
  intro p e s m below meth c S hr hlk hnm hk hP ls hl
  obtain ⟨hx, hb, hml, hown, hts⟩ := id S
  have hl : lv_has ls 4 [(0, .ref b.o), (1, .int f), (2, .int o), (3, .int v)] := hl
  obtain ⟨hn1, hn2, hP1, hP2, hw1, hw2⟩ := id hdm
  have hS : va_S A s.heap s.heap [] := va_S.rf
  obtain ⟨fk, fm, hP, hdk, hmm⟩ := hP
  refine lv_aload_n hx hb d_M_writeWord_0 rfl (lv_at hl 0 rfl) ?_
  refine lv_iload_n hx hb d_M_writeWord_1 rfl (lv_at hl 1 rfl) ?_
  refine aft_qi (runV (As := [.int f]) (rest := []) S hT0 hk (c_M_isPinned l E d b (nI T.hd) T.rd T.wr fk fm T.pg T.pn T.di T.mk f hdm) k_M_73 rfl rfl ⟨Nat.le_of_ble_eq_true rfl, Nat.le_of_ble_eq_true rfl⟩ (mrec hk hP) hP hl.1 rfl rfl (Nat.le_of_ble_eq_true rfl) d_M_writeWord_2 ⟨Nat.le_refl _, Nat.le_refl _⟩) (fun r hr1 => ?_)
  by_cases c1 : (0 ≤ f ∧ f < nI d.n) ∧ T.pn f.toNatClampNeg ≠ 0
  · obtain ⟨j, hj, rfl⟩ := inN2 (by omega) c1.1
    have hcl : (nI j).toNatClampNeg = j := nI_clamp (by omega)
    rw [if_pos ⟨c1.1, by rw [hcl] at c1 ⊢; exact (pn_pos hI hN hj).mpr c1.2⟩] at hr1
    subst hr1
    refine lv_if_ne (tgt := 11) hx hb d_M_writeWord_5 (by decide) (fun b1 => ?_) (fun b1 => ?_)
    · refine lv_iload_n hx hb d_M_writeWord_11 rfl (lv_at hl 2 rfl) ?_
      refine lv_if_lt (tgt := 23) hx hb d_M_writeWord_12 (by decide) (fun b2 => ?_) (fun b2 => ?_)
      · refine lv_bipush (v := -4) hx hb d_M_writeWord_23 (by decide) ?_
        have ho : o_writeWord d T (nI j) o v = (-4, T) := by
          unfold o_writeWord
          rw [if_pos c1, if_neg (fun z => absurd z.1 (Int32.not_le.mpr b2))]
        exact ret_Qi S hr hlk hS (by rw [ho]; exact ⟨rfl, fk, fm, hP, hdk, hmm⟩) d_M_writeWord_25
      · refine lv_iload_n hx hb d_M_writeWord_15 rfl (lv_at hl 2 rfl) ?_
        refine lv_aload_n hx hb d_M_writeWord_16 rfl (lv_at hl 0 rfl) ?_
        refine mg S hk hP 2 (by decide) rfl fl_M_36 rfl d_M_writeWord_17 ?_
        refine lv_icmp_lt (tgt := 26) hx hb d_M_writeWord_20 (by decide) (fun b3 => ?_) (fun b3 => ?_)
        · obtain ⟨k, hk1, rfl⟩ := inN (by omega) b2 (Int32.not_le.mpr b3)
          have hcl2 : (nI k).toNatClampNeg = k := nI_clamp (by omega)
          have c3 : 0 ≤ nI k ∧ nI k < nI d.w := inN3 (by omega) hk1
          refine lv_aload_n hx hb d_M_writeWord_26 rfl (lv_at hl 0 rfl) ?_
          refine mg S hk hP 4 (by decide) rfl fl_M_13 rfl d_M_writeWord_27 ?_
          refine lv_bipush (v := 8) hx hb d_M_writeWord_30 (by decide) ?_
          refine lv_iload_n hx hb d_M_writeWord_32 rfl (lv_at hl 1 rfl) ?_
          refine lv_imul hx hb d_M_writeWord_33 ?_
          refine lv_is (y := nI (8 * j)) (by rw [show (8 : Int32) = nI 8 from rfl, pk_mul]) ?_
          refine lv_iload_n hx hb d_M_writeWord_34 rfl (lv_at hl 2 rfl) ?_
          refine lv_iadd hx hb d_M_writeWord_35 ?_
          refine lv_is (y := nI (8 * j + k)) (nI_add _ _) ?_
          refine lv_iload_n hx hb d_M_writeWord_36 rfl (lv_at hl 3 rfl) ?_
          refine ms_mm S hk hD hS hP (by omega) d_M_writeWord_37 (fun H locs hP hS => ?_)
          refine lv_aload_n hx hb d_M_writeWord_38 rfl (lv_at hl 0 rfl) ?_
          refine mg S hk hP 7 (by decide) rfl fl_M_22 rfl d_M_writeWord_39 ?_
          refine lv_iload_n hx hb d_M_writeWord_42 rfl (lv_at hl 1 rfl) ?_
          refine lv_iconst (v := 1) hx hb d_M_writeWord_43 (by decide) ?_
          refine ms_di S hk hD hS hP (by omega) (rfl) d_M_writeWord_44 (fun H locs hP hS => ?_)
          refine lv_iconst (v := 0) hx hb d_M_writeWord_45 (by decide) ?_
          have ho : o_writeWord d T (nI j) (nI k) v = (0, (T.dk, va_up T.mm j (upd (T.mm j) k v), T.pg, T.pn, upd T.di j 1, T.mk, T.hd, T.rd, T.wr)) := by
            unfold o_writeWord
            rw [if_pos c1, if_pos c3, hcl, hcl2]
          exact ret_Qi S hr hlk hS (by rw [ho]; exact ⟨rfl, fk, _, hP, hdk, up_mm hmm hj ⟨hk1, hw2⟩⟩) d_M_writeWord_46
        · refine lv_bipush (v := -4) hx hb d_M_writeWord_23 (by decide) ?_
          have ho : o_writeWord d T (nI j) o v = (-4, T) := by
            unfold o_writeWord
            rw [if_pos c1, if_neg (fun z => b3 z.2)]
          exact ret_Qi S hr hlk hS (by rw [ho]; exact ⟨rfl, fk, fm, hP, hdk, hmm⟩) d_M_writeWord_25
    · exact absurd b1 (by decide)
  · rw [if_neg (fun z => c1 ⟨z.1, by
      obtain ⟨j, hj, rfl⟩ := inN2 (by omega) z.1
      have hcl : (nI j).toNatClampNeg = j := nI_clamp (by omega)
      rw [hcl] at z ⊢
      exact (pn_pos hI hN hj).mp z.2⟩)] at hr1
    subst hr1
    refine lv_if_ne (tgt := 11) hx hb d_M_writeWord_5 (by decide) (fun b1 => ?_) (fun b1 => ?_)
    · exact absurd rfl b1
    · refine lv_bipush (v := -3) hx hb d_M_writeWord_8 (by decide) ?_
      have ho : o_writeWord d T f o v = (-3, T) := if_neg c1
      exact ret_Qi S hr hlk hS (by rw [ho]; exact ⟨rfl, fk, fm, hP, hdk, hmm⟩) d_M_writeWord_10
set_option maxHeartbeats 4000000 in
set_option maxRecDepth 100000 in
theorem c_M_flush (l : Launch) (E : EN) (d : DM) (b : MA) (T : St) (q : Int32) (hg : PgOk d T.pg) (hdm : dm_ok d) (A : Nat → Prop) (hD : mD E d b A) : Met l y_M_flush (Cond.code y_M_flush b_M_flush 3 (some .int) :: tbw) (k2_rm 1 22) (Pq E [.ref b.o, .int q] (RM E d b T)) (Qi (fun r H => r = (o_flush d T q).1 ∧ RM E d b (o_flush d T q).2 H) A) 0 0 A := by
  refine ent rfl (by decide) (Nat.le_of_ble_eq_true rfl) ?_
  intro p e s m below meth c S hr hlk hnm hk hP ls hl
  obtain ⟨hx, hb, hml, hown, hts⟩ := id S
  have hl : lv_has ls 3 [(0, .ref b.o), (1, .int q)] := hl
  obtain ⟨hn1, hn2, hP1, hP2, hw1, hw2⟩ := id hdm
  have hS : va_S A s.heap s.heap [] := va_S.rf
  obtain ⟨fk, fm, hP, hdk, hmm⟩ := hP
  refine lv_aload_n hx hb d_M_flush_0 rfl (lv_at hl 0 rfl) ?_
  refine lv_iload_n hx hb d_M_flush_1 rfl (lv_at hl 1 rfl) ?_
  refine aft_qi (runV (As := [.int q]) (rest := []) S hT0 hk (c_M_frameOf l E d b (nI T.hd) T.rd T.wr fk fm T.pg T.pn T.di T.mk q hdm) k_M_66 rfl rfl ⟨Nat.le_of_ble_eq_true rfl, Nat.le_of_ble_eq_true rfl⟩ (mrec hk hP) hP hl.1 rfl rfl (Nat.le_of_ble_eq_true rfl) d_M_flush_2 ⟨Nat.le_refl _, Nat.le_refl _⟩) (fun r hr1 => ?_)
  subst hr1
  cases hfo : fo T.pg q d.n with
  | none =>
    refine lv_is (y := -5) rfl ?_
    refine lv_istore_n (lv' := [(2, .int (-5)), (0, .ref b.o), (1, .int q)]) hx hb d_M_flush_5 rfl hl (by decide) rfl (fun ls hl => ?_)
    refine lv_iload_n hx hb d_M_flush_6 rfl (lv_at hl 0 rfl) ?_
    refine lv_bipush (v := -5) hx hb d_M_flush_7 (by decide) ?_
    refine lv_icmp_eq (tgt := 21) hx hb d_M_flush_9 (by decide) (fun b1 => ?_) (fun b1 => ?_)
    · refine lv_iconst (v := 0) hx hb d_M_flush_21 (by decide) ?_
      have ho : o_flush d T q = (0, T) := by simp only [o_flush, hfo]
      exact ret_Qi S hr hlk hS (by rw [ho]; exact ⟨rfl, fk, fm, hP, hdk, hmm⟩) d_M_flush_22
    · exact absurd rfl b1
  | some i =>
    obtain ⟨hi, hq0, hpq⟩ := fo_some hfo
    have hne : T.pg i ≠ -1 := fun z => by rw [← hpq, z] at hq0; exact absurd hq0 (by decide)
    obtain ⟨k, hk1, ek⟩ : ∃ k, k < d.P ∧ T.pg i = nI k := (hg.1 i hi).resolve_left hne
    refine lv_is (y := nI i) rfl ?_
    refine lv_istore_n (lv' := [(2, .int (nI i)), (0, .ref b.o), (1, .int q)]) hx hb d_M_flush_5 rfl hl (by decide) rfl (fun ls hl => ?_)
    refine lv_iload_n hx hb d_M_flush_6 rfl (lv_at hl 0 rfl) ?_
    refine lv_bipush (v := -5) hx hb d_M_flush_7 (by decide) ?_
    refine lv_icmp_eq (tgt := 21) hx hb d_M_flush_9 (by decide) (fun b1 => ?_) (fun b1 => ?_)
    · exact absurd b1 (nI_m5 (by omega))
    · refine lv_aload_n hx hb d_M_flush_12 rfl (lv_at hl 1 rfl) ?_
      refine mg S hk hP 7 (by decide) rfl fl_M_22 rfl d_M_flush_13 ?_
      refine lv_iload_n hx hb d_M_flush_16 rfl (lv_at hl 0 rfl) ?_
      refine ml_di S hk hP (by omega) d_M_flush_17 ?_
      refine lv_if_ne (tgt := 23) hx hb d_M_flush_18 (by decide) (fun c1 => ?_) (fun c1 => ?_)
      · refine lv_aload_n hx hb d_M_flush_23 rfl (lv_at hl 1 rfl) ?_
        refine lv_iload_n hx hb d_M_flush_24 rfl (lv_at hl 0 rfl) ?_
        refine aft_Qv (runV (As := [.int (nI i)]) (rest := []) S hT0 hk (c_M_store l E d b T i hi hdm hk1 ek A hD) k_M_59 rfl rfl ⟨Nat.le_of_ble_eq_true rfl, Nat.le_of_ble_eq_true rfl⟩ (mrec hk hP) ⟨fk, fm, hP, hdk, hmm⟩ hl.1 rfl rfl (Nat.le_of_ble_eq_true rfl) d_M_flush_25 ⟨Nat.le_refl _, Nat.le_refl _⟩) hS (fun _ h => h) (fun H locs hP _ _ hS => ?_)
        refine lv_iconst (v := 1) hx hb d_M_flush_28 (by decide) ?_
        have ho : o_flush d T q = (1, s_wr T i) := by simp only [o_flush, hfo, if_neg c1]
        exact ret_Qi S hr hlk hS (by rw [ho]; exact ⟨rfl, hP⟩) d_M_flush_29
      · refine lv_iconst (v := 0) hx hb d_M_flush_21 (by decide) ?_
        have ho : o_flush d T q = (0, T) := by simp only [o_flush, hfo, if_pos c1]
        exact ret_Qi S hr hlk hS (by rw [ho]; exact ⟨rfl, fk, fm, hP, hdk, hmm⟩) d_M_flush_22
set_option maxHeartbeats 4000000 in
set_option maxRecDepth 100000 in
theorem c_M_drop (l : Launch) (E : EN) (d : DM) (b : MA) (T : St) (q : Int32) (hg : PgOk d T.pg) (hdm : dm_ok d) (A : Nat → Prop) (hD : mD E d b A) : Met l y_M_drop (Cond.code y_M_drop b_M_drop 3 (some .boolean) :: tbw) (k2_rm 1 22) (Pq E [.ref b.o, .int q] (RM E d b T)) (Qi (fun r H => r = (o_drop d T q).1 ∧ RM E d b (o_drop d T q).2 H) A) 0 0 A := by
  refine ent rfl (by decide) (Nat.le_of_ble_eq_true rfl) ?_
  intro p e s m below meth c S hr hlk hnm hk hP ls hl
  obtain ⟨hx, hb, hml, hown, hts⟩ := id S
  have hl : lv_has ls 3 [(0, .ref b.o), (1, .int q)] := hl
  obtain ⟨hn1, hn2, hP1, hP2, hw1, hw2⟩ := id hdm
  have hS : va_S A s.heap s.heap [] := va_S.rf
  obtain ⟨fk, fm, hP, hdk, hmm⟩ := hP
  refine lv_aload_n hx hb d_M_drop_0 rfl (lv_at hl 0 rfl) ?_
  refine lv_iload_n hx hb d_M_drop_1 rfl (lv_at hl 1 rfl) ?_
  refine aft_qi (runV (As := [.int q]) (rest := []) S hT0 hk (c_M_frameOf l E d b (nI T.hd) T.rd T.wr fk fm T.pg T.pn T.di T.mk q hdm) k_M_66 rfl rfl ⟨Nat.le_of_ble_eq_true rfl, Nat.le_of_ble_eq_true rfl⟩ (mrec hk hP) hP hl.1 rfl rfl (Nat.le_of_ble_eq_true rfl) d_M_drop_2 ⟨Nat.le_refl _, Nat.le_refl _⟩) (fun r hr1 => ?_)
  subst hr1
  cases hfo : fo T.pg q d.n with
  | none =>
    refine lv_is (y := -5) rfl ?_
    refine lv_istore_n (lv' := [(2, .int (-5)), (0, .ref b.o), (1, .int q)]) hx hb d_M_drop_5 rfl hl (by decide) rfl (fun ls hl => ?_)
    refine lv_iload_n hx hb d_M_drop_6 rfl (lv_at hl 0 rfl) ?_
    refine lv_bipush (v := -5) hx hb d_M_drop_7 (by decide) ?_
    refine lv_icmp_eq (tgt := 21) hx hb d_M_drop_9 (by decide) (fun b1 => ?_) (fun b1 => ?_)
    · refine lv_iconst (v := 0) hx hb d_M_drop_21 (by decide) ?_
      have ho : o_drop d T q = (0, T) := by simp only [o_drop, hfo]
      exact ret_Qz S hr hlk rfl hS (by rw [ho]; exact ⟨rfl, fk, fm, hP, hdk, hmm⟩) d_M_drop_22
    · exact absurd rfl b1
  | some i =>
    obtain ⟨hi, hq0, hpq⟩ := fo_some hfo
    have hne : T.pg i ≠ -1 := fun z => by rw [← hpq, z] at hq0; exact absurd hq0 (by decide)
    obtain ⟨k, hk1, ek⟩ : ∃ k, k < d.P ∧ T.pg i = nI k := (hg.1 i hi).resolve_left hne
    refine lv_is (y := nI i) rfl ?_
    refine lv_istore_n (lv' := [(2, .int (nI i)), (0, .ref b.o), (1, .int q)]) hx hb d_M_drop_5 rfl hl (by decide) rfl (fun ls hl => ?_)
    refine lv_iload_n hx hb d_M_drop_6 rfl (lv_at hl 0 rfl) ?_
    refine lv_bipush (v := -5) hx hb d_M_drop_7 (by decide) ?_
    refine lv_icmp_eq (tgt := 21) hx hb d_M_drop_9 (by decide) (fun b1 => ?_) (fun b1 => ?_)
    · exact absurd b1 (nI_m5 (by omega))
    · refine lv_aload_n hx hb d_M_drop_12 rfl (lv_at hl 1 rfl) ?_
      refine mg S hk hP 6 (by decide) rfl fl_M_19 rfl d_M_drop_13 ?_
      refine lv_iload_n hx hb d_M_drop_16 rfl (lv_at hl 0 rfl) ?_
      refine ml_pn S hk hP (by omega) d_M_drop_17 ?_
      refine lv_if_le (tgt := 23) hx hb d_M_drop_18 (by decide) (fun c1 => ?_) (fun c1 => ?_)
      · refine lv_aload_n hx hb d_M_drop_23 rfl (lv_at hl 1 rfl) ?_
        refine lv_iload_n hx hb d_M_drop_24 rfl (lv_at hl 0 rfl) ?_
        refine aft_Qv (runV (As := [.int (nI i)]) (rest := []) S hT0 hk (c_M_empty l E d b (nI T.hd) T.rd T.wr fk fm T.pg T.pn T.di T.mk i (by omega) A hD) k_M_42 rfl rfl ⟨Nat.le_of_ble_eq_true rfl, Nat.le_of_ble_eq_true rfl⟩ (mrec hk hP) hP hl.1 rfl rfl (Nat.le_of_ble_eq_true rfl) d_M_drop_25 ⟨Nat.le_refl _, Nat.le_refl _⟩) hS (fun _ h => h) (fun H locs hP _ _ hS => ?_)
        refine lv_iconst (v := 1) hx hb d_M_drop_28 (by decide) ?_
        have ho : o_drop d T q = (1, s_em T i) := by simp only [o_drop, hfo, if_neg (Int32.not_lt.mpr c1)]
        exact ret_Qz S hr hlk rfl hS (by rw [ho]; exact ⟨rfl, fk, fm, hP, hdk, hmm⟩) d_M_drop_29
      · refine lv_iconst (v := 0) hx hb d_M_drop_21 (by decide) ?_
        have ho : o_drop d T q = (0, T) := by simp only [o_drop, hfo, if_pos (Int32.not_le.mp c1)]
        exact ret_Qz S hr hlk rfl hS (by rw [ho]; exact ⟨rfl, fk, fm, hP, hdk, hmm⟩) d_M_drop_22
section
variable {p : Program} {l : Launch} {e : Env} {R : Room} {s : State} {m : MethodId} {args : Array Value} {below : List Frame} {meth : Method} {c : Code} {H : Heap} {locs : List Loc} {cells slots : Nat} {Q : State → Prop}
variable {E : EN} {w0 : Cond} {A : Nat → Prop} {H0 : Heap} {d : DM} {a : XA} {b : MA} {hd rd wr : Int32} {dk mm : Nat → Int32} {ti : Nat → Option Nat} {pg pn di mk : Nat → Int32} {ww : Nat → Nat → Int32}
set_option maxHeartbeats 4000000 in
set_option maxRecDepth 100000 in
theorem lp_M_flushAll (S : CallFix p m c b_M_flushAll 3 s args (w0 :: tbw) R_M) (hk : kk E s) (hD : mD E d b A) (hdm : dm_ok d) {T : St} {N : Nat} (hI : Inv d N T) (hR : 2 ≤ R.frames ∧ 44 ≤ R.locals) (hcs : cells ≤ R.cells ∧ slots ≤ R.slots)
    (hex : ∀ (H : Heap) (locs : List Loc) (ls : Array Slot), RM E d b (o_fl d.n T).2 H → va_S A H0 H locs → lv_has ls 3 [(0, .ref b.o), (1, .int (nI (o_fl d.n T).1)), (2, .int (nI d.n))] → W p l e R s m args below meth c H locs cells slots Q (F0 m 45 ls [])) :
    ∀ (n k : Nat) (H : Heap) (locs : List Loc) (ls : Array Slot), k ≤ d.n → d.n + 1 ≤ k + n → RM E d b (o_fl k T).2 H → va_S A H0 H locs → lv_has ls 3 [(0, .ref b.o), (1, .int (nI (o_fl k T).1)), (2, .int (nI k))] → W p l e R s m args below meth c H locs cells slots Q (F0 m 4 ls []) := by
  obtain ⟨hx, hb, hml, hown, hts⟩ := id S
  obtain ⟨hn1, hn2, hP1, hP2, hw1, hw2⟩ := id hdm
  intro n
  induction n with
  | zero =>
    intro k H locs ls h1 h2
    omega
  | succ n ih =>
    intro k H locs ls h1 h2 hP hS hl
    have hsucc : o_fl (k + 1) T = if (o_fl k T).2.di k = 0 then o_fl k T else ((o_fl k T).1 + 1, s_wr (o_fl k T).2 k) := rfl
    obtain ⟨kp, -, -, -, kd⟩ := o_fl_keep T k
    have hfin : k = d.n → RM E d b (o_fl d.n T).2 H ∧ lv_has ls 3 [(0, .ref b.o), (1, .int (nI (o_fl d.n T).1)), (2, .int (nI d.n))] := fun e => by
      rw [e] at hP hl
      exact ⟨hP, hl⟩
    generalize hU : o_fl k T = U at hsucc kp kd hP hl
    obtain ⟨n0, U⟩ := U
    obtain ⟨fk, fm, hP, hdk, hmm⟩ := hP
    dsimp only at *
    refine lv_iload_n hx hb d_M_flushAll_4 rfl (lv_at hl 2 rfl) ?_
    refine lv_aload_n hx hb d_M_flushAll_5 rfl (lv_at hl 0 rfl) ?_
    refine mg S hk hP 0 (by decide) rfl fl_M_29 rfl d_M_flushAll_6 ?_
    refine lv_icmp_ge (tgt := 45) hx hb d_M_flushAll_9 (by decide) (fun c1 => ?_) (fun c1 => ?_)
    · have e : k = d.n := by
        rcases Nat.lt_or_ge k (d.n) with h | h
        · exact absurd c1 (nI_ge h (by omega))
        · omega
      exact hex H locs ls (hfin e).1 hS (hfin e).2
    · have hlt : k < d.n := by
        rcases Nat.lt_or_ge k (d.n) with h | h
        · exact h
        · exact absurd (nI_le h (by omega)) c1
      refine lv_iload_n hx hb d_M_flushAll_12 rfl (lv_at hl 1 rfl) ?_
      refine lv_aload_n hx hb d_M_flushAll_13 rfl (lv_at hl 0 rfl) ?_
      refine mg S hk hP 5 (by decide) rfl fl_M_16 rfl d_M_flushAll_14 ?_
      refine lv_iload_n hx hb d_M_flushAll_17 rfl (lv_at hl 2 rfl) ?_
      refine ml_pg S hk hP (by omega) d_M_flushAll_18 ?_
      refine lv_iconst (v := -1) hx hb d_M_flushAll_19 (by decide) ?_
      refine lv_icmp_ne (tgt := 27) hx hb d_M_flushAll_20 (by decide) (fun c2 => ?_) (fun c2 => ?_)
      · have hne : U.pg k ≠ -1 := c2
        have hne2 : T.pg k ≠ -1 := by rw [← kp]; exact c2
        obtain ⟨q, hq, eq⟩ : ∃ q, q < d.P ∧ U.pg k = nI q := by rw [kp]; exact (hI.2.1 k hlt).resolve_left hne2
        have hfo : fo U.pg (nI q) d.n = some k := by
          rw [kp] at eq ⊢
          exact fo_only hlt (nI_pos' (by omega)) eq (fun j hj e => (hI.2.2.1 k j hlt hj (by rw [eq, e]) hne2).symm)
        refine lv_aload_n hx hb d_M_flushAll_27 rfl (lv_at hl 0 rfl) ?_
        refine lv_aload_n hx hb d_M_flushAll_28 rfl (lv_at hl 0 rfl) ?_
        refine mg S hk hP 5 (by decide) rfl fl_M_16 rfl d_M_flushAll_29 ?_
        refine lv_iload_n hx hb d_M_flushAll_32 rfl (lv_at hl 2 rfl) ?_
        refine ml_pg S hk hP (by omega) d_M_flushAll_33 ?_
        refine lv_is (y := nI q) (eq) ?_
        refine aft_Qi (runV (As := [.int (nI q)]) (rest := [.int (nI n0)]) S hT0 hk (c_M_flush l E d b U (nI q) (by rw [kp]; exact hI.pgOk) hdm A hD) k_M_76 rfl rfl ⟨hR.1, Nat.le_trans (Nat.le_of_ble_eq_true rfl) hR.2⟩ (mrec hk hP) ⟨fk, fm, hP, hdk, hmm⟩ hl.1 rfl rfl (Nat.le_of_ble_eq_true rfl) d_M_flushAll_34 hcs) hS (fun _ h => h) (fun r H locs hr4 _ _ hS => ?_)
        obtain ⟨hr5, hP⟩ := hr4
        by_cases c3 : U.di k = 0
        · rw [if_pos c3] at hsucc
          have ho : o_flush d U (nI q) = (0, U) := by simp only [o_flush, hfo, if_pos c3]
          rw [ho] at hr5 hP
          refine lv_is (y := 0) (hr5) ?_
          refine lv_iadd hx hb d_M_flushAll_37 ?_
          refine lv_is (y := nI n0) (by rw [show (0 : Int32) = nI 0 from rfl, nI_add, Nat.add_zero]) ?_
          refine lv_istore_n (lv' := [(1, .int (nI n0)), (0, .ref b.o), (2, .int (nI k))]) hx hb d_M_flushAll_38 rfl hl (by decide) rfl (fun ls hl => ?_)
          refine lv_iinc (v := nI (k + 1)) (lv' := [(2, .int (nI (k + 1))), (1, .int (nI n0)), (0, .ref b.o)]) hx hb d_M_flushAll_39 hl (k := 2) rfl (nI_1 k) (by decide) rfl (fun ls hl => ?_)
          refine lv_goto (tgt := 4) hx hb d_M_flushAll_42 (by decide) ?_
          have hl := lv_sub (l' := [(0, .ref b.o), (1, .int (nI n0)), (2, .int (nI (k + 1)))]) hl [2, 1, 0] rfl
          exact ih (k + 1) H locs ls hlt (by omega) (by rw [hsucc]; exact hP) hS (by rw [hsucc]; exact hl)
        · rw [if_neg c3] at hsucc
          have ho : o_flush d U (nI q) = (1, s_wr U k) := by simp only [o_flush, hfo, if_neg c3]
          rw [ho] at hr5 hP
          refine lv_is (y := 1) (hr5) ?_
          refine lv_iadd hx hb d_M_flushAll_37 ?_
          refine lv_is (y := nI (n0 + 1)) (nI_1 n0) ?_
          refine lv_istore_n (lv' := [(1, .int (nI (n0 + 1))), (0, .ref b.o), (2, .int (nI k))]) hx hb d_M_flushAll_38 rfl hl (by decide) rfl (fun ls hl => ?_)
          refine lv_iinc (v := nI (k + 1)) (lv' := [(2, .int (nI (k + 1))), (1, .int (nI (n0 + 1))), (0, .ref b.o)]) hx hb d_M_flushAll_39 hl (k := 2) rfl (nI_1 k) (by decide) rfl (fun ls hl => ?_)
          refine lv_goto (tgt := 4) hx hb d_M_flushAll_42 (by decide) ?_
          have hl := lv_sub (l' := [(0, .ref b.o), (1, .int (nI (n0 + 1))), (2, .int (nI (k + 1)))]) hl [2, 1, 0] rfl
          exact ih (k + 1) H locs ls hlt (by omega) (by rw [hsucc]; exact hP) hS (by rw [hsucc]; exact hl)
      · have c3 : U.di k = 0 := kd k (hI.2.2.2.1 k hlt (by rw [← kp]; exact c2)).2.1
        rw [if_pos c3] at hsucc
        refine lv_iconst (v := 0) hx hb d_M_flushAll_23 (by decide) ?_
        refine lv_goto (tgt := 37) hx hb d_M_flushAll_24 (by decide) ?_
        refine lv_iadd hx hb d_M_flushAll_37 ?_
        refine lv_is (y := nI n0) (by rw [show (0 : Int32) = nI 0 from rfl, nI_add, Nat.add_zero]) ?_
        refine lv_istore_n (lv' := [(1, .int (nI n0)), (0, .ref b.o), (2, .int (nI k))]) hx hb d_M_flushAll_38 rfl hl (by decide) rfl (fun ls hl => ?_)
        refine lv_iinc (v := nI (k + 1)) (lv' := [(2, .int (nI (k + 1))), (1, .int (nI n0)), (0, .ref b.o)]) hx hb d_M_flushAll_39 hl (k := 2) rfl (nI_1 k) (by decide) rfl (fun ls hl => ?_)
        refine lv_goto (tgt := 4) hx hb d_M_flushAll_42 (by decide) ?_
        have hl := lv_sub (l' := [(0, .ref b.o), (1, .int (nI n0)), (2, .int (nI (k + 1)))]) hl [2, 1, 0] rfl
        exact ih (k + 1) H locs ls hlt (by omega) (by rw [hsucc]; exact ⟨fk, fm, hP, hdk, hmm⟩) hS (by rw [hsucc]; exact hl)
end
set_option maxHeartbeats 4000000 in
set_option maxRecDepth 100000 in
theorem c_M_flushAll (l : Launch) (E : EN) (d : DM) (b : MA) (T : St) {N : Nat} (hI : Inv d N T) (hdm : dm_ok d) (A : Nat → Prop) (hD : mD E d b A) : Met l y_M_flushAll (Cond.code y_M_flushAll b_M_flushAll 3 (some .int) :: tbw) (k2_rm 2 44) (Pq E [.ref b.o] (RM E d b T)) (Qi (fun r H => r = nI (o_fl d.n T).1 ∧ RM E d b (o_fl d.n T).2 H) A) 0 0 A := by
  refine ent rfl (by decide) (Nat.le_of_ble_eq_true rfl) ?_
  intro p e s m below meth c S hr hlk hnm hk hP ls hl
  obtain ⟨hx, hb, hml, hown, hts⟩ := id S
  have hl : lv_has ls 3 [(0, .ref b.o)] := hl
  obtain ⟨hn1, hn2, hP1, hP2, hw1, hw2⟩ := id hdm
  have hS : va_S A s.heap s.heap [] := va_S.rf
  have hRM := hP
  obtain ⟨fk, fm, hP, hdk, hmm⟩ := hP
  refine lv_iconst (v := 0) hx hb d_M_flushAll_0 (by decide) ?_
  refine lv_istore_n (lv' := [(1, .int 0), (0, .ref b.o)]) hx hb d_M_flushAll_1 rfl hl (by decide) rfl (fun ls hl => ?_)
  refine lv_iconst (v := 0) hx hb d_M_flushAll_2 (by decide) ?_
  refine lv_istore_n (lv' := [(2, .int 0), (1, .int 0), (0, .ref b.o)]) hx hb d_M_flushAll_3 rfl hl (by decide) rfl (fun ls hl => ?_)
  have hl := lv_sub (l' := [(0, .ref b.o), (1, .int 0), (2, .int 0)]) hl [2, 1, 0] rfl
  refine lp_M_flushAll S hk hD hdm hI ⟨Nat.le_of_ble_eq_true rfl, Nat.le_of_ble_eq_true rfl⟩ ⟨Nat.le_refl _, Nat.le_refl _⟩ (fun H locs ls hP hS hl => ?_) (d.n + 1) 0 s.heap [] ls (Nat.zero_le _) (by omega) hRM hS hl
  refine lv_iload_n hx hb d_M_flushAll_45 rfl (lv_at hl 1 rfl) ?_
  exact ret_Qi S hr hlk hS ⟨rfl, hP⟩ d_M_flushAll_46
def cpS (dk mm : Nat → Int32) (q j : Nat) : Option Nat → Int32
  | none => dk (8 * q + j)
  | some g => mm (8 * g + j)
section
variable {p : Program} {l : Launch} {e : Env} {R : Room} {s : State} {m : MethodId} {args : Array Value} {below : List Frame} {meth : Method} {c : Code} {H : Heap} {locs : List Loc} {cells slots : Nat} {Q : State → Prop}
variable {E : EN} {w0 : Cond} {A : Nat → Prop} {H0 : Heap} {d : DM} {a : XA} {b : MA} {hd rd wr : Int32} {dk mm : Nat → Int32} {ti : Nat → Option Nat} {pg pn di mk : Nat → Int32} {ww : Nat → Nat → Int32}
set_option maxHeartbeats 4000000 in
set_option maxRecDepth 100000 in
theorem lp_M_copy (S : CallFix p m c b_M_copy 6 s args (w0 :: tbw) R_M) (hk : kk E s) (hD : mD E d b A) (hdm : dm_ok d) {i q2 : Nat} {q : Int32} {og : Option Nat} (hi : i < d.n) (hq : q2 < d.P) (hog : ∀ g, og = some g → g < d.n) {src : Nat → Int32} (hsrc : ∀ j, j < d.w → src j = cpS dk mm q2 j og)
    (hex : ∀ (H : Heap) (locs : List Loc) (ls : Array Slot), mP E d b (hd, rd, wr, dk, bl mm (8 * i) d.w src, pg, pn, di, mk) H → va_S A H0 H locs → lv_has ls 6 [(0, .ref b.o), (1, .int q), (2, .int (nI q2)), (3, .int (nI i)), (4, .int (foI og)), (5, .int (nI d.w))] → W p l e R s m args below meth c H locs cells slots Q (F0 m 115 ls [])) :
    ∀ (n k : Nat) (H : Heap) (locs : List Loc) (ls : Array Slot), k ≤ d.w → d.w + 1 ≤ k + n → mP E d b (hd, rd, wr, dk, bl mm (8 * i) k src, pg, pn, di, mk) H → va_S A H0 H locs → lv_has ls 6 [(0, .ref b.o), (1, .int q), (2, .int (nI q2)), (3, .int (nI i)), (4, .int (foI og)), (5, .int (nI k))] → W p l e R s m args below meth c H locs cells slots Q (F0 m 53 ls []) := by
  obtain ⟨hx, hb, hml, hown, hts⟩ := id S
  obtain ⟨hn1, hn2, hP1, hP2, hw1, hw2⟩ := id hdm
  intro n
  induction n with
  | zero =>
    intro k H locs ls h1 h2
    omega
  | succ n ih =>
    intro k H locs ls h1 h2 hP hS hl
    refine lv_iload hx hb d_M_copy_53 (lv_at hl 5 rfl) ?_
    refine lv_aload_n hx hb d_M_copy_55 rfl (lv_at hl 0 rfl) ?_
    refine mg S hk hP 2 (by decide) rfl fl_M_36 rfl d_M_copy_56 ?_
    refine lv_icmp_ge (tgt := 115) hx hb d_M_copy_59 (by decide) (fun c1 => ?_) (fun c1 => ?_)
    · have e : k = d.w := by
        rcases Nat.lt_or_ge k (d.w) with h | h
        · exact absurd c1 (nI_ge h (by omega))
        · omega
      rw [e] at hP hl
      exact hex H locs ls hP hS hl
    · have hlt : k < d.w := by
        rcases Nat.lt_or_ge k (d.w) with h | h
        · exact h
        · exact absurd (nI_le h (by omega)) c1
      have hsk := hsrc k hlt
      refine lv_aload_n hx hb d_M_copy_62 rfl (lv_at hl 0 rfl) ?_
      refine mg S hk hP 4 (by decide) rfl fl_M_13 rfl d_M_copy_63 ?_
      refine lv_bipush (v := 8) hx hb d_M_copy_66 (by decide) ?_
      refine lv_iload_n hx hb d_M_copy_68 rfl (lv_at hl 3 rfl) ?_
      refine lv_imul hx hb d_M_copy_69 ?_
      refine lv_is (y := nI (8 * i)) (by rw [show (8 : Int32) = nI 8 from rfl, pk_mul]) ?_
      refine lv_iload hx hb d_M_copy_70 (lv_at hl 5 rfl) ?_
      refine lv_iadd hx hb d_M_copy_72 ?_
      refine lv_is (y := nI (8 * i + k)) (nI_add _ _) ?_
      refine lv_iload hx hb d_M_copy_73 (lv_at hl 4 rfl) ?_
      refine lv_bipush (v := -5) hx hb d_M_copy_75 (by decide) ?_
      cases og with
      | none =>
        have hl : lv_has ls 6 [(0, .ref b.o), (1, .int q), (2, .int (nI q2)), (3, .int (nI i)), (4, .int (foI none)), (5, .int (nI k))] := hl
        refine lv_icmp_ne (tgt := 95) hx hb d_M_copy_77 (by decide) (fun c2 => ?_) (fun c2 => ?_)
        · exact absurd rfl c2
        · refine lv_aload_n hx hb d_M_copy_80 rfl (lv_at hl 0 rfl) ?_
          refine mg S hk hP 3 (by decide) rfl fl_M_7 rfl d_M_copy_81 ?_
          refine lv_bipush (v := 8) hx hb d_M_copy_84 (by decide) ?_
          refine lv_iload_n hx hb d_M_copy_86 rfl (lv_at hl 2 rfl) ?_
          refine lv_imul hx hb d_M_copy_87 ?_
          refine lv_is (y := nI (8 * q2)) (by rw [show (8 : Int32) = nI 8 from rfl, pk_mul]) ?_
          refine lv_iload hx hb d_M_copy_88 (lv_at hl 5 rfl) ?_
          refine lv_iadd hx hb d_M_copy_90 ?_
          refine lv_is (y := nI (8 * q2 + k)) (nI_add _ _) ?_
          refine ml_dk S hk hP (by omega) d_M_copy_91 ?_
          refine lv_goto (tgt := 108) hx hb d_M_copy_92 (by decide) ?_
          refine lv_is (y := src k) (hsk.symm) ?_
          refine ms_mm S hk hD hS hP (by omega) d_M_copy_108 (fun H locs hP hS => ?_)
          refine lv_iinc (v := nI (k + 1)) (lv' := [(5, .int (nI (k + 1))), (0, .ref b.o), (1, .int q), (2, .int (nI q2)), (3, .int (nI i)), (4, .int (foI none))]) hx hb d_M_copy_109 hl (k := 5) rfl (nI_1 k) (by decide) rfl (fun ls hl => ?_)
          refine lv_goto (tgt := 53) hx hb d_M_copy_112 (by decide) ?_
          have hl := lv_sub (l' := [(0, .ref b.o), (1, .int q), (2, .int (nI q2)), (3, .int (nI i)), (4, .int (foI none)), (5, .int (nI (k + 1)))]) hl [1, 2, 3, 4, 5, 0] rfl
          rw [bl_up mm (8 * i) k src] at hP
          exact ih (k + 1) H locs ls hlt (by omega) hP hS hl
      | some g =>
        have hg : g < d.n := hog g rfl
        refine lv_icmp_ne (tgt := 95) hx hb d_M_copy_77 (by decide) (fun c2 => ?_) (fun c2 => ?_)
        · refine lv_aload_n hx hb d_M_copy_95 rfl (lv_at hl 0 rfl) ?_
          refine mg S hk hP 4 (by decide) rfl fl_M_13 rfl d_M_copy_96 ?_
          refine lv_bipush (v := 8) hx hb d_M_copy_99 (by decide) ?_
          refine lv_iload hx hb d_M_copy_101 (lv_at hl 4 rfl) ?_
          refine lv_is (y := nI g) (rfl) ?_
          refine lv_imul hx hb d_M_copy_103 ?_
          refine lv_is (y := nI (8 * g)) (by rw [show (8 : Int32) = nI 8 from rfl, pk_mul]) ?_
          refine lv_iload hx hb d_M_copy_104 (lv_at hl 5 rfl) ?_
          refine lv_iadd hx hb d_M_copy_106 ?_
          refine lv_is (y := nI (8 * g + k)) (nI_add _ _) ?_
          refine ml_mm S hk hP (by omega) d_M_copy_107 ?_
          refine lv_is (y := src k) (by rw [bl_rd (by omega)]; exact hsk.symm) ?_
          refine ms_mm S hk hD hS hP (by omega) d_M_copy_108 (fun H locs hP hS => ?_)
          refine lv_iinc (v := nI (k + 1)) (lv' := [(5, .int (nI (k + 1))), (0, .ref b.o), (1, .int q), (2, .int (nI q2)), (3, .int (nI i)), (4, .int (foI (some g)))]) hx hb d_M_copy_109 hl (k := 5) rfl (nI_1 k) (by decide) rfl (fun ls hl => ?_)
          refine lv_goto (tgt := 53) hx hb d_M_copy_112 (by decide) ?_
          have hl := lv_sub (l' := [(0, .ref b.o), (1, .int q), (2, .int (nI q2)), (3, .int (nI i)), (4, .int (foI (some g))), (5, .int (nI (k + 1)))]) hl [1, 2, 3, 4, 5, 0] rfl
          rw [bl_up mm (8 * i) k src] at hP
          exact ih (k + 1) H locs ls hlt (by omega) hP hS hl
        · exact absurd c2 (nI_m5 (by omega))
end
set_option maxHeartbeats 4000000 in
set_option maxRecDepth 100000 in
theorem c_M_copy (l : Launch) (E : EN) (d : DM) (b : MA) (T : St) (q q2 : Int32) (hdm : dm_ok d) (A : Nat → Prop) (hD : mD E d b A) : Met l y_M_copy (Cond.code y_M_copy b_M_copy 6 (some .int) :: tbw) (k2_rm 1 22) (Pq E [.ref b.o, .int q, .int q2] (RM E d b T)) (Qi (fun r H => r = (o_copy d T q q2).1 ∧ RM E d b (o_copy d T q q2).2 H) A) 0 0 A := by
  refine ent rfl (by decide) (Nat.le_of_ble_eq_true rfl) ?_
  intro p e s m below meth c S hr hlk hnm hk hP ls hl
  obtain ⟨hx, hb, hml, hown, hts⟩ := id S
  have hl : lv_has ls 6 [(0, .ref b.o), (1, .int q), (2, .int q2)] := hl
  obtain ⟨hn1, hn2, hP1, hP2, hw1, hw2⟩ := id hdm
  have hS : va_S A s.heap s.heap [] := va_S.rf
  obtain ⟨fk, fm, hP, hdk, hmm⟩ := hP
  refine lv_aload_n hx hb d_M_copy_0 rfl (lv_at hl 0 rfl) ?_
  refine lv_iload_n hx hb d_M_copy_1 rfl (lv_at hl 1 rfl) ?_
  refine aft_qi (runV (As := [.int q]) (rest := []) S hT0 hk (c_M_isPage l E d b (nI T.hd) T.rd T.wr fk fm T.pg T.pn T.di T.mk q) k_M_62 rfl rfl ⟨Nat.le_of_ble_eq_true rfl, Nat.le_of_ble_eq_true rfl⟩ (mrec hk hP) hP hl.1 rfl rfl (Nat.le_of_ble_eq_true rfl) d_M_copy_2 ⟨Nat.le_refl _, Nat.le_refl _⟩) (fun r1 hr1 => ?_)
  refine lv_if_eq (tgt := 16) hx hb d_M_copy_5 (by decide) (fun b1 => ?_) (fun b1 => ?_)
  · have c1 : ¬ (0 ≤ q ∧ q < nI d.P) := fun z => by rw [hr1, if_pos z] at b1; exact absurd b1 (by decide)
    refine lv_bipush (v := -2) hx hb d_M_copy_16 (by decide) ?_
    have ho : o_copy d T q q2 = (-2, T) := if_neg (fun z => c1 z.1)
    exact ret_Qi S hr hlk hS (by rw [ho]; exact ⟨rfl, fk, fm, hP, hdk, hmm⟩) d_M_copy_18
  · have c1 : 0 ≤ q ∧ q < nI d.P := Classical.byContradiction fun z => b1 (by rw [hr1, if_neg z])
    refine lv_aload_n hx hb d_M_copy_8 rfl (lv_at hl 0 rfl) ?_
    refine lv_iload_n hx hb d_M_copy_9 rfl (lv_at hl 2 rfl) ?_
    refine aft_qi (runV (As := [.int q2]) (rest := []) S hT0 hk (c_M_isPage l E d b (nI T.hd) T.rd T.wr fk fm T.pg T.pn T.di T.mk q2) k_M_62 rfl rfl ⟨Nat.le_of_ble_eq_true rfl, Nat.le_of_ble_eq_true rfl⟩ (mrec hk hP) hP hl.1 rfl rfl (Nat.le_of_ble_eq_true rfl) d_M_copy_10 ⟨Nat.le_refl _, Nat.le_refl _⟩) (fun r2 hr2 => ?_)
    refine lv_if_ne (tgt := 19) hx hb d_M_copy_13 (by decide) (fun b2 => ?_) (fun b2 => ?_)
    · have c2 : 0 ≤ q2 ∧ q2 < nI d.P := Classical.byContradiction fun z => b2 (by rw [hr2, if_neg z])
      refine lv_aload_n hx hb d_M_copy_19 rfl (lv_at hl 0 rfl) ?_
      refine lv_iload_n hx hb d_M_copy_20 rfl (lv_at hl 1 rfl) ?_
      refine aft_qi (runV (As := [.int q]) (rest := []) S hT0 hk (c_M_frameOf l E d b (nI T.hd) T.rd T.wr fk fm T.pg T.pn T.di T.mk q hdm) k_M_66 rfl rfl ⟨Nat.le_of_ble_eq_true rfl, Nat.le_of_ble_eq_true rfl⟩ (mrec hk hP) hP hl.1 rfl rfl (Nat.le_of_ble_eq_true rfl) d_M_copy_21 ⟨Nat.le_refl _, Nat.le_refl _⟩) (fun r3 hr3 => ?_)
      subst hr3
      cases hfo : fo T.pg q d.n with
      | none =>
        refine lv_is (y := -5) rfl ?_
        refine lv_istore_n (lv' := [(3, .int (-5)), (0, .ref b.o), (1, .int q), (2, .int q2)]) hx hb d_M_copy_24 rfl hl (by decide) rfl (fun ls hl => ?_)
        refine lv_iload_n hx hb d_M_copy_25 rfl (lv_at hl 0 rfl) ?_
        refine lv_bipush (v := -5) hx hb d_M_copy_26 (by decide) ?_
        refine lv_icmp_eq (tgt := 40) hx hb d_M_copy_28 (by decide) (fun b3 => ?_) (fun b3 => ?_)
        · refine lv_bipush (v := -3) hx hb d_M_copy_40 (by decide) ?_
          have ho : o_copy d T q q2 = (-3, T) := by simp only [o_copy, if_pos (And.intro c1 c2), hfo]
          exact ret_Qi S hr hlk hS (by rw [ho]; exact ⟨rfl, fk, fm, hP, hdk, hmm⟩) d_M_copy_42
        · exact absurd rfl b3
      | some i =>
        have hi : i < d.n := (fo_some hfo).1
        refine lv_is (y := nI i) rfl ?_
        refine lv_istore_n (lv' := [(3, .int (nI i)), (0, .ref b.o), (1, .int q), (2, .int q2)]) hx hb d_M_copy_24 rfl hl (by decide) rfl (fun ls hl => ?_)
        refine lv_iload_n hx hb d_M_copy_25 rfl (lv_at hl 0 rfl) ?_
        refine lv_bipush (v := -5) hx hb d_M_copy_26 (by decide) ?_
        refine lv_icmp_eq (tgt := 40) hx hb d_M_copy_28 (by decide) (fun b3 => ?_) (fun b3 => ?_)
        · exact absurd b3 (nI_m5 (by omega))
        · refine lv_aload_n hx hb d_M_copy_31 rfl (lv_at hl 1 rfl) ?_
          refine mg S hk hP 6 (by decide) rfl fl_M_19 rfl d_M_copy_32 ?_
          refine lv_iload_n hx hb d_M_copy_35 rfl (lv_at hl 0 rfl) ?_
          refine ml_pn S hk hP (by omega) d_M_copy_36 ?_
          refine lv_if_ne (tgt := 43) hx hb d_M_copy_37 (by decide) (fun b4 => ?_) (fun b4 => ?_)
          · have ho : o_copy d T q q2 = (0, (T.dk, va_up T.mm i (o_src d T q2), T.pg, T.pn, upd T.di i 1, T.mk, T.hd, T.rd, T.wr)) := by simp only [o_copy, if_pos (And.intro c1 c2), hfo, if_neg b4]
            refine lv_aload_n hx hb d_M_copy_43 rfl (lv_at hl 1 rfl) ?_
            refine lv_iload_n hx hb d_M_copy_44 rfl (lv_at hl 3 rfl) ?_
            refine aft_qi (runV (As := [.int q2]) (rest := []) S hT0 hk (c_M_frameOf l E d b (nI T.hd) T.rd T.wr fk fm T.pg T.pn T.di T.mk q2 hdm) k_M_66 rfl rfl ⟨Nat.le_of_ble_eq_true rfl, Nat.le_of_ble_eq_true rfl⟩ (mrec hk hP) hP hl.1 rfl rfl (Nat.le_of_ble_eq_true rfl) d_M_copy_45 ⟨Nat.le_refl _, Nat.le_refl _⟩) (fun r4 hr4 => ?_)
            refine lv_is (y := foI (fo T.pg q2 d.n)) (hr4) ?_
            obtain ⟨k, hk1, rfl⟩ := inN2 (by omega) c2
            have hcl : (nI k).toNatClampNeg = k := nI_clamp (by omega)
            refine lv_istore (lv' := [(4, .int (foI (fo T.pg (nI k) d.n))), (3, .int (nI i)), (0, .ref b.o), (1, .int q), (2, .int (nI k))]) hx hb d_M_copy_48 hl (by decide) rfl (fun ls hl => ?_)
            refine lv_iconst (v := 0) hx hb d_M_copy_50 (by decide) ?_
            refine lv_istore (lv' := [(5, .int 0), (4, .int (foI (fo T.pg (nI k) d.n))), (3, .int (nI i)), (0, .ref b.o), (1, .int q), (2, .int (nI k))]) hx hb d_M_copy_51 hl (by decide) rfl (fun ls hl => ?_)
            have hl := lv_sub (l' := [(0, .ref b.o), (1, .int q), (2, .int (nI k)), (3, .int (nI i)), (4, .int (foI (fo T.pg (nI k) d.n))), (5, .int 0)]) hl [3, 4, 5, 2, 1, 0] rfl
            refine lp_M_copy (mm := fm) (dk := fk) S hk hD hdm hi hk1 (fun g hg => (fo_some hg).1) (src := o_src d T (nI k)) (fun j hj => ?_) (fun H locs ls hP hS hl => ?_) (d.w + 1) 0 s.heap [] ls (Nat.zero_le _) (by omega) (by rw [bl_0]; exact hP) hS hl
            · unfold o_src
              cases hf2 : fo T.pg (nI k) d.n with
              | none => simp only [hcl, cpS]; exact (hdk k j hk1 hj).symm
              | some g => exact (hmm g j (fo_some hf2).1 hj).symm
            · refine lv_aload_n hx hb d_M_copy_115 rfl (lv_at hl 0 rfl) ?_
              refine mg S hk hP 7 (by decide) rfl fl_M_22 rfl d_M_copy_116 ?_
              refine lv_iload_n hx hb d_M_copy_119 rfl (lv_at hl 3 rfl) ?_
              refine lv_iconst (v := 1) hx hb d_M_copy_120 (by decide) ?_
              refine ms_di S hk hD hS hP (by omega) (rfl) d_M_copy_121 (fun H locs hP hS => ?_)
              refine lv_iconst (v := 0) hx hb d_M_copy_122 (by decide) ?_
              refine ret_Qi S hr hlk hS ?_ d_M_copy_123
              rw [ho]
              exact ⟨rfl, fk, _, hP, hdk, bl_rel hw2 hmm (fun j hj => rfl)⟩
          · refine lv_bipush (v := -3) hx hb d_M_copy_40 (by decide) ?_
            have ho : o_copy d T q q2 = (-3, T) := by simp only [o_copy, if_pos (And.intro c1 c2), hfo, if_pos b4]
            exact ret_Qi S hr hlk hS (by rw [ho]; exact ⟨rfl, fk, fm, hP, hdk, hmm⟩) d_M_copy_42
    · have c2 : ¬ (0 ≤ q2 ∧ q2 < nI d.P) := fun z => by rw [hr2, if_pos z] at b2; exact absurd b2 (by decide)
      refine lv_bipush (v := -2) hx hb d_M_copy_16 (by decide) ?_
      have ho : o_copy d T q q2 = (-2, T) := if_neg (fun z => c2 z.2)
      exact ret_Qi S hr hlk hS (by rw [ho]; exact ⟨rfl, fk, fm, hP, hdk, hmm⟩) d_M_copy_18
set_option maxHeartbeats 4000000 in
set_option maxRecDepth 100000 in
theorem c_M_diskWord (l : Launch) (E : EN) (d : DM) (b : MA) (T : St) (q o : Int32) (hdm : dm_ok d) : Met l y_M_diskWord (Cond.code y_M_diskWord b_M_diskWord 3 (some .int) :: tbw) (k2_rm 1 21) (Pq E [.ref b.o, .int q, .int o] (RM E d b T)) (qi (fun r => r = o_diskWord d T q o)) 0 0 nof := by
  refine ent rfl (by decide) (Nat.le_of_ble_eq_true rfl) ?_
  intro p e s m below meth c S hr hlk hnm hk hP ls hl
  obtain ⟨hx, hb, hml, hown, hts⟩ := id S
  have hl : lv_has ls 3 [(0, .ref b.o), (1, .int q), (2, .int o)] := hl
  obtain ⟨hn1, hn2, hP1, hP2, hw1, hw2⟩ := id hdm
  obtain ⟨fk, fm, hP, hdk, hmm⟩ := hP
  refine lv_aload_n hx hb d_M_diskWord_0 rfl (lv_at hl 0 rfl) ?_
  refine lv_iload_n hx hb d_M_diskWord_1 rfl (lv_at hl 1 rfl) ?_
  refine aft_qi (runV (As := [.int q]) (rest := []) S hT0 hk (c_M_isPage l E d b (nI T.hd) T.rd T.wr fk fm T.pg T.pn T.di T.mk q) k_M_62 rfl rfl ⟨Nat.le_of_ble_eq_true rfl, Nat.le_of_ble_eq_true rfl⟩ (mrec hk hP) hP hl.1 rfl rfl (Nat.le_of_ble_eq_true rfl) d_M_diskWord_2 ⟨Nat.le_refl _, Nat.le_refl _⟩) (fun r1 hr1 => ?_)
  refine lv_if_eq (tgt := 20) hx hb d_M_diskWord_5 (by decide) (fun b1 => ?_) (fun b1 => ?_)
  · have c1 : ¬ (0 ≤ q ∧ q < nI d.P) := fun z => by rw [hr1, if_pos z] at b1; exact absurd b1 (by decide)
    refine lv_iconst (v := 0) hx hb d_M_diskWord_20 (by decide) ?_
    refine lv_goto (tgt := 35) hx hb d_M_diskWord_21 (by decide) ?_
    exact ret_qi S hr hlk (by unfold o_diskWord; rw [if_neg (fun z => c1 z.1)]) d_M_diskWord_35
  · have c1 : 0 ≤ q ∧ q < nI d.P := Classical.byContradiction fun z => b1 (by rw [hr1, if_neg z])
    refine lv_iload_n hx hb d_M_diskWord_8 rfl (lv_at hl 2 rfl) ?_
    refine lv_if_lt (tgt := 20) hx hb d_M_diskWord_9 (by decide) (fun b2 => ?_) (fun b2 => ?_)
    · refine lv_iconst (v := 0) hx hb d_M_diskWord_20 (by decide) ?_
      refine lv_goto (tgt := 35) hx hb d_M_diskWord_21 (by decide) ?_
      exact ret_qi S hr hlk (by unfold o_diskWord; rw [if_neg (fun z => absurd z.2.1 (Int32.not_le.mpr b2))]) d_M_diskWord_35
    · refine lv_iload_n hx hb d_M_diskWord_12 rfl (lv_at hl 2 rfl) ?_
      refine lv_aload_n hx hb d_M_diskWord_13 rfl (lv_at hl 0 rfl) ?_
      refine mg S hk hP 2 (by decide) rfl fl_M_36 rfl d_M_diskWord_14 ?_
      refine lv_icmp_lt (tgt := 24) hx hb d_M_diskWord_17 (by decide) (fun b3 => ?_) (fun b3 => ?_)
      · obtain ⟨k, hk1, rfl⟩ := inN2 (by omega) c1
        obtain ⟨j, hj, rfl⟩ := inN (by omega) b2 (Int32.not_le.mpr b3)
        have hcl : (nI k).toNatClampNeg = k := nI_clamp (by omega)
        have hcl2 : (nI j).toNatClampNeg = j := nI_clamp (by omega)
        refine lv_aload_n hx hb d_M_diskWord_24 rfl (lv_at hl 0 rfl) ?_
        refine mg S hk hP 3 (by decide) rfl fl_M_7 rfl d_M_diskWord_25 ?_
        refine lv_bipush (v := 8) hx hb d_M_diskWord_28 (by decide) ?_
        refine lv_iload_n hx hb d_M_diskWord_30 rfl (lv_at hl 1 rfl) ?_
        refine lv_imul hx hb d_M_diskWord_31 ?_
        refine lv_is (y := nI (8 * k)) (by rw [show (8 : Int32) = nI 8 from rfl, pk_mul]) ?_
        refine lv_iload_n hx hb d_M_diskWord_32 rfl (lv_at hl 2 rfl) ?_
        refine lv_iadd hx hb d_M_diskWord_33 ?_
        refine lv_is (y := nI (8 * k + j)) (nI_add _ _) ?_
        refine ml_dk S hk hP (by omega) d_M_diskWord_34 ?_
        exact ret_qi S hr hlk (by unfold o_diskWord; rw [if_pos ⟨c1, inN3 (by omega) hj⟩, hcl, hcl2]; exact hdk k j hk1 hj) d_M_diskWord_35
      · refine lv_iconst (v := 0) hx hb d_M_diskWord_20 (by decide) ?_
        refine lv_goto (tgt := 35) hx hb d_M_diskWord_21 (by decide) ?_
        exact ret_qi S hr hlk (by unfold o_diskWord; rw [if_neg (fun z => b3 z.2.2)]) d_M_diskWord_35
set_option maxHeartbeats 4000000 in
set_option maxRecDepth 100000 in
theorem c_M_resident (l : Launch) (E : EN) (d : DM) (b : MA) (T : St) (q : Int32) (hdm : dm_ok d) : Met l y_M_resident (Cond.code y_M_resident b_M_resident 2 (some .boolean) :: tbw) (k2_rm 1 22) (Pq E [.ref b.o, .int q] (RM E d b T)) (qi (fun r => r = o_resident d T q)) 0 0 nof := by
  refine ent rfl (by decide) (Nat.le_of_ble_eq_true rfl) ?_
  intro p e s m below meth c S hr hlk hnm hk hP ls hl
  obtain ⟨hx, hb, hml, hown, hts⟩ := id S
  have hl : lv_has ls 2 [(0, .ref b.o), (1, .int q)] := hl
  obtain ⟨hn1, hn2, hP1, hP2, hw1, hw2⟩ := id hdm
  obtain ⟨fk, fm, hP, hdk, hmm⟩ := hP
  refine lv_aload_n hx hb d_M_resident_0 rfl (lv_at hl 0 rfl) ?_
  refine lv_iload_n hx hb d_M_resident_1 rfl (lv_at hl 1 rfl) ?_
  refine aft_qi (runV (As := [.int q]) (rest := []) S hT0 hk (c_M_frameOf l E d b (nI T.hd) T.rd T.wr fk fm T.pg T.pn T.di T.mk q hdm) k_M_66 rfl rfl ⟨Nat.le_of_ble_eq_true rfl, Nat.le_of_ble_eq_true rfl⟩ (mrec hk hP) hP hl.1 rfl rfl (Nat.le_of_ble_eq_true rfl) d_M_resident_2 ⟨Nat.le_refl _, Nat.le_refl _⟩) (fun r hr1 => ?_)
  subst hr1
  cases hfo : fo T.pg q d.n with
  | none =>
    refine lv_is (y := -5) rfl ?_
    refine lv_bipush (v := -5) hx hb d_M_resident_5 (by decide) ?_
    refine lv_icmp_eq (tgt := 14) hx hb d_M_resident_7 (by decide) (fun b1 => ?_) (fun b1 => ?_)
    · refine lv_iconst (v := 0) hx hb d_M_resident_14 (by decide) ?_
      exact ret_qz S hr hlk rfl (by simp only [o_resident, hfo]) d_M_resident_15
    · exact absurd rfl b1
  | some i =>
    have hi : i < d.n := (fo_some hfo).1
    refine lv_is (y := nI i) rfl ?_
    refine lv_bipush (v := -5) hx hb d_M_resident_5 (by decide) ?_
    refine lv_icmp_eq (tgt := 14) hx hb d_M_resident_7 (by decide) (fun b1 => ?_) (fun b1 => ?_)
    · exact absurd b1 (nI_m5 (by omega))
    · refine lv_iconst (v := 1) hx hb d_M_resident_10 (by decide) ?_
      refine lv_goto (tgt := 15) hx hb d_M_resident_11 (by decide) ?_
      exact ret_qz S hr hlk rfl (by simp only [o_resident, hfo]) d_M_resident_15
set_option maxHeartbeats 4000000 in
set_option maxRecDepth 100000 in
theorem c_M_diskReads (l : Launch) (E : EN) (d : DM) (b : MA) (T : St) : Met l y_M_diskReads (Cond.code y_M_diskReads b_M_diskReads 1 (some .int) :: tbw) (k2_rm 0 0) (Pq E [.ref b.o] (RM E d b T)) (qi (fun r => r = T.rd)) 0 0 nof := by
  refine ent rfl (by decide) (Nat.le_of_ble_eq_true rfl) ?_
  intro p e s m below meth c S hr hlk hnm hk hP ls hl
  obtain ⟨hx, hb, hml, hown, hts⟩ := id S
  have hl : lv_has ls 1 [(0, .ref b.o)] := hl
  obtain ⟨fk, fm, hP, hdk, hmm⟩ := hP
  refine lv_aload_n hx hb d_M_diskReads_0 rfl (lv_at hl 0 rfl) ?_
  refine mg S hk hP 10 (by decide) rfl fl_M_49 rfl d_M_diskReads_1 ?_
  exact ret_qi S hr hlk rfl d_M_diskReads_4
set_option maxHeartbeats 4000000 in
set_option maxRecDepth 100000 in
theorem c_M_diskWrites (l : Launch) (E : EN) (d : DM) (b : MA) (T : St) : Met l y_M_diskWrites (Cond.code y_M_diskWrites b_M_diskWrites 1 (some .int) :: tbw) (k2_rm 0 0) (Pq E [.ref b.o] (RM E d b T)) (qi (fun r => r = T.wr)) 0 0 nof := by
  refine ent rfl (by decide) (Nat.le_of_ble_eq_true rfl) ?_
  intro p e s m below meth c S hr hlk hnm hk hP ls hl
  obtain ⟨hx, hb, hml, hown, hts⟩ := id S
  have hl : lv_has ls 1 [(0, .ref b.o)] := hl
  obtain ⟨fk, fm, hP, hdk, hmm⟩ := hP
  refine lv_aload_n hx hb d_M_diskWrites_0 rfl (lv_at hl 0 rfl) ?_
  refine mg S hk hP 11 (by decide) rfl fl_M_52 rfl d_M_diskWrites_1 ?_
  exact ret_qi S hr hlk rfl d_M_diskWrites_4
set_option maxHeartbeats 4000000 in
set_option maxRecDepth 100000 in
theorem c_M_hand (l : Launch) (E : EN) (d : DM) (b : MA) (T : St) : Met l y_M_hand (Cond.code y_M_hand b_M_hand 1 (some .int) :: tbw) (k2_rm 0 0) (Pq E [.ref b.o] (RM E d b T)) (qi (fun r => r = nI T.hd)) 0 0 nof := by
  refine ent rfl (by decide) (Nat.le_of_ble_eq_true rfl) ?_
  intro p e s m below meth c S hr hlk hnm hk hP ls hl
  obtain ⟨hx, hb, hml, hown, hts⟩ := id S
  have hl : lv_has ls 1 [(0, .ref b.o)] := hl
  obtain ⟨fk, fm, hP, hdk, hmm⟩ := hP
  refine lv_aload_n hx hb d_M_hand_0 rfl (lv_at hl 0 rfl) ?_
  refine mg S hk hP 9 (by decide) rfl fl_M_46 rfl d_M_hand_1 ?_
  exact ret_qi S hr hlk rfl d_M_hand_4
set_option maxHeartbeats 4000000 in
set_option maxRecDepth 100000 in
theorem c_M_told (l : Launch) (E : EN) (d : DM) (b : MA) (T : St) (f t : Int32) (hdm : dm_ok d) : Met l y_M_told (Cond.code y_M_told b_M_told 3 (some .int) :: tbw) (k2_rm 0 0) (Pq E [.ref b.o, .int f, .int t] (RM E d b T)) (qi (fun r => r = o_told d T f t)) 0 0 nof := by
  refine ent rfl (by decide) (Nat.le_of_ble_eq_true rfl) ?_
  intro p e s m below meth c S hr hlk hnm hk hP ls hl
  obtain ⟨hx, hb, hml, hown, hts⟩ := id S
  have hl : lv_has ls 3 [(0, .ref b.o), (1, .int f), (2, .int t)] := hl
  obtain ⟨hn1, hn2, hP1, hP2, hw1, hw2⟩ := id hdm
  obtain ⟨fk, fm, hP, hdk, hmm⟩ := hP
  refine lv_iload_n hx hb d_M_told_0 rfl (lv_at hl 1 rfl) ?_
  refine lv_if_lt (tgt := 12) hx hb d_M_told_1 (by decide) (fun b1 => ?_) (fun b1 => ?_)
  · refine lv_bipush (v := -5) hx hb d_M_told_12 (by decide) ?_
    exact ret_qi S hr hlk (by unfold o_told; rw [if_neg (fun z => absurd z.1 (Int32.not_le.mpr b1))]) d_M_told_14
  · refine lv_iload_n hx hb d_M_told_4 rfl (lv_at hl 1 rfl) ?_
    refine lv_aload_n hx hb d_M_told_5 rfl (lv_at hl 0 rfl) ?_
    refine mg S hk hP 0 (by decide) rfl fl_M_29 rfl d_M_told_6 ?_
    refine lv_icmp_lt (tgt := 15) hx hb d_M_told_9 (by decide) (fun b2 => ?_) (fun b2 => ?_)
    · obtain ⟨j, hj, rfl⟩ := inN (by omega) b1 (Int32.not_le.mpr b2)
      have hcl : (nI j).toNatClampNeg = j := nI_clamp (by omega)
      have c1 : 0 ≤ nI j ∧ nI j < nI d.n := inN3 (by omega) hj
      refine lv_iload_n hx hb d_M_told_15 rfl (lv_at hl 2 rfl) ?_
      refine lv_if_ne (tgt := 28) hx hb d_M_told_16 (by decide) (fun t0 => ?_) (fun t0 => ?_)
      · refine lv_iload_n hx hb d_M_told_28 rfl (lv_at hl 2 rfl) ?_
        refine lv_iconst (v := 1) hx hb d_M_told_29 (by decide) ?_
        refine lv_icmp_ne (tgt := 42) hx hb d_M_told_30 (by decide) (fun t1 => ?_) (fun t1 => ?_)
        · refine lv_iload_n hx hb d_M_told_42 rfl (lv_at hl 2 rfl) ?_
          refine lv_iconst (v := 2) hx hb d_M_told_43 (by decide) ?_
          refine lv_icmp_ne (tgt := 64) hx hb d_M_told_44 (by decide) (fun t2 => ?_) (fun t2 => ?_)
          · refine lv_iload_n hx hb d_M_told_64 rfl (lv_at hl 2 rfl) ?_
            refine lv_iconst (v := 3) hx hb d_M_told_65 (by decide) ?_
            refine lv_icmp_ne (tgt := 86) hx hb d_M_told_66 (by decide) (fun t3 => ?_) (fun t3 => ?_)
            · refine lv_bipush (v := -5) hx hb d_M_told_86 (by decide) ?_
              exact ret_qi S hr hlk (by unfold o_told; rw [if_pos c1, if_neg t0, if_neg t1, if_neg t2, if_neg t3]) d_M_told_88
            · refine lv_aload_n hx hb d_M_told_69 rfl (lv_at hl 0 rfl) ?_
              refine mg S hk hP 8 (by decide) rfl fl_M_26 rfl d_M_told_70 ?_
              refine lv_iload_n hx hb d_M_told_73 rfl (lv_at hl 1 rfl) ?_
              refine ml_mk S hk hP (by omega) d_M_told_74 ?_
              refine lv_if_eq (tgt := 82) hx hb d_M_told_75 (by decide) (fun b3 => ?_) (fun b3 => ?_)
              · refine lv_iconst (v := 0) hx hb d_M_told_82 (by decide) ?_
                refine lv_goto (tgt := 88) hx hb d_M_told_83 (by decide) ?_
                exact ret_qi S hr hlk (by unfold o_told; rw [if_pos c1, if_neg t0, if_neg t1, if_neg t2, if_pos t3, hcl, if_pos b3]) d_M_told_88
              · refine lv_iconst (v := 1) hx hb d_M_told_78 (by decide) ?_
                refine lv_goto (tgt := 88) hx hb d_M_told_79 (by decide) ?_
                exact ret_qi S hr hlk (by unfold o_told; rw [if_pos c1, if_neg t0, if_neg t1, if_neg t2, if_pos t3, hcl, if_neg b3]) d_M_told_88
          · refine lv_aload_n hx hb d_M_told_47 rfl (lv_at hl 0 rfl) ?_
            refine mg S hk hP 7 (by decide) rfl fl_M_22 rfl d_M_told_48 ?_
            refine lv_iload_n hx hb d_M_told_51 rfl (lv_at hl 1 rfl) ?_
            refine ml_di S hk hP (by omega) d_M_told_52 ?_
            refine lv_if_eq (tgt := 60) hx hb d_M_told_53 (by decide) (fun b3 => ?_) (fun b3 => ?_)
            · refine lv_iconst (v := 0) hx hb d_M_told_60 (by decide) ?_
              refine lv_goto (tgt := 88) hx hb d_M_told_61 (by decide) ?_
              exact ret_qi S hr hlk (by unfold o_told; rw [if_pos c1, if_neg t0, if_neg t1, if_pos t2, hcl, if_pos b3]) d_M_told_88
            · refine lv_iconst (v := 1) hx hb d_M_told_56 (by decide) ?_
              refine lv_goto (tgt := 88) hx hb d_M_told_57 (by decide) ?_
              exact ret_qi S hr hlk (by unfold o_told; rw [if_pos c1, if_neg t0, if_neg t1, if_pos t2, hcl, if_neg b3]) d_M_told_88
        · refine lv_aload_n hx hb d_M_told_33 rfl (lv_at hl 0 rfl) ?_
          refine mg S hk hP 6 (by decide) rfl fl_M_19 rfl d_M_told_34 ?_
          refine lv_iload_n hx hb d_M_told_37 rfl (lv_at hl 1 rfl) ?_
          refine ml_pn S hk hP (by omega) d_M_told_38 ?_
          refine lv_goto (tgt := 88) hx hb d_M_told_39 (by decide) ?_
          exact ret_qi S hr hlk (by unfold o_told; rw [if_pos c1, if_neg t0, if_pos t1, hcl]) d_M_told_88
      · refine lv_aload_n hx hb d_M_told_19 rfl (lv_at hl 0 rfl) ?_
        refine mg S hk hP 5 (by decide) rfl fl_M_16 rfl d_M_told_20 ?_
        refine lv_iload_n hx hb d_M_told_23 rfl (lv_at hl 1 rfl) ?_
        refine ml_pg S hk hP (by omega) d_M_told_24 ?_
        refine lv_goto (tgt := 88) hx hb d_M_told_25 (by decide) ?_
        exact ret_qi S hr hlk (by unfold o_told; rw [if_pos c1, if_pos t0, hcl]) d_M_told_88
    · refine lv_bipush (v := -5) hx hb d_M_told_12 (by decide) ?_
      exact ret_qi S hr hlk (by unfold o_told; rw [if_neg (fun z => b2 z.2)]) d_M_told_14
section
variable {p : Program} {l : Launch} {e : Env} {R : Room} {s : State} {m : MethodId} {args : Array Value} {below : List Frame} {meth : Method} {c : Code} {H : Heap} {locs : List Loc} {cells slots : Nat} {Q : State → Prop}
variable {E : EN} {w0 : Cond} {A : Nat → Prop} {H0 : Heap} {d : DM} {a : XA} {b : MA} {hd rd wr : Int32} {dk mm : Nat → Int32} {ti : Nat → Option Nat} {pg pn di mk : Nat → Int32} {ww : Nat → Nat → Int32}
set_option maxHeartbeats 4000000 in
set_option maxRecDepth 100000 in
theorem lp_M_init1 (S : CallFix p m c b_M_init 2 s args (w0 :: tbw) R_M) (hk : kk E s) (hD : mD E d b A) (hR : 1 ≤ R.frames ∧ 21 ≤ R.locals) (hcs : cells ≤ R.cells ∧ slots ≤ R.slots)
    (hex : ∀ (H : Heap) (locs : List Loc) (ls : Array Slot), mP E d b (hd, rd, wr, lo dk 1600 0, mm, pg, pn, di, mk) H → va_S A H0 H locs → lv_has ls 2 [(0, .ref b.o), (1, .int (nI 1600))] → W p l e R s m args below meth c H locs cells slots Q (F0 m 22 ls [])) :
    ∀ (n k : Nat) (H : Heap) (locs : List Loc) (ls : Array Slot), k ≤ 1600 → 1600 + 1 ≤ k + n → mP E d b (hd, rd, wr, lo dk k 0, mm, pg, pn, di, mk) H → va_S A H0 H locs → lv_has ls 2 [(0, .ref b.o), (1, .int (nI k))] → W p l e R s m args below meth c H locs cells slots Q (F0 m 2 ls []) := by
  obtain ⟨hx, hb, hml, hown, hts⟩ := id S
  intro n
  induction n with
  | zero =>
    intro k H locs ls h1 h2
    omega
  | succ n ih =>
    intro k H locs ls h1 h2 hP hS hl
    refine lv_iload_n hx hb d_M_init_2 rfl (lv_at hl 1 rfl) ?_
    refine lv_sipush (v := 1600) hx hb d_M_init_3 (by decide) ?_
    refine lv_is (y := nI 1600) (rfl) ?_
    refine lv_icmp_ge (tgt := 22) hx hb d_M_init_6 (by decide) (fun c1 => ?_) (fun c1 => ?_)
    · have e : k = 1600 := by
        rcases Nat.lt_or_ge k (1600) with h | h
        · exact absurd c1 (nI_ge h (by omega))
        · omega
      rw [e] at hP hl
      exact hex H locs ls hP hS hl
    · have hlt : k < 1600 := by
        rcases Nat.lt_or_ge k (1600) with h | h
        · exact h
        · exact absurd (nI_le h (by omega)) c1
      refine lv_aload_n hx hb d_M_init_9 rfl (lv_at hl 0 rfl) ?_
      refine mg S hk hP 3 (by decide) rfl fl_M_7 rfl d_M_init_10 ?_
      refine lv_iload_n hx hb d_M_init_13 rfl (lv_at hl 1 rfl) ?_
      refine lv_iconst (v := 0) hx hb d_M_init_14 (by decide) ?_
      refine ms_dk S hk hD hS hP (hlt) d_M_init_15 (fun H locs hP hS => ?_)
      refine lv_iinc (v := nI (k + 1)) (lv' := [(1, .int (nI (k + 1))), (0, .ref b.o)]) hx hb d_M_init_16 hl (k := 1) rfl (nI_1 k) (by decide) rfl (fun ls hl => ?_)
      refine lv_goto (tgt := 2) hx hb d_M_init_19 (by decide) ?_
      have hl := lv_sub (l' := [(0, .ref b.o), (1, .int (nI (k + 1)))]) hl [1, 0] rfl
      rw [lo_upd] at hP
      exact ih (k + 1) H locs ls hlt (by omega) hP hS hl
set_option maxHeartbeats 4000000 in
set_option maxRecDepth 100000 in
theorem lp_M_init2 (S : CallFix p m c b_M_init 2 s args (w0 :: tbw) R_M) (hk : kk E s) (hD : mD E d b A) (hR : 1 ≤ R.frames ∧ 21 ≤ R.locals) (hcs : cells ≤ R.cells ∧ slots ≤ R.slots)
    (hex : ∀ (H : Heap) (locs : List Loc) (ls : Array Slot), mP E d b (hd, rd, wr, dk, mm, lo pg 32 (-1), lo pn 32 0, lo di 32 0, lo mk 32 0) H → va_S A H0 H locs → lv_has ls 2 [(0, .ref b.o), (1, .int (nI 32))] → W p l e R s m args below meth c H locs cells slots Q (F0 m 41 ls [])) :
    ∀ (n k : Nat) (H : Heap) (locs : List Loc) (ls : Array Slot), k ≤ 32 → 32 + 1 ≤ k + n → mP E d b (hd, rd, wr, dk, mm, lo pg k (-1), lo pn k 0, lo di k 0, lo mk k 0) H → va_S A H0 H locs → lv_has ls 2 [(0, .ref b.o), (1, .int (nI k))] → W p l e R s m args below meth c H locs cells slots Q (F0 m 24 ls []) := by
  obtain ⟨hx, hb, hml, hown, hts⟩ := id S
  intro n
  induction n with
  | zero =>
    intro k H locs ls h1 h2
    omega
  | succ n ih =>
    intro k H locs ls h1 h2 hP hS hl
    refine lv_iload_n hx hb d_M_init_24 rfl (lv_at hl 1 rfl) ?_
    refine lv_bipush (v := 32) hx hb d_M_init_25 (by decide) ?_
    refine lv_is (y := nI 32) (rfl) ?_
    refine lv_icmp_ge (tgt := 41) hx hb d_M_init_27 (by decide) (fun c1 => ?_) (fun c1 => ?_)
    · have e : k = 32 := by
        rcases Nat.lt_or_ge k (32) with h | h
        · exact absurd c1 (nI_ge h (by omega))
        · omega
      rw [e] at hP hl
      exact hex H locs ls hP hS hl
    · have hlt : k < 32 := by
        rcases Nat.lt_or_ge k (32) with h | h
        · exact h
        · exact absurd (nI_le h (by omega)) c1
      refine lv_aload_n hx hb d_M_init_30 rfl (lv_at hl 0 rfl) ?_
      refine lv_iload_n hx hb d_M_init_31 rfl (lv_at hl 1 rfl) ?_
      refine aft_Qv (runV (As := [.int (nI k)]) (rest := []) S hT0 hk (c_M_empty l E d b hd rd wr dk mm (lo pg k (-1)) (lo pn k 0) (lo di k 0) (lo mk k 0) k hlt A hD) k_M_42 rfl rfl ⟨hR.1, hR.2⟩ (mrec hk hP) hP hl.1 rfl rfl (Nat.le_of_ble_eq_true rfl) d_M_init_32 hcs) hS (fun _ h => h) (fun H locs hP _ _ hS => ?_)
      refine lv_iinc (v := nI (k + 1)) (lv' := [(1, .int (nI (k + 1))), (0, .ref b.o)]) hx hb d_M_init_35 hl (k := 1) rfl (nI_1 k) (by decide) rfl (fun ls hl => ?_)
      refine lv_goto (tgt := 24) hx hb d_M_init_38 (by decide) ?_
      have hl := lv_sub (l' := [(0, .ref b.o), (1, .int (nI (k + 1)))]) hl [1, 0] rfl
      rw [lo_upd, lo_upd, lo_upd, lo_upd] at hP
      exact ih (k + 1) H locs ls hlt (by omega) hP hS hl
end
theorem arr_same {c : ClassId} {n : Nat} {f g : Nat → Int32} (h : ∀ i, i < n → f i = g i) : vp_cell c (n, .inl f) = vp_cell c (n, .inl g) := by
  rw [vp_cell_i, vp_cell_i]
  unfold arrV
  congr 1
  congr 1
  funext j
  show Value.int (f j.val) = Value.int (g j.val)
  rw [h j.val j.isLt]
theorem mP_same {E : EN} {d : DM} {b : MA} {hd rd wr : Int32} {dk mm pg pn di mk pg' pn' di' mk' : Nat → Int32} {H : Heap} (hP : mP E d b (hd, rd, wr, dk, mm, pg, pn, di, mk) H) (h : ∀ i, i < 32 → pg i = pg' i ∧ pn i = pn' i ∧ di i = di' i ∧ mk i = mk' i) : mP E d b (hd, rd, wr, dk, mm, pg', pn', di', mk') H := by
  intro k q hq
  match k, hq with
  | 0, hq => exact hP 0 q hq
  | 1, hq => exact hP 1 q hq
  | 2, hq => exact hP 2 q hq
  | 3, hq => cases hq; exact (hP 3 _ rfl).trans (congrArg some (arr_same fun i hi => (h i hi).1))
  | 4, hq => cases hq; exact (hP 4 _ rfl).trans (congrArg some (arr_same fun i hi => (h i hi).2.1))
  | 5, hq => cases hq; exact (hP 5 _ rfl).trans (congrArg some (arr_same fun i hi => (h i hi).2.2.1))
  | 6, hq => cases hq; exact (hP 6 _ rfl).trans (congrArg some (arr_same fun i hi => (h i hi).2.2.2))
  | k + 7, hq => cases hq
set_option maxHeartbeats 4000000 in
set_option maxRecDepth 100000 in
theorem c_M_init (l : Launch) (E : EN) (d : DM) (b : MA) (hd rd wr : Int32) (dk mm pg pn di mk : Nat → Int32) (A : Nat → Prop) (hD : mD E d b A) : Met l y_M_init (Cond.code y_M_init b_M_init 2 none :: tbw) (k2_rm 1 21) (Pq E [.ref b.o] (mP E d b (hd, rd, wr, dk, mm, pg, pn, di, mk))) (Qv (fun H => ∃ fk, mP E d b (0, 0, 0, fk, mm, fun _ => -1, fun _ => 0, fun _ => 0, fun _ => 0) H ∧ ∀ j, j < 1600 → fk j = 0) A) 0 0 A := by
  refine ent rfl (by decide) (Nat.le_of_ble_eq_true rfl) ?_
  intro p e s m below meth c S hr hlk hnm hk hP ls hl
  obtain ⟨hx, hb, hml, hown, hts⟩ := id S
  have hl : lv_has ls 2 [(0, .ref b.o)] := hl
  have hS : va_S A s.heap s.heap [] := va_S.rf
  refine lv_iconst (v := 0) hx hb d_M_init_0 (by decide) ?_
  refine lv_istore_n (lv' := [(1, .int 0), (0, .ref b.o)]) hx hb d_M_init_1 rfl hl (by decide) rfl (fun ls hl => ?_)
  have hl := lv_sub (l' := [(0, .ref b.o), (1, .int 0)]) hl [1, 0] rfl
  refine lp_M_init1 (dk := dk) S hk hD ⟨Nat.le_of_ble_eq_true rfl, Nat.le_of_ble_eq_true rfl⟩ ⟨Nat.le_refl _, Nat.le_refl _⟩ (fun H locs ls hP hS hl => ?_) 1601 0 s.heap [] ls (Nat.zero_le _) (by omega) (by rw [lo_0]; exact hP) hS hl
  refine lv_iconst (v := 0) hx hb d_M_init_22 (by decide) ?_
  refine lv_istore_n (lv' := [(1, .int 0), (0, .ref b.o)]) hx hb d_M_init_23 rfl hl (by decide) rfl (fun ls hl => ?_)
  have hl := lv_sub (l' := [(0, .ref b.o), (1, .int 0)]) hl [1, 0] rfl
  refine lp_M_init2 (pg := pg) (pn := pn) (di := di) (mk := mk) S hk hD ⟨Nat.le_of_ble_eq_true rfl, Nat.le_of_ble_eq_true rfl⟩ ⟨Nat.le_refl _, Nat.le_refl _⟩ (fun H locs ls hP hS hl => ?_) 33 0 H locs ls (Nat.zero_le _) (by omega) (by rw [lo_0, lo_0, lo_0, lo_0]; exact hP) hS hl
  have hP := mP_same (pg' := fun _ => -1) (pn' := fun _ => 0) (di' := fun _ => 0) (mk' := fun _ => 0) hP (fun i hi => ⟨lo_in hi, lo_in hi, lo_in hi, lo_in hi⟩)
  refine lv_aload_n hx hb d_M_init_41 rfl (lv_at hl 0 rfl) ?_
  refine lv_iconst (v := 0) hx hb d_M_init_42 (by decide) ?_
  refine mp_at S hk hD hS hP d_M_init_43 (fun H locs hP hS => ?_)
  refine lv_aload_n hx hb d_M_init_46 rfl (lv_at hl 0 rfl) ?_
  refine lv_iconst (v := 0) hx hb d_M_init_47 (by decide) ?_
  refine mp_reads S hk hD hS hP d_M_init_48 (fun H locs hP hS => ?_)
  refine lv_aload_n hx hb d_M_init_51 rfl (lv_at hl 0 rfl) ?_
  refine lv_iconst (v := 0) hx hb d_M_init_52 (by decide) ?_
  refine mp_writes S hk hD hS hP d_M_init_53 (fun H locs hP hS => ?_)
  exact ret_Qv S hr hlk hS ⟨_, hP, fun j hj => lo_in hj⟩ d_M_init_56
end
section
/-! what holds between calls goes on holding -/
theorem Inv.mono {d : DM} {N M : Nat} {S : St} (h : Inv d N S) (hM : N ≤ M) : Inv d M S := ⟨h.1, h.2.1, h.2.2.1, h.2.2.2.1, fun i hi => by
  obtain ⟨q, h1, h2⟩ := h.2.2.2.2 i hi
  exact ⟨q, by omega, h2⟩⟩
theorem Inv.init (d : DM) (hd : dm_ok d) : Inv d 0 o_init := ⟨by have := hd.1; show 0 < d.n; omega, fun _ _ => Or.inl rfl, fun i j _ _ _ h => absurd rfl h, fun _ _ _ => ⟨rfl, rfl, rfl⟩, fun _ _ => ⟨0, Nat.le_refl _, rfl⟩⟩
theorem Inv.reset {d : DM} (hd : dm_ok d) (S : St) (N : Nat) : Inv d N (o_reset S) := ⟨by have := hd.1; show 0 < d.n; omega, fun _ _ => Or.inl rfl, fun i j _ _ _ h => absurd rfl h, fun _ _ _ => ⟨rfl, rfl, rfl⟩, fun _ _ => ⟨0, Nat.zero_le _, rfl⟩⟩
theorem Inv.wr {d : DM} {N : Nat} {S : St} (h : Inv d N S) (i : Nat) : Inv d N (s_wr S i) := ⟨h.1, h.2.1, h.2.2.1, fun j hj e => by
  obtain ⟨h1, h2, h3⟩ := h.2.2.2.1 j hj e
  refine ⟨h1, ?_, h3⟩
  show upd S.di i 0 j = 0
  by_cases c : j = i
  · subst c; exact upd_s
  · rw [upd_n c]; exact h2, h.2.2.2.2⟩
theorem Inv.em {d : DM} {N : Nat} {S : St} (h : Inv d N S) (i : Nat) : Inv d N (s_em S i) := by
  refine ⟨h.1, fun j hj => ?_, fun j k hj hk e hne => ?_, fun j hj e => ?_, fun j hj => ?_⟩
  · show upd S.pg i (-1) j = -1 ∨ ∃ p, p < d.P ∧ upd S.pg i (-1) j = nI p
    by_cases c : j = i
    · subst c; rw [upd_s]; exact Or.inl rfl
    · rw [upd_n c]; exact h.2.1 j hj
  · have e : upd S.pg i (-1) j = upd S.pg i (-1) k := e
    have hne : upd S.pg i (-1) j ≠ -1 := hne
    by_cases c : j = i
    · subst c; rw [upd_s] at hne; exact absurd rfl hne
    · by_cases c' : k = i
      · subst c'; rw [upd_s] at e; exact absurd e hne
      · rw [upd_n c, upd_n c'] at e
        rw [upd_n c] at hne
        exact h.2.2.1 j k hj hk e hne
  · show upd S.pn i 0 j = 0 ∧ upd S.di i 0 j = 0 ∧ upd S.mk i 0 j = 0
    have e : upd S.pg i (-1) j = -1 := e
    by_cases c : j = i
    · subst c; exact ⟨upd_s, upd_s, upd_s⟩
    · rw [upd_n c] at e
      rw [upd_n c, upd_n c, upd_n c]
      exact h.2.2.2.1 j hj e
  · show ∃ q, q ≤ N ∧ upd S.pn i 0 j = nI q
    by_cases c : j = i
    · subst c; exact ⟨0, Nat.zero_le _, upd_s⟩
    · rw [upd_n c]; exact h.2.2.2.2 j hj
theorem Inv.hm {d : DM} {N : Nat} {S : St} (h : Inv d N S) {hd : Nat} {mk : Nat → Int32} (h1 : hd < d.n) (h2 : ∀ j, S.mk j = 0 → mk j = 0) : Inv d N (s_hm S hd mk) := ⟨h1, h.2.1, h.2.2.1, fun j hj e => ⟨(h.2.2.2.1 j hj e).1, (h.2.2.2.1 j hj e).2.1, h2 j (h.2.2.2.1 j hj e).2.2⟩, h.2.2.2.2⟩
theorem Inv.out {d : DM} {N : Nat} {S : St} (h : Inv d N S) (i : Nat) : Inv d N (s_out S i) := by
  unfold s_out
  split
  · exact (h.wr i).em i
  · exact h.em i
theorem Inv.pin {d : DM} {N : Nat} {S : St} (h : Inv d N S) {i : Nat} (hi : i < d.n) (hp : S.pg i ≠ -1) : Inv d (N + 1) (s_pin S i) := by
  refine ⟨h.1, h.2.1, h.2.2.1, fun j hj e => ?_, fun j hj => ?_⟩
  · have c : j ≠ i := fun z => by subst z; exact hp e
    show upd S.pn i (S.pn i + 1) j = 0 ∧ S.di j = 0 ∧ upd S.mk i 1 j = 0
    rw [upd_n c, upd_n c]
    exact h.2.2.2.1 j hj e
  · show ∃ q, q ≤ N + 1 ∧ upd S.pn i (S.pn i + 1) j = nI q
    by_cases c : j = i
    · subst c
      obtain ⟨q, h1, h2⟩ := h.2.2.2.2 j hj
      exact ⟨q + 1, by omega, by rw [upd_s, h2, nI_1]⟩
    · rw [upd_n c]
      obtain ⟨q, h1, h2⟩ := h.2.2.2.2 j hj
      exact ⟨q, by omega, h2⟩
theorem Inv.ld {d : DM} {N : Nat} {S : St} (h : Inv d N S) {i q : Nat} (hq : q < d.P) (hP : d.P < 2 ^ 31) (hn : ∀ j, j < d.n → j ≠ i → S.pg j ≠ nI q) : Inv d N (s_ld S i (nI q)) := by
  refine ⟨h.1, fun j hj => ?_, fun j k hj hk e hne => ?_, fun j hj e => ?_, h.2.2.2.2⟩
  · show upd S.pg i (nI q) j = -1 ∨ ∃ p, p < d.P ∧ upd S.pg i (nI q) j = nI p
    by_cases c : j = i
    · subst c; rw [upd_s]; exact Or.inr ⟨q, hq, rfl⟩
    · rw [upd_n c]; exact h.2.1 j hj
  · have e : upd S.pg i (nI q) j = upd S.pg i (nI q) k := e
    have hne : upd S.pg i (nI q) j ≠ -1 := hne
    by_cases c : j = i <;> by_cases c' : k = i
    · omega
    · subst c
      rw [upd_s, upd_n c'] at e
      exact absurd e.symm (hn k hk c')
    · subst c'
      rw [upd_s, upd_n c] at e
      exact absurd e (hn j hj c)
    · rw [upd_n c, upd_n c'] at e
      rw [upd_n c] at hne
      exact h.2.2.1 j k hj hk e hne
  · have e : upd S.pg i (nI q) j = -1 := e
    have c : j ≠ i := fun z => by subst z; rw [upd_s] at e; exact nI_m1 (by omega) e
    rw [upd_n c] at e
    exact h.2.2.2.1 j hj e
theorem Inv.fetch {d : DM} {N : Nat} {S : St} (h : Inv d N S) (hd : dm_ok d) (p : Int32) : Inv d (N + 1) (o_fetch d S p).2 := by
  obtain ⟨hn1, hn2, hP1, hP2, hw1, hw2⟩ := hd
  unfold o_fetch
  by_cases c1 : 0 ≤ p ∧ p < nI d.P
  · rw [if_pos c1]
    cases hf : fo S.pg p d.n with
    | some i =>
      obtain ⟨h1, h2, h3⟩ := fo_some hf
      exact h.pin h1 (fun z => by rw [← h3, z] at h2; exact absurd h2 (by decide))
    | none =>
      dsimp only
      by_cases c2 : cnt S.pn d.n = d.n
      · rw [if_pos c2]; exact h.mono (by omega)
      · rw [if_neg c2]
        cases hs : s_next d S with
        | none => exact h.mono (by omega)
        | some r =>
          obtain ⟨i, T⟩ := r
          dsimp only
          unfold s_next at hs
          cases hc : clk d.n S.pn (2 * d.n + 2) S.hd S.mk with
          | none => rw [hc] at hs; cases hs
          | some z =>
            obtain ⟨i', hd', mk'⟩ := z
            rw [hc] at hs
            cases hs
            obtain ⟨g1, g2, g3, g4, g5⟩ := clk_spec _ _ _ _ _ _ h.1 hc
            obtain ⟨q, hq, rfl⟩ := inN2 (by omega) c1
            have hT : Inv d N (s_out (s_hm S hd' mk') i) := (h.hm g4 g5).out i
            have hpg : (s_out (s_hm S hd' mk') i).pg = upd S.pg i (-1) := s_out_pg _ _
            refine (hT.ld hq (by omega) (fun j hj hne e => ?_)).pin g1 ?_
            · rw [hpg, upd_n hne] at e
              exact fo_none hf j hj ⟨c1.1, e⟩
            · show upd (s_out (s_hm S hd' mk') i).pg i (nI q) i ≠ -1
              rw [upd_s]
              exact nI_m1 (by omega)
  · rw [if_neg c1]; exact h.mono (by omega)
theorem Inv.unpin {d : DM} {N : Nat} {S : St} (h : Inv d N S) (hN : N < 2 ^ 31) (hd : dm_ok d) (f : Int32) : Inv d N (o_unpin d S f).2 := by
  obtain ⟨hn1, hn2, -⟩ := hd
  unfold o_unpin
  by_cases c : (0 ≤ f ∧ f < nI d.n) ∧ S.pn f.toNatClampNeg ≠ 0
  · rw [if_pos c]
    obtain ⟨i, hi, rfl⟩ := inN2 (by omega) c.1
    have hcl : (nI i).toNatClampNeg = i := nI_clamp (by omega)
    rw [hcl] at c ⊢
    refine ⟨h.1, h.2.1, h.2.2.1, fun j hj e => ?_, fun j hj => ?_⟩
    · have hne : j ≠ i := fun z => by subst z; exact c.2 (h.2.2.2.1 j hj e).1
      show upd S.pn i (S.pn i - 1) j = 0 ∧ S.di j = 0 ∧ S.mk j = 0
      rw [upd_n hne]
      exact h.2.2.2.1 j hj e
    · show ∃ q, q ≤ N ∧ upd S.pn i (S.pn i - 1) j = nI q
      by_cases e : j = i
      · subst e
        obtain ⟨q, h1, h2⟩ := h.2.2.2.2 j hj
        rw [upd_s, h2]
        cases q with
        | zero => rw [h2] at c; exact absurd rfl c.2
        | succ q => exact ⟨q, by omega, nI_pred q⟩
      · rw [upd_n e]; exact h.2.2.2.2 j hj
  · rw [if_neg c]; exact h
theorem Inv.dirty {d : DM} {N : Nat} {S : St} (h : Inv d N S) {i : Nat} (hp : S.pg i ≠ -1) (dk mm : Nat → Nat → Int32) : Inv d N (dk, mm, S.pg, S.pn, upd S.di i 1, S.mk, S.hd, S.rd, S.wr) := ⟨h.1, h.2.1, h.2.2.1, fun j hj e => by
  have hne : j ≠ i := fun z => by subst z; exact hp e
  show S.pn j = 0 ∧ upd S.di i 1 j = 0 ∧ S.mk j = 0
  rw [upd_n hne]
  exact h.2.2.2.1 j hj e, h.2.2.2.2⟩
theorem Inv.writeWord {d : DM} {N : Nat} {S : St} (h : Inv d N S) (hd : dm_ok d) (f o v : Int32) : Inv d N (o_writeWord d S f o v).2 := by
  obtain ⟨hn1, hn2, -⟩ := hd
  unfold o_writeWord
  by_cases c : (0 ≤ f ∧ f < nI d.n) ∧ S.pn f.toNatClampNeg ≠ 0
  · rw [if_pos c]
    by_cases c2 : 0 ≤ o ∧ o < nI d.w
    · rw [if_pos c2]
      obtain ⟨i, hi, rfl⟩ := inN2 (by omega) c.1
      have hcl : (nI i).toNatClampNeg = i := nI_clamp (by omega)
      rw [hcl] at c ⊢
      exact h.dirty (fun z => c.2 (h.2.2.2.1 i hi z).1) _ _
    · rw [if_neg c2]; exact h
  · rw [if_neg c]; exact h
theorem Inv.flush {d : DM} {N : Nat} {S : St} (h : Inv d N S) (p : Int32) : Inv d N (o_flush d S p).2 := by
  unfold o_flush
  cases hf : fo S.pg p d.n with
  | none => exact h
  | some i =>
    dsimp only
    by_cases c : S.di i = 0
    · rw [if_pos c]; exact h
    · rw [if_neg c]; exact h.wr i
theorem Inv.fl {d : DM} {N : Nat} {S : St} (h : Inv d N S) : ∀ k, Inv d N (o_fl k S).2
  | 0 => h
  | k + 1 => by
    simp only [o_fl]
    by_cases c : (o_fl k S).2.di k = 0
    · rw [if_pos c]; exact h.fl k
    · rw [if_neg c]; exact (h.fl k).wr k
theorem Inv.drop {d : DM} {N : Nat} {S : St} (h : Inv d N S) (p : Int32) : Inv d N (o_drop d S p).2 := by
  unfold o_drop
  cases hf : fo S.pg p d.n with
  | none => exact h
  | some i =>
    dsimp only
    by_cases c : 0 < S.pn i
    · rw [if_pos c]; exact h
    · rw [if_neg c]; exact h.em i
theorem Inv.copy {d : DM} {N : Nat} {S : St} (h : Inv d N S) (p q : Int32) : Inv d N (o_copy d S p q).2 := by
  unfold o_copy
  by_cases c : (0 ≤ p ∧ p < nI d.P) ∧ (0 ≤ q ∧ q < nI d.P)
  · rw [if_pos c]
    cases hf : fo S.pg p d.n with
    | none => exact h
    | some i =>
      obtain ⟨h1, h2, h3⟩ := fo_some hf
      dsimp only
      by_cases c2 : S.pn i = 0
      · rw [if_pos c2]; exact h
      · rw [if_neg c2]
        exact h.dirty (fun z => by rw [← h3, z] at h2; exact absurd h2 (by decide)) _ _
  · rw [if_neg c]; exact h
/-! dimensions: a number kept between 1 and M -/
def cl (M : Nat) (x : Int32) : Nat := if x < 1 then 1 else if nI M < x then M else x.toNatClampNeg
theorem cl_in {M : Nat} (hM : 1 ≤ M) (hM2 : M < 2 ^ 31) (x : Int32) : 1 ≤ cl M x ∧ cl M x ≤ M := by
  unfold cl
  by_cases c1 : x < 1
  · rw [if_pos c1]; omega
  · rw [if_neg c1]
    by_cases c2 : nI M < x
    · rw [if_pos c2]; omega
    · rw [if_neg c2]
      have h1 : nI 1 ≤ x := Int32.not_lt.mp c1
      have h0 : ¬ x < 0 := fun z => absurd (Int32.lt_of_le_of_lt h1 z) (by decide)
      obtain ⟨j, hj, rfl⟩ := nI_of h0
      rw [nI_clamp hj]
      have h2 := (nI_leI (by omega) hj).mp h1
      have h3 := mt (nI_ltI (a := M) (b := j) hM2 hj).mpr c2
      omega
theorem cl_ge {M : Nat} {x : Int32} (c1 : ¬ x < 1) (c2 : ¬ nI M < x) : x = nI (cl M x) := by
  unfold cl
  rw [if_neg c1, if_neg c2]
  have h1 : nI 1 ≤ x := Int32.not_lt.mp c1
  have h0 : ¬ x < 0 := fun z => absurd (Int32.lt_of_le_of_lt h1 z) (by decide)
  obtain ⟨j, hj, rfl⟩ := nI_of h0
  rw [nI_clamp hj]
/-- max (1, min (M, x)) -/
theorem cl_max {M : Nat} (hM : 1 ≤ M) (hM2 : M < 2 ^ 31) (x : Int32) : (if 1 < (if x < nI M then x else nI M) then (if x < nI M then x else nI M) else 1) = nI (cl M x) := by
  by_cases c1 : x < 1
  · have hx : x < nI M := Int32.lt_of_lt_of_le c1 (show nI 1 ≤ nI M from nI_le hM hM2)
    have hc : ¬ (1 : Int32) < x := fun z => Int32.lt_irrefl (Int32.lt_trans c1 z)
    rw [if_pos hx, if_neg hc]
    unfold cl
    rw [if_pos c1]
    rfl
  · by_cases c2 : nI M < x
    · have hx : ¬ x < nI M := fun z => Int32.lt_irrefl (Int32.lt_trans c2 z)
      rw [if_neg hx]
      unfold cl
      rw [if_neg c1, if_pos c2]
      by_cases c3 : (1 : Int32) < nI M
      · rw [if_pos c3]
      · rw [if_neg c3]
        have := mt (nI_ltI (a := 1) (b := M) (by decide) hM2).mpr c3
        have e : M = 1 := by omega
        rw [e]; rfl
    · have e := cl_ge c1 c2
      by_cases hx : x < nI M
      · rw [if_pos hx]
        by_cases c3 : (1 : Int32) < x
        · rw [if_pos c3]; exact e
        · rw [if_neg c3]
          have : x = 1 := Int32.le_antisymm (Int32.not_lt.mp c3) (Int32.not_lt.mp c1)
          rw [← e]; exact this.symm
      · have hxM : x = nI M := Int32.le_antisymm (Int32.not_lt.mp c2) (Int32.not_lt.mp hx)
        rw [if_neg hx, ← hxM]
        by_cases c3 : (1 : Int32) < x
        · rw [if_pos c3]; exact e
        · rw [if_neg c3]
          have : x = 1 := Int32.le_antisymm (Int32.not_lt.mp c3) (Int32.not_lt.mp c1)
          rw [← e]; exact this.symm
def dims (f p w : Int32) : DM := (cl 32 f, cl 200 p, cl 8 w)
theorem dims_ok (f p w : Int32) : dm_ok (dims f p w) := ⟨(cl_in (by decide) (by decide) f).1, (cl_in (by decide) (by decide) f).2, (cl_in (by decide) (by decide) p).1, (cl_in (by decide) (by decide) p).2, (cl_in (by decide) (by decide) w).1, (cl_in (by decide) (by decide) w).2⟩
end
section
/-! addresses: apart, and of a kind; the worlds while they are made -/
theorem va_D_nd {A : Nat → Prop} {ws : va_W} (h : va_D A ws) : (ws.map Prod.fst).Nodup ∧ ∀ x ∈ ws.map Prod.fst, A x := by
  refine ⟨?_, fun x hx => ?_⟩
  · unfold List.Nodup
    rw [List.pairwise_iff_getElem]
    intro i j hi hj hij e
    rw [List.length_map] at hi hj
    rw [List.getElem_map, List.getElem_map] at e
    have := h.1 i j _ _ (List.getElem?_eq_getElem hi) (List.getElem?_eq_getElem hj) e
    omega
  · obtain ⟨q, hq, rfl⟩ := List.mem_map.mp hx
    obtain ⟨k, hk⟩ := List.getElem?_of_mem hq
    exact h.2 k q hk
theorem va_D_of {A : Nat → Prop} {ws : va_W} (h1 : (ws.map Prod.fst).Nodup) (h2 : ∀ x ∈ ws.map Prod.fst, A x) : va_D A ws := by
  refine ⟨fun i j p q hp hq e => ?_, fun k q hk => h2 _ (List.mem_map.mpr ⟨q, List.mem_of_getElem? hk, rfl⟩)⟩
  unfold List.Nodup at h1
  rw [List.pairwise_iff_getElem] at h1
  obtain ⟨hi, ei⟩ := List.getElem?_eq_some_iff.mp hp
  obtain ⟨hj, ej⟩ := List.getElem?_eq_some_iff.mp hq
  rcases Nat.lt_trichotomy i j with c | c | c
  · exact absurd (by rw [List.getElem_map, List.getElem_map, ei, ej]; exact e) (h1 i j (by simpa using hi) (by simpa using hj) c)
  · exact c
  · exact absurd (by rw [List.getElem_map, List.getElem_map, ei, ej]; exact e.symm) (h1 j i (by simpa using hj) (by simpa using hi) c)
theorem nd_add {u f w : List Nat} {q r : Nat} (h : (u ++ (f ++ w)).Nodup) (hq : q ∉ u ++ (f ++ w)) (hr : r ∉ u ++ (f ++ w)) (hqr : q ≠ r) : (u ++ ((f ++ [q]) ++ (w ++ [r]))).Nodup := by
  simp only [List.nodup_append, List.mem_append, List.mem_singleton, not_or] at *
  obtain ⟨h1, ⟨h2, h3, h4⟩, h5⟩ := h
  refine ⟨h1, ⟨⟨h2, by simp, fun x hx y hy e => ?_⟩, ⟨h3, by simp, fun x hx y hy e => ?_⟩, fun x hx y hy e => ?_⟩, fun x hx y hy e => ?_⟩
  · subst hy; subst e; exact hq.2.1 hx
  · subst hy; subst e; exact hr.2.2 hx
  · rcases hx with hx | hx <;> rcases hy with hy | hy
    · exact h4 x hx y hy e
    · subst hy; subst e; exact hr.2.1 hx
    · subst hx; subst e; exact hq.2.2 hy
    · subst hx; subst hy; exact hqr e
  · rcases hy with (hy | hy) | (hy | hy)
    · exact h5 x hx y (Or.inl hy) e
    · subst hy; subst e; exact hq.1 hx
    · exact h5 x hx y (Or.inr hy) e
    · subst hy; subst e; exact hr.1 hx
theorem va_P_mem {D : va_G} {cl : List vw_C} {ws ws2 : va_W} {H : Heap} (h : va_P D cl ws H) (hs : ∀ x, x ∈ ws2 → x ∈ ws) : va_P D cl ws2 H := fun k q hk => by
  obtain ⟨i, hi⟩ := List.getElem?_of_mem (hs q (List.mem_of_getElem? hk))
  exact h i q hi
/-- the pool while k of its frames are made -/
def yW (E : EN) (d : DM) (a : XA) (k : Nat) : va_W :=
  (a.p, .inr (0, [.int (nI d.P), .int (nI d.w), .ref a.d, .ref a.f, .ref a.t, .int 0, .int 0, .int 0])) ::
  (a.d, .inl (E.cI, d.P * d.w, .inl (fun _ => 0))) ::
  (a.f, .inl (E.cF, d.n, .inr (.inr (.inr (.inr (fun i => if i < k then some (a.fr i) else none)))))) ::
  (a.t, .inl (E.cF, 64, .inr (.inr (.inr (.inr (fun _ => none)))))) ::
  ((List.range k).map (xWf a (fun _ => -1) (fun _ => 0) (fun _ => 0) (fun _ => 0)) ++ (List.range k).map (xWw E d a (fun _ _ => 0)))
theorem yW_adr (E : EN) (d : DM) (a : XA) (k : Nat) : (yW E d a k).map Prod.fst = [a.p, a.d, a.f, a.t] ++ ((List.range k).map a.fr ++ (List.range k).map a.wd) := by
  simp only [yW, List.map_cons, List.map_append, List.map_map]
  rfl
theorem xW_adr (E : EN) (d : DM) (a : XA) (σ : XS) : (xW E d a σ).map Prod.fst = [a.p, a.d, a.f, a.t] ++ ((List.range d.n).map a.fr ++ (List.range d.n).map a.wd) := by
  obtain ⟨hd, rd, wr, dk, ti, pg, pn, di, mk, ww⟩ := σ
  simp only [xW, List.map_cons, List.map_append, List.map_map]
  rfl
theorem mW_adr (E : EN) (d : DM) (b : MA) (σ : MS) : (mW E d b σ).map Prod.fst = [b.o, b.d, b.m, b.p, b.n, b.y, b.k] := by
  obtain ⟨hd, rd, wr, dk, mm, pg, pn, di, mk⟩ := σ
  rfl
theorem xD_of {E : EN} {d : DM} {a : XA} {A A' : Nat → Prop} {σ : XS} (h : va_D A (xW E d a σ)) (hA : ∀ (k : Nat) (q : Nat × va_E), (xW E d a σ)[k]? = some q → A' q.1) : xD E d a A' := by
  intro σ'
  have h1 := va_D_nd h
  refine va_D_of (by rw [xW_adr]; rw [xW_adr] at h1; exact h1.1) (fun x hx => ?_)
  rw [xW_adr, ← xW_adr E d a σ] at hx
  obtain ⟨q, hq, rfl⟩ := List.mem_map.mp hx
  obtain ⟨k, hk⟩ := List.getElem?_of_mem hq
  exact hA k q hk
theorem mD_of {E : EN} {d : DM} {b : MA} {A A' : Nat → Prop} {σ : MS} (h : va_D A (mW E d b σ)) (hA : ∀ (k : Nat) (q : Nat × va_E), (mW E d b σ)[k]? = some q → A' q.1) : mD E d b A' := by
  intro σ'
  have h1 := va_D_nd h
  refine va_D_of (by rw [mW_adr]; rw [mW_adr] at h1; exact h1.1) (fun x hx => ?_)
  rw [mW_adr, ← mW_adr E d b σ] at hx
  obtain ⟨q, hq, rfl⟩ := List.mem_map.mp hx
  obtain ⟨k, hk⟩ := List.getElem?_of_mem hq
  exact hA k q hk
/-- all frames are made: the pool's world -/
theorem yW_xP {E : EN} {d : DM} {a : XA} {H : Heap} (h : va_P E.D classes (yW E d a d.n) H) : xP E d a (0, 0, 0, fun _ => 0, fun _ => none, fun _ => -1, fun _ => 0, fun _ => 0, fun _ => 0, fun _ _ => 0) H := by
  intro k q hq
  match k, hq with
  | 0, hq => exact h 0 q hq
  | 1, hq => exact h 1 q hq
  | 2, hq =>
    cases hq
    refine (h 2 _ rfl).trans (congrArg some ?_)
    rw [vp_cell_q, vp_cell_q]
    unfold arrV
    congr 1
    congr 1
    funext j
    show va_rf (if j.val < d.n then some (a.fr j.val) else none) = va_rf (some (a.fr j.val))
    rw [if_pos j.isLt]
  | 3, hq => exact h 3 q hq
  | k + 4, hq => exact h (k + 4) q hq
theorem yW_map {α : Type} {k : Nat} {f g : Nat → α} (h : ∀ i, i < k → f i = g i) : (List.range k).map f = (List.range k).map g := List.map_congr_left fun i hi => h i (List.mem_range.mp hi)
/-- one frame more -/
theorem yW_step {E : EN} {d : DM} {p q r t : Nat} {fr wd : Nat → Nat} {k f w : Nat} {A : Nat → Prop} {H : Heap} {X : va_W}
    (hP : va_P E.D classes ((p, .inr (0, [.int (nI d.P), .int (nI d.w), .ref q, .ref r, .ref t, .int 0, .int 0, .int 0])) ::
      (q, .inl (E.cI, d.P * d.w, .inl (fun _ => 0))) ::
      (r, .inl (E.cF, d.n, .inr (.inr (.inr (.inr (va_up (fun i => if i < k then some (fr i) else none) k (some f))))))) ::
      (t, .inl (E.cF, 64, .inr (.inr (.inr (.inr (fun _ => none)))))) ::
      (((List.range k).map (xWf (p, q, r, t, fr, wd) (fun _ => -1) (fun _ => 0) (fun _ => 0) (fun _ => 0)) ++ (List.range k).map (xWw E d (p, q, r, t, fr, wd) (fun _ _ => 0))) ++ [(f, .inr (1, [.int (nI k), .ref w, .int (-1), .int 0, .int 0, .int 0])), (w, .inl (E.cI, d.w, .inl (fun _ => 0)))])) H) :
    va_P E.D classes (yW E d (p, q, r, t, va_up fr k f, va_up wd k w) (k + 1)) H := by
  refine va_P_mem hP (fun x hx => ?_)
  unfold yW at hx
  rw [List.range_succ, List.map_append, List.map_append] at hx
  simp only [List.mem_cons, List.mem_append, List.mem_map, List.mem_range, List.map_cons, List.map_nil, List.not_mem_nil, or_false] at hx ⊢
  have hfn : (fun i => if i < k + 1 then some (va_up fr k f i) else none) = va_up (fun i => if i < k then some (fr i) else none) k (some f) := by
    funext i
    by_cases e : i = k
    · subst e; rw [va_up_self, va_up_self, if_pos (by omega)]
    · rw [va_up_ne _ _ e, va_up_ne _ _ e]
      by_cases c : i < k
      · rw [if_pos c, if_pos (by omega)]
      · rw [if_neg c, if_neg (by omega)]
  rcases hx with h | h | h | h | (⟨i, hi, h⟩ | h) | (⟨i, hi, h⟩ | h)
  · exact Or.inl h
  · exact Or.inr (Or.inl h)
  · refine Or.inr (Or.inr (Or.inl ?_))
    rw [h]
    show (r, (Sum.inl (E.cF, d.n, Sum.inr (Sum.inr (Sum.inr (Sum.inr (fun i => if i < k + 1 then some (va_up fr k f i) else none))))) : va_E)) = _
    rw [hfn]
  · exact Or.inr (Or.inr (Or.inr (Or.inl h)))
  · refine Or.inr (Or.inr (Or.inr (Or.inr (Or.inl (Or.inl ⟨i, hi, ?_⟩)))))
    rw [← h]
    have e : i ≠ k := by omega
    simp only [xWf, XA.fr, XA.wd, va_up_ne _ _ e]
  · refine Or.inr (Or.inr (Or.inr (Or.inr (Or.inr (Or.inl ?_)))))
    rw [h]
    simp only [xWf, XA.fr, XA.wd, va_up_self]
  · refine Or.inr (Or.inr (Or.inr (Or.inr (Or.inl (Or.inr ⟨i, hi, ?_⟩)))))
    rw [← h]
    have e : i ≠ k := by omega
    simp only [xWw, XA.wd, va_up_ne _ _ e]
  · refine Or.inr (Or.inr (Or.inr (Or.inr (Or.inr (Or.inr ?_)))))
    rw [h]
    simp only [xWw, XA.wd, va_up_self]
theorem yW_stepD {E : EN} {d : DM} {p q r t : Nat} {fr wd : Nat → Nat} {k f w : Nat} {A : Nat → Prop} (h : va_D A (yW E d (p, q, r, t, fr, wd) k)) (hf : f ∉ (yW E d (p, q, r, t, fr, wd) k).map Prod.fst) (hw : w ∉ (yW E d (p, q, r, t, fr, wd) k).map Prod.fst) (hfw : f ≠ w) (hAf : A f) (hAw : A w) : va_D A (yW E d (p, q, r, t, va_up fr k f, va_up wd k w) (k + 1)) := by
  obtain ⟨h1, h2⟩ := va_D_nd h
  rw [yW_adr] at h1 h2 hf hw
  have e : (yW E d (p, q, r, t, va_up fr k f, va_up wd k w) (k + 1)).map Prod.fst = [p, q, r, t] ++ (((List.range k).map fr ++ [f]) ++ ((List.range k).map wd ++ [w])) := by
    rw [yW_adr, List.range_succ, List.map_append, List.map_append]
    show [p, q, r, t] ++ (((List.range k).map (va_up fr k f) ++ [va_up fr k f k]) ++ ((List.range k).map (va_up wd k w) ++ [va_up wd k w k])) = _
    rw [va_up_self, va_up_self, yW_map (f := va_up fr k f) (g := fr) (fun i hi => va_up_ne _ _ (by omega)), yW_map (f := va_up wd k w) (g := wd) (fun i hi => va_up_ne _ _ (by omega))]
  refine va_D_of (by rw [e]; exact nd_add h1 hf hw hfw) (fun x hx => ?_)
  rw [e] at hx
  simp only [List.mem_append, List.mem_singleton] at hx h2
  rcases hx with hx | (hx | hx) | (hx | hx)
  · exact h2 x (Or.inl hx)
  · exact h2 x (Or.inr (Or.inl hx))
  · rw [hx]; exact hAf
  · exact h2 x (Or.inr (Or.inr hx))
  · rw [hx]; exact hAw
end
section
/-! the constructors -/
theorem newI {E : EN} {s : State} {cA : ClassId} (h : va_K E.D classes (ty3 E ++ [(cA, .int)]) s) : cA = E.cI := Option.some.inj ((h.2 3 _ rfl).2.symm.trans (h.2 0 _ rfl).2)
theorem newZ {E : EN} {s : State} {cA : ClassId} (h : va_K E.D classes (ty3 E ++ [(cA, .boolean)]) s) : cA = E.cZ := Option.some.inj ((h.2 3 _ rfl).2.symm.trans (h.2 2 _ rfl).2)
theorem newF {E : EN} {s : State} {cA : ClassId} (h : va_K E.D classes (ty3 E ++ [(cA, .object "FramePool$Frame")]) s) : cA = E.cF := by
  obtain ⟨_, _, -, -, -, h1⟩ := (h.2 3 _ rfl).2
  obtain ⟨_, _, -, -, -, h2⟩ := (h.2 1 _ rfl).2
  exact Option.some.inj (h1.symm.trans h2)
theorem va_D_one {A : Nat → Prop} {q : Nat × va_E} (h : A q.1) : va_D A [q] := va_D_of (by simp) (fun x hx => by
  simp only [List.map_cons, List.map_nil, List.mem_singleton] at hx
  rw [hx]; exact h)
set_option maxHeartbeats 4000000 in
set_option maxRecDepth 100000 in
/-- Frame(number, n) -/
theorem c_F_new (l : Launch) (E : EN) (h0 sz i w : Nat) (hw : w ≤ 8) : Met l y_F_new (Cond.code y_F_new b_F_new 3 none :: tbw) { frames := 1, cells := 1, slots := 8, locals := 12 } (Pq E [.ref h0, .int (nI i), .int (nI w)] (fun H => H.size = sz ∧ va_P E.D classes [(h0, .inr (1, [.int 0, .null, .int 0, .int 0, .int 0, .int 0]))] H)) (Qv (fun H => ∃ q, sz ≤ q ∧ q ≠ h0 ∧ va_P E.D classes [(h0, .inr (1, [.int (nI i), .ref q, .int (-1), .int 0, .int 0, .int 0])), (q, .inl (E.cI, w, .inl (fun _ => 0)))] H) (fun x => x = h0 ∨ sz ≤ x)) 1 8 (fun x => x = h0 ∨ sz ≤ x) := by
  refine ent rfl (by decide) (Nat.le_of_ble_eq_true rfl) ?_
  intro p e s m below meth c S hr hlk hnm hk hP ls hl
  obtain ⟨hx, hb, hml, hown, hts⟩ := id S
  obtain ⟨hsz, hP⟩ := hP
  have hl : lv_has ls 3 [(0, .ref h0), (1, .int (nI i)), (2, .int (nI w))] := hl
  have hS : va_S (fun x => x = h0 ∨ sz ≤ x) s.heap s.heap [] := va_S.rf
  have hA : ∀ q : Nat, s.heap.size ≤ q → (q = h0 ∨ sz ≤ q) := fun q h => Or.inr (by rw [← hsz]; exact h)
  have hD : va_D (fun x => x = h0 ∨ sz ≤ x) [(h0, .inr (1, [.int 0, .null, .int 0, .int 0, .int 0, .int 0]))] := va_D_one (Or.inl rfl)
  refine lv_aload_n hx hb d_F_new_0 rfl (lv_at hl 0 rfl) ?_
  refine W.objInit hx hb hown (hts _ (hT0 _ ml_F_3)) (hts _ (hT0 _ im_O_new)) (hts _ (hT0 _ co_O_new)) rfl (by rw [hml]; exact hl.1) rfl d_F_new_1 (Nat.le_of_ble_eq_true rfl) (Nat.le_of_ble_eq_true rfl) ?_
  refine W.eq (g2 := F0 m 4 ls []) rfl ?_
  refine lv_aload_n hx hb d_F_new_4 rfl (lv_at hl 0 rfl) ?_
  refine lv_iconst (v := -1) hx hb d_F_new_5 (by decide) ?_
  refine va_put (D := E.D) (ci := 1) (v := .int (-1)) (ty := .int) (C := R_F) (T := F_F) (N := 6) hx hb hts (fun w h => hT0 _ (i_F w h)) t_F t_F_ok n_F hown hk.1 hP hD hS 0 rfl rfl 2 (by decide) (hts _ (hT0 _ fl_F_9)) (fun _ h9 => h9) rfl (by decide +kernel) rfl rfl (Nat.le_of_ble_eq_true rfl) d_F_new_6 (fun H locs hP hD hS => ?_)
  have hP : va_P E.D classes [(h0, .inr (1, [.int 0, .null, .int (-1), .int 0, .int 0, .int 0]))] H := hP
  have hD : va_D (fun x => x = h0 ∨ sz ≤ x) [(h0, .inr (1, [.int 0, .null, .int (-1), .int 0, .int 0, .int 0]))] := hD
  refine lv_aload_n hx hb d_F_new_9 rfl (lv_at hl 0 rfl) ?_
  refine lv_iload_n hx hb d_F_new_10 rfl (lv_at hl 1 rfl) ?_
  refine va_putF (D := E.D) (ci := 1) (v := .int (nI i)) (ty := .int) (C := R_F) (T := F_F) (N := 6) hx hb hts (fun w h => hT0 _ (i_F w h)) t_F t_F_ok n_F hown hk.1 hP hD hS 0 rfl rfl 0 (by decide) (hts _ (hT0 _ fl_F_15)) (fun _ h9 => h9) rfl hnm rfl (by decide +kernel) rfl rfl (Nat.le_of_ble_eq_true rfl) d_F_new_11 (fun H locs hP hD hS => ?_)
  have hP : va_P E.D classes [(h0, .inr (1, [.int (nI i), .null, .int (-1), .int 0, .int 0, .int 0]))] H := hP
  have hD : va_D (fun x => x = h0 ∨ sz ≤ x) [(h0, .inr (1, [.int (nI i), .null, .int (-1), .int 0, .int 0, .int 0]))] := hD
  refine lv_aload_n hx hb d_F_new_14 rfl (lv_at hl 0 rfl) ?_
  refine lv_iload_n hx hb d_F_new_15 rfl (lv_at hl 2 rfl) ?_
  refine va_newa (D := E.D) (atype := .int) (ty := .int) (N' := w) (a0 := (w, .inl (fun _ => 0))) hx hb (hts _ (hT0 _ ac_int)) rfl hk.1 hP hD hS hA (fun _ => rfl) (nI_pos (by omega)) (nI_clamp (by omega)) (show w * 4 ≤ 536870912 by omega) (Nat.le_of_ble_eq_true rfl) (show 0 + w ≤ 8 by omega) d_F_new_16 (fun q cA H hK hP hD hS => ?_)
  obtain rfl := newI hK
  have hqh : q ≠ h0 := fun z => absurd (hD.1 1 0 _ _ rfl rfl z) (by decide)
  have hq : sz ≤ q := (hD.2 1 _ rfl).resolve_left hqh
  refine W.widen (k := 1) (n := 8) (Nat.le_refl _) (show 0 + w ≤ 8 by omega) ?_
  have hP : va_P E.D classes [(h0, .inr (1, [.int (nI i), .null, .int (-1), .int 0, .int 0, .int 0])), (q, .inl (E.cI, w, .inl (fun _ => 0)))] H := hP
  refine va_putF (D := E.D) (ci := 1) (v := .ref q) (ty := (.array .int)) (C := R_F) (T := F_F) (N := 6) hx hb hts (fun w h => hT0 _ (i_F w h)) t_F t_F_ok n_F hown hk.1 hP hD hS 0 rfl rfl 1 (by decide) (hts _ (hT0 _ fl_F_18)) (fun _ h9 => h9) rfl hnm rfl (by decide +kernel) rfl rfl (Nat.le_of_ble_eq_true rfl) d_F_new_18 (fun H locs hP hD hS => ?_)
  have hP : va_P E.D classes [(h0, .inr (1, [.int (nI i), .ref q, .int (-1), .int 0, .int 0, .int 0])), (q, .inl (E.cI, w, .inl (fun _ => 0)))] H := hP
  have hD : va_D (fun x => x = h0 ∨ sz ≤ x) [(h0, .inr (1, [.int (nI i), .ref q, .int (-1), .int 0, .int 0, .int 0])), (q, .inl (E.cI, w, .inl (fun _ => 0)))] := hD
  exact ret_Qv S hr hlk hS ⟨q, hq, hqh, hP⟩ d_F_new_21
section
variable {cc : ByteArray} {nL pc index : Nat} {ls : Array Slot} {rest : List Value}
variable {p : Program} {l : Launch} {e : Env} {R : Room} {s : State} {m : MethodId} {args : Array Value} {below : List Frame} {meth : Method} {c : Code} {H : Heap} {locs : List Loc} {cells slots : Nat} {Q : State → Prop}
variable {E : EN} {w0 : Cond} {A : Nat → Prop} {H0 : Heap} {d : DM} {a : XA} {b : MA} {hd rd wr : Int32} {dk mm : Nat → Int32} {ti : Nat → Option Nat} {pg pn di mk : Nat → Int32} {ww : Nat → Nat → Int32}
theorem og (S : CallFix p m c cc nL s args (w0 :: tbw) R_X) (hk : kk E s) {ws : va_W} (hP : va_P E.D classes ws H) {ap : Nat} {fs : List Value} (he : ws[0]? = some (ap, .inr (0, fs))) (k : Nat) (hk8 : k < 8) (hF : (F_X k).1 = R_X) (hl : Cond.fieldLink R_X index R_X (F_X k).2.1 (F_X k).2.2.1 ∈ tbw) {v : Value} (hv : fs[k]? = some v) (hdg : decode cc pc = .ok (.getfield index, 3))
    (kk : W p l e R s m args below meth c H locs cells slots Q (F0 m (pc + 3) ls (v :: rest))) : W p l e R s m args below meth c H locs cells slots Q (F0 m pc ls (.ref ap :: rest)) :=
  va_get (D := E.D) (ci := 0) (C := R_X) (T := F_X) (N := 8) S.1 S.2.1 S.2.2.2.2 (fun w h => hT0 _ (i_X w h)) S.2.2.2.1 hk.1 hP 0 he rfl k hk8 (S.2.2.2.2 _ (hT0 _ hl)) (fun x h9 => hF ▸ h9) hv hdg kk
end
section
variable {p : Program} {l : Launch} {e : Env} {R : Room} {s : State} {m : MethodId} {args : Array Value} {below : List Frame} {meth : Method} {c : Code} {H : Heap} {locs : List Loc} {cells slots : Nat} {Q : State → Prop}
variable {E : EN} {w0 : Cond} {A : Nat → Prop} {H0 : Heap} {d : DM} {a : XA} {b : MA} {hd rd wr : Int32} {dk mm : Nat → Int32} {ti : Nat → Option Nat} {pg pn di mk : Nat → Int32} {ww : Nat → Nat → Int32}
set_option maxHeartbeats 4000000 in
set_option maxRecDepth 100000 in
theorem lp_X_new (S : CallFix p m c b_X_new 5 s args (w0 :: tbw) R_X) (hk : kk E s) (hA : ∀ q : Nat, H0.size ≤ q → A q) (hdm : dm_ok d) {pa qa ra ta : Nat} {v1 v2 v3 : Int32} (hR : (2 ≤ R.frames ∧ 34 ≤ R.locals) ∧ 67 ≤ R.cells ∧ 2144 ≤ R.slots)
    (hex : ∀ (fr wd : Nat → Nat) (H : Heap) (locs : List Loc) (ls : Array Slot), va_P E.D classes (yW E d (pa, qa, ra, ta, fr, wd) d.n) H → va_D A (yW E d (pa, qa, ra, ta, fr, wd) d.n) → va_S A H0 H locs → lv_has ls 5 [(0, .ref pa), (1, .int v1), (2, .int v2), (3, .int v3), (4, .int (nI d.n))] → W p l e R s m args below meth c H locs (3 + 2 * d.n) (1696 + 14 * d.n) Q (F0 m 113 ls [])) :
    ∀ (n k : Nat) (fr wd : Nat → Nat) (H : Heap) (locs : List Loc) (ls : Array Slot), k ≤ d.n → d.n + 1 ≤ k + n → va_P E.D classes (yW E d (pa, qa, ra, ta, fr, wd) k) H → va_D A (yW E d (pa, qa, ra, ta, fr, wd) k) → va_S A H0 H locs → lv_has ls 5 [(0, .ref pa), (1, .int v1), (2, .int v2), (3, .int v3), (4, .int (nI k))] → W p l e R s m args below meth c H locs (3 + 2 * k) (1696 + 14 * k) Q (F0 m 77 ls []) := by
  obtain ⟨hx, hb, hml, hown, hts⟩ := id S
  obtain ⟨hn1, hn2, hP1, hP2, hw1, hw2⟩ := id hdm
  intro n
  induction n with
  | zero =>
    intro k fr wd H locs ls h1 h2
    omega
  | succ n ih =>
    intro k fr wd H locs ls h1 h2 hP hD hS hl
    refine lv_iload hx hb d_X_new_77 (lv_at hl 4 rfl) ?_
    refine lv_aload_n hx hb d_X_new_79 rfl (lv_at hl 0 rfl) ?_
    refine og S hk hP rfl 3 (by decide) rfl fl_X_35 rfl d_X_new_80 ?_
    refine va_alen (D := E.D) (v := nI d.n) hx hb hk.1 hP 2 1 rfl rfl rfl d_X_new_83 ?_
    refine lv_icmp_ge (tgt := 113) hx hb d_X_new_84 (by decide) (fun c1 => ?_) (fun c1 => ?_)
    · have e : k = d.n := by
        rcases Nat.lt_or_ge k d.n with h | h
        · exact absurd c1 (nI_ge h (by omega))
        · omega
      rw [e] at hP hD hl ⊢
      exact hex fr wd H locs ls hP hD hS hl
    · have hlt : k < d.n := by
        rcases Nat.lt_or_ge k d.n with h | h
        · exact h
        · exact absurd (nI_le h (by omega)) c1
      refine lv_aload_n hx hb d_X_new_87 rfl (lv_at hl 0 rfl) ?_
      refine og S hk hP rfl 3 (by decide) rfl fl_X_35 rfl d_X_new_88 ?_
      refine lv_iload hx hb d_X_new_91 (lv_at hl 4 rfl) ?_
      refine va_new (D := E.D) (ci := 1) (fs := [.int 0, .null, .int 0, .int 0, .int 0, .int 0]) (C := R_F) (T := F_F) (N := 6) hx hb hts (fun w h => hT0 _ (i_F w h)) t_F t_F_ok hown (hts _ (hT0 _ cl_X_9)) (hts _ (hT0 _ ins_F)) (hts _ (hT0 _ ini_F)) hk.1 hP hD hS hA rfl (fun j hj => by rcases (show j = 0 ∨ j = 1 ∨ j = 2 ∨ j = 3 ∨ j = 4 ∨ j = 5 by omega) with rfl | rfl | rfl | rfl | rfl | rfl <;> rfl) (by omega) (by omega) d_X_new_93 (fun q H1 hP1 hD1 hS1 => ?_)
      generalize hY : (yW E d (pa, qa, ra, ta, fr, wd) k) = Y at hP hD hP1 hD1
      have hYP : va_P E.D classes Y H1 := va_P_mem hP1 (fun x hx => List.mem_append_left _ hx)
      have hYD : va_D A Y := hD
      have hlast : (Y ++ [(q, (Sum.inr (1, [.int 0, .null, .int 0, .int 0, .int 0, .int 0]) : va_E))])[Y.length]? = some (q, .inr (1, [.int 0, .null, .int 0, .int 0, .int 0, .int 0])) := by
        rw [List.getElem?_append_right (Nat.le_refl _), Nat.sub_self]
        rfl
      have hin1 : ∀ (i : Nat) (x : Nat × va_E), Y[i]? = some x → x.1 < H1.size ∧ x.1 ≠ q := by
        intro i x hx
        have hi := (List.getElem?_eq_some_iff.mp hx).1
        have h3 : (Y ++ [(q, (Sum.inr (1, [.int 0, .null, .int 0, .int 0, .int 0, .int 0]) : va_E))])[i]? = some x := by rw [List.getElem?_append_left hi]; exact hx
        refine ⟨(hP1 i x h3).lt, fun z => ?_⟩
        have := hD1.1 i Y.length x _ h3 hlast z
        omega
      have hqlt : q < H1.size := (hP1 Y.length _ hlast).lt
      have hAq : A q := hD1.2 Y.length _ hlast
      have hqP : va_P E.D classes [(q, (Sum.inr (1, [.int 0, .null, .int 0, .int 0, .int 0, .int 0]) : va_E))] H1 := va_P_mem hP1 (fun x hx => List.mem_append_right _ hx)
      refine lv_dup hx hb d_X_new_96 rfl ?_
      refine lv_iload hx hb d_X_new_97 (lv_at hl 4 rfl) ?_
      refine lv_aload_n hx hb d_X_new_99 rfl (lv_at hl 0 rfl) ?_
      refine og S hk hYP (by rw [← hY]; rfl) 1 (by decide) rfl fl_X_28 rfl d_X_new_100 ?_
      refine aft_Qv (runI (As := [.int (nI k), .int (nI d.w)]) (rest := [.ref q, .int (nI k), .ref ra]) S hT0 hk (c_F_new l E q H1.size k d.w hw2) k_X_38 rfl rfl ⟨hR.1.1, hR.1.2⟩ ⟨rfl, hqP⟩ hl.1 rfl rfl (Nat.le_of_ble_eq_true rfl) d_X_new_103 ⟨by omega, by omega⟩) hS1 (fun x h => h.elim (fun z => by rw [z]; exact hAq) (fun z => hA x (Nat.le_trans hS1.1 z))) (fun H2 locs hP2 hz2 hk2 hS => ?_)
      obtain ⟨q2, hq2, hq2n, hP2⟩ := hP2
      have hYP2 : va_P E.D classes Y H2 := hYP.kept (fun i x hx => hk2 x.1 (hin1 i x hx).1 (fun z => z.elim (hin1 i x hx).2 (fun z => absurd (hin1 i x hx).1 (Nat.not_lt.mpr z))))
      have hP3 : va_P E.D classes (Y ++ [(q, .inr (1, [.int (nI k), .ref q2, .int (-1), .int 0, .int 0, .int 0])), (q2, .inl (E.cI, d.w, .inl (fun _ => 0)))]) H2 := hYP2.app hP2
      have hqn : q ∉ Y.map Prod.fst := fun z => by
        obtain ⟨x, hx, e⟩ := List.mem_map.mp z
        obtain ⟨i, hi⟩ := List.getElem?_of_mem hx
        exact (hin1 i x hi).2 e
      have hq2m : q2 ∉ Y.map Prod.fst := fun z => by
        obtain ⟨x, hx, e⟩ := List.mem_map.mp z
        obtain ⟨i, hi⟩ := List.getElem?_of_mem hx
        have := (hin1 i x hi).1
        omega
      have hAq2 : A q2 := hA q2 (Nat.le_trans hS1.1 hq2)
      have hD3 : va_D A (Y ++ [(q, .inr (1, [.int (nI k), .ref q2, .int (-1), .int 0, .int 0, .int 0])), (q2, .inl (E.cI, d.w, .inl (fun _ => 0)))]) := by
        obtain ⟨n1, n2⟩ := va_D_nd hYD
        refine va_D_of ?_ (fun x hx => ?_)
        · rw [List.map_append]
          simp only [List.map_cons, List.map_nil, List.nodup_append, List.mem_cons, List.not_mem_nil, or_false]
          refine ⟨n1, by simp; exact fun z => hq2n z.symm, fun x hx y hy e => ?_⟩
          rcases hy with rfl | rfl
          · exact hqn (e ▸ hx)
          · exact hq2m (e ▸ hx)
        · rw [List.map_append] at hx
          simp only [List.map_cons, List.map_nil, List.mem_append, List.mem_cons, List.not_mem_nil, or_false] at hx
          rcases hx with hx | rfl | rfl
          · exact n2 x hx
          · exact hAq
          · exact hAq2
      have hv : (Y ++ [(q, (Sum.inr (1, [.int (nI k), .ref q2, .int (-1), .int 0, .int 0, .int 0]) : va_E)), (q2, .inl (E.cI, d.w, .inl (fun _ => 0)))])[Y.length]? = some (q, .inr (1, [.int (nI k), .ref q2, .int (-1), .int 0, .int 0, .int 0])) := by
        rw [List.getElem?_append_right (Nat.le_refl _), Nat.sub_self]
        rfl
      have hset := yW_stepD (f := q) (w := q2) (by rw [hY]; exact hYD) (by rw [hY]; exact hqn) (by rw [hY]; exact hq2m) (Ne.symm hq2n) hAq hAq2
      rw [← hY] at hP3 hD3 hv
      refine va_astq (D := E.D) (r := (R_F, F_F, 6)) hx hb hk.1 hP3 hD3 hS 2 1 _ 1 rfl rfl hv rfl (vp_in_nI hlt (by omega)) d_X_new_106 (fun H locs hP hD hS => ?_)
      rw [nI_clamp (by omega)] at hP
      have hP := yW_step (A := A) (X := []) hP
      refine lv_iinc (v := nI (k + 1)) (lv' := [(4, .int (nI (k + 1))), (0, .ref pa), (1, .int v1), (2, .int v2), (3, .int v3)]) hx hb d_X_new_107 hl (k := 4) rfl (nI_1 k) (by decide) rfl (fun ls hl => ?_)
      refine lv_goto (tgt := 77) hx hb d_X_new_110 (by decide) ?_
      have hl := lv_sub (l' := [(0, .ref pa), (1, .int v1), (2, .int v2), (3, .int v3), (4, .int (nI (k + 1)))]) hl [1, 2, 3, 4, 0] rfl
      refine W.cs (cells' := 3 + 2 * (k + 1)) (slots' := 1696 + 14 * (k + 1)) (by omega) (by omega) ?_
      exact ih (k + 1) _ _ H locs ls hlt (by omega) hP hset hS hl
end
set_option maxHeartbeats 4000000 in
set_option maxRecDepth 100000 in
/-- FramePool(frames, pages, pageWords) -/
theorem c_X_new (l : Launch) (E : EN) (d : DM) (h0 sz : Nat) (v1 v2 v3 : Int32) (hdd : d = dims v1 v2 v3) : Met l y_X_new (Cond.code y_X_new b_X_new 5 none :: tbw) { frames := 2, cells := 67, slots := 2144, locals := 34 } (Pq E [.ref h0, .int v1, .int v2, .int v3] (fun H => H.size = sz ∧ va_P E.D classes [(h0, .inr (0, [.int 0, .int 0, .null, .null, .null, .int 0, .int 0, .int 0]))] H)) (Qv (fun H => ∃ a : XA, a.p = h0 ∧ xP E d a (0, 0, 0, fun _ => 0, fun _ => none, fun _ => -1, fun _ => 0, fun _ => 0, fun _ => 0, fun _ _ => 0) H ∧ va_D (fun x => x = h0 ∨ sz ≤ x) (xW E d a (0, 0, 0, fun _ => 0, fun _ => none, fun _ => -1, fun _ => 0, fun _ => 0, fun _ => 0, fun _ _ => 0))) (fun x => x = h0 ∨ sz ≤ x)) 67 2144 (fun x => x = h0 ∨ sz ≤ x) := by
  have hdm : dm_ok d := by rw [hdd]; exact dims_ok v1 v2 v3
  obtain ⟨hn1, hn2, hP1, hP2, hw1, hw2⟩ := id hdm
  have hb2 : d.P * d.w ≤ 200 * 8 := Nat.mul_le_mul hP2 hw2
  refine ent rfl (by decide) (Nat.le_of_ble_eq_true rfl) ?_
  intro p e s m below meth c S hr hlk hnm hk hP ls hl
  obtain ⟨hx, hb, hml, hown, hts⟩ := id S
  obtain ⟨hsz, hP⟩ := hP
  have hl : lv_has ls 5 [(0, .ref h0), (1, .int v1), (2, .int v2), (3, .int v3)] := hl
  have hS : va_S (fun x => x = h0 ∨ sz ≤ x) s.heap s.heap [] := va_S.rf
  have hA : ∀ q : Nat, s.heap.size ≤ q → (q = h0 ∨ sz ≤ q) := fun q h => Or.inr (by rw [← hsz]; exact h)
  have hD : va_D (fun x => x = h0 ∨ sz ≤ x) [(h0, .inr (0, [.int 0, .int 0, .null, .null, .null, .int 0, .int 0, .int 0]))] := va_D_one (Or.inl rfl)
  refine lv_aload_n hx hb d_X_new_0 rfl (lv_at hl 0 rfl) ?_
  refine W.objInit hx hb hown (hts _ (hT0 _ ml_X_1)) (hts _ (hT0 _ im_O_new)) (hts _ (hT0 _ co_O_new)) rfl (by rw [hml]; exact hl.1) rfl d_X_new_1 (Nat.le_of_ble_eq_true rfl) (Nat.le_of_ble_eq_true rfl) ?_
  refine W.eq (g2 := F0 m 4 ls []) rfl ?_
  refine lv_aload_n hx hb d_X_new_4 rfl (lv_at hl 0 rfl) ?_
  refine lv_bipush (v := 64) hx hb d_X_new_5 (by decide) ?_
  refine va_newq (D := E.D) (N' := 64) hx hb hown (hts _ (hT0 _ cl_X_9)) hk.2.2.2.2.2.2.2 hk.1 hP hD hS hA (by decide) (by decide) (by decide) (Nat.le_of_ble_eq_true rfl) (Nat.le_of_ble_eq_true rfl) d_X_new_7 (fun qt cA H hK hP hD hS => ?_)
  obtain rfl := newF hK
  have hP : va_P E.D classes [(h0, .inr (0, [.int 0, .int 0, .null, .null, .null, .int 0, .int 0, .int 0])), (qt, .inl (E.cF, 64, .inr (.inr (.inr (.inr (fun _ => none))))))] H := hP
  have hD : va_D (fun x => x = h0 ∨ sz ≤ x) [(h0, .inr (0, [.int 0, .int 0, .null, .null, .null, .int 0, .int 0, .int 0])), (qt, .inl (E.cF, 64, .inr (.inr (.inr (.inr (fun _ => none))))))] := hD
  refine va_putF (D := E.D) (ci := 0) (v := .ref qt) (ty := (.array (.object "FramePool$Frame"))) (C := R_X) (T := F_X) (N := 8) hx hb hts (fun w h => hT0 _ (i_X w h)) t_X t_X_ok n_X hown hk.1 hP hD hS 0 rfl rfl 4 (by decide) (hts _ (hT0 _ fl_X_11)) (fun _ h9 => h9) rfl hnm rfl (by decide +kernel) rfl rfl (Nat.le_of_ble_eq_true rfl) d_X_new_10 (fun H locs hP hD hS => ?_)
  have hP : va_P E.D classes [(h0, .inr (0, [.int 0, .int 0, .null, .null, .ref qt, .int 0, .int 0, .int 0])), (qt, .inl (E.cF, 64, .inr (.inr (.inr (.inr (fun _ => none))))))] H := hP
  have hD : va_D (fun x => x = h0 ∨ sz ≤ x) [(h0, .inr (0, [.int 0, .int 0, .null, .null, .ref qt, .int 0, .int 0, .int 0])), (qt, .inl (E.cF, 64, .inr (.inr (.inr (.inr (fun _ => none))))))] := hD
  refine lv_aload_n hx hb d_X_new_13 rfl (lv_at hl 0 rfl) ?_
  refine lv_iconst (v := 1) hx hb d_X_new_14 (by decide) ?_
  refine lv_sipush (v := 200) hx hb d_X_new_15 (by decide) ?_
  refine lv_iload_n hx hb d_X_new_18 rfl (lv_at hl 2 rfl) ?_
  refine va_mmin hx hb (by rw [hml]; exact hl.1.symm) hown (hts _ (hT0 _ ml_X_15)) (hts _ (hT0 _ st_J_min)) (hts _ (hT0 _ ini_J)) (hts _ (hT0 _ co_J_min)) (Nat.le_of_ble_eq_true rfl) (Nat.le_of_ble_eq_true rfl) (Nat.le_of_ble_eq_true rfl) (Nat.le_of_ble_eq_true rfl) d_X_new_19 ?_
  refine va_mmax hx hb (by rw [hml]; exact hl.1.symm) hown (hts _ (hT0 _ ml_X_21)) (hts _ (hT0 _ st_J_max)) (hts _ (hT0 _ ini_J)) (hts _ (hT0 _ co_J_max)) (Nat.le_of_ble_eq_true rfl) (Nat.le_of_ble_eq_true rfl) (Nat.le_of_ble_eq_true rfl) (Nat.le_of_ble_eq_true rfl) d_X_new_22 ?_
  refine lv_is (y := nI d.P) (by rw [hdd]; exact cl_max (M := 200) (by decide) (by decide) v2) ?_
  refine va_putF (D := E.D) (ci := 0) (v := .int (nI d.P)) (ty := .int) (C := R_X) (T := F_X) (N := 8) hx hb hts (fun w h => hT0 _ (i_X w h)) t_X t_X_ok n_X hown hk.1 hP hD hS 0 rfl rfl 0 (by decide) (hts _ (hT0 _ fl_X_24)) (fun _ h9 => h9) rfl hnm rfl (by decide +kernel) rfl rfl (Nat.le_of_ble_eq_true rfl) d_X_new_25 (fun H locs hP hD hS => ?_)
  have hP : va_P E.D classes [(h0, .inr (0, [.int (nI d.P), .int 0, .null, .null, .ref qt, .int 0, .int 0, .int 0])), (qt, .inl (E.cF, 64, .inr (.inr (.inr (.inr (fun _ => none))))))] H := hP
  have hD : va_D (fun x => x = h0 ∨ sz ≤ x) [(h0, .inr (0, [.int (nI d.P), .int 0, .null, .null, .ref qt, .int 0, .int 0, .int 0])), (qt, .inl (E.cF, 64, .inr (.inr (.inr (.inr (fun _ => none))))))] := hD
  refine lv_aload_n hx hb d_X_new_28 rfl (lv_at hl 0 rfl) ?_
  refine lv_iconst (v := 1) hx hb d_X_new_29 (by decide) ?_
  refine lv_bipush (v := 8) hx hb d_X_new_30 (by decide) ?_
  refine lv_iload_n hx hb d_X_new_32 rfl (lv_at hl 3 rfl) ?_
  refine va_mmin hx hb (by rw [hml]; exact hl.1.symm) hown (hts _ (hT0 _ ml_X_15)) (hts _ (hT0 _ st_J_min)) (hts _ (hT0 _ ini_J)) (hts _ (hT0 _ co_J_min)) (Nat.le_of_ble_eq_true rfl) (Nat.le_of_ble_eq_true rfl) (Nat.le_of_ble_eq_true rfl) (Nat.le_of_ble_eq_true rfl) d_X_new_33 ?_
  refine va_mmax hx hb (by rw [hml]; exact hl.1.symm) hown (hts _ (hT0 _ ml_X_21)) (hts _ (hT0 _ st_J_max)) (hts _ (hT0 _ ini_J)) (hts _ (hT0 _ co_J_max)) (Nat.le_of_ble_eq_true rfl) (Nat.le_of_ble_eq_true rfl) (Nat.le_of_ble_eq_true rfl) (Nat.le_of_ble_eq_true rfl) d_X_new_36 ?_
  refine lv_is (y := nI d.w) (by rw [hdd]; exact cl_max (M := 8) (by decide) (by decide) v3) ?_
  refine va_putF (D := E.D) (ci := 0) (v := .int (nI d.w)) (ty := .int) (C := R_X) (T := F_X) (N := 8) hx hb hts (fun w h => hT0 _ (i_X w h)) t_X t_X_ok n_X hown hk.1 hP hD hS 0 rfl rfl 1 (by decide) (hts _ (hT0 _ fl_X_28)) (fun _ h9 => h9) rfl hnm rfl (by decide +kernel) rfl rfl (Nat.le_of_ble_eq_true rfl) d_X_new_39 (fun H locs hP hD hS => ?_)
  have hP : va_P E.D classes [(h0, .inr (0, [.int (nI d.P), .int (nI d.w), .null, .null, .ref qt, .int 0, .int 0, .int 0])), (qt, .inl (E.cF, 64, .inr (.inr (.inr (.inr (fun _ => none))))))] H := hP
  have hD : va_D (fun x => x = h0 ∨ sz ≤ x) [(h0, .inr (0, [.int (nI d.P), .int (nI d.w), .null, .null, .ref qt, .int 0, .int 0, .int 0])), (qt, .inl (E.cF, 64, .inr (.inr (.inr (.inr (fun _ => none))))))] := hD
  refine lv_aload_n hx hb d_X_new_42 rfl (lv_at hl 0 rfl) ?_
  refine lv_aload_n hx hb d_X_new_43 rfl (lv_at hl 0 rfl) ?_
  refine og S hk hP rfl 0 (by decide) rfl fl_X_24 rfl d_X_new_44 ?_
  refine lv_aload_n hx hb d_X_new_47 rfl (lv_at hl 0 rfl) ?_
  refine og S hk hP rfl 1 (by decide) rfl fl_X_28 rfl d_X_new_48 ?_
  refine lv_imul hx hb d_X_new_51 ?_
  refine lv_is (y := nI (d.P * d.w)) (pk_mul _ _) ?_
  refine va_newa (D := E.D) (atype := .int) (ty := .int) (N' := d.P * d.w) (a0 := (d.P * d.w, .inl (fun _ => 0))) hx hb (hts _ (hT0 _ ac_int)) rfl hk.1 hP hD hS hA (fun _ => rfl) (nI_pos (by omega)) (nI_clamp (by omega)) (show d.P * d.w * 4 ≤ 536870912 by omega) (Nat.le_of_ble_eq_true rfl) (show 0 + 64 + d.P * d.w ≤ 2144 by omega) d_X_new_52 (fun qd cA H hK hP hD hS => ?_)
  obtain rfl := newI hK
  refine W.widen (k := 2) (n := 1664) (Nat.le_refl _) (show 0 + 64 + d.P * d.w ≤ 1664 by omega) ?_
  have hP : va_P E.D classes [(h0, .inr (0, [.int (nI d.P), .int (nI d.w), .null, .null, .ref qt, .int 0, .int 0, .int 0])), (qt, .inl (E.cF, 64, .inr (.inr (.inr (.inr (fun _ => none)))))), (qd, .inl (E.cI, d.P * d.w, .inl (fun _ => 0)))] H := hP
  have hD : va_D (fun x => x = h0 ∨ sz ≤ x) [(h0, .inr (0, [.int (nI d.P), .int (nI d.w), .null, .null, .ref qt, .int 0, .int 0, .int 0])), (qt, .inl (E.cF, 64, .inr (.inr (.inr (.inr (fun _ => none)))))), (qd, .inl (E.cI, d.P * d.w, .inl (fun _ => 0)))] := hD
  refine va_putF (D := E.D) (ci := 0) (v := .ref qd) (ty := (.array .int)) (C := R_X) (T := F_X) (N := 8) hx hb hts (fun w h => hT0 _ (i_X w h)) t_X t_X_ok n_X hown hk.1 hP hD hS 0 rfl rfl 2 (by decide) (hts _ (hT0 _ fl_X_31)) (fun _ h9 => h9) rfl hnm rfl (by decide +kernel) rfl rfl (Nat.le_of_ble_eq_true rfl) d_X_new_54 (fun H locs hP hD hS => ?_)
  have hP : va_P E.D classes [(h0, .inr (0, [.int (nI d.P), .int (nI d.w), .ref qd, .null, .ref qt, .int 0, .int 0, .int 0])), (qt, .inl (E.cF, 64, .inr (.inr (.inr (.inr (fun _ => none)))))), (qd, .inl (E.cI, d.P * d.w, .inl (fun _ => 0)))] H := hP
  have hD : va_D (fun x => x = h0 ∨ sz ≤ x) [(h0, .inr (0, [.int (nI d.P), .int (nI d.w), .ref qd, .null, .ref qt, .int 0, .int 0, .int 0])), (qt, .inl (E.cF, 64, .inr (.inr (.inr (.inr (fun _ => none)))))), (qd, .inl (E.cI, d.P * d.w, .inl (fun _ => 0)))] := hD
  refine lv_aload_n hx hb d_X_new_57 rfl (lv_at hl 0 rfl) ?_
  refine lv_iconst (v := 1) hx hb d_X_new_58 (by decide) ?_
  refine lv_bipush (v := 32) hx hb d_X_new_59 (by decide) ?_
  refine lv_iload_n hx hb d_X_new_61 rfl (lv_at hl 1 rfl) ?_
  refine va_mmin hx hb (by rw [hml]; exact hl.1.symm) hown (hts _ (hT0 _ ml_X_15)) (hts _ (hT0 _ st_J_min)) (hts _ (hT0 _ ini_J)) (hts _ (hT0 _ co_J_min)) (Nat.le_of_ble_eq_true rfl) (Nat.le_of_ble_eq_true rfl) (Nat.le_of_ble_eq_true rfl) (Nat.le_of_ble_eq_true rfl) d_X_new_62 ?_
  refine va_mmax hx hb (by rw [hml]; exact hl.1.symm) hown (hts _ (hT0 _ ml_X_21)) (hts _ (hT0 _ st_J_max)) (hts _ (hT0 _ ini_J)) (hts _ (hT0 _ co_J_max)) (Nat.le_of_ble_eq_true rfl) (Nat.le_of_ble_eq_true rfl) (Nat.le_of_ble_eq_true rfl) (Nat.le_of_ble_eq_true rfl) d_X_new_65 ?_
  refine lv_is (y := nI d.n) (by rw [hdd]; exact cl_max (M := 32) (by decide) (by decide) v1) ?_
  refine va_newq (D := E.D) (N' := d.n) hx hb hown (hts _ (hT0 _ cl_X_9)) hk.2.2.2.2.2.2.2 hk.1 hP hD hS hA (nI_pos (by omega)) (nI_clamp (by omega)) (by omega) (Nat.le_of_ble_eq_true rfl) (show 1664 + d.n ≤ 2144 by omega) d_X_new_68 (fun qf cA H hK hP hD hS => ?_)
  obtain rfl := newF hK
  refine W.widen (k := 3) (n := 1696) (Nat.le_refl _) (by omega) ?_
  have hP : va_P E.D classes [(h0, .inr (0, [.int (nI d.P), .int (nI d.w), .ref qd, .null, .ref qt, .int 0, .int 0, .int 0])), (qt, .inl (E.cF, 64, .inr (.inr (.inr (.inr (fun _ => none)))))), (qd, .inl (E.cI, d.P * d.w, .inl (fun _ => 0))), (qf, .inl (E.cF, d.n, .inr (.inr (.inr (.inr (fun _ => none))))))] H := hP
  have hD : va_D (fun x => x = h0 ∨ sz ≤ x) [(h0, .inr (0, [.int (nI d.P), .int (nI d.w), .ref qd, .null, .ref qt, .int 0, .int 0, .int 0])), (qt, .inl (E.cF, 64, .inr (.inr (.inr (.inr (fun _ => none)))))), (qd, .inl (E.cI, d.P * d.w, .inl (fun _ => 0))), (qf, .inl (E.cF, d.n, .inr (.inr (.inr (.inr (fun _ => none))))))] := hD
  refine va_putF (D := E.D) (ci := 0) (v := .ref qf) (ty := (.array (.object "FramePool$Frame"))) (C := R_X) (T := F_X) (N := 8) hx hb hts (fun w h => hT0 _ (i_X w h)) t_X t_X_ok n_X hown hk.1 hP hD hS 0 rfl rfl 3 (by decide) (hts _ (hT0 _ fl_X_35)) (fun _ h9 => h9) rfl hnm rfl (by decide +kernel) rfl rfl (Nat.le_of_ble_eq_true rfl) d_X_new_71 (fun H locs hP hD hS => ?_)
  have hP : va_P E.D classes [(h0, .inr (0, [.int (nI d.P), .int (nI d.w), .ref qd, .ref qf, .ref qt, .int 0, .int 0, .int 0])), (qt, .inl (E.cF, 64, .inr (.inr (.inr (.inr (fun _ => none)))))), (qd, .inl (E.cI, d.P * d.w, .inl (fun _ => 0))), (qf, .inl (E.cF, d.n, .inr (.inr (.inr (.inr (fun _ => none))))))] H := hP
  have hD : va_D (fun x => x = h0 ∨ sz ≤ x) [(h0, .inr (0, [.int (nI d.P), .int (nI d.w), .ref qd, .ref qf, .ref qt, .int 0, .int 0, .int 0])), (qt, .inl (E.cF, 64, .inr (.inr (.inr (.inr (fun _ => none)))))), (qd, .inl (E.cI, d.P * d.w, .inl (fun _ => 0))), (qf, .inl (E.cF, d.n, .inr (.inr (.inr (.inr (fun _ => none))))))] := hD
  refine lv_iconst (v := 0) hx hb d_X_new_74 (by decide) ?_
  refine lv_istore (lv' := [(4, .int 0), (0, .ref h0), (1, .int v1), (2, .int v2), (3, .int v3)]) hx hb d_X_new_75 hl (by decide) rfl (fun ls hl => ?_)
  have hl := lv_sub (l' := [(0, .ref h0), (1, .int v1), (2, .int v2), (3, .int v3), (4, .int 0)]) hl [1, 2, 3, 4, 0] rfl
  have e0 : yW E d (h0, qd, qf, qt, fun _ => 0, fun _ => 0) 0 = [(h0, .inr (0, [.int (nI d.P), .int (nI d.w), .ref qd, .ref qf, .ref qt, .int 0, .int 0, .int 0])), (qd, .inl (E.cI, d.P * d.w, .inl (fun _ => 0))), (qf, .inl (E.cF, d.n, .inr (.inr (.inr (.inr (fun _ => none)))))), (qt, .inl (E.cF, 64, .inr (.inr (.inr (.inr (fun _ => none))))))] := by
    unfold yW
    rw [show (fun i => if i < 0 then some (XA.fr (h0, qd, qf, qt, fun _ => 0, fun _ => 0) i) else none) = fun _ => none from funext fun i => if_neg (by omega)]
    rfl
  refine lp_X_new S hk hA hdm ⟨⟨Nat.le_of_ble_eq_true rfl, Nat.le_of_ble_eq_true rfl⟩, Nat.le_of_ble_eq_true rfl, Nat.le_of_ble_eq_true rfl⟩ (fun fr wd H locs ls hP hD hS hl => ?_) (d.n + 1) 0 (fun _ => 0) (fun _ => 0) H locs ls (Nat.zero_le _) (by omega) (by rw [e0]; exact hP.sub [0, 2, 3, 1] rfl) (by rw [e0]; exact hD.sub [0, 2, 3, 1] (by decide) rfl) hS hl
  refine W.widen (k := 67) (n := 2144) (by omega) (by omega) ?_
  refine ret_Qv S hr hlk hS ⟨(h0, qd, qf, qt, fr, wd), rfl, yW_xP hP, ?_⟩ d_X_new_113
  obtain ⟨n1, n2⟩ := va_D_nd hD
  rw [yW_adr] at n1 n2
  exact va_D_of (by rw [xW_adr]; exact n1) (by rw [xW_adr]; exact n2)
theorem rx_init {E : EN} {d : DM} {a : XA} {H : Heap} (h : xP E d a (0, 0, 0, fun _ => 0, fun _ => none, fun _ => -1, fun _ => 0, fun _ => 0, fun _ => 0, fun _ _ => 0) H) : RX E d a o_init H := ⟨_, _, _, h, fun _ _ _ _ => rfl, fun _ _ _ _ => rfl, ⟨fun k i _ hi => (by cases (show (none : Option Nat) = some i from hi)), fun k k' i _ _ hi => (by cases (show (none : Option Nat) = some i from hi)), fun i _ hne => absurd rfl hne⟩⟩
section
variable {ls : Array Slot} {rest : List Value} {h0 : Nat} {v1 v2 v3 : Int32}
variable {p : Program} {l : Launch} {e : Env} {R : Room} {s : State} {m : MethodId} {args : Array Value} {below : List Frame} {meth : Method} {c : Code} {H : Heap} {locs : List Loc} {cells slots : Nat} {Q : State → Prop}
variable {E : EN} {w0 : Cond} {A : Nat → Prop} {H0 : Heap} {d : DM} {a : XA} {b : MA} {hd rd wr : Int32} {dk mm : Nat → Int32} {ti : Nat → Option Nat} {pg pn di mk : Nat → Int32} {ww : Nat → Nat → Int32}
set_option maxHeartbeats 4000000 in
set_option maxRecDepth 100000 in
theorem cl_M1 (S : CallFix p m c b_M_new 4 s args (w0 :: tbw) R_M) (hl : lv_has ls 4 [(0, .ref h0), (1, .int v1), (2, .int v2), (3, .int v3)]) (K : W p l e R s m args below meth c H locs cells slots Q (F0 m 76 ls (.int (nI (cl 32 v1)) :: rest))) : W p l e R s m args below meth c H locs cells slots Q (F0 m 55 ls rest) := by
  obtain ⟨hx, hb, hml, hown, hts⟩ := id S
  refine lv_iload_n hx hb d_M_new_55 rfl (lv_at hl 1 rfl) ?_
  refine lv_iconst (v := 1) hx hb d_M_new_56 (by decide) ?_
  refine lv_icmp_ge (tgt := 64) hx hb d_M_new_57 (by decide) (fun c1 => ?_) (fun c1 => ?_)
  · refine lv_iload_n hx hb d_M_new_64 rfl (lv_at hl 1 rfl) ?_
    refine lv_bipush (v := 32) hx hb d_M_new_65 (by decide) ?_
    refine lv_icmp_le (tgt := 75) hx hb d_M_new_67 (by decide) (fun c2 => ?_) (fun c2 => ?_)
    · refine lv_iload_n hx hb d_M_new_75 rfl (lv_at hl 1 rfl) ?_
      refine lv_is (y := nI (cl 32 v1)) (cl_ge (Int32.not_lt.mpr c1) (Int32.not_lt.mpr c2)) ?_
      exact K
    · refine lv_bipush (v := 32) hx hb d_M_new_70 (by decide) ?_
      refine lv_goto (tgt := 76) hx hb d_M_new_72 (by decide) ?_
      refine lv_is (y := nI (cl 32 v1)) (by unfold cl; rw [if_neg (Int32.not_lt.mpr c1), if_pos (show nI 32 < v1 from Int32.not_le.mp c2)]; rfl) ?_
      exact K
  · refine lv_iconst (v := 1) hx hb d_M_new_60 (by decide) ?_
    refine lv_goto (tgt := 76) hx hb d_M_new_61 (by decide) ?_
    refine lv_is (y := nI (cl 32 v1)) (by unfold cl; rw [if_pos (Int32.not_le.mp c1)]; rfl) ?_
    exact K
end
section
variable {ls : Array Slot} {rest : List Value} {h0 : Nat} {v1 v2 v3 : Int32}
variable {p : Program} {l : Launch} {e : Env} {R : Room} {s : State} {m : MethodId} {args : Array Value} {below : List Frame} {meth : Method} {c : Code} {H : Heap} {locs : List Loc} {cells slots : Nat} {Q : State → Prop}
variable {E : EN} {w0 : Cond} {A : Nat → Prop} {H0 : Heap} {d : DM} {a : XA} {b : MA} {hd rd wr : Int32} {dk mm : Nat → Int32} {ti : Nat → Option Nat} {pg pn di mk : Nat → Int32} {ww : Nat → Nat → Int32}
set_option maxHeartbeats 4000000 in
set_option maxRecDepth 100000 in
theorem cl_M2 (S : CallFix p m c b_M_new 4 s args (w0 :: tbw) R_M) (hl : lv_has ls 4 [(0, .ref h0), (1, .int v1), (2, .int v2), (3, .int v3)]) (K : W p l e R s m args below meth c H locs cells slots Q (F0 m 103 ls (.int (nI (cl 200 v2)) :: rest))) : W p l e R s m args below meth c H locs cells slots Q (F0 m 80 ls rest) := by
  obtain ⟨hx, hb, hml, hown, hts⟩ := id S
  refine lv_iload_n hx hb d_M_new_80 rfl (lv_at hl 2 rfl) ?_
  refine lv_iconst (v := 1) hx hb d_M_new_81 (by decide) ?_
  refine lv_icmp_ge (tgt := 89) hx hb d_M_new_82 (by decide) (fun c1 => ?_) (fun c1 => ?_)
  · refine lv_iload_n hx hb d_M_new_89 rfl (lv_at hl 2 rfl) ?_
    refine lv_sipush (v := 200) hx hb d_M_new_90 (by decide) ?_
    refine lv_icmp_le (tgt := 102) hx hb d_M_new_93 (by decide) (fun c2 => ?_) (fun c2 => ?_)
    · refine lv_iload_n hx hb d_M_new_102 rfl (lv_at hl 2 rfl) ?_
      refine lv_is (y := nI (cl 200 v2)) (cl_ge (Int32.not_lt.mpr c1) (Int32.not_lt.mpr c2)) ?_
      exact K
    · refine lv_sipush (v := 200) hx hb d_M_new_96 (by decide) ?_
      refine lv_goto (tgt := 103) hx hb d_M_new_99 (by decide) ?_
      refine lv_is (y := nI (cl 200 v2)) (by unfold cl; rw [if_neg (Int32.not_lt.mpr c1), if_pos (show nI 200 < v2 from Int32.not_le.mp c2)]; rfl) ?_
      exact K
  · refine lv_iconst (v := 1) hx hb d_M_new_85 (by decide) ?_
    refine lv_goto (tgt := 103) hx hb d_M_new_86 (by decide) ?_
    refine lv_is (y := nI (cl 200 v2)) (by unfold cl; rw [if_pos (Int32.not_le.mp c1)]; rfl) ?_
    exact K
end
section
variable {ls : Array Slot} {rest : List Value} {h0 : Nat} {v1 v2 v3 : Int32}
variable {p : Program} {l : Launch} {e : Env} {R : Room} {s : State} {m : MethodId} {args : Array Value} {below : List Frame} {meth : Method} {c : Code} {H : Heap} {locs : List Loc} {cells slots : Nat} {Q : State → Prop}
variable {E : EN} {w0 : Cond} {A : Nat → Prop} {H0 : Heap} {d : DM} {a : XA} {b : MA} {hd rd wr : Int32} {dk mm : Nat → Int32} {ti : Nat → Option Nat} {pg pn di mk : Nat → Int32} {ww : Nat → Nat → Int32}
set_option maxHeartbeats 4000000 in
set_option maxRecDepth 100000 in
theorem cl_M3 (S : CallFix p m c b_M_new 4 s args (w0 :: tbw) R_M) (hl : lv_has ls 4 [(0, .ref h0), (1, .int v1), (2, .int v2), (3, .int v3)]) (K : W p l e R s m args below meth c H locs cells slots Q (F0 m 128 ls (.int (nI (cl 8 v3)) :: rest))) : W p l e R s m args below meth c H locs cells slots Q (F0 m 107 ls rest) := by
  obtain ⟨hx, hb, hml, hown, hts⟩ := id S
  refine lv_iload_n hx hb d_M_new_107 rfl (lv_at hl 3 rfl) ?_
  refine lv_iconst (v := 1) hx hb d_M_new_108 (by decide) ?_
  refine lv_icmp_ge (tgt := 116) hx hb d_M_new_109 (by decide) (fun c1 => ?_) (fun c1 => ?_)
  · refine lv_iload_n hx hb d_M_new_116 rfl (lv_at hl 3 rfl) ?_
    refine lv_bipush (v := 8) hx hb d_M_new_117 (by decide) ?_
    refine lv_icmp_le (tgt := 127) hx hb d_M_new_119 (by decide) (fun c2 => ?_) (fun c2 => ?_)
    · refine lv_iload_n hx hb d_M_new_127 rfl (lv_at hl 3 rfl) ?_
      refine lv_is (y := nI (cl 8 v3)) (cl_ge (Int32.not_lt.mpr c1) (Int32.not_lt.mpr c2)) ?_
      exact K
    · refine lv_bipush (v := 8) hx hb d_M_new_122 (by decide) ?_
      refine lv_goto (tgt := 128) hx hb d_M_new_124 (by decide) ?_
      refine lv_is (y := nI (cl 8 v3)) (by unfold cl; rw [if_neg (Int32.not_lt.mpr c1), if_pos (show nI 8 < v3 from Int32.not_le.mp c2)]; rfl) ?_
      exact K
  · refine lv_iconst (v := 1) hx hb d_M_new_112 (by decide) ?_
    refine lv_goto (tgt := 128) hx hb d_M_new_113 (by decide) ?_
    refine lv_is (y := nI (cl 8 v3)) (by unfold cl; rw [if_pos (Int32.not_le.mp c1)]; rfl) ?_
    exact K
end
set_option maxHeartbeats 4000000 in
set_option maxRecDepth 100000 in
/-- FramePoolModel(frames, pages, pageWords) -/
theorem c_M_new (l : Launch) (E : EN) (d : DM) (h0 sz : Nat) (v1 v2 v3 : Int32) (hdd : d = dims v1 v2 v3) : Met l y_M_new (Cond.code y_M_new b_M_new 4 none :: tbw) { frames := 2, cells := 6, slots := 1984, locals := 42 } (Pq E [.ref h0, .int v1, .int v2, .int v3] (fun H => H.size = sz ∧ va_P E.D classes [(h0, .inr (2, [.int 0, .int 0, .int 0, .null, .null, .null, .null, .null, .null, .int 0, .int 0, .int 0]))] H)) (Qv (fun H => ∃ b : MA, b.o = h0 ∧ RM E d b o_init H ∧ mD E d b (fun x => x = h0 ∨ sz ≤ x)) (fun x => x = h0 ∨ sz ≤ x)) 6 1984 (fun x => x = h0 ∨ sz ≤ x) := by
  have hdm : dm_ok d := by rw [hdd]; exact dims_ok v1 v2 v3
  obtain ⟨hn1, hn2, hP1, hP2, hw1, hw2⟩ := id hdm
  refine ent rfl (by decide) (Nat.le_of_ble_eq_true rfl) ?_
  intro p e s m below meth c S hr hlk hnm hk hP ls hl
  obtain ⟨hx, hb, hml, hown, hts⟩ := id S
  obtain ⟨hsz, hP⟩ := hP
  have hl : lv_has ls 4 [(0, .ref h0), (1, .int v1), (2, .int v2), (3, .int v3)] := hl
  have hS : va_S (fun x => x = h0 ∨ sz ≤ x) s.heap s.heap [] := va_S.rf
  have hA : ∀ q : Nat, s.heap.size ≤ q → (q = h0 ∨ sz ≤ q) := fun q h => Or.inr (by rw [← hsz]; exact h)
  have hD : va_D (fun x => x = h0 ∨ sz ≤ x) [(h0, .inr (2, [.int 0, .int 0, .int 0, .null, .null, .null, .null, .null, .null, .int 0, .int 0, .int 0]))] := va_D_one (Or.inl rfl)
  refine lv_aload_n hx hb d_M_new_0 rfl (lv_at hl 0 rfl) ?_
  refine W.objInit hx hb hown (hts _ (hT0 _ ml_M_1)) (hts _ (hT0 _ im_O_new)) (hts _ (hT0 _ co_O_new)) rfl (by rw [hml]; exact hl.1) rfl d_M_new_1 (Nat.le_of_ble_eq_true rfl) (Nat.le_of_ble_eq_true rfl) ?_
  refine W.eq (g2 := F0 m 4 ls []) rfl ?_
  refine lv_aload_n hx hb d_M_new_4 rfl (lv_at hl 0 rfl) ?_
  refine lv_sipush (v := 1600) hx hb d_M_new_5 (by decide) ?_
  refine va_newa (D := E.D) (atype := .int) (ty := .int) (N' := 1600) (a0 := (1600, .inl (fun _ => 0))) hx hb (hts _ (hT0 _ ac_int)) rfl hk.1 hP hD hS hA (fun _ => rfl) (by decide) (by decide) (by decide) (Nat.le_of_ble_eq_true rfl) (Nat.le_of_ble_eq_true rfl) d_M_new_8 (fun qd cA H hK hP hD hS => ?_)
  obtain rfl := newI hK
  have hP : va_P E.D classes [(h0, .inr (2, [.int 0, .int 0, .int 0, .null, .null, .null, .null, .null, .null, .int 0, .int 0, .int 0])), (qd, .inl (E.cI, 1600, .inl (fun _ => 0)))] H := hP
  have hD : va_D (fun x => x = h0 ∨ sz ≤ x) [(h0, .inr (2, [.int 0, .int 0, .int 0, .null, .null, .null, .null, .null, .null, .int 0, .int 0, .int 0])), (qd, .inl (E.cI, 1600, .inl (fun _ => 0)))] := hD
  refine va_putF (D := E.D) (ci := 2) (v := .ref qd) (ty := (.array .int)) (C := R_M) (T := F_M) (N := 12) hx hb hts (fun w h => hT0 _ (i_M w h)) t_M t_M_ok n_M hown hk.1 hP hD hS 0 rfl rfl 3 (by decide) (hts _ (hT0 _ fl_M_7)) (fun _ h9 => h9) rfl hnm rfl (by decide +kernel) rfl rfl (Nat.le_of_ble_eq_true rfl) d_M_new_10 (fun H locs hP hD hS => ?_)
  have hP : va_P E.D classes [(h0, .inr (2, [.int 0, .int 0, .int 0, .ref qd, .null, .null, .null, .null, .null, .int 0, .int 0, .int 0])), (qd, .inl (E.cI, 1600, .inl (fun _ => 0)))] H := hP
  have hD : va_D (fun x => x = h0 ∨ sz ≤ x) [(h0, .inr (2, [.int 0, .int 0, .int 0, .ref qd, .null, .null, .null, .null, .null, .int 0, .int 0, .int 0])), (qd, .inl (E.cI, 1600, .inl (fun _ => 0)))] := hD
  refine lv_aload_n hx hb d_M_new_13 rfl (lv_at hl 0 rfl) ?_
  refine lv_sipush (v := 256) hx hb d_M_new_14 (by decide) ?_
  refine va_newa (D := E.D) (atype := .int) (ty := .int) (N' := 256) (a0 := (256, .inl (fun _ => 0))) hx hb (hts _ (hT0 _ ac_int)) rfl hk.1 hP hD hS hA (fun _ => rfl) (by decide) (by decide) (by decide) (Nat.le_of_ble_eq_true rfl) (Nat.le_of_ble_eq_true rfl) d_M_new_17 (fun qm cA H hK hP hD hS => ?_)
  obtain rfl := newI hK
  have hP : va_P E.D classes [(h0, .inr (2, [.int 0, .int 0, .int 0, .ref qd, .null, .null, .null, .null, .null, .int 0, .int 0, .int 0])), (qd, .inl (E.cI, 1600, .inl (fun _ => 0))), (qm, .inl (E.cI, 256, .inl (fun _ => 0)))] H := hP
  have hD : va_D (fun x => x = h0 ∨ sz ≤ x) [(h0, .inr (2, [.int 0, .int 0, .int 0, .ref qd, .null, .null, .null, .null, .null, .int 0, .int 0, .int 0])), (qd, .inl (E.cI, 1600, .inl (fun _ => 0))), (qm, .inl (E.cI, 256, .inl (fun _ => 0)))] := hD
  refine va_putF (D := E.D) (ci := 2) (v := .ref qm) (ty := (.array .int)) (C := R_M) (T := F_M) (N := 12) hx hb hts (fun w h => hT0 _ (i_M w h)) t_M t_M_ok n_M hown hk.1 hP hD hS 0 rfl rfl 4 (by decide) (hts _ (hT0 _ fl_M_13)) (fun _ h9 => h9) rfl hnm rfl (by decide +kernel) rfl rfl (Nat.le_of_ble_eq_true rfl) d_M_new_19 (fun H locs hP hD hS => ?_)
  have hP : va_P E.D classes [(h0, .inr (2, [.int 0, .int 0, .int 0, .ref qd, .ref qm, .null, .null, .null, .null, .int 0, .int 0, .int 0])), (qd, .inl (E.cI, 1600, .inl (fun _ => 0))), (qm, .inl (E.cI, 256, .inl (fun _ => 0)))] H := hP
  have hD : va_D (fun x => x = h0 ∨ sz ≤ x) [(h0, .inr (2, [.int 0, .int 0, .int 0, .ref qd, .ref qm, .null, .null, .null, .null, .int 0, .int 0, .int 0])), (qd, .inl (E.cI, 1600, .inl (fun _ => 0))), (qm, .inl (E.cI, 256, .inl (fun _ => 0)))] := hD
  refine lv_aload_n hx hb d_M_new_22 rfl (lv_at hl 0 rfl) ?_
  refine lv_bipush (v := 32) hx hb d_M_new_23 (by decide) ?_
  refine va_newa (D := E.D) (atype := .int) (ty := .int) (N' := 32) (a0 := (32, .inl (fun _ => 0))) hx hb (hts _ (hT0 _ ac_int)) rfl hk.1 hP hD hS hA (fun _ => rfl) (by decide) (by decide) (by decide) (Nat.le_of_ble_eq_true rfl) (Nat.le_of_ble_eq_true rfl) d_M_new_25 (fun qp cA H hK hP hD hS => ?_)
  obtain rfl := newI hK
  have hP : va_P E.D classes [(h0, .inr (2, [.int 0, .int 0, .int 0, .ref qd, .ref qm, .null, .null, .null, .null, .int 0, .int 0, .int 0])), (qd, .inl (E.cI, 1600, .inl (fun _ => 0))), (qm, .inl (E.cI, 256, .inl (fun _ => 0))), (qp, .inl (E.cI, 32, .inl (fun _ => 0)))] H := hP
  have hD : va_D (fun x => x = h0 ∨ sz ≤ x) [(h0, .inr (2, [.int 0, .int 0, .int 0, .ref qd, .ref qm, .null, .null, .null, .null, .int 0, .int 0, .int 0])), (qd, .inl (E.cI, 1600, .inl (fun _ => 0))), (qm, .inl (E.cI, 256, .inl (fun _ => 0))), (qp, .inl (E.cI, 32, .inl (fun _ => 0)))] := hD
  refine va_putF (D := E.D) (ci := 2) (v := .ref qp) (ty := (.array .int)) (C := R_M) (T := F_M) (N := 12) hx hb hts (fun w h => hT0 _ (i_M w h)) t_M t_M_ok n_M hown hk.1 hP hD hS 0 rfl rfl 5 (by decide) (hts _ (hT0 _ fl_M_16)) (fun _ h9 => h9) rfl hnm rfl (by decide +kernel) rfl rfl (Nat.le_of_ble_eq_true rfl) d_M_new_27 (fun H locs hP hD hS => ?_)
  have hP : va_P E.D classes [(h0, .inr (2, [.int 0, .int 0, .int 0, .ref qd, .ref qm, .ref qp, .null, .null, .null, .int 0, .int 0, .int 0])), (qd, .inl (E.cI, 1600, .inl (fun _ => 0))), (qm, .inl (E.cI, 256, .inl (fun _ => 0))), (qp, .inl (E.cI, 32, .inl (fun _ => 0)))] H := hP
  have hD : va_D (fun x => x = h0 ∨ sz ≤ x) [(h0, .inr (2, [.int 0, .int 0, .int 0, .ref qd, .ref qm, .ref qp, .null, .null, .null, .int 0, .int 0, .int 0])), (qd, .inl (E.cI, 1600, .inl (fun _ => 0))), (qm, .inl (E.cI, 256, .inl (fun _ => 0))), (qp, .inl (E.cI, 32, .inl (fun _ => 0)))] := hD
  refine lv_aload_n hx hb d_M_new_30 rfl (lv_at hl 0 rfl) ?_
  refine lv_bipush (v := 32) hx hb d_M_new_31 (by decide) ?_
  refine va_newa (D := E.D) (atype := .int) (ty := .int) (N' := 32) (a0 := (32, .inl (fun _ => 0))) hx hb (hts _ (hT0 _ ac_int)) rfl hk.1 hP hD hS hA (fun _ => rfl) (by decide) (by decide) (by decide) (Nat.le_of_ble_eq_true rfl) (Nat.le_of_ble_eq_true rfl) d_M_new_33 (fun qn cA H hK hP hD hS => ?_)
  obtain rfl := newI hK
  have hP : va_P E.D classes [(h0, .inr (2, [.int 0, .int 0, .int 0, .ref qd, .ref qm, .ref qp, .null, .null, .null, .int 0, .int 0, .int 0])), (qd, .inl (E.cI, 1600, .inl (fun _ => 0))), (qm, .inl (E.cI, 256, .inl (fun _ => 0))), (qp, .inl (E.cI, 32, .inl (fun _ => 0))), (qn, .inl (E.cI, 32, .inl (fun _ => 0)))] H := hP
  have hD : va_D (fun x => x = h0 ∨ sz ≤ x) [(h0, .inr (2, [.int 0, .int 0, .int 0, .ref qd, .ref qm, .ref qp, .null, .null, .null, .int 0, .int 0, .int 0])), (qd, .inl (E.cI, 1600, .inl (fun _ => 0))), (qm, .inl (E.cI, 256, .inl (fun _ => 0))), (qp, .inl (E.cI, 32, .inl (fun _ => 0))), (qn, .inl (E.cI, 32, .inl (fun _ => 0)))] := hD
  refine va_putF (D := E.D) (ci := 2) (v := .ref qn) (ty := (.array .int)) (C := R_M) (T := F_M) (N := 12) hx hb hts (fun w h => hT0 _ (i_M w h)) t_M t_M_ok n_M hown hk.1 hP hD hS 0 rfl rfl 6 (by decide) (hts _ (hT0 _ fl_M_19)) (fun _ h9 => h9) rfl hnm rfl (by decide +kernel) rfl rfl (Nat.le_of_ble_eq_true rfl) d_M_new_35 (fun H locs hP hD hS => ?_)
  have hP : va_P E.D classes [(h0, .inr (2, [.int 0, .int 0, .int 0, .ref qd, .ref qm, .ref qp, .ref qn, .null, .null, .int 0, .int 0, .int 0])), (qd, .inl (E.cI, 1600, .inl (fun _ => 0))), (qm, .inl (E.cI, 256, .inl (fun _ => 0))), (qp, .inl (E.cI, 32, .inl (fun _ => 0))), (qn, .inl (E.cI, 32, .inl (fun _ => 0)))] H := hP
  have hD : va_D (fun x => x = h0 ∨ sz ≤ x) [(h0, .inr (2, [.int 0, .int 0, .int 0, .ref qd, .ref qm, .ref qp, .ref qn, .null, .null, .int 0, .int 0, .int 0])), (qd, .inl (E.cI, 1600, .inl (fun _ => 0))), (qm, .inl (E.cI, 256, .inl (fun _ => 0))), (qp, .inl (E.cI, 32, .inl (fun _ => 0))), (qn, .inl (E.cI, 32, .inl (fun _ => 0)))] := hD
  refine lv_aload_n hx hb d_M_new_38 rfl (lv_at hl 0 rfl) ?_
  refine lv_bipush (v := 32) hx hb d_M_new_39 (by decide) ?_
  refine va_newa (D := E.D) (atype := .boolean) (ty := .boolean) (N' := 32) (a0 := (32, .inl (fun _ => 0))) hx hb (hts _ (hT0 _ ac_boolean)) rfl hk.1 hP hD hS hA (fun _ => rfl) (by decide) (by decide) (by decide) (Nat.le_of_ble_eq_true rfl) (Nat.le_of_ble_eq_true rfl) d_M_new_41 (fun qy cA H hK hP hD hS => ?_)
  obtain rfl := newZ hK
  have hP : va_P E.D classes [(h0, .inr (2, [.int 0, .int 0, .int 0, .ref qd, .ref qm, .ref qp, .ref qn, .null, .null, .int 0, .int 0, .int 0])), (qd, .inl (E.cI, 1600, .inl (fun _ => 0))), (qm, .inl (E.cI, 256, .inl (fun _ => 0))), (qp, .inl (E.cI, 32, .inl (fun _ => 0))), (qn, .inl (E.cI, 32, .inl (fun _ => 0))), (qy, .inl (E.cZ, 32, .inl (fun _ => 0)))] H := hP
  have hD : va_D (fun x => x = h0 ∨ sz ≤ x) [(h0, .inr (2, [.int 0, .int 0, .int 0, .ref qd, .ref qm, .ref qp, .ref qn, .null, .null, .int 0, .int 0, .int 0])), (qd, .inl (E.cI, 1600, .inl (fun _ => 0))), (qm, .inl (E.cI, 256, .inl (fun _ => 0))), (qp, .inl (E.cI, 32, .inl (fun _ => 0))), (qn, .inl (E.cI, 32, .inl (fun _ => 0))), (qy, .inl (E.cZ, 32, .inl (fun _ => 0)))] := hD
  refine va_putF (D := E.D) (ci := 2) (v := .ref qy) (ty := (.array .boolean)) (C := R_M) (T := F_M) (N := 12) hx hb hts (fun w h => hT0 _ (i_M w h)) t_M t_M_ok n_M hown hk.1 hP hD hS 0 rfl rfl 7 (by decide) (hts _ (hT0 _ fl_M_22)) (fun _ h9 => h9) rfl hnm rfl (by decide +kernel) rfl rfl (Nat.le_of_ble_eq_true rfl) d_M_new_43 (fun H locs hP hD hS => ?_)
  have hP : va_P E.D classes [(h0, .inr (2, [.int 0, .int 0, .int 0, .ref qd, .ref qm, .ref qp, .ref qn, .ref qy, .null, .int 0, .int 0, .int 0])), (qd, .inl (E.cI, 1600, .inl (fun _ => 0))), (qm, .inl (E.cI, 256, .inl (fun _ => 0))), (qp, .inl (E.cI, 32, .inl (fun _ => 0))), (qn, .inl (E.cI, 32, .inl (fun _ => 0))), (qy, .inl (E.cZ, 32, .inl (fun _ => 0)))] H := hP
  have hD : va_D (fun x => x = h0 ∨ sz ≤ x) [(h0, .inr (2, [.int 0, .int 0, .int 0, .ref qd, .ref qm, .ref qp, .ref qn, .ref qy, .null, .int 0, .int 0, .int 0])), (qd, .inl (E.cI, 1600, .inl (fun _ => 0))), (qm, .inl (E.cI, 256, .inl (fun _ => 0))), (qp, .inl (E.cI, 32, .inl (fun _ => 0))), (qn, .inl (E.cI, 32, .inl (fun _ => 0))), (qy, .inl (E.cZ, 32, .inl (fun _ => 0)))] := hD
  refine lv_aload_n hx hb d_M_new_46 rfl (lv_at hl 0 rfl) ?_
  refine lv_bipush (v := 32) hx hb d_M_new_47 (by decide) ?_
  refine va_newa (D := E.D) (atype := .boolean) (ty := .boolean) (N' := 32) (a0 := (32, .inl (fun _ => 0))) hx hb (hts _ (hT0 _ ac_boolean)) rfl hk.1 hP hD hS hA (fun _ => rfl) (by decide) (by decide) (by decide) (Nat.le_of_ble_eq_true rfl) (Nat.le_of_ble_eq_true rfl) d_M_new_49 (fun qk cA H hK hP hD hS => ?_)
  obtain rfl := newZ hK
  have hP : va_P E.D classes [(h0, .inr (2, [.int 0, .int 0, .int 0, .ref qd, .ref qm, .ref qp, .ref qn, .ref qy, .null, .int 0, .int 0, .int 0])), (qd, .inl (E.cI, 1600, .inl (fun _ => 0))), (qm, .inl (E.cI, 256, .inl (fun _ => 0))), (qp, .inl (E.cI, 32, .inl (fun _ => 0))), (qn, .inl (E.cI, 32, .inl (fun _ => 0))), (qy, .inl (E.cZ, 32, .inl (fun _ => 0))), (qk, .inl (E.cZ, 32, .inl (fun _ => 0)))] H := hP
  have hD : va_D (fun x => x = h0 ∨ sz ≤ x) [(h0, .inr (2, [.int 0, .int 0, .int 0, .ref qd, .ref qm, .ref qp, .ref qn, .ref qy, .null, .int 0, .int 0, .int 0])), (qd, .inl (E.cI, 1600, .inl (fun _ => 0))), (qm, .inl (E.cI, 256, .inl (fun _ => 0))), (qp, .inl (E.cI, 32, .inl (fun _ => 0))), (qn, .inl (E.cI, 32, .inl (fun _ => 0))), (qy, .inl (E.cZ, 32, .inl (fun _ => 0))), (qk, .inl (E.cZ, 32, .inl (fun _ => 0)))] := hD
  refine va_putF (D := E.D) (ci := 2) (v := .ref qk) (ty := (.array .boolean)) (C := R_M) (T := F_M) (N := 12) hx hb hts (fun w h => hT0 _ (i_M w h)) t_M t_M_ok n_M hown hk.1 hP hD hS 0 rfl rfl 8 (by decide) (hts _ (hT0 _ fl_M_26)) (fun _ h9 => h9) rfl hnm rfl (by decide +kernel) rfl rfl (Nat.le_of_ble_eq_true rfl) d_M_new_51 (fun H locs hP hD hS => ?_)
  have hP : va_P E.D classes [(h0, .inr (2, [.int 0, .int 0, .int 0, .ref qd, .ref qm, .ref qp, .ref qn, .ref qy, .ref qk, .int 0, .int 0, .int 0])), (qd, .inl (E.cI, 1600, .inl (fun _ => 0))), (qm, .inl (E.cI, 256, .inl (fun _ => 0))), (qp, .inl (E.cI, 32, .inl (fun _ => 0))), (qn, .inl (E.cI, 32, .inl (fun _ => 0))), (qy, .inl (E.cZ, 32, .inl (fun _ => 0))), (qk, .inl (E.cZ, 32, .inl (fun _ => 0)))] H := hP
  have hD : va_D (fun x => x = h0 ∨ sz ≤ x) [(h0, .inr (2, [.int 0, .int 0, .int 0, .ref qd, .ref qm, .ref qp, .ref qn, .ref qy, .ref qk, .int 0, .int 0, .int 0])), (qd, .inl (E.cI, 1600, .inl (fun _ => 0))), (qm, .inl (E.cI, 256, .inl (fun _ => 0))), (qp, .inl (E.cI, 32, .inl (fun _ => 0))), (qn, .inl (E.cI, 32, .inl (fun _ => 0))), (qy, .inl (E.cZ, 32, .inl (fun _ => 0))), (qk, .inl (E.cZ, 32, .inl (fun _ => 0)))] := hD
  refine lv_aload_n hx hb d_M_new_54 rfl (lv_at hl 0 rfl) ?_
  refine cl_M1 S hl ?_
  refine lv_is (y := nI d.n) (by rw [hdd]; rfl) ?_
  refine va_putF (D := E.D) (ci := 2) (v := .int (nI d.n)) (ty := .int) (C := R_M) (T := F_M) (N := 12) hx hb hts (fun w h => hT0 _ (i_M w h)) t_M t_M_ok n_M hown hk.1 hP hD hS 0 rfl rfl 0 (by decide) (hts _ (hT0 _ fl_M_29)) (fun _ h9 => h9) rfl hnm rfl (by decide +kernel) rfl rfl (Nat.le_of_ble_eq_true rfl) d_M_new_76 (fun H locs hP hD hS => ?_)
  have hP : va_P E.D classes [(h0, .inr (2, [.int (nI d.n), .int 0, .int 0, .ref qd, .ref qm, .ref qp, .ref qn, .ref qy, .ref qk, .int 0, .int 0, .int 0])), (qd, .inl (E.cI, 1600, .inl (fun _ => 0))), (qm, .inl (E.cI, 256, .inl (fun _ => 0))), (qp, .inl (E.cI, 32, .inl (fun _ => 0))), (qn, .inl (E.cI, 32, .inl (fun _ => 0))), (qy, .inl (E.cZ, 32, .inl (fun _ => 0))), (qk, .inl (E.cZ, 32, .inl (fun _ => 0)))] H := hP
  have hD : va_D (fun x => x = h0 ∨ sz ≤ x) [(h0, .inr (2, [.int (nI d.n), .int 0, .int 0, .ref qd, .ref qm, .ref qp, .ref qn, .ref qy, .ref qk, .int 0, .int 0, .int 0])), (qd, .inl (E.cI, 1600, .inl (fun _ => 0))), (qm, .inl (E.cI, 256, .inl (fun _ => 0))), (qp, .inl (E.cI, 32, .inl (fun _ => 0))), (qn, .inl (E.cI, 32, .inl (fun _ => 0))), (qy, .inl (E.cZ, 32, .inl (fun _ => 0))), (qk, .inl (E.cZ, 32, .inl (fun _ => 0)))] := hD
  refine lv_aload_n hx hb d_M_new_79 rfl (lv_at hl 0 rfl) ?_
  refine cl_M2 S hl ?_
  refine lv_is (y := nI d.P) (by rw [hdd]; rfl) ?_
  refine va_putF (D := E.D) (ci := 2) (v := .int (nI d.P)) (ty := .int) (C := R_M) (T := F_M) (N := 12) hx hb hts (fun w h => hT0 _ (i_M w h)) t_M t_M_ok n_M hown hk.1 hP hD hS 0 rfl rfl 1 (by decide) (hts _ (hT0 _ fl_M_33)) (fun _ h9 => h9) rfl hnm rfl (by decide +kernel) rfl rfl (Nat.le_of_ble_eq_true rfl) d_M_new_103 (fun H locs hP hD hS => ?_)
  have hP : va_P E.D classes [(h0, .inr (2, [.int (nI d.n), .int (nI d.P), .int 0, .ref qd, .ref qm, .ref qp, .ref qn, .ref qy, .ref qk, .int 0, .int 0, .int 0])), (qd, .inl (E.cI, 1600, .inl (fun _ => 0))), (qm, .inl (E.cI, 256, .inl (fun _ => 0))), (qp, .inl (E.cI, 32, .inl (fun _ => 0))), (qn, .inl (E.cI, 32, .inl (fun _ => 0))), (qy, .inl (E.cZ, 32, .inl (fun _ => 0))), (qk, .inl (E.cZ, 32, .inl (fun _ => 0)))] H := hP
  have hD : va_D (fun x => x = h0 ∨ sz ≤ x) [(h0, .inr (2, [.int (nI d.n), .int (nI d.P), .int 0, .ref qd, .ref qm, .ref qp, .ref qn, .ref qy, .ref qk, .int 0, .int 0, .int 0])), (qd, .inl (E.cI, 1600, .inl (fun _ => 0))), (qm, .inl (E.cI, 256, .inl (fun _ => 0))), (qp, .inl (E.cI, 32, .inl (fun _ => 0))), (qn, .inl (E.cI, 32, .inl (fun _ => 0))), (qy, .inl (E.cZ, 32, .inl (fun _ => 0))), (qk, .inl (E.cZ, 32, .inl (fun _ => 0)))] := hD
  refine lv_aload_n hx hb d_M_new_106 rfl (lv_at hl 0 rfl) ?_
  refine cl_M3 S hl ?_
  refine lv_is (y := nI d.w) (by rw [hdd]; rfl) ?_
  refine va_putF (D := E.D) (ci := 2) (v := .int (nI d.w)) (ty := .int) (C := R_M) (T := F_M) (N := 12) hx hb hts (fun w h => hT0 _ (i_M w h)) t_M t_M_ok n_M hown hk.1 hP hD hS 0 rfl rfl 2 (by decide) (hts _ (hT0 _ fl_M_36)) (fun _ h9 => h9) rfl hnm rfl (by decide +kernel) rfl rfl (Nat.le_of_ble_eq_true rfl) d_M_new_128 (fun H locs hP hD hS => ?_)
  have hP : va_P E.D classes [(h0, .inr (2, [.int (nI d.n), .int (nI d.P), .int (nI d.w), .ref qd, .ref qm, .ref qp, .ref qn, .ref qy, .ref qk, .int 0, .int 0, .int 0])), (qd, .inl (E.cI, 1600, .inl (fun _ => 0))), (qm, .inl (E.cI, 256, .inl (fun _ => 0))), (qp, .inl (E.cI, 32, .inl (fun _ => 0))), (qn, .inl (E.cI, 32, .inl (fun _ => 0))), (qy, .inl (E.cZ, 32, .inl (fun _ => 0))), (qk, .inl (E.cZ, 32, .inl (fun _ => 0)))] H := hP
  have hD : va_D (fun x => x = h0 ∨ sz ≤ x) [(h0, .inr (2, [.int (nI d.n), .int (nI d.P), .int (nI d.w), .ref qd, .ref qm, .ref qp, .ref qn, .ref qy, .ref qk, .int 0, .int 0, .int 0])), (qd, .inl (E.cI, 1600, .inl (fun _ => 0))), (qm, .inl (E.cI, 256, .inl (fun _ => 0))), (qp, .inl (E.cI, 32, .inl (fun _ => 0))), (qn, .inl (E.cI, 32, .inl (fun _ => 0))), (qy, .inl (E.cZ, 32, .inl (fun _ => 0))), (qk, .inl (E.cZ, 32, .inl (fun _ => 0)))] := hD
  have hD2 : mD E d (h0, qd, qm, qp, qn, qy, qk) (fun x => x = h0 ∨ sz ≤ x) := mD_of (σ := (0, 0, 0, fun _ => 0, fun _ => 0, fun _ => 0, fun _ => 0, fun _ => 0, fun _ => 0)) hD (fun k q hq => hD.2 k q hq)
  have hP : mP E d (h0, qd, qm, qp, qn, qy, qk) (0, 0, 0, fun _ => 0, fun _ => 0, fun _ => 0, fun _ => 0, fun _ => 0, fun _ => 0) H := hP
  refine lv_aload_n hx hb d_M_new_131 rfl (lv_at hl 0 rfl) ?_
  refine aft_Qv (runV (As := []) (rest := []) S hT0 hk (c_M_init l E d (h0, qd, qm, qp, qn, qy, qk) 0 0 0 (fun _ => 0) (fun _ => 0) (fun _ => 0) (fun _ => 0) (fun _ => 0) (fun _ => 0) _ hD2) k_M_39 rfl rfl ⟨Nat.le_of_ble_eq_true rfl, Nat.le_of_ble_eq_true rfl⟩ (mrec hk hP) hP hl.1 rfl rfl (Nat.le_of_ble_eq_true rfl) d_M_new_132 ⟨Nat.le_of_ble_eq_true rfl, Nat.le_of_ble_eq_true rfl⟩) hS (fun _ h => h) (fun H locs hP _ _ hS => ?_)
  obtain ⟨fk, hP, hz⟩ := hP
  refine ret_Qv S hr hlk hS ⟨(h0, qd, qm, qp, qn, qy, qk), rfl, ⟨fk, _, hP, fun p j hp hj => hz _ (by omega), fun _ _ _ _ => rfl⟩, hD2⟩ d_M_new_135
set_option maxHeartbeats 4000000 in
set_option maxRecDepth 100000 in
/-- cell(script, k) -/
theorem c_L_cell (l : Launch) (b L k : Nat) (xs : Nat → Int32) (hL : L < 2 ^ 31) (hk2 : k < 2 ^ 31) : Met l y_L_cell (Cond.code y_L_cell b_L_cell 2 (some .int) :: tbw) (k2_rm 0 0) (va_Pc [.ref b, .int (nI k)] (fun U => va_X b L xs U U.heap)) (qi (fun r => r = if k < L then xs k else 0)) 0 0 nof := by
  refine Met.ofW (cc := b_L_cell) (maxL := 2) (ret := some .int) (by decide) rfl ?_
  intro p e s m args below meth c s₁ B hml hv
  obtain ⟨rfl, hX⟩ := hv
  have hx := B.exec
  have hb := B.bytes
  have hr := B.returns
  have hlk := B.notSynchronized
  have hown : s.vm.findClass R_L = some m.cls := findClass_of_methodNamed B.named
  have hts := atoms_spec (ws := Cond.code y_L_cell b_L_cell 2 (some .int) :: tbw) B.pre
  have S : CallFix p m c b_L_cell 2 s #[.ref b, .int (nI k)] (Cond.code y_L_cell b_L_cell 2 (some .int) :: tbw) R_L := ⟨hx, hb, hml, hown, hts⟩
  have hl := lv_entry ([.ref b, .int (nI k)]) (n := 2) (Nat.le_of_ble_eq_true rfl)
  rw [lg_entry_eq]
  generalize (lg_sl ([.ref b, .int (nI k)]) ++ List.replicate (2 - (lg_sl ([.ref b, .int (nI k)])).length) Slot.unset).toArray = ls at hl ⊢
  have hl : lv_has ls 2 [(0, .ref b), (1, .int (nI k))] := hl
  have hS : va_S nof s.heap s.heap [] := va_S.rf
  have hbl : b < s.heap.size := by
    obtain ⟨scr, h1, -⟩ := hX
    exact (Array.getElem?_eq_some_iff.mp h1).1
  refine lv_iload_n hx hb d_L_cell_0 rfl (lv_at hl 1 rfl) ?_
  refine lv_aload_n hx hb d_L_cell_1 rfl (lv_at hl 0 rfl) ?_
  refine va_slen hx hb hX hbl id hS d_L_cell_2 ?_
  refine lv_is (y := nI L) rfl ?_
  refine lv_icmp_ge (tgt := 12) hx hb d_L_cell_3 (by decide) (fun c1 => ?_) (fun c1 => ?_)
  · refine lv_iconst (v := 0) hx hb d_L_cell_12 (by decide) ?_
    exact ret_qi S hr hlk (by rw [if_neg (Nat.not_lt.mpr ((nI_leI hL hk2).mp c1))]) d_L_cell_13
  · have hlt : k < L := Nat.not_le.mp (mt (nI_leI hL hk2).mpr c1)
    refine lv_aload_n hx hb d_L_cell_6 rfl (lv_at hl 0 rfl) ?_
    refine lv_iload_n hx hb d_L_cell_7 rfl (lv_at hl 1 rfl) ?_
    refine va_sld hx hb hX hbl id hS (vp_in_nI hlt hL) d_L_cell_8 ?_
    refine lv_is (y := xs k) (by rw [nI_clamp hk2]) ?_
    refine lv_goto (tgt := 13) hx hb d_L_cell_9 (by decide) ?_
    exact ret_qi S hr hlk (by rw [if_pos hlt]) d_L_cell_13
end
section
/-! THE CLAIM OUT OF ONE WALK OF THE LAW'S BODY. Your part is whole_start (and what it stands on); all else here is the same for every law, but numbers. -/
def R_law : String := "FramePoolLaw"
def lw_P (b : Addr) (xs : List Int32) (args : Array Value) (s : State) : Prop := args = #[.ref b] ∧ s.IntsAt b xs ∧ xs.length ≤ 2051 ∧ (Jvm.Cond.and given_1 narrow_1).before args s = true
def lw_Q (_ : Array Value) (s : State) (o : Outcome) (t : State) : Prop := o = .returned (some (.int 1)) ∧ Framed s o t [] 600000 7302250
def lw_Z (below : List Frame) (a : Array Value) (s : State) : State → Prop := fun t => ∃ o, t.status = .running ∧ Ended t below o ∧ lw_Q a s o t
/-- the law's own end, with 1 on the stack, nothing written that was there before, its room as the claim has it -/
theorem lw_ret {p : Program} {l : Launch} {e : Env} {s : State} {m : MethodId} {below : List Frame} {meth : Method} {c : Code} {b : Nat} (hx : p.tables.exec = Jvm.exec) (hb : c.code = code) (hr : meth.sig.returnType = ret) (hlocks : meth.locks = false) {pc : Nat} {H : Heap} {ls : Array Slot} (hdg : decode code pc = .ok (.ireturn, 1)) : W p l e room_1 s m #[Value.ref b] below meth c H [] 600000 7302250 (lw_Z below #[Value.ref b] s) (F0 m pc ls [.int 1]) := by
  intro T hT X
  obtain ⟨fs, hret, hrun, hended, hW, hframe⟩ := X.leave (v := some (.int 1)) (hlocks := hlocks) (fun h => by rw [hr] at h; cases h)
  have hmeth' : T.vm.method? m = some meth := X.method'
  refine ⟨T.setFrames fs, ?_, .returned (some (.int 1)), hrun, hended, rfl, ⟨_, rfl⟩, hW, hframe⟩
  jvm_step X.here [X.here.top, hx, hb, hdg, hmeth', hr, ret, narrow_b1]
  (try refine ⟨rfl, ?_⟩); (try refine ⟨rfl, ?_⟩)
  first | (intro acts; rw [hret _ acts rfl rfl rfl]) | rw [hret _ _ rfl rfl rfl]
  exact Steps.refl _
/-- what holds at the law's entry: the machine, the code, the tables' words (any of lw_tbl by 'hts w (by decide +kernel)'), the script of L ints xs at the cell b, what the Statement gives of the start (any of its parts by flat_of_before) -/
def lw_At (p : Program) (s : State) (m : MethodId) (meth : Method) (c : Code) (b L : Nat) (xs : Nat → Int32) : Prop :=
  p.tables.exec = Jvm.exec ∧ c.code = code ∧ meth.sig.returnType = ret ∧ c.maxLocals = 4 ∧ s.vm.findClass R_law = some m.cls ∧ (∀ w ∈ lw_tbl, w.before #[Value.ref b] s = true) ∧ va_X b L xs s s.heap ∧ b < s.heap.size ∧ meth.locks = false ∧ (Jvm.Cond.and given_1 narrow_1).before #[Value.ref b] s = true
end
section
/-! the law -/
theorem RX.rec {E : EN} {d : DM} {a : XA} {T : St} {H : Heap} {s : State} (hk : kk E s) (h : RX E d a T H) : ∃ cell : Cell, H[a.p]? = some cell ∧ cell.vm.isStatics = false ∧ s.vm.findClass R_X = some cell.cls := by
  obtain ⟨fk, ti, ww, hP, -⟩ := h
  exact xrec hk hP
theorem RM.rec {E : EN} {d : DM} {b : MA} {T : St} {H : Heap} {s : State} (hk : kk E s) (h : RM E d b T H) : ∃ cell : Cell, H[b.o]? = some cell ∧ cell.vm.isStatics = false ∧ s.vm.findClass R_M = some cell.cls := by
  obtain ⟨fk, fm, hP, -⟩ := h
  exact mrec hk hP
theorem RX.kept {E : EN} {d : DM} {a : XA} {T : St} {H H1 : Heap} {AX AM : Nat → Prop} (h : RX E d a T H) (hD : xD E d a AX) (hk : ∀ q : Nat, q < H.size → ¬ AM q → H1[q]? = H[q]?) (hs : ∀ q, AX q → ¬ AM q) : RX E d a T H1 := by
  obtain ⟨fk, ti, ww, hP, hr⟩ := h
  exact ⟨fk, ti, ww, va_P.kept hP (fun k q hq => hk q.1 (hP k q hq).lt (hs q.1 ((hD _).2 k q hq))), hr⟩
theorem RM.kept {E : EN} {d : DM} {b : MA} {T : St} {H H1 : Heap} {AX AM : Nat → Prop} (h : RM E d b T H) (hD : mD E d b AM) (hk : ∀ q : Nat, q < H.size → ¬ AX q → H1[q]? = H[q]?) (hs : ∀ q, AX q → ¬ AM q) : RM E d b T H1 := by
  obtain ⟨fk, fm, hP, hr⟩ := h
  exact ⟨fk, fm, va_P.kept hP (fun k q hq => hk q.1 (hP k q hq).lt (fun z => hs q.1 z ((hD _).2 k q hq))), hr⟩
theorem nI_p {a k : Nat} {y : Int32} (h : y = nI k) : nI a + y = nI (a + k) := by rw [h, nI_add]
section
variable {p : Program} {l : Launch} {e : Env} {s : State} {m : MethodId} {args : Array Value} {below : List Frame} {meth : Method} {c : Code} {H : Heap} {locs : List Loc} {cells slots : Nat} {Q : State → Prop} {A : Nat → Prop} {b L pc : Nat} {xs : Nat → Int32} {ls : Array Slot} {rest : List Value}
theorem law_cell (S : CallFix p m c code 4 s args lw_tbl R_L) (hX : va_X b L xs s s.heap) (hbl : b < s.heap.size) (hbA : ¬ A b) (hS : va_S A s.heap H locs) (hL : L < 2 ^ 31) (k : Nat) (hk2 : k < 2 ^ 31) (hls : ls.size = 4) (hW : (rest.map fun v => v.category).sum ≤ 8) (hdg : decode code pc = .ok (.invokestatic 9, 3)) (hc : cells ≤ room_1.cells ∧ slots ≤ room_1.slots)
    (K : W p l e room_1 s m args below meth c H locs cells slots Q (F0 m (pc + 3) ls (.int (if k < L then xs k else 0) :: rest))) : W p l e room_1 s m args below meth c H locs cells slots Q (F0 m pc ls (.int (nI k) :: .ref b :: rest)) := by
  refine aft_qi (va_runS (As := [.ref b, .int (nI k)]) (rest := rest) (n := 2) S (c_L_cell l b L k xs hL hk2) ⟨cB0 S.2.2.2.2 tbw_in k_L_9.1 rfl rfl ⟨Nat.le_of_ble_eq_true rfl, Nat.le_of_ble_eq_true rfl⟩, S.2.2.2.2 _ (tbw_in _ k_L_9.2)⟩ ⟨fun a U g mk q => ⟨q.1, (q.2 : va_X b L xs U U.heap).moved (U := U.calling g mk a) (Vm.Alike.refl U.vm)⟩, fun U hU hW => ⟨rfl, (show va_X b L xs U U.heap by rw [hU]; exact (hX.kept (hS.2.1 b hbl hbA)).moved hW.alike)⟩⟩ rfl rfl hls rfl (lv_room hW) hdg hc) (fun r hr => ?_)
  rw [hr]
  exact K
end
set_option maxHeartbeats 4000000 in
set_option maxRecDepth 100000 in
/-- THE LAW'S LOOP: t calls are behind; both worlds stand for one state -/
theorem law_loop {p : Program} {l : Launch} {e : Env} {s : State} {m : MethodId} {below : List Frame} {meth : Method} {c : Code} {E : EN} {d : DM} {a : XA} {b : MA} {AX AM : Nat → Prop} {z L : Nat} {xs : Nat → Int32} (hL : L ≤ 2051) (C0 : lw_At p s m meth c z L xs) (hk : kk E s) (hdm : dm_ok d) (hDx : xD E d a AX) (hDm : mD E d b AM) (hsep : ∀ q, AX q → ¬ AM q) (hAX : ∀ q : Nat, AX q → s.heap.size ≤ q) (hAM : ∀ q : Nat, AM q → s.heap.size ≤ q) :
    ∀ (n t : Nat) (T : St) (H : Heap) (locs : List Loc) (ls : Array Slot), 600 ≤ t + n → t ≤ 513 → Inv d t T → RX E d a T H → RM E d b T H → va_S (fun q : Nat => s.heap.size ≤ q) s.heap H locs → lv_has ls 4 [(0, .ref z), (1, .ref a.p), (2, .ref b.o), (3, .int (nI (3 + 4 * t)))] → W p l e room_1 s m #[Value.ref z] below meth c H locs 75 4148 (lw_Z below #[Value.ref z] s) (F0 m 48 ls []) := by
  obtain ⟨hx, hb, hr, hml, hown, hts, hX, hbl, hlocks, hgv⟩ := C0
  have S : CallFix p m c code 4 s #[Value.ref z] lw_tbl R_L := ⟨hx, hb, hml, hown, hts⟩
  have hbA : ¬ (fun q : Nat => s.heap.size ≤ q) z := Nat.not_le.mpr hbl
  have hL31 : L < 2 ^ 31 := by omega
  intro n
  induction n with
  | zero =>
    intro t T H locs ls h1 h2
    omega
  | succ n ih =>
    intro t T H locs ls h1 h2 hI hRX hRM hS hl
    refine lv_iload_n hx hb d_L_law_48 rfl (lv_at hl 3 rfl) ?_
    refine lv_aload_n hx hb d_L_law_49 rfl (lv_at hl 0 rfl) ?_
    refine va_slen hx hb hX hbl hbA hS d_L_law_50 ?_
    refine lv_is (y := nI L) rfl ?_
    refine lv_iconst (v := 4) hx hb d_L_law_51 (by decide) ?_
    refine lv_isub hx hb d_L_law_52 ?_
    refine lv_icmp_gt (tgt := 512) hx hb d_L_law_53 (by decide) (fun c1 => ?_) (fun c1 => ?_)
    · refine lv_iconst (v := 1) hx hb d_L_law_512 (by decide) ?_
      refine va_forget (fun q hq => hS.2.2 q hq) ?_
      refine W.widen (k := 600000) (n := 7302250) (Nat.le_of_ble_eq_true rfl) (Nat.le_of_ble_eq_true rfl) ?_
      exact lw_ret hx hb hr hlocks d_L_law_513
    · have hle : 3 + 4 * t + 4 ≤ L := by
        apply Classical.byContradiction
        intro hc
        apply c1
        rw [Int32.lt_iff_toInt_lt, show (4 : Int32) = nI 4 from rfl, pk_sub_toInt (by omega) (by omega), nI_toInt (by omega)]
        omega
      have nx : ∀ (T : St) (H : Heap) (locs : List Loc), Inv d (t + 1) T → RX E d a T H → RM E d b T H → va_S (fun q : Nat => s.heap.size ≤ q) s.heap H locs → W p l e room_1 s m #[Value.ref z] below meth c H locs 75 4148 (lw_Z below #[Value.ref z] s) (F0 m 506 ls []) := by
        intro T H locs hI hRX hRM hS
        refine lv_iinc (v := nI (3 + 4 * (t + 1))) (lv' := [(3, .int (nI (3 + 4 * (t + 1)))), (0, .ref z), (1, .ref a.p), (2, .ref b.o)]) hx hb d_L_law_506 hl (k := 3) rfl ((nI_p (k := 4) rfl).trans (congrArg nI (by omega))) (by decide) rfl (fun ls hl => ?_)
        refine lv_goto (tgt := 48) hx hb d_L_law_509 (by decide) ?_
        have hl := lv_sub (l' := [(0, .ref z), (1, .ref a.p), (2, .ref b.o), (3, .int (nI (3 + 4 * (t + 1))))]) hl [1, 2, 3, 0] rfl
        exact ih (t + 1) T H locs ls (by omega) (by omega) hI hRX hRM hS hl
      refine lv_aload_n hx hb d_L_law_56 rfl (lv_at hl 0 rfl) ?_
      refine lv_iload_n hx hb d_L_law_57 rfl (lv_at hl 3 rfl) ?_
      refine va_sld hx hb hX hbl hbA hS (vp_in_nI (show 3 + 4 * t < L by omega) hL31) d_L_law_58 ?_
      refine lv_is (y := xs (3 + 4 * t)) (by rw [nI_clamp (by omega)]) ?_
      refine lv_bipush (v := 15) hx hb d_L_law_59 (by decide) ?_
      refine lv_iand hx hb d_L_law_61 ?_
      obtain ⟨j, hj, ej⟩ := pk_andE (xs (3 + 4 * t)) (m := 15) 4 (by decide)
      refine lv_is (y := nI j) (ej) ?_
      rcases (show j = 0 ∨ j = 1 ∨ j = 2 ∨ j = 3 ∨ j = 4 ∨ j = 5 ∨ j = 6 ∨ j = 7 ∨ j = 8 ∨ j = 9 ∨ j = 10 ∨ j = 11 ∨ j = 12 ∨ j = 13 ∨ j = 14 ∨ j = 15 by omega) with rfl | rfl | rfl | rfl | rfl | rfl | rfl | rfl | rfl | rfl | rfl | rfl | rfl | rfl | rfl | rfl
      · refine lv_tableIn (tgt := 140) hx hb d_L_law_62 (by decide) (by decide) (by decide : _ = some (78 : Int)) (by decide) ?_
        refine lv_aload_n hx hb d_L_law_140 rfl (lv_at hl 1 rfl) ?_
        refine aft_Qv (runV (As := []) (rest := []) S tbw_in hk (c_X_init l E d a T hdm AX hDx) k_L_21 rfl rfl ⟨Nat.le_of_ble_eq_true rfl, Nat.le_of_ble_eq_true rfl⟩ (hRX.rec hk) hRX hl.1 rfl rfl (Nat.le_of_ble_eq_true rfl) d_L_law_141 ⟨Nat.le_of_ble_eq_true rfl, Nat.le_of_ble_eq_true rfl⟩) hS hAX (fun H locs hRX _ hk1 hS => ?_)
        have hRM := hRM.kept hDm hk1 hsep
        obtain ⟨gk, fm, hP, hdk, hmm⟩ := hRM
        refine lv_aload_n hx hb d_L_law_144 rfl (lv_at hl 2 rfl) ?_
        refine aft_Qv (runV (As := []) (rest := []) S tbw_in hk (c_M_init l E d b (nI T.hd) T.rd T.wr gk fm T.pg T.pn T.di T.mk AM hDm) k_L_24 rfl rfl ⟨Nat.le_of_ble_eq_true rfl, Nat.le_of_ble_eq_true rfl⟩ (mrec hk hP) hP hl.1 rfl rfl (Nat.le_of_ble_eq_true rfl) d_L_law_145 ⟨Nat.le_of_ble_eq_true rfl, Nat.le_of_ble_eq_true rfl⟩) hS hAM (fun H locs hP _ hk2 hS => ?_)
        have hRX := hRX.kept hDx hk2 hsep
        obtain ⟨gk, hP, hz⟩ := hP
        obtain ⟨hn1, hn2, hP1, hP2, hw1, hw2⟩ := id hdm
        refine lv_goto (tgt := 506) hx hb d_L_law_148 (by decide) ?_
        exact nx (o_reset T) H locs (Inv.reset hdm T _) hRX ⟨gk, fm, hP, fun p j hp hj => hz _ (by omega), hmm⟩ hS
      · refine lv_tableIn (tgt := 151) hx hb d_L_law_62 (by decide) (by decide) (by decide : _ = some (89 : Int)) (by decide) ?_
        refine lv_aload_n hx hb d_L_law_151 rfl (lv_at hl 1 rfl) ?_
        refine lv_aload_n hx hb d_L_law_152 rfl (lv_at hl 0 rfl) ?_
        refine lv_iload_n hx hb d_L_law_153 rfl (lv_at hl 3 rfl) ?_
        refine lv_iconst (v := 1) hx hb d_L_law_154 (by decide) ?_
        refine lv_iadd hx hb d_L_law_155 ?_
        refine lv_is (y := nI (3 + 4 * t + 1)) (nI_p (k := 1) rfl) ?_
        refine va_sld hx hb hX hbl hbA hS (vp_in_nI (show 3 + 4 * t + 1 < L by omega) hL31) d_L_law_156 ?_
        refine lv_is (y := xs (3 + 4 * t + 1)) (by rw [nI_clamp (by omega)]) ?_
        refine aft_Qi (runV (As := [.int (xs (3 + 4 * t + 1))]) (rest := []) S tbw_in hk (c_X_fetch l E d a T (xs (3 + 4 * t + 1)) hI (by omega) hdm AX hDx) k_L_25 rfl rfl ⟨Nat.le_of_ble_eq_true rfl, Nat.le_of_ble_eq_true rfl⟩ (hRX.rec hk) hRX hl.1 rfl rfl (Nat.le_of_ble_eq_true rfl) d_L_law_157 ⟨Nat.le_of_ble_eq_true rfl, Nat.le_of_ble_eq_true rfl⟩) hS hAX (fun r1 H locs hr1 _ hk1 hS => ?_)
        obtain ⟨hr1, hRX⟩ := hr1
        have hRM := hRM.kept hDm hk1 hsep
        refine lv_aload_n hx hb d_L_law_160 rfl (lv_at hl 2 rfl) ?_
        refine lv_aload_n hx hb d_L_law_161 rfl (lv_at hl 0 rfl) ?_
        refine lv_iload_n hx hb d_L_law_162 rfl (lv_at hl 3 rfl) ?_
        refine lv_iconst (v := 1) hx hb d_L_law_163 (by decide) ?_
        refine lv_iadd hx hb d_L_law_164 ?_
        refine lv_is (y := nI (3 + 4 * t + 1)) (nI_p (k := 1) rfl) ?_
        refine va_sld hx hb hX hbl hbA hS (vp_in_nI (show 3 + 4 * t + 1 < L by omega) hL31) d_L_law_165 ?_
        refine lv_is (y := xs (3 + 4 * t + 1)) (by rw [nI_clamp (by omega)]) ?_
        refine aft_Qi (runV (As := [.int (xs (3 + 4 * t + 1))]) (rest := [.int r1]) S tbw_in hk (c_M_fetch l E d b T (xs (3 + 4 * t + 1)) hI (by omega) hdm AM hDm) k_L_29 rfl rfl ⟨Nat.le_of_ble_eq_true rfl, Nat.le_of_ble_eq_true rfl⟩ (hRM.rec hk) hRM hl.1 rfl rfl (Nat.le_of_ble_eq_true rfl) d_L_law_166 ⟨Nat.le_of_ble_eq_true rfl, Nat.le_of_ble_eq_true rfl⟩) hS hAM (fun r2 H locs hr2 _ hk2 hS => ?_)
        obtain ⟨hr2, hRM⟩ := hr2
        have hRX := hRX.kept hDx hk2 hsep
        refine lv_icmp_eq (tgt := 506) hx hb d_L_law_169 (by decide) (fun c2 => ?_) (fun c2 => ?_)
        · exact nx _ H locs (hI.fetch hdm _) hRX hRM hS
        · exact absurd (hr1.trans hr2.symm) c2
      · refine lv_tableIn (tgt := 174) hx hb d_L_law_62 (by decide) (by decide) (by decide : _ = some (112 : Int)) (by decide) ?_
        refine lv_aload_n hx hb d_L_law_174 rfl (lv_at hl 1 rfl) ?_
        refine lv_aload_n hx hb d_L_law_175 rfl (lv_at hl 0 rfl) ?_
        refine lv_iload_n hx hb d_L_law_176 rfl (lv_at hl 3 rfl) ?_
        refine lv_iconst (v := 1) hx hb d_L_law_177 (by decide) ?_
        refine lv_iadd hx hb d_L_law_178 ?_
        refine lv_is (y := nI (3 + 4 * t + 1)) (nI_p (k := 1) rfl) ?_
        refine va_sld hx hb hX hbl hbA hS (vp_in_nI (show 3 + 4 * t + 1 < L by omega) hL31) d_L_law_179 ?_
        refine lv_is (y := xs (3 + 4 * t + 1)) (by rw [nI_clamp (by omega)]) ?_
        refine aft_Qi (runV (As := [.int (xs (3 + 4 * t + 1))]) (rest := []) S tbw_in hk (c_X_unpin l E d a T (xs (3 + 4 * t + 1)) hdm AX hDx) k_L_30 rfl rfl ⟨Nat.le_of_ble_eq_true rfl, Nat.le_of_ble_eq_true rfl⟩ (hRX.rec hk) hRX hl.1 rfl rfl (Nat.le_of_ble_eq_true rfl) d_L_law_180 ⟨Nat.le_of_ble_eq_true rfl, Nat.le_of_ble_eq_true rfl⟩) hS hAX (fun r1 H locs hr1 _ hk1 hS => ?_)
        obtain ⟨hr1, hRX⟩ := hr1
        have hRM := hRM.kept hDm hk1 hsep
        refine lv_aload_n hx hb d_L_law_183 rfl (lv_at hl 2 rfl) ?_
        refine lv_aload_n hx hb d_L_law_184 rfl (lv_at hl 0 rfl) ?_
        refine lv_iload_n hx hb d_L_law_185 rfl (lv_at hl 3 rfl) ?_
        refine lv_iconst (v := 1) hx hb d_L_law_186 (by decide) ?_
        refine lv_iadd hx hb d_L_law_187 ?_
        refine lv_is (y := nI (3 + 4 * t + 1)) (nI_p (k := 1) rfl) ?_
        refine va_sld hx hb hX hbl hbA hS (vp_in_nI (show 3 + 4 * t + 1 < L by omega) hL31) d_L_law_188 ?_
        refine lv_is (y := xs (3 + 4 * t + 1)) (by rw [nI_clamp (by omega)]) ?_
        refine aft_Qi (runV (As := [.int (xs (3 + 4 * t + 1))]) (rest := [.int r1]) S tbw_in hk (c_M_unpin l E d b T (xs (3 + 4 * t + 1)) hI (by omega) hdm AM hDm) k_L_33 rfl rfl ⟨Nat.le_of_ble_eq_true rfl, Nat.le_of_ble_eq_true rfl⟩ (hRM.rec hk) hRM hl.1 rfl rfl (Nat.le_of_ble_eq_true rfl) d_L_law_189 ⟨Nat.le_of_ble_eq_true rfl, Nat.le_of_ble_eq_true rfl⟩) hS hAM (fun r2 H locs hr2 _ hk2 hS => ?_)
        obtain ⟨hr2, hRM⟩ := hr2
        have hRX := hRX.kept hDx hk2 hsep
        refine lv_icmp_eq (tgt := 506) hx hb d_L_law_192 (by decide) (fun c2 => ?_) (fun c2 => ?_)
        · exact nx _ H locs ((hI.unpin (by omega) hdm _).mono (by omega)) hRX hRM hS
        · exact absurd (hr1.trans hr2.symm) c2
      · refine lv_tableIn (tgt := 197) hx hb d_L_law_62 (by decide) (by decide) (by decide : _ = some (135 : Int)) (by decide) ?_
        refine lv_aload_n hx hb d_L_law_197 rfl (lv_at hl 1 rfl) ?_
        refine lv_aload_n hx hb d_L_law_198 rfl (lv_at hl 0 rfl) ?_
        refine lv_iload_n hx hb d_L_law_199 rfl (lv_at hl 3 rfl) ?_
        refine lv_iconst (v := 1) hx hb d_L_law_200 (by decide) ?_
        refine lv_iadd hx hb d_L_law_201 ?_
        refine lv_is (y := nI (3 + 4 * t + 1)) (nI_p (k := 1) rfl) ?_
        refine va_sld hx hb hX hbl hbA hS (vp_in_nI (show 3 + 4 * t + 1 < L by omega) hL31) d_L_law_202 ?_
        refine lv_is (y := xs (3 + 4 * t + 1)) (by rw [nI_clamp (by omega)]) ?_
        refine lv_aload_n hx hb d_L_law_203 rfl (lv_at hl 0 rfl) ?_
        refine lv_iload_n hx hb d_L_law_204 rfl (lv_at hl 3 rfl) ?_
        refine lv_iconst (v := 2) hx hb d_L_law_205 (by decide) ?_
        refine lv_iadd hx hb d_L_law_206 ?_
        refine lv_is (y := nI (3 + 4 * t + 2)) (nI_p (k := 2) rfl) ?_
        refine va_sld hx hb hX hbl hbA hS (vp_in_nI (show 3 + 4 * t + 2 < L by omega) hL31) d_L_law_207 ?_
        refine lv_is (y := xs (3 + 4 * t + 2)) (by rw [nI_clamp (by omega)]) ?_
        refine aft_qi (runV (As := [.int (xs (3 + 4 * t + 1)), .int (xs (3 + 4 * t + 2))]) (rest := []) S tbw_in hk (c_X_readWord l E d a T (xs (3 + 4 * t + 1)) (xs (3 + 4 * t + 2)) hdm) k_L_34 rfl rfl ⟨Nat.le_of_ble_eq_true rfl, Nat.le_of_ble_eq_true rfl⟩ (hRX.rec hk) hRX hl.1 rfl rfl (Nat.le_of_ble_eq_true rfl) d_L_law_208 ⟨Nat.le_of_ble_eq_true rfl, Nat.le_of_ble_eq_true rfl⟩) (fun r1 hr1 => ?_)
        refine lv_aload_n hx hb d_L_law_211 rfl (lv_at hl 2 rfl) ?_
        refine lv_aload_n hx hb d_L_law_212 rfl (lv_at hl 0 rfl) ?_
        refine lv_iload_n hx hb d_L_law_213 rfl (lv_at hl 3 rfl) ?_
        refine lv_iconst (v := 1) hx hb d_L_law_214 (by decide) ?_
        refine lv_iadd hx hb d_L_law_215 ?_
        refine lv_is (y := nI (3 + 4 * t + 1)) (nI_p (k := 1) rfl) ?_
        refine va_sld hx hb hX hbl hbA hS (vp_in_nI (show 3 + 4 * t + 1 < L by omega) hL31) d_L_law_216 ?_
        refine lv_is (y := xs (3 + 4 * t + 1)) (by rw [nI_clamp (by omega)]) ?_
        refine lv_aload_n hx hb d_L_law_217 rfl (lv_at hl 0 rfl) ?_
        refine lv_iload_n hx hb d_L_law_218 rfl (lv_at hl 3 rfl) ?_
        refine lv_iconst (v := 2) hx hb d_L_law_219 (by decide) ?_
        refine lv_iadd hx hb d_L_law_220 ?_
        refine lv_is (y := nI (3 + 4 * t + 2)) (nI_p (k := 2) rfl) ?_
        refine va_sld hx hb hX hbl hbA hS (vp_in_nI (show 3 + 4 * t + 2 < L by omega) hL31) d_L_law_221 ?_
        refine lv_is (y := xs (3 + 4 * t + 2)) (by rw [nI_clamp (by omega)]) ?_
        refine aft_qi (runV (As := [.int (xs (3 + 4 * t + 1)), .int (xs (3 + 4 * t + 2))]) (rest := [.int r1]) S tbw_in hk (c_M_readWord l E d b T (xs (3 + 4 * t + 1)) (xs (3 + 4 * t + 2)) hI (by omega) hdm) k_L_38 rfl rfl ⟨Nat.le_of_ble_eq_true rfl, Nat.le_of_ble_eq_true rfl⟩ (hRM.rec hk) hRM hl.1 rfl rfl (Nat.le_of_ble_eq_true rfl) d_L_law_222 ⟨Nat.le_of_ble_eq_true rfl, Nat.le_of_ble_eq_true rfl⟩) (fun r2 hr2 => ?_)
        refine lv_icmp_eq (tgt := 506) hx hb d_L_law_225 (by decide) (fun c2 => ?_) (fun c2 => ?_)
        · exact nx _ H locs (hI.mono (by omega)) hRX hRM hS
        · exact absurd (hr1.trans hr2.symm) c2
      · refine lv_tableIn (tgt := 230) hx hb d_L_law_62 (by decide) (by decide) (by decide : _ = some (168 : Int)) (by decide) ?_
        refine lv_aload_n hx hb d_L_law_230 rfl (lv_at hl 1 rfl) ?_
        refine lv_aload_n hx hb d_L_law_231 rfl (lv_at hl 0 rfl) ?_
        refine lv_iload_n hx hb d_L_law_232 rfl (lv_at hl 3 rfl) ?_
        refine lv_iconst (v := 1) hx hb d_L_law_233 (by decide) ?_
        refine lv_iadd hx hb d_L_law_234 ?_
        refine lv_is (y := nI (3 + 4 * t + 1)) (nI_p (k := 1) rfl) ?_
        refine va_sld hx hb hX hbl hbA hS (vp_in_nI (show 3 + 4 * t + 1 < L by omega) hL31) d_L_law_235 ?_
        refine lv_is (y := xs (3 + 4 * t + 1)) (by rw [nI_clamp (by omega)]) ?_
        refine lv_aload_n hx hb d_L_law_236 rfl (lv_at hl 0 rfl) ?_
        refine lv_iload_n hx hb d_L_law_237 rfl (lv_at hl 3 rfl) ?_
        refine lv_iconst (v := 2) hx hb d_L_law_238 (by decide) ?_
        refine lv_iadd hx hb d_L_law_239 ?_
        refine lv_is (y := nI (3 + 4 * t + 2)) (nI_p (k := 2) rfl) ?_
        refine va_sld hx hb hX hbl hbA hS (vp_in_nI (show 3 + 4 * t + 2 < L by omega) hL31) d_L_law_240 ?_
        refine lv_is (y := xs (3 + 4 * t + 2)) (by rw [nI_clamp (by omega)]) ?_
        refine lv_aload_n hx hb d_L_law_241 rfl (lv_at hl 0 rfl) ?_
        refine lv_iload_n hx hb d_L_law_242 rfl (lv_at hl 3 rfl) ?_
        refine lv_iconst (v := 3) hx hb d_L_law_243 (by decide) ?_
        refine lv_iadd hx hb d_L_law_244 ?_
        refine lv_is (y := nI (3 + 4 * t + 3)) (nI_p (k := 3) rfl) ?_
        refine va_sld hx hb hX hbl hbA hS (vp_in_nI (show 3 + 4 * t + 3 < L by omega) hL31) d_L_law_245 ?_
        refine lv_is (y := xs (3 + 4 * t + 3)) (by rw [nI_clamp (by omega)]) ?_
        refine aft_Qi (runV (As := [.int (xs (3 + 4 * t + 1)), .int (xs (3 + 4 * t + 2)), .int (xs (3 + 4 * t + 3))]) (rest := []) S tbw_in hk (c_X_writeWord l E d a T (xs (3 + 4 * t + 1)) (xs (3 + 4 * t + 2)) (xs (3 + 4 * t + 3)) hdm AX hDx) k_L_39 rfl rfl ⟨Nat.le_of_ble_eq_true rfl, Nat.le_of_ble_eq_true rfl⟩ (hRX.rec hk) hRX hl.1 rfl rfl (Nat.le_of_ble_eq_true rfl) d_L_law_246 ⟨Nat.le_of_ble_eq_true rfl, Nat.le_of_ble_eq_true rfl⟩) hS hAX (fun r1 H locs hr1 _ hk1 hS => ?_)
        obtain ⟨hr1, hRX⟩ := hr1
        have hRM := hRM.kept hDm hk1 hsep
        refine lv_aload_n hx hb d_L_law_249 rfl (lv_at hl 2 rfl) ?_
        refine lv_aload_n hx hb d_L_law_250 rfl (lv_at hl 0 rfl) ?_
        refine lv_iload_n hx hb d_L_law_251 rfl (lv_at hl 3 rfl) ?_
        refine lv_iconst (v := 1) hx hb d_L_law_252 (by decide) ?_
        refine lv_iadd hx hb d_L_law_253 ?_
        refine lv_is (y := nI (3 + 4 * t + 1)) (nI_p (k := 1) rfl) ?_
        refine va_sld hx hb hX hbl hbA hS (vp_in_nI (show 3 + 4 * t + 1 < L by omega) hL31) d_L_law_254 ?_
        refine lv_is (y := xs (3 + 4 * t + 1)) (by rw [nI_clamp (by omega)]) ?_
        refine lv_aload_n hx hb d_L_law_255 rfl (lv_at hl 0 rfl) ?_
        refine lv_iload_n hx hb d_L_law_256 rfl (lv_at hl 3 rfl) ?_
        refine lv_iconst (v := 2) hx hb d_L_law_257 (by decide) ?_
        refine lv_iadd hx hb d_L_law_258 ?_
        refine lv_is (y := nI (3 + 4 * t + 2)) (nI_p (k := 2) rfl) ?_
        refine va_sld hx hb hX hbl hbA hS (vp_in_nI (show 3 + 4 * t + 2 < L by omega) hL31) d_L_law_259 ?_
        refine lv_is (y := xs (3 + 4 * t + 2)) (by rw [nI_clamp (by omega)]) ?_
        refine lv_aload_n hx hb d_L_law_260 rfl (lv_at hl 0 rfl) ?_
        refine lv_iload_n hx hb d_L_law_261 rfl (lv_at hl 3 rfl) ?_
        refine lv_iconst (v := 3) hx hb d_L_law_262 (by decide) ?_
        refine lv_iadd hx hb d_L_law_263 ?_
        refine lv_is (y := nI (3 + 4 * t + 3)) (nI_p (k := 3) rfl) ?_
        refine va_sld hx hb hX hbl hbA hS (vp_in_nI (show 3 + 4 * t + 3 < L by omega) hL31) d_L_law_264 ?_
        refine lv_is (y := xs (3 + 4 * t + 3)) (by rw [nI_clamp (by omega)]) ?_
        refine aft_Qi (runV (As := [.int (xs (3 + 4 * t + 1)), .int (xs (3 + 4 * t + 2)), .int (xs (3 + 4 * t + 3))]) (rest := [.int r1]) S tbw_in hk (c_M_writeWord l E d b T (xs (3 + 4 * t + 1)) (xs (3 + 4 * t + 2)) (xs (3 + 4 * t + 3)) hI (by omega) hdm AM hDm) k_L_43 rfl rfl ⟨Nat.le_of_ble_eq_true rfl, Nat.le_of_ble_eq_true rfl⟩ (hRM.rec hk) hRM hl.1 rfl rfl (Nat.le_of_ble_eq_true rfl) d_L_law_265 ⟨Nat.le_of_ble_eq_true rfl, Nat.le_of_ble_eq_true rfl⟩) hS hAM (fun r2 H locs hr2 _ hk2 hS => ?_)
        obtain ⟨hr2, hRM⟩ := hr2
        have hRX := hRX.kept hDx hk2 hsep
        refine lv_icmp_eq (tgt := 506) hx hb d_L_law_268 (by decide) (fun c2 => ?_) (fun c2 => ?_)
        · exact nx _ H locs ((hI.writeWord hdm _ _ _).mono (by omega)) hRX hRM hS
        · exact absurd (hr1.trans hr2.symm) c2
      · refine lv_tableIn (tgt := 273) hx hb d_L_law_62 (by decide) (by decide) (by decide : _ = some (211 : Int)) (by decide) ?_
        refine lv_aload_n hx hb d_L_law_273 rfl (lv_at hl 1 rfl) ?_
        refine lv_aload_n hx hb d_L_law_274 rfl (lv_at hl 0 rfl) ?_
        refine lv_iload_n hx hb d_L_law_275 rfl (lv_at hl 3 rfl) ?_
        refine lv_iconst (v := 1) hx hb d_L_law_276 (by decide) ?_
        refine lv_iadd hx hb d_L_law_277 ?_
        refine lv_is (y := nI (3 + 4 * t + 1)) (nI_p (k := 1) rfl) ?_
        refine va_sld hx hb hX hbl hbA hS (vp_in_nI (show 3 + 4 * t + 1 < L by omega) hL31) d_L_law_278 ?_
        refine lv_is (y := xs (3 + 4 * t + 1)) (by rw [nI_clamp (by omega)]) ?_
        refine aft_Qi (runV (As := [.int (xs (3 + 4 * t + 1))]) (rest := []) S tbw_in hk (c_X_flush l E d a T (xs (3 + 4 * t + 1)) hI (by omega) hdm AX hDx) k_L_44 rfl rfl ⟨Nat.le_of_ble_eq_true rfl, Nat.le_of_ble_eq_true rfl⟩ (hRX.rec hk) hRX hl.1 rfl rfl (Nat.le_of_ble_eq_true rfl) d_L_law_279 ⟨Nat.le_of_ble_eq_true rfl, Nat.le_of_ble_eq_true rfl⟩) hS hAX (fun r1 H locs hr1 _ hk1 hS => ?_)
        obtain ⟨hr1, hRX⟩ := hr1
        have hRM := hRM.kept hDm hk1 hsep
        refine lv_aload_n hx hb d_L_law_282 rfl (lv_at hl 2 rfl) ?_
        refine lv_aload_n hx hb d_L_law_283 rfl (lv_at hl 0 rfl) ?_
        refine lv_iload_n hx hb d_L_law_284 rfl (lv_at hl 3 rfl) ?_
        refine lv_iconst (v := 1) hx hb d_L_law_285 (by decide) ?_
        refine lv_iadd hx hb d_L_law_286 ?_
        refine lv_is (y := nI (3 + 4 * t + 1)) (nI_p (k := 1) rfl) ?_
        refine va_sld hx hb hX hbl hbA hS (vp_in_nI (show 3 + 4 * t + 1 < L by omega) hL31) d_L_law_287 ?_
        refine lv_is (y := xs (3 + 4 * t + 1)) (by rw [nI_clamp (by omega)]) ?_
        refine aft_Qi (runV (As := [.int (xs (3 + 4 * t + 1))]) (rest := [.int r1]) S tbw_in hk (c_M_flush l E d b T (xs (3 + 4 * t + 1)) hI.pgOk hdm AM hDm) k_L_47 rfl rfl ⟨Nat.le_of_ble_eq_true rfl, Nat.le_of_ble_eq_true rfl⟩ (hRM.rec hk) hRM hl.1 rfl rfl (Nat.le_of_ble_eq_true rfl) d_L_law_288 ⟨Nat.le_of_ble_eq_true rfl, Nat.le_of_ble_eq_true rfl⟩) hS hAM (fun r2 H locs hr2 _ hk2 hS => ?_)
        obtain ⟨hr2, hRM⟩ := hr2
        have hRX := hRX.kept hDx hk2 hsep
        refine lv_icmp_eq (tgt := 506) hx hb d_L_law_291 (by decide) (fun c2 => ?_) (fun c2 => ?_)
        · exact nx _ H locs ((hI.flush _).mono (by omega)) hRX hRM hS
        · exact absurd (hr1.trans hr2.symm) c2
      · refine lv_tableIn (tgt := 296) hx hb d_L_law_62 (by decide) (by decide) (by decide : _ = some (234 : Int)) (by decide) ?_
        refine lv_aload_n hx hb d_L_law_296 rfl (lv_at hl 1 rfl) ?_
        refine aft_Qi (runV (As := []) (rest := []) S tbw_in hk (c_X_flushAll l E d a T hI hdm AX hDx) k_L_48 rfl rfl ⟨Nat.le_of_ble_eq_true rfl, Nat.le_of_ble_eq_true rfl⟩ (hRX.rec hk) hRX hl.1 rfl rfl (Nat.le_of_ble_eq_true rfl) d_L_law_297 ⟨Nat.le_of_ble_eq_true rfl, Nat.le_of_ble_eq_true rfl⟩) hS hAX (fun r1 H locs hr1 _ hk1 hS => ?_)
        obtain ⟨hr1, hRX⟩ := hr1
        have hRM := hRM.kept hDm hk1 hsep
        refine lv_aload_n hx hb d_L_law_300 rfl (lv_at hl 2 rfl) ?_
        refine aft_Qi (runV (As := []) (rest := [.int r1]) S tbw_in hk (c_M_flushAll l E d b T hI hdm AM hDm) k_L_52 rfl rfl ⟨Nat.le_of_ble_eq_true rfl, Nat.le_of_ble_eq_true rfl⟩ (hRM.rec hk) hRM hl.1 rfl rfl (Nat.le_of_ble_eq_true rfl) d_L_law_301 ⟨Nat.le_of_ble_eq_true rfl, Nat.le_of_ble_eq_true rfl⟩) hS hAM (fun r2 H locs hr2 _ hk2 hS => ?_)
        obtain ⟨hr2, hRM⟩ := hr2
        have hRX := hRX.kept hDx hk2 hsep
        refine lv_icmp_eq (tgt := 506) hx hb d_L_law_304 (by decide) (fun c2 => ?_) (fun c2 => ?_)
        · exact nx _ H locs ((hI.fl _).mono (by omega)) hRX hRM hS
        · exact absurd (hr1.trans hr2.symm) c2
      · refine lv_tableIn (tgt := 309) hx hb d_L_law_62 (by decide) (by decide) (by decide : _ = some (247 : Int)) (by decide) ?_
        refine lv_aload_n hx hb d_L_law_309 rfl (lv_at hl 1 rfl) ?_
        refine lv_aload_n hx hb d_L_law_310 rfl (lv_at hl 0 rfl) ?_
        refine lv_iload_n hx hb d_L_law_311 rfl (lv_at hl 3 rfl) ?_
        refine lv_iconst (v := 1) hx hb d_L_law_312 (by decide) ?_
        refine lv_iadd hx hb d_L_law_313 ?_
        refine lv_is (y := nI (3 + 4 * t + 1)) (nI_p (k := 1) rfl) ?_
        refine va_sld hx hb hX hbl hbA hS (vp_in_nI (show 3 + 4 * t + 1 < L by omega) hL31) d_L_law_314 ?_
        refine lv_is (y := xs (3 + 4 * t + 1)) (by rw [nI_clamp (by omega)]) ?_
        refine aft_Qi (runV (As := [.int (xs (3 + 4 * t + 1))]) (rest := []) S tbw_in hk (c_X_drop l E d a T (xs (3 + 4 * t + 1)) hI (by omega) hdm AX hDx) k_L_53 rfl rfl ⟨Nat.le_of_ble_eq_true rfl, Nat.le_of_ble_eq_true rfl⟩ (hRX.rec hk) hRX hl.1 rfl rfl (Nat.le_of_ble_eq_true rfl) d_L_law_315 ⟨Nat.le_of_ble_eq_true rfl, Nat.le_of_ble_eq_true rfl⟩) hS hAX (fun r1 H locs hr1 _ hk1 hS => ?_)
        obtain ⟨hr1, hRX⟩ := hr1
        have hRM := hRM.kept hDm hk1 hsep
        refine lv_aload_n hx hb d_L_law_318 rfl (lv_at hl 2 rfl) ?_
        refine lv_aload_n hx hb d_L_law_319 rfl (lv_at hl 0 rfl) ?_
        refine lv_iload_n hx hb d_L_law_320 rfl (lv_at hl 3 rfl) ?_
        refine lv_iconst (v := 1) hx hb d_L_law_321 (by decide) ?_
        refine lv_iadd hx hb d_L_law_322 ?_
        refine lv_is (y := nI (3 + 4 * t + 1)) (nI_p (k := 1) rfl) ?_
        refine va_sld hx hb hX hbl hbA hS (vp_in_nI (show 3 + 4 * t + 1 < L by omega) hL31) d_L_law_323 ?_
        refine lv_is (y := xs (3 + 4 * t + 1)) (by rw [nI_clamp (by omega)]) ?_
        refine aft_Qi (runV (As := [.int (xs (3 + 4 * t + 1))]) (rest := [.int r1]) S tbw_in hk (c_M_drop l E d b T (xs (3 + 4 * t + 1)) hI.pgOk hdm AM hDm) k_L_57 rfl rfl ⟨Nat.le_of_ble_eq_true rfl, Nat.le_of_ble_eq_true rfl⟩ (hRM.rec hk) hRM hl.1 rfl rfl (Nat.le_of_ble_eq_true rfl) d_L_law_324 ⟨Nat.le_of_ble_eq_true rfl, Nat.le_of_ble_eq_true rfl⟩) hS hAM (fun r2 H locs hr2 _ hk2 hS => ?_)
        obtain ⟨hr2, hRM⟩ := hr2
        have hRX := hRX.kept hDx hk2 hsep
        refine lv_icmp_eq (tgt := 506) hx hb d_L_law_327 (by decide) (fun c2 => ?_) (fun c2 => ?_)
        · exact nx _ H locs ((hI.drop _).mono (by omega)) hRX hRM hS
        · exact absurd (hr1.trans hr2.symm) c2
      · refine lv_tableIn (tgt := 332) hx hb d_L_law_62 (by decide) (by decide) (by decide : _ = some (270 : Int)) (by decide) ?_
        refine lv_aload_n hx hb d_L_law_332 rfl (lv_at hl 1 rfl) ?_
        refine lv_aload_n hx hb d_L_law_333 rfl (lv_at hl 0 rfl) ?_
        refine lv_iload_n hx hb d_L_law_334 rfl (lv_at hl 3 rfl) ?_
        refine lv_iconst (v := 1) hx hb d_L_law_335 (by decide) ?_
        refine lv_iadd hx hb d_L_law_336 ?_
        refine lv_is (y := nI (3 + 4 * t + 1)) (nI_p (k := 1) rfl) ?_
        refine va_sld hx hb hX hbl hbA hS (vp_in_nI (show 3 + 4 * t + 1 < L by omega) hL31) d_L_law_337 ?_
        refine lv_is (y := xs (3 + 4 * t + 1)) (by rw [nI_clamp (by omega)]) ?_
        refine lv_aload_n hx hb d_L_law_338 rfl (lv_at hl 0 rfl) ?_
        refine lv_iload_n hx hb d_L_law_339 rfl (lv_at hl 3 rfl) ?_
        refine lv_iconst (v := 2) hx hb d_L_law_340 (by decide) ?_
        refine lv_iadd hx hb d_L_law_341 ?_
        refine lv_is (y := nI (3 + 4 * t + 2)) (nI_p (k := 2) rfl) ?_
        refine va_sld hx hb hX hbl hbA hS (vp_in_nI (show 3 + 4 * t + 2 < L by omega) hL31) d_L_law_342 ?_
        refine lv_is (y := xs (3 + 4 * t + 2)) (by rw [nI_clamp (by omega)]) ?_
        refine aft_Qi (runV (As := [.int (xs (3 + 4 * t + 1)), .int (xs (3 + 4 * t + 2))]) (rest := []) S tbw_in hk (c_X_copy l E d a T (xs (3 + 4 * t + 1)) (xs (3 + 4 * t + 2)) hI (by omega) hdm AX hDx) k_L_58 rfl rfl ⟨Nat.le_of_ble_eq_true rfl, Nat.le_of_ble_eq_true rfl⟩ (hRX.rec hk) hRX hl.1 rfl rfl (Nat.le_of_ble_eq_true rfl) d_L_law_343 ⟨Nat.le_of_ble_eq_true rfl, Nat.le_of_ble_eq_true rfl⟩) hS hAX (fun r1 H locs hr1 _ hk1 hS => ?_)
        obtain ⟨hr1, hRX⟩ := hr1
        have hRM := hRM.kept hDm hk1 hsep
        refine lv_aload_n hx hb d_L_law_346 rfl (lv_at hl 2 rfl) ?_
        refine lv_aload_n hx hb d_L_law_347 rfl (lv_at hl 0 rfl) ?_
        refine lv_iload_n hx hb d_L_law_348 rfl (lv_at hl 3 rfl) ?_
        refine lv_iconst (v := 1) hx hb d_L_law_349 (by decide) ?_
        refine lv_iadd hx hb d_L_law_350 ?_
        refine lv_is (y := nI (3 + 4 * t + 1)) (nI_p (k := 1) rfl) ?_
        refine va_sld hx hb hX hbl hbA hS (vp_in_nI (show 3 + 4 * t + 1 < L by omega) hL31) d_L_law_351 ?_
        refine lv_is (y := xs (3 + 4 * t + 1)) (by rw [nI_clamp (by omega)]) ?_
        refine lv_aload_n hx hb d_L_law_352 rfl (lv_at hl 0 rfl) ?_
        refine lv_iload_n hx hb d_L_law_353 rfl (lv_at hl 3 rfl) ?_
        refine lv_iconst (v := 2) hx hb d_L_law_354 (by decide) ?_
        refine lv_iadd hx hb d_L_law_355 ?_
        refine lv_is (y := nI (3 + 4 * t + 2)) (nI_p (k := 2) rfl) ?_
        refine va_sld hx hb hX hbl hbA hS (vp_in_nI (show 3 + 4 * t + 2 < L by omega) hL31) d_L_law_356 ?_
        refine lv_is (y := xs (3 + 4 * t + 2)) (by rw [nI_clamp (by omega)]) ?_
        refine aft_Qi (runV (As := [.int (xs (3 + 4 * t + 1)), .int (xs (3 + 4 * t + 2))]) (rest := [.int r1]) S tbw_in hk (c_M_copy l E d b T (xs (3 + 4 * t + 1)) (xs (3 + 4 * t + 2)) hdm AM hDm) k_L_61 rfl rfl ⟨Nat.le_of_ble_eq_true rfl, Nat.le_of_ble_eq_true rfl⟩ (hRM.rec hk) hRM hl.1 rfl rfl (Nat.le_of_ble_eq_true rfl) d_L_law_357 ⟨Nat.le_of_ble_eq_true rfl, Nat.le_of_ble_eq_true rfl⟩) hS hAM (fun r2 H locs hr2 _ hk2 hS => ?_)
        obtain ⟨hr2, hRM⟩ := hr2
        have hRX := hRX.kept hDx hk2 hsep
        refine lv_icmp_eq (tgt := 506) hx hb d_L_law_360 (by decide) (fun c2 => ?_) (fun c2 => ?_)
        · exact nx _ H locs ((hI.copy _ _).mono (by omega)) hRX hRM hS
        · exact absurd (hr1.trans hr2.symm) c2
      · refine lv_tableIn (tgt := 365) hx hb d_L_law_62 (by decide) (by decide) (by decide : _ = some (303 : Int)) (by decide) ?_
        refine lv_aload_n hx hb d_L_law_365 rfl (lv_at hl 1 rfl) ?_
        refine lv_aload_n hx hb d_L_law_366 rfl (lv_at hl 0 rfl) ?_
        refine lv_iload_n hx hb d_L_law_367 rfl (lv_at hl 3 rfl) ?_
        refine lv_iconst (v := 1) hx hb d_L_law_368 (by decide) ?_
        refine lv_iadd hx hb d_L_law_369 ?_
        refine lv_is (y := nI (3 + 4 * t + 1)) (nI_p (k := 1) rfl) ?_
        refine va_sld hx hb hX hbl hbA hS (vp_in_nI (show 3 + 4 * t + 1 < L by omega) hL31) d_L_law_370 ?_
        refine lv_is (y := xs (3 + 4 * t + 1)) (by rw [nI_clamp (by omega)]) ?_
        refine lv_aload_n hx hb d_L_law_371 rfl (lv_at hl 0 rfl) ?_
        refine lv_iload_n hx hb d_L_law_372 rfl (lv_at hl 3 rfl) ?_
        refine lv_iconst (v := 2) hx hb d_L_law_373 (by decide) ?_
        refine lv_iadd hx hb d_L_law_374 ?_
        refine lv_is (y := nI (3 + 4 * t + 2)) (nI_p (k := 2) rfl) ?_
        refine va_sld hx hb hX hbl hbA hS (vp_in_nI (show 3 + 4 * t + 2 < L by omega) hL31) d_L_law_375 ?_
        refine lv_is (y := xs (3 + 4 * t + 2)) (by rw [nI_clamp (by omega)]) ?_
        refine aft_qi (runV (As := [.int (xs (3 + 4 * t + 1)), .int (xs (3 + 4 * t + 2))]) (rest := []) S tbw_in hk (c_X_diskWord l E d a T (xs (3 + 4 * t + 1)) (xs (3 + 4 * t + 2)) hdm) k_L_62 rfl rfl ⟨Nat.le_of_ble_eq_true rfl, Nat.le_of_ble_eq_true rfl⟩ (hRX.rec hk) hRX hl.1 rfl rfl (Nat.le_of_ble_eq_true rfl) d_L_law_376 ⟨Nat.le_of_ble_eq_true rfl, Nat.le_of_ble_eq_true rfl⟩) (fun r1 hr1 => ?_)
        refine lv_aload_n hx hb d_L_law_379 rfl (lv_at hl 2 rfl) ?_
        refine lv_aload_n hx hb d_L_law_380 rfl (lv_at hl 0 rfl) ?_
        refine lv_iload_n hx hb d_L_law_381 rfl (lv_at hl 3 rfl) ?_
        refine lv_iconst (v := 1) hx hb d_L_law_382 (by decide) ?_
        refine lv_iadd hx hb d_L_law_383 ?_
        refine lv_is (y := nI (3 + 4 * t + 1)) (nI_p (k := 1) rfl) ?_
        refine va_sld hx hb hX hbl hbA hS (vp_in_nI (show 3 + 4 * t + 1 < L by omega) hL31) d_L_law_384 ?_
        refine lv_is (y := xs (3 + 4 * t + 1)) (by rw [nI_clamp (by omega)]) ?_
        refine lv_aload_n hx hb d_L_law_385 rfl (lv_at hl 0 rfl) ?_
        refine lv_iload_n hx hb d_L_law_386 rfl (lv_at hl 3 rfl) ?_
        refine lv_iconst (v := 2) hx hb d_L_law_387 (by decide) ?_
        refine lv_iadd hx hb d_L_law_388 ?_
        refine lv_is (y := nI (3 + 4 * t + 2)) (nI_p (k := 2) rfl) ?_
        refine va_sld hx hb hX hbl hbA hS (vp_in_nI (show 3 + 4 * t + 2 < L by omega) hL31) d_L_law_389 ?_
        refine lv_is (y := xs (3 + 4 * t + 2)) (by rw [nI_clamp (by omega)]) ?_
        refine aft_qi (runV (As := [.int (xs (3 + 4 * t + 1)), .int (xs (3 + 4 * t + 2))]) (rest := [.int r1]) S tbw_in hk (c_M_diskWord l E d b T (xs (3 + 4 * t + 1)) (xs (3 + 4 * t + 2)) hdm) k_L_65 rfl rfl ⟨Nat.le_of_ble_eq_true rfl, Nat.le_of_ble_eq_true rfl⟩ (hRM.rec hk) hRM hl.1 rfl rfl (Nat.le_of_ble_eq_true rfl) d_L_law_390 ⟨Nat.le_of_ble_eq_true rfl, Nat.le_of_ble_eq_true rfl⟩) (fun r2 hr2 => ?_)
        refine lv_icmp_eq (tgt := 506) hx hb d_L_law_393 (by decide) (fun c2 => ?_) (fun c2 => ?_)
        · exact nx _ H locs (hI.mono (by omega)) hRX hRM hS
        · exact absurd (hr1.trans hr2.symm) c2
      · refine lv_tableIn (tgt := 398) hx hb d_L_law_62 (by decide) (by decide) (by decide : _ = some (336 : Int)) (by decide) ?_
        refine lv_aload_n hx hb d_L_law_398 rfl (lv_at hl 1 rfl) ?_
        refine lv_aload_n hx hb d_L_law_399 rfl (lv_at hl 0 rfl) ?_
        refine lv_iload_n hx hb d_L_law_400 rfl (lv_at hl 3 rfl) ?_
        refine lv_iconst (v := 1) hx hb d_L_law_401 (by decide) ?_
        refine lv_iadd hx hb d_L_law_402 ?_
        refine lv_is (y := nI (3 + 4 * t + 1)) (nI_p (k := 1) rfl) ?_
        refine va_sld hx hb hX hbl hbA hS (vp_in_nI (show 3 + 4 * t + 1 < L by omega) hL31) d_L_law_403 ?_
        refine lv_is (y := xs (3 + 4 * t + 1)) (by rw [nI_clamp (by omega)]) ?_
        refine aft_qi (runV (As := [.int (xs (3 + 4 * t + 1))]) (rest := []) S tbw_in hk (c_X_resident l E d a T (xs (3 + 4 * t + 1)) hI (by omega) hdm) k_L_66 rfl rfl ⟨Nat.le_of_ble_eq_true rfl, Nat.le_of_ble_eq_true rfl⟩ (hRX.rec hk) hRX hl.1 rfl rfl (Nat.le_of_ble_eq_true rfl) d_L_law_404 ⟨Nat.le_of_ble_eq_true rfl, Nat.le_of_ble_eq_true rfl⟩) (fun r1 hr1 => ?_)
        refine lv_aload_n hx hb d_L_law_407 rfl (lv_at hl 2 rfl) ?_
        refine lv_aload_n hx hb d_L_law_408 rfl (lv_at hl 0 rfl) ?_
        refine lv_iload_n hx hb d_L_law_409 rfl (lv_at hl 3 rfl) ?_
        refine lv_iconst (v := 1) hx hb d_L_law_410 (by decide) ?_
        refine lv_iadd hx hb d_L_law_411 ?_
        refine lv_is (y := nI (3 + 4 * t + 1)) (nI_p (k := 1) rfl) ?_
        refine va_sld hx hb hX hbl hbA hS (vp_in_nI (show 3 + 4 * t + 1 < L by omega) hL31) d_L_law_412 ?_
        refine lv_is (y := xs (3 + 4 * t + 1)) (by rw [nI_clamp (by omega)]) ?_
        refine aft_qi (runV (As := [.int (xs (3 + 4 * t + 1))]) (rest := [.int r1]) S tbw_in hk (c_M_resident l E d b T (xs (3 + 4 * t + 1)) hdm) k_L_69 rfl rfl ⟨Nat.le_of_ble_eq_true rfl, Nat.le_of_ble_eq_true rfl⟩ (hRM.rec hk) hRM hl.1 rfl rfl (Nat.le_of_ble_eq_true rfl) d_L_law_413 ⟨Nat.le_of_ble_eq_true rfl, Nat.le_of_ble_eq_true rfl⟩) (fun r2 hr2 => ?_)
        refine lv_icmp_eq (tgt := 506) hx hb d_L_law_416 (by decide) (fun c2 => ?_) (fun c2 => ?_)
        · exact nx _ H locs (hI.mono (by omega)) hRX hRM hS
        · exact absurd (hr1.trans hr2.symm) c2
      · refine lv_tableIn (tgt := 421) hx hb d_L_law_62 (by decide) (by decide) (by decide : _ = some (359 : Int)) (by decide) ?_
        refine lv_aload_n hx hb d_L_law_421 rfl (lv_at hl 1 rfl) ?_
        refine aft_qi (runV (As := []) (rest := []) S tbw_in hk (c_X_diskReads l E d a T) k_L_70 rfl rfl ⟨Nat.le_of_ble_eq_true rfl, Nat.le_of_ble_eq_true rfl⟩ (hRX.rec hk) hRX hl.1 rfl rfl (Nat.le_of_ble_eq_true rfl) d_L_law_422 ⟨Nat.le_of_ble_eq_true rfl, Nat.le_of_ble_eq_true rfl⟩) (fun r1 hr1 => ?_)
        refine lv_aload_n hx hb d_L_law_425 rfl (lv_at hl 2 rfl) ?_
        refine aft_qi (runV (As := []) (rest := [.int r1]) S tbw_in hk (c_M_diskReads l E d b T) k_L_73 rfl rfl ⟨Nat.le_of_ble_eq_true rfl, Nat.le_of_ble_eq_true rfl⟩ (hRM.rec hk) hRM hl.1 rfl rfl (Nat.le_of_ble_eq_true rfl) d_L_law_426 ⟨Nat.le_of_ble_eq_true rfl, Nat.le_of_ble_eq_true rfl⟩) (fun r2 hr2 => ?_)
        refine lv_icmp_eq (tgt := 506) hx hb d_L_law_429 (by decide) (fun c2 => ?_) (fun c2 => ?_)
        · exact nx _ H locs (hI.mono (by omega)) hRX hRM hS
        · exact absurd (hr1.trans hr2.symm) c2
      · refine lv_tableIn (tgt := 434) hx hb d_L_law_62 (by decide) (by decide) (by decide : _ = some (372 : Int)) (by decide) ?_
        refine lv_aload_n hx hb d_L_law_434 rfl (lv_at hl 1 rfl) ?_
        refine aft_qi (runV (As := []) (rest := []) S tbw_in hk (c_X_diskWrites l E d a T) k_L_74 rfl rfl ⟨Nat.le_of_ble_eq_true rfl, Nat.le_of_ble_eq_true rfl⟩ (hRX.rec hk) hRX hl.1 rfl rfl (Nat.le_of_ble_eq_true rfl) d_L_law_435 ⟨Nat.le_of_ble_eq_true rfl, Nat.le_of_ble_eq_true rfl⟩) (fun r1 hr1 => ?_)
        refine lv_aload_n hx hb d_L_law_438 rfl (lv_at hl 2 rfl) ?_
        refine aft_qi (runV (As := []) (rest := [.int r1]) S tbw_in hk (c_M_diskWrites l E d b T) k_L_77 rfl rfl ⟨Nat.le_of_ble_eq_true rfl, Nat.le_of_ble_eq_true rfl⟩ (hRM.rec hk) hRM hl.1 rfl rfl (Nat.le_of_ble_eq_true rfl) d_L_law_439 ⟨Nat.le_of_ble_eq_true rfl, Nat.le_of_ble_eq_true rfl⟩) (fun r2 hr2 => ?_)
        refine lv_icmp_eq (tgt := 506) hx hb d_L_law_442 (by decide) (fun c2 => ?_) (fun c2 => ?_)
        · exact nx _ H locs (hI.mono (by omega)) hRX hRM hS
        · exact absurd (hr1.trans hr2.symm) c2
      · refine lv_tableIn (tgt := 447) hx hb d_L_law_62 (by decide) (by decide) (by decide : _ = some (385 : Int)) (by decide) ?_
        refine lv_aload_n hx hb d_L_law_447 rfl (lv_at hl 1 rfl) ?_
        refine lv_aload_n hx hb d_L_law_448 rfl (lv_at hl 0 rfl) ?_
        refine lv_iload_n hx hb d_L_law_449 rfl (lv_at hl 3 rfl) ?_
        refine lv_iconst (v := 1) hx hb d_L_law_450 (by decide) ?_
        refine lv_iadd hx hb d_L_law_451 ?_
        refine lv_is (y := nI (3 + 4 * t + 1)) (nI_p (k := 1) rfl) ?_
        refine va_sld hx hb hX hbl hbA hS (vp_in_nI (show 3 + 4 * t + 1 < L by omega) hL31) d_L_law_452 ?_
        refine lv_is (y := xs (3 + 4 * t + 1)) (by rw [nI_clamp (by omega)]) ?_
        refine lv_aload_n hx hb d_L_law_453 rfl (lv_at hl 0 rfl) ?_
        refine lv_iload_n hx hb d_L_law_454 rfl (lv_at hl 3 rfl) ?_
        refine lv_iconst (v := 2) hx hb d_L_law_455 (by decide) ?_
        refine lv_iadd hx hb d_L_law_456 ?_
        refine lv_is (y := nI (3 + 4 * t + 2)) (nI_p (k := 2) rfl) ?_
        refine va_sld hx hb hX hbl hbA hS (vp_in_nI (show 3 + 4 * t + 2 < L by omega) hL31) d_L_law_457 ?_
        refine lv_is (y := xs (3 + 4 * t + 2)) (by rw [nI_clamp (by omega)]) ?_
        refine aft_qi (runV (As := [.int (xs (3 + 4 * t + 1)), .int (xs (3 + 4 * t + 2))]) (rest := []) S tbw_in hk (c_X_told l E d a T (xs (3 + 4 * t + 1)) (xs (3 + 4 * t + 2)) hdm) k_L_78 rfl rfl ⟨Nat.le_of_ble_eq_true rfl, Nat.le_of_ble_eq_true rfl⟩ (hRX.rec hk) hRX hl.1 rfl rfl (Nat.le_of_ble_eq_true rfl) d_L_law_458 ⟨Nat.le_of_ble_eq_true rfl, Nat.le_of_ble_eq_true rfl⟩) (fun r1 hr1 => ?_)
        refine lv_aload_n hx hb d_L_law_461 rfl (lv_at hl 2 rfl) ?_
        refine lv_aload_n hx hb d_L_law_462 rfl (lv_at hl 0 rfl) ?_
        refine lv_iload_n hx hb d_L_law_463 rfl (lv_at hl 3 rfl) ?_
        refine lv_iconst (v := 1) hx hb d_L_law_464 (by decide) ?_
        refine lv_iadd hx hb d_L_law_465 ?_
        refine lv_is (y := nI (3 + 4 * t + 1)) (nI_p (k := 1) rfl) ?_
        refine va_sld hx hb hX hbl hbA hS (vp_in_nI (show 3 + 4 * t + 1 < L by omega) hL31) d_L_law_466 ?_
        refine lv_is (y := xs (3 + 4 * t + 1)) (by rw [nI_clamp (by omega)]) ?_
        refine lv_aload_n hx hb d_L_law_467 rfl (lv_at hl 0 rfl) ?_
        refine lv_iload_n hx hb d_L_law_468 rfl (lv_at hl 3 rfl) ?_
        refine lv_iconst (v := 2) hx hb d_L_law_469 (by decide) ?_
        refine lv_iadd hx hb d_L_law_470 ?_
        refine lv_is (y := nI (3 + 4 * t + 2)) (nI_p (k := 2) rfl) ?_
        refine va_sld hx hb hX hbl hbA hS (vp_in_nI (show 3 + 4 * t + 2 < L by omega) hL31) d_L_law_471 ?_
        refine lv_is (y := xs (3 + 4 * t + 2)) (by rw [nI_clamp (by omega)]) ?_
        refine aft_qi (runV (As := [.int (xs (3 + 4 * t + 1)), .int (xs (3 + 4 * t + 2))]) (rest := [.int r1]) S tbw_in hk (c_M_told l E d b T (xs (3 + 4 * t + 1)) (xs (3 + 4 * t + 2)) hdm) k_L_81 rfl rfl ⟨Nat.le_of_ble_eq_true rfl, Nat.le_of_ble_eq_true rfl⟩ (hRM.rec hk) hRM hl.1 rfl rfl (Nat.le_of_ble_eq_true rfl) d_L_law_472 ⟨Nat.le_of_ble_eq_true rfl, Nat.le_of_ble_eq_true rfl⟩) (fun r2 hr2 => ?_)
        refine lv_icmp_eq (tgt := 506) hx hb d_L_law_475 (by decide) (fun c2 => ?_) (fun c2 => ?_)
        · exact nx _ H locs (hI.mono (by omega)) hRX hRM hS
        · exact absurd (hr1.trans hr2.symm) c2
      · refine lv_tableIn (tgt := 480) hx hb d_L_law_62 (by decide) (by decide) (by decide : _ = some (418 : Int)) (by decide) ?_
        refine lv_aload_n hx hb d_L_law_480 rfl (lv_at hl 1 rfl) ?_
        refine aft_qi (runV (As := []) (rest := []) S tbw_in hk (c_X_hand l E d a T) k_L_82 rfl rfl ⟨Nat.le_of_ble_eq_true rfl, Nat.le_of_ble_eq_true rfl⟩ (hRX.rec hk) hRX hl.1 rfl rfl (Nat.le_of_ble_eq_true rfl) d_L_law_481 ⟨Nat.le_of_ble_eq_true rfl, Nat.le_of_ble_eq_true rfl⟩) (fun r1 hr1 => ?_)
        refine lv_aload_n hx hb d_L_law_484 rfl (lv_at hl 2 rfl) ?_
        refine aft_qi (runV (As := []) (rest := [.int r1]) S tbw_in hk (c_M_hand l E d b T) k_L_85 rfl rfl ⟨Nat.le_of_ble_eq_true rfl, Nat.le_of_ble_eq_true rfl⟩ (hRM.rec hk) hRM hl.1 rfl rfl (Nat.le_of_ble_eq_true rfl) d_L_law_485 ⟨Nat.le_of_ble_eq_true rfl, Nat.le_of_ble_eq_true rfl⟩) (fun r2 hr2 => ?_)
        refine lv_icmp_eq (tgt := 506) hx hb d_L_law_488 (by decide) (fun c2 => ?_) (fun c2 => ?_)
        · exact nx _ H locs (hI.mono (by omega)) hRX hRM hS
        · exact absurd (hr1.trans hr2.symm) c2
      · refine lv_tableIn (tgt := 493) hx hb d_L_law_62 (by decide) (by decide) (by decide : _ = some (431 : Int)) (by decide) ?_
        obtain ⟨fk, ti, ww, hPx, -⟩ := id hRX
        obtain ⟨gk, fm, hPm, -⟩ := id hRM
        refine lv_aload_n hx hb d_L_law_493 rfl (lv_at hl 1 rfl) ?_
        refine aft_qi (runV (As := []) (rest := []) S tbw_in hk (c_X_pinned l E d a (nI T.hd) T.rd T.wr fk ti T.pg T.pn T.di T.mk ww hdm) k_L_86 rfl rfl ⟨Nat.le_of_ble_eq_true rfl, Nat.le_of_ble_eq_true rfl⟩ (xrec hk hPx) hPx hl.1 rfl rfl (Nat.le_of_ble_eq_true rfl) d_L_law_494 ⟨Nat.le_of_ble_eq_true rfl, Nat.le_of_ble_eq_true rfl⟩) (fun r1 hr1 => ?_)
        refine lv_aload_n hx hb d_L_law_497 rfl (lv_at hl 2 rfl) ?_
        refine aft_qi (runV (As := []) (rest := [.int r1]) S tbw_in hk (c_M_pinned l E d b (nI T.hd) T.rd T.wr gk fm T.pg T.pn T.di T.mk hdm) k_L_89 rfl rfl ⟨Nat.le_of_ble_eq_true rfl, Nat.le_of_ble_eq_true rfl⟩ (mrec hk hPm) hPm hl.1 rfl rfl (Nat.le_of_ble_eq_true rfl) d_L_law_498 ⟨Nat.le_of_ble_eq_true rfl, Nat.le_of_ble_eq_true rfl⟩) (fun r2 hr2 => ?_)
        refine lv_icmp_eq (tgt := 506) hx hb d_L_law_501 (by decide) (fun c2 => ?_) (fun c2 => ?_)
        · exact nx _ H locs (hI.mono (by omega)) hRX hRM hS
        · exact absurd (hr1.trans hr2.symm) c2
set_option maxHeartbeats 4000000 in
set_option maxRecDepth 100000 in
/-- THE LAW, from its entry -/
theorem whole_start {p : Program} {e : Env} {s : State} {m : MethodId} {below : List Frame} {meth : Method} {c : Code} (l : Launch) {b L : Nat} {xs : Nat → Int32} (hL : L ≤ 2051) (C0 : lw_At p s m meth c b L xs) : W p l e room_1 s m #[Value.ref b] below meth c s.heap [] 0 0 (lw_Z below #[Value.ref b] s) (entryFrame m ([Value.ref b] : List Value).toArray 4) := by
  obtain ⟨hx, hb, hr, hml, hown, hts, hX, hbl, hlocks, hgv⟩ := id C0
  have S : CallFix p m c code 4 s #[Value.ref b] lw_tbl R_L := ⟨hx, hb, hml, hown, hts⟩
  have hA : ∀ q : Nat, s.heap.size ≤ q → (fun q : Nat => s.heap.size ≤ q) q := fun _ h => h
  have hbA : ¬ (fun q : Nat => s.heap.size ≤ q) b := Nat.not_le.mpr hbl
  have hL31 : L < 2 ^ 31 := by omega
  obtain ⟨c0, iS0, hKn0⟩ := u_known (C := R_X) (T := F_X) (N := 8) (n := 8) hts (fun w h => tbw_in _ (i_X w h)) (hts _ (tbw_in _ ins_X))
  obtain ⟨c1, iS1, hKn1⟩ := u_known (C := R_F) (T := F_F) (N := 6) (n := 6) hts (fun w h => tbw_in _ (i_F w h)) (hts _ (tbw_in _ ins_F))
  obtain ⟨c2, iS2, hKn2⟩ := u_known (C := R_M) (T := F_M) (N := 12) (n := 12) hts (fun w h => tbw_in _ (i_M w h)) (hts _ (tbw_in _ ins_M))
  obtain ⟨cI, kI, mI, f1, f2, f3⟩ := Cond.arrayClass_spec (hts _ (tbw_in _ ac_int))
  obtain ⟨cZ, kZ, mZ, g1, g2, g3⟩ := Cond.arrayClass_spec (hts _ (tbw_in _ ac_boolean))
  have hov : va_AO "FramePool$Frame" s := va_AO.of (hts _ (List.mem_of_getElem? (i := 29) rfl))
  obtain ⟨mF, cF, kF, e1, -, e3, e4, e5⟩ := Cond.arrayOver_spec hov
  obtain ⟨E, hk⟩ : ∃ E : EN, kk E s := by
    refine ⟨((fun k => if k = 0 then c0 else if k = 1 then c1 else c2, fun k => if k = 0 then iS0 else if k = 1 then iS1 else iS2), cI, cF, cZ), ⟨?_, ?_⟩, ?_⟩
    · intro k q hq
      match k, hq with
      | 0, hq => cases hq; exact hKn0
      | 1, hq => cases hq; exact hKn1
      | 2, hq => cases hq; exact hKn2
      | k + 3, hq => simp [classes] at hq
    · intro k q hq
      match k, hq with
      | 0, hq => cases hq; exact ⟨fun n z => ⟨fun k h => (by cases h), kI, f2, mI, f3⟩, f1⟩
      | 1, hq => cases hq; exact ⟨fun n z => ⟨fun k h => (by cases h), kF, e3, mF, e4⟩, kF, mF, e3, e4, e1, e5⟩
      | 2, hq => cases hq; exact ⟨fun n z => ⟨fun k h => (by cases h), kZ, g2, mZ, g3⟩, g1⟩
      | k + 3, hq => simp at hq
    · exact ⟨va_Nw.of rfl (hts _ (List.mem_of_getElem? (i := 42) rfl)), va_Nw.of rfl (hts _ (List.mem_of_getElem? (i := 44) rfl)), va_Nw.of rfl (hts _ (List.mem_of_getElem? (i := 46) rfl)), va_Nw.of rfl (hts _ (List.mem_of_getElem? (i := 48) rfl)), va_Nw.of rfl (hts _ (List.mem_of_getElem? (i := 50) rfl)), va_Nw.of rfl (hts _ (List.mem_of_getElem? (i := 52) rfl)), hov⟩
  have hS : va_S (fun q : Nat => s.heap.size ≤ q) s.heap s.heap [] := va_S.rf
  have hP : va_P E.D classes [] s.heap := fun k q h => by simp at h
  have hD : va_D (fun q : Nat => s.heap.size ≤ q) [] := ⟨fun i j p q h => by simp at h, fun k q h => by simp at h⟩
  have hl := lv_entry ([.ref b]) (n := 4) (Nat.le_of_ble_eq_true rfl)
  rw [lg_entry_eq]
  generalize (lg_sl ([.ref b]) ++ List.replicate (4 - (lg_sl ([.ref b])).length) Slot.unset).toArray = ls at hl ⊢
  have hl : lv_has ls 4 [(0, .ref b)] := hl
  refine va_new (D := E.D) (ci := 0) (fs := [.int 0, .int 0, .null, .null, .null, .int 0, .int 0, .int 0]) (C := R_X) (T := F_X) (N := 8) hx hb hts (fun w h => tbw_in _ (i_X w h)) t_X t_X_ok hown (hts _ (tbw_in _ cl_L_7)) (hts _ (tbw_in _ ins_X)) (hts _ (tbw_in _ ini_X)) hk.1 hP hD hS hA rfl (fun j hj => by rcases (show j = 0 ∨ j = 1 ∨ j = 2 ∨ j = 3 ∨ j = 4 ∨ j = 5 ∨ j = 6 ∨ j = 7 by omega) with rfl | rfl | rfl | rfl | rfl | rfl | rfl | rfl <;> rfl) (Nat.le_of_ble_eq_true rfl) (Nat.le_of_ble_eq_true rfl) d_L_law_0 (fun q0 H hP hD hS => ?_)
  have hP : va_P E.D classes [(q0, .inr (0, [.int 0, .int 0, .null, .null, .null, .int 0, .int 0, .int 0]))] H := hP
  have hq0 : s.heap.size ≤ q0 := hD.2 0 _ rfl
  refine W.widen (k := 1) (n := 8) (Nat.le_refl _) (Nat.le_refl _) ?_
  refine lv_dup hx hb d_L_law_3 rfl ?_
  refine lv_aload_n hx hb d_L_law_4 rfl (lv_at hl 0 rfl) ?_
  refine lv_iconst (v := 0) hx hb d_L_law_5 (by decide) ?_
  refine lv_is (y := nI 0) (rfl) ?_
  refine law_cell S hX hbl hbA hS hL31 0 (by decide) hl.1 (Nat.le_of_ble_eq_true rfl) d_L_law_6 ⟨Nat.le_of_ble_eq_true rfl, Nat.le_of_ble_eq_true rfl⟩ ?_
  refine lv_aload_n hx hb d_L_law_9 rfl (lv_at hl 0 rfl) ?_
  refine lv_iconst (v := 1) hx hb d_L_law_10 (by decide) ?_
  refine lv_is (y := nI 1) (rfl) ?_
  refine law_cell S hX hbl hbA hS hL31 1 (by decide) hl.1 (Nat.le_of_ble_eq_true rfl) d_L_law_11 ⟨Nat.le_of_ble_eq_true rfl, Nat.le_of_ble_eq_true rfl⟩ ?_
  refine lv_aload_n hx hb d_L_law_14 rfl (lv_at hl 0 rfl) ?_
  refine lv_iconst (v := 2) hx hb d_L_law_15 (by decide) ?_
  refine lv_is (y := nI 2) (rfl) ?_
  refine law_cell S hX hbl hbA hS hL31 2 (by decide) hl.1 (Nat.le_of_ble_eq_true rfl) d_L_law_16 ⟨Nat.le_of_ble_eq_true rfl, Nat.le_of_ble_eq_true rfl⟩ ?_
  obtain ⟨v1, hv1⟩ : ∃ v : Int32, v = (if 0 < L then xs 0 else 0) := ⟨_, rfl⟩
  obtain ⟨v2, hv2⟩ : ∃ v : Int32, v = (if 1 < L then xs 1 else 0) := ⟨_, rfl⟩
  obtain ⟨v3, hv3⟩ : ∃ v : Int32, v = (if 2 < L then xs 2 else 0) := ⟨_, rfl⟩
  rw [← hv1, ← hv2, ← hv3]
  have hdm := dims_ok v1 v2 v3
  have hSz := hS.1
  refine aft_Qv (runI (As := [.int v1, .int v2, .int v3]) (rest := [.ref q0]) S tbw_in hk (c_X_new l E (dims v1 v2 v3) q0 H.size v1 v2 v3 rfl) k_L_15 rfl rfl ⟨Nat.le_of_ble_eq_true rfl, Nat.le_of_ble_eq_true rfl⟩ ⟨rfl, hP⟩ hl.1 rfl rfl (Nat.le_of_ble_eq_true rfl) d_L_law_19 ⟨Nat.le_of_ble_eq_true rfl, Nat.le_of_ble_eq_true rfl⟩) hS (fun x h => h.elim (fun z => by rw [z]; exact hq0) (fun z => Nat.le_trans hS.1 z)) (fun H locs hP _ _ hS => ?_)
  obtain ⟨a, ha, hP, hDa⟩ := hP
  refine W.widen (k := 68) (n := 2152) (Nat.le_refl _) (Nat.le_refl _) ?_
  rw [← ha]
  refine lv_astore_n (lv' := [(1, .ref a.p), (0, .ref b)]) hx hb d_L_law_22 rfl hl (by decide) rfl (fun ls hl => ?_)
  generalize hY : xW E (dims v1 v2 v3) a (0, 0, 0, fun _ => 0, fun _ => none, fun _ => -1, fun _ => 0, fun _ => 0, fun _ => 0, fun _ _ => 0) = Y at hDa
  have hPY : va_P E.D classes Y H := by rw [← hY]; exact hP
  have hDY : va_D (fun q : Nat => s.heap.size ≤ q) Y := hDa.weaken (fun k q hq h => h.elim (fun z => by rw [z]; exact hq0) (fun z => Nat.le_trans hSz z))
  refine va_new (D := E.D) (ci := 2) (fs := [.int 0, .int 0, .int 0, .null, .null, .null, .null, .null, .null, .int 0, .int 0, .int 0]) (C := R_M) (T := F_M) (N := 12) hx hb hts (fun w h => tbw_in _ (i_M w h)) t_M t_M_ok hown (hts _ (tbw_in _ cl_L_18)) (hts _ (tbw_in _ ins_M)) (hts _ (tbw_in _ ini_M)) hk.1 hPY hDY hS hA rfl (fun j hj => by rcases (show j = 0 ∨ j = 1 ∨ j = 2 ∨ j = 3 ∨ j = 4 ∨ j = 5 ∨ j = 6 ∨ j = 7 ∨ j = 8 ∨ j = 9 ∨ j = 10 ∨ j = 11 by omega) with rfl | rfl | rfl | rfl | rfl | rfl | rfl | rfl | rfl | rfl | rfl | rfl <;> rfl) (Nat.le_of_ble_eq_true rfl) (Nat.le_of_ble_eq_true rfl) d_L_law_23 (fun q1 H hP2 hD2 hS => ?_)
  refine W.widen (k := 69) (n := 2164) (Nat.le_refl _) (Nat.le_refl _) ?_
  have hlast : (Y ++ [(q1, (Sum.inr (2, [.int 0, .int 0, .int 0, .null, .null, .null, .null, .null, .null, .int 0, .int 0, .int 0]) : va_E))])[Y.length]? = some (q1, .inr (2, [.int 0, .int 0, .int 0, .null, .null, .null, .null, .null, .null, .int 0, .int 0, .int 0])) := by
    rw [List.getElem?_append_right (Nat.le_refl _), Nat.sub_self]
    rfl
  have hq1 : s.heap.size ≤ q1 := hD2.2 Y.length _ hlast
  have hin1 : ∀ (i : Nat) (x : Nat × va_E), Y[i]? = some x → x.1 < H.size ∧ x.1 ≠ q1 := by
    intro i x hx
    have hi := (List.getElem?_eq_some_iff.mp hx).1
    have h3 : (Y ++ [(q1, (Sum.inr (2, [.int 0, .int 0, .int 0, .null, .null, .null, .null, .null, .null, .int 0, .int 0, .int 0]) : va_E))])[i]? = some x := by rw [List.getElem?_append_left hi]; exact hx
    refine ⟨(hP2 i x h3).lt, fun z => ?_⟩
    have := hD2.1 i Y.length x _ h3 hlast z
    omega
  have hqP : va_P E.D classes [(q1, (Sum.inr (2, [.int 0, .int 0, .int 0, .null, .null, .null, .null, .null, .null, .int 0, .int 0, .int 0]) : va_E))] H := va_P_mem hP2 (fun x hx => List.mem_append_right _ hx)
  have hYP : va_P E.D classes Y H := va_P_mem hP2 (fun x hx => List.mem_append_left _ hx)
  have hRX : RX E (dims v1 v2 v3) a o_init H := rx_init (by rw [← hY] at hYP; exact hYP)
  have hDx : xD E (dims v1 v2 v3) a (fun q => ∃ (i : Nat) (x : Nat × va_E), Y[i]? = some x ∧ x.1 = q) := xD_of (by rw [hY]; exact hDY) (fun k q hq => ⟨k, q, by rw [hY] at hq; exact hq, rfl⟩)
  refine lv_dup hx hb d_L_law_26 rfl ?_
  refine lv_aload_n hx hb d_L_law_27 rfl (lv_at hl 1 rfl) ?_
  refine lv_iconst (v := 0) hx hb d_L_law_28 (by decide) ?_
  refine lv_is (y := nI 0) (rfl) ?_
  refine law_cell S hX hbl hbA hS hL31 0 (by decide) hl.1 (Nat.le_of_ble_eq_true rfl) d_L_law_29 ⟨Nat.le_of_ble_eq_true rfl, Nat.le_of_ble_eq_true rfl⟩ ?_
  refine lv_aload_n hx hb d_L_law_32 rfl (lv_at hl 1 rfl) ?_
  refine lv_iconst (v := 1) hx hb d_L_law_33 (by decide) ?_
  refine lv_is (y := nI 1) (rfl) ?_
  refine law_cell S hX hbl hbA hS hL31 1 (by decide) hl.1 (Nat.le_of_ble_eq_true rfl) d_L_law_34 ⟨Nat.le_of_ble_eq_true rfl, Nat.le_of_ble_eq_true rfl⟩ ?_
  refine lv_aload_n hx hb d_L_law_37 rfl (lv_at hl 1 rfl) ?_
  refine lv_iconst (v := 2) hx hb d_L_law_38 (by decide) ?_
  refine lv_is (y := nI 2) (rfl) ?_
  refine law_cell S hX hbl hbA hS hL31 2 (by decide) hl.1 (Nat.le_of_ble_eq_true rfl) d_L_law_39 ⟨Nat.le_of_ble_eq_true rfl, Nat.le_of_ble_eq_true rfl⟩ ?_
  rw [← hv1, ← hv2, ← hv3]
  refine aft_Qv (runI (As := [.int v1, .int v2, .int v3]) (rest := [.ref q1]) S tbw_in hk (c_M_new l E (dims v1 v2 v3) q1 H.size v1 v2 v3 rfl) k_L_20 rfl rfl ⟨Nat.le_of_ble_eq_true rfl, Nat.le_of_ble_eq_true rfl⟩ ⟨rfl, hqP⟩ hl.1 rfl rfl (Nat.le_of_ble_eq_true rfl) d_L_law_42 ⟨Nat.le_of_ble_eq_true rfl, Nat.le_of_ble_eq_true rfl⟩) hS (fun x h => h.elim (fun z => by rw [z]; exact hq1) (fun z => Nat.le_trans hS.1 z)) (fun H2 locs hP _ hk2 hS2 => ?_)
  obtain ⟨b2, hb2, hRM, hDm⟩ := hP
  refine W.widen (k := 75) (n := 4148) (Nat.le_refl _) (Nat.le_refl _) ?_
  rw [← hb2]
  have hsep : ∀ q, (∃ (i : Nat) (x : Nat × va_E), Y[i]? = some x ∧ x.1 = q) → ¬ (q = q1 ∨ H.size ≤ q) := by
    rintro q ⟨i, x, hx, rfl⟩ h
    obtain ⟨g1, g2⟩ := hin1 i x hx
    rcases h with h | h
    · exact g2 h
    · omega
  have hRX := hRX.kept hDx hk2 hsep
  refine lv_astore_n (lv' := [(2, .ref b2.o), (1, .ref a.p), (0, .ref b)]) hx hb d_L_law_45 rfl hl (by decide) rfl (fun ls hl => ?_)
  refine lv_iconst (v := 3) hx hb d_L_law_46 (by decide) ?_
  refine lv_is (y := nI (3 + 4 * 0)) (rfl) ?_
  refine lv_istore_n (lv' := [(3, .int (nI (3 + 4 * 0))), (2, .ref b2.o), (1, .ref a.p), (0, .ref b)]) hx hb d_L_law_47 rfl hl (by decide) rfl (fun ls hl => ?_)
  have hl := lv_sub (l' := [(0, .ref b), (1, .ref a.p), (2, .ref b2.o), (3, .int (nI (3 + 4 * 0)))]) hl [3, 2, 1, 0] rfl
  exact law_loop hL C0 hk hdm hDx hDm hsep (fun q h => by
    obtain ⟨i, x, hx, rfl⟩ := h
    exact hDY.2 i x hx) (fun q h => h.elim (fun z => by rw [z]; exact hq1) (fun z => Nat.le_trans hS.1 z)) 600 0 o_init H2 locs ls (by omega) (by omega) (Inv.init _ hdm) hRX hRM hS2 hl
end
section
set_option maxHeartbeats 4000000 in
theorem lw_walk (l : Launch) (b : Addr) (xs : List Int32) : MetFree l x (headSpec (Jvm.Cond.code x code maxLocals ret :: tables_1) room_1) (lw_P b xs) (fun _ _ _ _ _ => True) lw_Q := by
  refine MetFree.of_bodyS (code := code) (maxLocals := maxLocals) (ret := ret) (by decide) ?_ ?_
  · intro args s m h hn
    obtain ⟨meth, c, h1, h2, h3, h4, h5, h6, -, -⟩ := Cond.code_spec hn (atoms_spec (ws := Jvm.Cond.code x code maxLocals ret :: tables_1) h _ List.mem_cons_self)
    exact ⟨meth, c, h1, h2, h3, h4, h5, h6⟩
  · intro p e s m args below meth c s₁ B hml0 hP _
    obtain ⟨rfl, hx, hbd, hgv⟩ := hP
    obtain ⟨scr, harrAt, hlist, hof, hsmall⟩ := hx
    obtain ⟨hcb, hkn, -, -⟩ := State.arrayAt?_spec harrAt
    have hown : s.vm.findClass R_law = some m.cls := findClass_of_methodNamed B.named
    have hts0 : ∀ c ∈ (Jvm.Cond.code x code maxLocals ret :: tables_1), c.before #[Value.ref b] s = true := atoms_spec (ws := Jvm.Cond.code x code maxLocals ret :: tables_1) B.pre
    have hts : ∀ w ∈ lw_tbl, w.before #[Value.ref b] s = true := k2_hts_sels lw_privs (fun w hw => hts0 w (List.mem_cons_of_mem _ hw)) lw_privs_ok
    have hml : c.maxLocals = 4 := B.maxLocals_eq (hts0 _ List.mem_cons_self)
    have X₀ : Stand p l e room_1 s m #[Value.ref b] below meth c s₁ [] 0 0 := Stand.of_body B
    have hh0 : s₁.heap = s.heap := by rw [B.state]; rfl
    have hsz : scr.slots.size = xs.length := by rw [← Array.length_toList, hlist, List.length_map]
    have hval : ∀ j : Nat, j < xs.length → scr.slots[j]? = some (.int (xs.getD j 0)) := fun j hj => by
      rw [← Array.getElem?_toList, hlist]
      simp [hj]
    have hbl : b < s.heap.size := (Array.getElem?_eq_some_iff.mp hcb).1
    have hX : va_X b xs.length (fun j => xs.getD j 0) s s.heap := ⟨scr, hcb, hof, hkn, hsz, hval⟩
    have K : W p l e room_1 s m #[Value.ref b] below meth c s₁.heap [] 0 0 (lw_Z below #[Value.ref b] s) (entryFrame m ([Value.ref b] : List Value).toArray 4) := by
      rw [hh0]
      exact whole_start l hbd ⟨B.exec, B.bytes, B.returns, hml, hown, hts, hX, hbl, B.notSynchronized, hgv⟩
    obtain ⟨t, a1, o, b1, b2, b3⟩ := K s₁ rfl X₀
    exact ⟨t, o, a1, b1, b2, b3⟩
theorem lw_pre_spec {args : Array Value} {s : State} (h : (Jvm.Cond.and given_1 narrow_1).before args s = true) (hr : rest_1_c.before args s = true) : ∃ (b : Addr) (xs : List Int32), lw_P b xs args s := by
  have hs := flat_of_before _ h
  have hq := flat_of_before _ hr
  have hc : (Cond.count 1).before args s = true := hs _ (by decide +kernel)
  have harr : (Cond.arrayOf (.arg 0) .int).before args s = true := hs _ (by decide +kernel)
  have hle : (Cond.le (.length (.arg 0)) (.int 2051)).before args s = true := hs _ (by decide +kernel)
  have hlen : (Cond.isInt (.length (.arg 0))).before args s = true := hq _ (by decide +kernel)
  have hall : (Cond.all (.arg 0) (.isInt (.elem (.arg 0) (.index 0)))).before args s = true := hq _ (by decide +kernel)
  obtain ⟨b, xs, hb, hx⟩ := State.ints_of_pre rfl harr hlen hall
  have hsm : xs.length < 2 ^ 31 := hx.choose_spec.2.2.2
  have hev : (Term.length (.arg 0)).eval args s none [] s = some (.int xs.length.toInt32) := hx.length_eval hb
  have hv := Cond.le_ints hev (show (Term.int 2051).eval args s none [] s = some (.int 2051) from rfl)
  have hd : xs.length.toInt32 ≤ 2051 := by
    simpa [Cond.before, Cond.holds, hv] using hle
  have hN : xs.length ≤ 2051 := (Int32.ofNat_le_ofNat hsm (by decide)).mp (show Int32.ofNat xs.length ≤ Int32.ofNat 2051 from hd)
  exact ⟨b, xs, Cond.one_arg hc (show args[0]? = some (.ref b) from hb), hx, hN, h⟩
theorem lw_comes (l : Launch) : Comes l x (Jvm.Cond.code x code maxLocals ret :: tables_1) room_1 (fun tb e args s => Calls_1 tb e args s ∧ rest_1 tb e args s ∧ Pre_1 tb e args s)
    (fun _ _ args s o t => lw_Q args s o t) := by
  intro p e ha hc hk s m args below hf hfit hheap happ hpre
  obtain ⟨b, xs, hP⟩ := lw_pre_spec hpre.2.2 hpre.2.1
  obtain ⟨k, o, h1, h2, h3, hQ⟩ := lw_walk l b xs p e ha hc hk s m args below hf ((Spec.applies_iff_loose hf).mp happ).1 hP trivial
  exact ⟨k, o, h1, h2, h3, hQ⟩
theorem lw_frame {s t : State} {o : Outcome} {args : Array Value} (h : Framed s o t [] 600000 7302250) :
    Framed s o t (fieldLocs frame_1_writes args s ++ arrayLocs frame_1_arrays args s ++ staticLocs frame_1_statics s) 600000 7302250 := h
theorem lw_limb (L : Cond) (hL : ∀ (args : Array Value) (s t : State), L.after args s (.returned (some (.int 1))) t = true) :
    ArmFor flags0 classFile x code maxLocals ret World_1 tables_1 room_1 Calls_1 rest_1 Pre_1
      (fun tb e a s o t => postC L tb e a s o t ∧ Framed s o t (fieldLocs frame_1_writes a s ++ arrayLocs frame_1_arrays a s ++ staticLocs frame_1_statics s) 600000 7302250) := by
  intro l _ _ _ p e ha hc hk s m args below hf hfit hheap happ hpre
  obtain ⟨k, o, h1, h2, h3, rfl, hF⟩ := lw_comes l p e ha hc hk s m args below hf hfit hheap happ hpre
  exact ⟨k, _, h1, h2, h3, hL args s _, lw_frame hF⟩
theorem i_vc : Claimed_1_1 ∧ Claimed_1_2 := ⟨lw_limb limb_1_1 (fun args s t => by simp [limb_1_1, Cond.after, Cond.holds, Cond.value]), lw_limb limb_1_2 (fun args s t => Cond.after_iff.mpr (by
  first | (rw [show limb_1_2 = Cond.eq .result (.int 1) from rfl, Cond.eq_ints (x := 1) (y := 1) rfl rfl]; simp; done) | (simp [limb_1_2, Cond.value, Term.eval]; done)))⟩
end
