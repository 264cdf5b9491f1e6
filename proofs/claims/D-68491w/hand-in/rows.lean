section
-- ===== PART A: goes FIRST, ahead of the names: the tables' words, and 'selects' of the private methods out of them =====
/-- a private method of a class that the tables say can be made, by its rows of tables_1 -/
def lw_okq (q : MethodName × Nat) : Prop := (q.1.cls ≠ "java/lang/invoke/MethodHandle" ∧ q.1.cls ≠ "java/lang/invoke/VarHandle") ∧ Cond.instantiable q.1.cls q.2 ∈ tables_1 ∧ Cond.privateMethod q.1 ∈ tables_1 ∧ Cond.instanceMethod q.1 ∈ tables_1
theorem lw_p0 : lw_okq (⟨"JournalShelf$Disk", "land", "(II)V"⟩, 4) := ⟨⟨by decide +kernel, by decide +kernel⟩, List.mem_of_getElem? (i := 23) (by decide +kernel), List.mem_of_getElem? (i := 125) (by decide +kernel), List.mem_of_getElem? (i := 126) (by decide +kernel)⟩
theorem lw_p1 : lw_okq (⟨"JournalShelf$Shelf", "home", "(I[BI)V"⟩, 13) := ⟨⟨by decide +kernel, by decide +kernel⟩, List.mem_of_getElem? (i := 17) (by decide +kernel), List.mem_of_getElem? (i := 132) (by decide +kernel), List.mem_of_getElem? (i := 133) (by decide +kernel)⟩
theorem lw_p2 : lw_okq (⟨"JournalShelf$Shelf", "isWhole", "(I)Z"⟩, 13) := ⟨⟨by decide +kernel, by decide +kernel⟩, List.mem_of_getElem? (i := 17) (by decide +kernel), List.mem_of_getElem? (i := 197) (by decide +kernel), List.mem_of_getElem? (i := 198) (by decide +kernel)⟩
theorem lw_p3 : lw_okq (⟨"JournalShelf$Shelf", "redo", "(I)V"⟩, 13) := ⟨⟨by decide +kernel, by decide +kernel⟩, List.mem_of_getElem? (i := 17) (by decide +kernel), List.mem_of_getElem? (i := 201) (by decide +kernel), List.mem_of_getElem? (i := 202) (by decide +kernel)⟩
theorem lw_p4 : lw_okq (⟨"JournalShelf$Shelf", "forget", "(I)V"⟩, 13) := ⟨⟨by decide +kernel, by decide +kernel⟩, List.mem_of_getElem? (i := 17) (by decide +kernel), List.mem_of_getElem? (i := 205) (by decide +kernel), List.mem_of_getElem? (i := 206) (by decide +kernel)⟩
theorem lw_p5 : lw_okq (⟨"JournalShelfModel", "distinct", "()I"⟩, 14) := ⟨⟨by decide +kernel, by decide +kernel⟩, List.mem_of_getElem? (i := 226) (by decide +kernel), List.mem_of_getElem? (i := 283) (by decide +kernel), List.mem_of_getElem? (i := 284) (by decide +kernel)⟩
theorem lw_p6 : lw_okq (⟨"JournalShelfModel", "settle", "()V"⟩, 14) := ⟨⟨by decide +kernel, by decide +kernel⟩, List.mem_of_getElem? (i := 226) (by decide +kernel), List.mem_of_getElem? (i := 287) (by decide +kernel), List.mem_of_getElem? (i := 288) (by decide +kernel)⟩
def lw_privs_1 : List (MethodName × Nat) := [(⟨"JournalShelf$Disk", "land", "(II)V"⟩, 4), (⟨"JournalShelf$Shelf", "home", "(I[BI)V"⟩, 13), (⟨"JournalShelf$Shelf", "isWhole", "(I)Z"⟩, 13), (⟨"JournalShelf$Shelf", "redo", "(I)V"⟩, 13), (⟨"JournalShelf$Shelf", "forget", "(I)V"⟩, 13), (⟨"JournalShelfModel", "distinct", "()I"⟩, 14), (⟨"JournalShelfModel", "settle", "()V"⟩, 14)]
theorem lw_r1 : ∀ q ∈ lw_privs_1, lw_okq q := List.forall_mem_cons.mpr ⟨lw_p0, List.forall_mem_cons.mpr ⟨lw_p1, List.forall_mem_cons.mpr ⟨lw_p2, List.forall_mem_cons.mpr ⟨lw_p3, List.forall_mem_cons.mpr ⟨lw_p4, List.forall_mem_cons.mpr ⟨lw_p5, List.forall_mem_cons.mpr ⟨lw_p6, fun _ h => absurd h List.not_mem_nil⟩⟩⟩⟩⟩⟩⟩
def lw_privs : List (MethodName × Nat) := lw_privs_1
def lw_tbl : List Cond := k2_sels lw_privs ++ tables_1
theorem lw_privs_ok : ∀ q ∈ lw_privs, lw_okq q := lw_r1
-- the words of the tables that stay true on any way (all but the links between nest mates), and those links
def js_all : List Cond := lw_tbl.filter goodWord
-- classes
def jr_JS : String := "JournalShelf"
def jr_Sh : String := "JournalShelf$Shelf"
def jr_Dk : String := "JournalShelf$Disk"
def jr_Md : String := "JournalShelfModel"
def jr_Ar : String := "java/util/Arrays"
def jf_JS : u_T := fun k => match k with
  | 0 => ("JournalShelf", "shelf", "LJournalShelf$Shelf;", true)
  | 1 => ("JournalShelf", "image", "[B", true)
  | 2 => ("JournalShelf", "changes", "I", false)
  | 3 => ("JournalShelf", "flushes", "I", false)
  | _ => ("JournalShelf", "crashes", "I", false)
def jt_JS : Nat → FieldType := fun k => match k with
  | 0 => .object "JournalShelf$Shelf"
  | 1 => .array .byte
  | 2 => .int
  | 3 => .int
  | _ => .int
theorem jn_JS : ∀ a, a < 5 → ∀ b, b < 5 → a ≠ b → (jf_JS a).2.1 ≠ (jf_JS b).2.1 := by decide +kernel
theorem jo_JS : ∀ k, k < 5 → parseFieldDescriptor (jf_JS k).2.2.1 = some (jt_JS k) := by decide +kernel
def jf_Sh : u_T := fun k => match k with
  | 0 => ("JournalShelf$Shelf", "disk", "LJournalShelf$Disk;", true)
  | 1 => ("JournalShelf$Shelf", "block", "[B", true)
  | 2 => ("JournalShelf$Shelf", "fresh", "[B", true)
  | 3 => ("JournalShelf$Shelf", "freshSlot", "[I", true)
  | 4 => ("JournalShelf$Shelf", "freshMany", "I", false)
  | 5 => ("JournalShelf$Shelf", "opened", "I", false)
  | 6 => ("JournalShelf$Shelf", "next", "I", false)
  | 7 => ("JournalShelf$Shelf", "place", "I", false)
  | 8 => ("JournalShelf$Shelf", "safe", "I", false)
  | 9 => ("JournalShelf$Shelf", "dirty", "Z", false)
  | 10 => ("JournalShelf$Shelf", "number", "[I", true)
  | 11 => ("JournalShelf$Shelf", "count", "[I", true)
  | _ => ("JournalShelf$Shelf", "part", "[I", true)
def jt_Sh : Nat → FieldType := fun k => match k with
  | 0 => .object "JournalShelf$Disk"
  | 1 => .array .byte
  | 2 => .array .byte
  | 3 => .array .int
  | 4 => .int
  | 5 => .int
  | 6 => .int
  | 7 => .int
  | 8 => .int
  | 9 => .boolean
  | 10 => .array .int
  | 11 => .array .int
  | _ => .array .int
theorem jn_Sh : ∀ a, a < 13 → ∀ b, b < 13 → a ≠ b → (jf_Sh a).2.1 ≠ (jf_Sh b).2.1 := by decide +kernel
theorem jo_Sh : ∀ k, k < 13 → parseFieldDescriptor (jf_Sh k).2.2.1 = some (jt_Sh k) := by decide +kernel
def jf_Dk : u_T := fun k => match k with
  | 0 => ("JournalShelf$Disk", "platter", "[B", true)
  | 1 => ("JournalShelf$Disk", "late", "[B", true)
  | 2 => ("JournalShelf$Disk", "lateBlock", "[I", true)
  | _ => ("JournalShelf$Disk", "many", "I", false)
def jt_Dk : Nat → FieldType := fun k => match k with
  | 0 => .array .byte
  | 1 => .array .byte
  | 2 => .array .int
  | _ => .int
theorem jn_Dk : ∀ a, a < 4 → ∀ b, b < 4 → a ≠ b → (jf_Dk a).2.1 ≠ (jf_Dk b).2.1 := by decide +kernel
theorem jo_Dk : ∀ k, k < 4 → parseFieldDescriptor (jf_Dk k).2.2.1 = some (jt_Dk k) := by decide +kernel
def jf_Md : u_T := fun k => match k with
  | 0 => ("JournalShelfModel", "flushed", "[I", true)
  | 1 => ("JournalShelfModel", "now", "[I", true)
  | 2 => ("JournalShelfModel", "slot", "[I", true)
  | 3 => ("JournalShelfModel", "value", "[I", true)
  | 4 => ("JournalShelfModel", "lastOf", "[I", true)
  | 5 => ("JournalShelfModel", "changes", "I", false)
  | 6 => ("JournalShelfModel", "homes", "I", false)
  | 7 => ("JournalShelfModel", "ownSlot", "[I", true)
  | 8 => ("JournalShelfModel", "ownValue", "[I", true)
  | 9 => ("JournalShelfModel", "own", "I", false)
  | 10 => ("JournalShelfModel", "deeds", "I", false)
  | 11 => ("JournalShelfModel", "since", "I", false)
  | 12 => ("JournalShelfModel", "flushes", "I", false)
  | _ => ("JournalShelfModel", "crashes", "I", false)
def jt_Md : Nat → FieldType := fun k => match k with
  | 0 => .array .int
  | 1 => .array .int
  | 2 => .array .int
  | 3 => .array .int
  | 4 => .array .int
  | 5 => .int
  | 6 => .int
  | 7 => .array .int
  | 8 => .array .int
  | 9 => .int
  | 10 => .int
  | 11 => .int
  | 12 => .int
  | _ => .int
theorem jn_Md : ∀ a, a < 14 → ∀ b, b < 14 → a ≠ b → (jf_Md a).2.1 ≠ (jf_Md b).2.1 := by decide +kernel
theorem jo_Md : ∀ k, k < 14 → parseFieldDescriptor (jf_Md k).2.2.1 = some (jt_Md k) := by decide +kernel
abbrev js_cls : List vw_C := [(jr_JS, jf_JS, 5), (jr_Sh, jf_Sh, 13), (jr_Dk, jf_Dk, 4), (jr_Md, jf_Md, 14)]
-- methods
abbrev jb_Ar_fill : ByteArray := prog_8_method_109_code
def jy_Ar_fill : MethodName := ⟨"java/util/Arrays", "fill", "([BB)V"⟩
abbrev jw_Ar_fill : Cond := .code jy_Ar_fill jb_Ar_fill 4 none
abbrev jb_Dk_crash : ByteArray := prog_2_method_7_code
def jy_Dk_crash : MethodName := ⟨"JournalShelf$Disk", "crash", "(II)V"⟩
abbrev jw_Dk_crash : Cond := .code jy_Dk_crash jb_Dk_crash 5 none
abbrev jb_Dk_flush : ByteArray := prog_2_method_6_code
def jy_Dk_flush : MethodName := ⟨"JournalShelf$Disk", "flush", "()V"⟩
abbrev jw_Dk_flush : Cond := .code jy_Dk_flush jb_Dk_flush 2 none
abbrev jb_Dk_hasRoom : ByteArray := prog_2_method_2_code
def jy_Dk_hasRoom : MethodName := ⟨"JournalShelf$Disk", "hasRoom", "()Z"⟩
abbrev jw_Dk_hasRoom : Cond := .code jy_Dk_hasRoom jb_Dk_hasRoom 1 (some .boolean)
abbrev jb_Dk_init : ByteArray := prog_2_method_1_code
def jy_Dk_init : MethodName := ⟨"JournalShelf$Disk", "<init>", "()V"⟩
abbrev jw_Dk_init : Cond := .code jy_Dk_init jb_Dk_init 1 none
abbrev jb_Dk_land : ByteArray := prog_2_method_5_code
def jy_Dk_land : MethodName := ⟨"JournalShelf$Disk", "land", "(II)V"⟩
abbrev jw_Dk_land : Cond := .code jy_Dk_land jb_Dk_land 3 none
abbrev jb_Dk_read : ByteArray := prog_2_method_4_code
def jy_Dk_read : MethodName := ⟨"JournalShelf$Disk", "read", "(I[B)V"⟩
abbrev jw_Dk_read : Cond := .code jy_Dk_read jb_Dk_read 4 none
abbrev jb_Dk_write : ByteArray := prog_2_method_3_code
def jy_Dk_write : MethodName := ⟨"JournalShelf$Disk", "write", "(I[B)V"⟩
abbrev jw_Dk_write : Cond := .code jy_Dk_write jb_Dk_write 3 none
abbrev jb_JS_change : ByteArray := prog_1_method_5_code
def jy_JS_change : MethodName := ⟨"JournalShelf", "change", "(II)I"⟩
abbrev jw_JS_change : Cond := .code jy_JS_change jb_JS_change 4 (some .int)
abbrev jb_JS_commit : ByteArray := prog_1_method_6_code
def jy_JS_commit : MethodName := ⟨"JournalShelf", "commit", "()I"⟩
abbrev jw_JS_commit : Cond := .code jy_JS_commit jb_JS_commit 2 (some .int)
abbrev jb_JS_count : ByteArray := prog_1_method_12_code
def jy_JS_count : MethodName := ⟨"JournalShelf", "count", "(I)I"⟩
abbrev jw_JS_count : Cond := .code jy_JS_count jb_JS_count 2 (some .int)
abbrev jb_JS_crash : ByteArray := prog_1_method_9_code
def jy_JS_crash : MethodName := ⟨"JournalShelf", "crash", "(II)I"⟩
abbrev jw_JS_crash : Cond := .code jy_JS_crash jb_JS_crash 4 (some .int)
abbrev jb_JS_flush : ByteArray := prog_1_method_8_code
def jy_JS_flush : MethodName := ⟨"JournalShelf", "flush", "()I"⟩
abbrev jw_JS_flush : Cond := .code jy_JS_flush jb_JS_flush 2 (some .int)
abbrev jb_JS_forget : ByteArray := prog_1_method_7_code
def jy_JS_forget : MethodName := ⟨"JournalShelf", "forget", "()I"⟩
abbrev jw_JS_forget : Cond := .code jy_JS_forget jb_JS_forget 2 (some .int)
abbrev jb_JS_get : ByteArray := prog_1_method_10_code
def jy_JS_get : MethodName := ⟨"JournalShelf", "get", "(I)I"⟩
abbrev jw_JS_get : Cond := .code jy_JS_get jb_JS_get 3 (some .int)
abbrev jb_JS_get4 : ByteArray := prog_1_method_2_code
def jy_JS_get4 : MethodName := ⟨"JournalShelf", "get4", "([BI)I"⟩
abbrev jw_JS_get4 : Cond := .code jy_JS_get4 jb_JS_get4 2 (some .int)
abbrev jb_JS_in : ByteArray := prog_1_method_3_code
def jy_JS_in : MethodName := ⟨"JournalShelf", "in", "(III)Z"⟩
abbrev jw_JS_in : Cond := .code jy_JS_in jb_JS_in 3 (some .boolean)
abbrev jb_JS_init : ByteArray := prog_1_method_4_code
def jy_JS_init : MethodName := ⟨"JournalShelf", "<init>", "()V"⟩
abbrev jw_JS_init : Cond := .code jy_JS_init jb_JS_init 1 none
abbrev jb_JS_put4 : ByteArray := prog_1_method_1_code
def jy_JS_put4 : MethodName := ⟨"JournalShelf", "put4", "([BII)V"⟩
abbrev jw_JS_put4 : Cond := .code jy_JS_put4 jb_JS_put4 3 none
abbrev jb_JS_torn : ByteArray := prog_1_method_11_code
def jy_JS_torn : MethodName := ⟨"JournalShelf", "torn", "()I"⟩
abbrev jw_JS_torn : Cond := .code jy_JS_torn jb_JS_torn 7 (some .int)
abbrev jb_Md_change : ByteArray := prog_5_method_4_code
def jy_Md_change : MethodName := ⟨"JournalShelfModel", "change", "(II)I"⟩
abbrev jw_Md_change : Cond := .code jy_Md_change jb_Md_change 3 (some .int)
abbrev jb_Md_commit : ByteArray := prog_5_method_5_code
def jy_Md_commit : MethodName := ⟨"JournalShelfModel", "commit", "()I"⟩
abbrev jw_Md_commit : Cond := .code jy_Md_commit jb_Md_commit 3 (some .int)
abbrev jb_Md_count : ByteArray := prog_5_method_11_code
def jy_Md_count : MethodName := ⟨"JournalShelfModel", "count", "(I)I"⟩
abbrev jw_Md_count : Cond := .code jy_Md_count jb_Md_count 2 (some .int)
abbrev jb_Md_crash : ByteArray := prog_5_method_8_code
def jy_Md_crash : MethodName := ⟨"JournalShelfModel", "crash", "(II)I"⟩
abbrev jw_Md_crash : Cond := .code jy_Md_crash jb_Md_crash 7 (some .int)
abbrev jb_Md_distinct : ByteArray := prog_5_method_3_code
def jy_Md_distinct : MethodName := ⟨"JournalShelfModel", "distinct", "()I"⟩
abbrev jw_Md_distinct : Cond := .code jy_Md_distinct jb_Md_distinct 5 (some .int)
abbrev jb_Md_flush : ByteArray := prog_5_method_7_code
def jy_Md_flush : MethodName := ⟨"JournalShelfModel", "flush", "()I"⟩
abbrev jw_Md_flush : Cond := .code jy_Md_flush jb_Md_flush 2 (some .int)
abbrev jb_Md_forget : ByteArray := prog_5_method_6_code
def jy_Md_forget : MethodName := ⟨"JournalShelfModel", "forget", "()I"⟩
abbrev jw_Md_forget : Cond := .code jy_Md_forget jb_Md_forget 2 (some .int)
abbrev jb_Md_get : ByteArray := prog_5_method_9_code
def jy_Md_get : MethodName := ⟨"JournalShelfModel", "get", "(I)I"⟩
abbrev jw_Md_get : Cond := .code jy_Md_get jb_Md_get 2 (some .int)
abbrev jb_Md_init : ByteArray := prog_5_method_1_code
def jy_Md_init : MethodName := ⟨"JournalShelfModel", "<init>", "()V"⟩
abbrev jw_Md_init : Cond := .code jy_Md_init jb_Md_init 1 none
abbrev jb_Md_settle : ByteArray := prog_5_method_2_code
def jy_Md_settle : MethodName := ⟨"JournalShelfModel", "settle", "()V"⟩
abbrev jw_Md_settle : Cond := .code jy_Md_settle jb_Md_settle 2 none
abbrev jb_Md_torn : ByteArray := prog_5_method_10_code
def jy_Md_torn : MethodName := ⟨"JournalShelfModel", "torn", "()I"⟩
abbrev jw_Md_torn : Cond := .code jy_Md_torn jb_Md_torn 1 (some .int)
abbrev jb_Sh_begin : ByteArray := prog_3_method_3_code
def jy_Sh_begin : MethodName := ⟨"JournalShelf$Shelf", "begin", "()V"⟩
abbrev jw_Sh_begin : Cond := .code jy_Sh_begin jb_Sh_begin 1 none
abbrev jb_Sh_commit : ByteArray := prog_3_method_5_code
def jy_Sh_commit : MethodName := ⟨"JournalShelf$Shelf", "commit", "()V"⟩
abbrev jw_Sh_commit : Cond := .code jy_Sh_commit jb_Sh_commit 2 none
abbrev jb_Sh_flush : ByteArray := prog_3_method_6_code
def jy_Sh_flush : MethodName := ⟨"JournalShelf$Shelf", "flush", "()V"⟩
abbrev jw_Sh_flush : Cond := .code jy_Sh_flush jb_Sh_flush 4 none
abbrev jb_Sh_forget : ByteArray := prog_3_method_11_code
def jy_Sh_forget : MethodName := ⟨"JournalShelf$Shelf", "forget", "(I)V"⟩
abbrev jw_Sh_forget : Cond := .code jy_Sh_forget jb_Sh_forget 3 none
abbrev jb_Sh_home : ByteArray := prog_3_method_7_code
def jy_Sh_home : MethodName := ⟨"JournalShelf$Shelf", "home", "(I[BI)V"⟩
abbrev jw_Sh_home : Cond := .code jy_Sh_home jb_Sh_home 4 none
abbrev jb_Sh_init : ByteArray := prog_3_method_1_code
def jy_Sh_init : MethodName := ⟨"JournalShelf$Shelf", "<init>", "()V"⟩
abbrev jw_Sh_init : Cond := .code jy_Sh_init jb_Sh_init 1 none
abbrev jb_Sh_isWhole : ByteArray := prog_3_method_9_code
def jy_Sh_isWhole : MethodName := ⟨"JournalShelf$Shelf", "isWhole", "(I)Z"⟩
abbrev jw_Sh_isWhole : Cond := .code jy_Sh_isWhole jb_Sh_isWhole 5 (some .boolean)
abbrev jb_Sh_read : ByteArray := prog_3_method_8_code
def jy_Sh_read : MethodName := ⟨"JournalShelf$Shelf", "read", "(I[B)V"⟩
abbrev jw_Sh_read : Cond := .code jy_Sh_read jb_Sh_read 4 none
abbrev jb_Sh_recover : ByteArray := prog_3_method_10_code
def jy_Sh_recover : MethodName := ⟨"JournalShelf$Shelf", "recover", "()V"⟩
abbrev jw_Sh_recover : Cond := .code jy_Sh_recover jb_Sh_recover 5 none
abbrev jb_Sh_redo : ByteArray := prog_3_method_12_code
def jy_Sh_redo : MethodName := ⟨"JournalShelf$Shelf", "redo", "(I)V"⟩
abbrev jw_Sh_redo : Cond := .code jy_Sh_redo jb_Sh_redo 4 none
abbrev jb_Sh_stage : ByteArray := prog_3_method_4_code
def jy_Sh_stage : MethodName := ⟨"JournalShelf$Shelf", "stage", "(I[B)V"⟩
abbrev jw_Sh_stage : Cond := .code jy_Sh_stage jb_Sh_stage 3 none
-- the words, each by its place
theorem jk_0 : (Jvm.Cond.initialized "JournalShelfLaw") ∈ js_all := List.mem_filter.mpr ⟨List.mem_append_right _ (List.mem_append_left _ (List.mem_of_getElem? (i := 0) rfl)), rfl⟩
theorem jk_1 : (Jvm.Cond.initialized "JournalShelf") ∈ js_all := List.mem_filter.mpr ⟨List.mem_append_right _ (List.mem_append_left _ (List.mem_of_getElem? (i := 1) rfl)), rfl⟩
theorem jk_2 : (Jvm.Cond.initialized "JournalShelf$Shelf") ∈ js_all := List.mem_filter.mpr ⟨List.mem_append_right _ (List.mem_append_left _ (List.mem_of_getElem? (i := 2) rfl)), rfl⟩
theorem jk_3 : (Jvm.Cond.initialized "JournalShelf$Disk") ∈ js_all := List.mem_filter.mpr ⟨List.mem_append_right _ (List.mem_append_left _ (List.mem_of_getElem? (i := 3) rfl)), rfl⟩
theorem jk_4 : (Jvm.Cond.initialized "JournalShelfModel") ∈ js_all := List.mem_filter.mpr ⟨List.mem_append_right _ (List.mem_append_left _ (List.mem_of_getElem? (i := 4) rfl)), rfl⟩
theorem jk_5 : (Jvm.Cond.initialized "java/lang/System") ∈ js_all := List.mem_filter.mpr ⟨List.mem_append_right _ (List.mem_append_left _ (List.mem_of_getElem? (i := 5) rfl)), rfl⟩
theorem jk_6 : (Jvm.Cond.initialized "java/util/Arrays") ∈ js_all := List.mem_filter.mpr ⟨List.mem_append_right _ (List.mem_append_left _ (List.mem_of_getElem? (i := 6) rfl)), rfl⟩
theorem jk_7 : (Jvm.Cond.initialized "java/lang/Math") ∈ js_all := List.mem_filter.mpr ⟨List.mem_append_right _ (List.mem_append_left _ (List.mem_of_getElem? (i := 7) rfl)), rfl⟩
theorem jk_8 : (Jvm.Cond.classLink "JournalShelfLaw" (7 : Nat) "JournalShelf") ∈ js_all := List.mem_filter.mpr ⟨List.mem_append_right _ (List.mem_append_left _ (List.mem_of_getElem? (i := 8) rfl)), rfl⟩
theorem jk_9 : (Jvm.Cond.instantiable "JournalShelf" (5 : Nat)) ∈ js_all := List.mem_filter.mpr ⟨List.mem_append_right _ (List.mem_append_left _ (List.mem_of_getElem? (i := 9) rfl)), rfl⟩
theorem jk_10 : (Jvm.Cond.methodLink "JournalShelfLaw" (9 : Nat) ({ cls := "JournalShelf", name := "<init>", desc := "()V" } : Jvm.MethodName)) ∈ js_all := List.mem_filter.mpr ⟨List.mem_append_right _ (List.mem_append_left _ (List.mem_of_getElem? (i := 10) rfl)), rfl⟩
theorem jk_11 : (Jvm.Cond.instanceMethod ({ cls := "JournalShelf", name := "<init>", desc := "()V" } : Jvm.MethodName)) ∈ js_all := List.mem_filter.mpr ⟨List.mem_append_right _ (List.mem_append_left _ (List.mem_of_getElem? (i := 11) rfl)), rfl⟩
theorem jk_12 : (Jvm.Cond.code ({ cls := "JournalShelf", name := "<init>", desc := "()V" } : Jvm.MethodName) prog_1_method_4_code (1 : Nat) (Option.none : Option Jvm.ClassFile.FieldType)) ∈ js_all := List.mem_filter.mpr ⟨List.mem_append_right _ (List.mem_append_left _ (List.mem_of_getElem? (i := 12) rfl)), rfl⟩
theorem jk_13 : (Jvm.Cond.methodLink "JournalShelf" (1 : Nat) ({ cls := "java/lang/Object", name := "<init>", desc := "()V" } : Jvm.MethodName)) ∈ js_all := List.mem_filter.mpr ⟨List.mem_append_right _ (List.mem_append_left _ (List.mem_of_getElem? (i := 13) rfl)), rfl⟩
theorem jk_14 : (Jvm.Cond.instanceMethod ({ cls := "java/lang/Object", name := "<init>", desc := "()V" } : Jvm.MethodName)) ∈ js_all := List.mem_filter.mpr ⟨List.mem_append_right _ (List.mem_append_left _ (List.mem_of_getElem? (i := 14) rfl)), rfl⟩
theorem jk_15 : (Jvm.Cond.code ({ cls := "java/lang/Object", name := "<init>", desc := "()V" } : Jvm.MethodName) object_method_1_code (1 : Nat) (Option.none : Option Jvm.ClassFile.FieldType)) ∈ js_all := List.mem_filter.mpr ⟨List.mem_append_right _ (List.mem_append_left _ (List.mem_of_getElem? (i := 15) rfl)), rfl⟩
theorem jk_16 : (Jvm.Cond.classLink "JournalShelf" (7 : Nat) "JournalShelf$Shelf") ∈ js_all := List.mem_filter.mpr ⟨List.mem_append_right _ (List.mem_append_left _ (List.mem_of_getElem? (i := 16) rfl)), rfl⟩
theorem jk_17 : (Jvm.Cond.instantiable "JournalShelf$Shelf" (13 : Nat)) ∈ js_all := List.mem_filter.mpr ⟨List.mem_append_right _ (List.mem_append_left _ (List.mem_of_getElem? (i := 17) rfl)), rfl⟩
theorem jk_19 : (Jvm.Cond.instanceMethod ({ cls := "JournalShelf$Shelf", name := "<init>", desc := "()V" } : Jvm.MethodName)) ∈ js_all := List.mem_filter.mpr ⟨List.mem_append_right _ (List.mem_append_left _ (List.mem_of_getElem? (i := 19) rfl)), rfl⟩
theorem jk_20 : (Jvm.Cond.code ({ cls := "JournalShelf$Shelf", name := "<init>", desc := "()V" } : Jvm.MethodName) prog_3_method_1_code (1 : Nat) (Option.none : Option Jvm.ClassFile.FieldType)) ∈ js_all := List.mem_filter.mpr ⟨List.mem_append_right _ (List.mem_append_left _ (List.mem_of_getElem? (i := 20) rfl)), rfl⟩
theorem jk_21 : (Jvm.Cond.methodLink "JournalShelf$Shelf" (3 : Nat) ({ cls := "java/lang/Object", name := "<init>", desc := "()V" } : Jvm.MethodName)) ∈ js_all := List.mem_filter.mpr ⟨List.mem_append_right _ (List.mem_append_left _ (List.mem_of_getElem? (i := 21) rfl)), rfl⟩
theorem jk_22 : (Jvm.Cond.classLink "JournalShelf$Shelf" (9 : Nat) "JournalShelf$Disk") ∈ js_all := List.mem_filter.mpr ⟨List.mem_append_right _ (List.mem_append_left _ (List.mem_of_getElem? (i := 22) rfl)), rfl⟩
theorem jk_23 : (Jvm.Cond.instantiable "JournalShelf$Disk" (4 : Nat)) ∈ js_all := List.mem_filter.mpr ⟨List.mem_append_right _ (List.mem_append_left _ (List.mem_of_getElem? (i := 23) rfl)), rfl⟩
theorem jk_25 : (Jvm.Cond.instanceMethod ({ cls := "JournalShelf$Disk", name := "<init>", desc := "()V" } : Jvm.MethodName)) ∈ js_all := List.mem_filter.mpr ⟨List.mem_append_right _ (List.mem_append_left _ (List.mem_of_getElem? (i := 25) rfl)), rfl⟩
theorem jk_26 : (Jvm.Cond.code ({ cls := "JournalShelf$Disk", name := "<init>", desc := "()V" } : Jvm.MethodName) prog_2_method_1_code (1 : Nat) (Option.none : Option Jvm.ClassFile.FieldType)) ∈ js_all := List.mem_filter.mpr ⟨List.mem_append_right _ (List.mem_append_left _ (List.mem_of_getElem? (i := 26) rfl)), rfl⟩
theorem jk_27 : (Jvm.Cond.methodLink "JournalShelf$Disk" (3 : Nat) ({ cls := "java/lang/Object", name := "<init>", desc := "()V" } : Jvm.MethodName)) ∈ js_all := List.mem_filter.mpr ⟨List.mem_append_right _ (List.mem_append_left _ (List.mem_of_getElem? (i := 27) rfl)), rfl⟩
theorem jk_28 : (Jvm.Cond.constant "JournalShelf$Disk" (9 : Nat) (135168 : Int32)) ∈ js_all := List.mem_filter.mpr ⟨List.mem_append_right _ (List.mem_append_left _ (List.mem_of_getElem? (i := 28) rfl)), rfl⟩
theorem jk_29 : (Jvm.Cond.fieldLink "JournalShelf$Disk" (10 : Nat) "JournalShelf$Disk" "platter" "[B") ∈ js_all := List.mem_filter.mpr ⟨List.mem_append_right _ (List.mem_append_left _ (List.mem_of_getElem? (i := 29) rfl)), rfl⟩
theorem jk_30 : (Jvm.Cond.fieldLink "JournalShelf$Disk" (16 : Nat) "JournalShelf$Disk" "late" "[B") ∈ js_all := List.mem_filter.mpr ⟨List.mem_append_right _ (List.mem_append_left _ (List.mem_of_getElem? (i := 30) rfl)), rfl⟩
theorem jk_31 : (Jvm.Cond.fieldLink "JournalShelf$Disk" (19 : Nat) "JournalShelf$Disk" "lateBlock" "[I") ∈ js_all := List.mem_filter.mpr ⟨List.mem_append_right _ (List.mem_append_left _ (List.mem_of_getElem? (i := 31) rfl)), rfl⟩
theorem jk_32 : (Jvm.Cond.fieldLink "JournalShelf$Disk" (23 : Nat) "JournalShelf$Disk" "many" "I") ∈ js_all := List.mem_filter.mpr ⟨List.mem_append_right _ (List.mem_append_left _ (List.mem_of_getElem? (i := 32) rfl)), rfl⟩
theorem jk_34 : (Jvm.Cond.laysFinal "JournalShelf$Disk" "JournalShelf$Disk" "platter" "[B") ∈ js_all := List.mem_filter.mpr ⟨List.mem_append_right _ (List.mem_append_left _ (List.mem_of_getElem? (i := 34) rfl)), rfl⟩
theorem jk_36 : (Jvm.Cond.laysFinal "JournalShelf$Disk" "JournalShelf$Disk" "late" "[B") ∈ js_all := List.mem_filter.mpr ⟨List.mem_append_right _ (List.mem_append_left _ (List.mem_of_getElem? (i := 36) rfl)), rfl⟩
theorem jk_38 : (Jvm.Cond.laysFinal "JournalShelf$Disk" "JournalShelf$Disk" "lateBlock" "[I") ∈ js_all := List.mem_filter.mpr ⟨List.mem_append_right _ (List.mem_append_left _ (List.mem_of_getElem? (i := 38) rfl)), rfl⟩
theorem jk_40 : (Jvm.Cond.lays "JournalShelf$Disk" "JournalShelf$Disk" "many" "I") ∈ js_all := List.mem_filter.mpr ⟨List.mem_append_right _ (List.mem_append_left _ (List.mem_of_getElem? (i := 40) rfl)), rfl⟩
theorem jk_43 : (Jvm.Cond.arrayClass Jvm.ClassFile.FieldType.byte) ∈ js_all := List.mem_filter.mpr ⟨List.mem_append_right _ (List.mem_append_left _ (List.mem_of_getElem? (i := 43) rfl)), rfl⟩
theorem jk_44 : (Jvm.Cond.arrayClass Jvm.ClassFile.FieldType.int) ∈ js_all := List.mem_filter.mpr ⟨List.mem_append_right _ (List.mem_append_left _ (List.mem_of_getElem? (i := 44) rfl)), rfl⟩
theorem jk_45 : (Jvm.Cond.fieldLink "JournalShelf$Shelf" (12 : Nat) "JournalShelf$Shelf" "disk" "LJournalShelf$Disk;") ∈ js_all := List.mem_filter.mpr ⟨List.mem_append_right _ (List.mem_append_left _ (List.mem_of_getElem? (i := 45) rfl)), rfl⟩
theorem jk_46 : (Jvm.Cond.fieldLink "JournalShelf" (63 : Nat) "JournalShelf$Shelf" "disk" "LJournalShelf$Disk;") ∈ js_all := List.mem_filter.mpr ⟨List.mem_append_right _ (List.mem_append_left _ (List.mem_of_getElem? (i := 46) rfl)), rfl⟩
theorem jk_47 : (Jvm.Cond.fieldLink "JournalShelf$Shelf" (18 : Nat) "JournalShelf$Shelf" "block" "[B") ∈ js_all := List.mem_filter.mpr ⟨List.mem_append_right _ (List.mem_append_left _ (List.mem_of_getElem? (i := 47) rfl)), rfl⟩
theorem jk_48 : (Jvm.Cond.fieldLink "JournalShelf$Shelf" (22 : Nat) "JournalShelf$Shelf" "fresh" "[B") ∈ js_all := List.mem_filter.mpr ⟨List.mem_append_right _ (List.mem_append_left _ (List.mem_of_getElem? (i := 48) rfl)), rfl⟩
theorem jk_49 : (Jvm.Cond.fieldLink "JournalShelf$Shelf" (25 : Nat) "JournalShelf$Shelf" "freshSlot" "[I") ∈ js_all := List.mem_filter.mpr ⟨List.mem_append_right _ (List.mem_append_left _ (List.mem_of_getElem? (i := 49) rfl)), rfl⟩
theorem jk_50 : (Jvm.Cond.fieldLink "JournalShelf$Shelf" (46 : Nat) "JournalShelf$Shelf" "freshMany" "I") ∈ js_all := List.mem_filter.mpr ⟨List.mem_append_right _ (List.mem_append_left _ (List.mem_of_getElem? (i := 50) rfl)), rfl⟩
theorem jk_52 : (Jvm.Cond.fieldLink "JournalShelf$Shelf" (52 : Nat) "JournalShelf$Shelf" "opened" "I") ∈ js_all := List.mem_filter.mpr ⟨List.mem_append_right _ (List.mem_append_left _ (List.mem_of_getElem? (i := 52) rfl)), rfl⟩
theorem jk_53 : (Jvm.Cond.fieldLink "JournalShelf$Shelf" (29 : Nat) "JournalShelf$Shelf" "next" "I") ∈ js_all := List.mem_filter.mpr ⟨List.mem_append_right _ (List.mem_append_left _ (List.mem_of_getElem? (i := 53) rfl)), rfl⟩
theorem jk_55 : (Jvm.Cond.fieldLink "JournalShelf$Shelf" (68 : Nat) "JournalShelf$Shelf" "place" "I") ∈ js_all := List.mem_filter.mpr ⟨List.mem_append_right _ (List.mem_append_left _ (List.mem_of_getElem? (i := 55) rfl)), rfl⟩
theorem jk_56 : (Jvm.Cond.fieldLink "JournalShelf$Shelf" (65 : Nat) "JournalShelf$Shelf" "safe" "I") ∈ js_all := List.mem_filter.mpr ⟨List.mem_append_right _ (List.mem_append_left _ (List.mem_of_getElem? (i := 56) rfl)), rfl⟩
theorem jk_58 : (Jvm.Cond.fieldLink "JournalShelf$Shelf" (42 : Nat) "JournalShelf$Shelf" "dirty" "Z") ∈ js_all := List.mem_filter.mpr ⟨List.mem_append_right _ (List.mem_append_left _ (List.mem_of_getElem? (i := 58) rfl)), rfl⟩
theorem jk_59 : (Jvm.Cond.fieldLink "JournalShelf$Shelf" (33 : Nat) "JournalShelf$Shelf" "number" "[I") ∈ js_all := List.mem_filter.mpr ⟨List.mem_append_right _ (List.mem_append_left _ (List.mem_of_getElem? (i := 59) rfl)), rfl⟩
theorem jk_60 : (Jvm.Cond.fieldLink "JournalShelf$Shelf" (36 : Nat) "JournalShelf$Shelf" "count" "[I") ∈ js_all := List.mem_filter.mpr ⟨List.mem_append_right _ (List.mem_append_left _ (List.mem_of_getElem? (i := 60) rfl)), rfl⟩
theorem jk_61 : (Jvm.Cond.fieldLink "JournalShelf$Shelf" (39 : Nat) "JournalShelf$Shelf" "part" "[I") ∈ js_all := List.mem_filter.mpr ⟨List.mem_append_right _ (List.mem_append_left _ (List.mem_of_getElem? (i := 61) rfl)), rfl⟩
theorem jk_62 : (Jvm.Cond.laysFinal "JournalShelf$Shelf" "JournalShelf$Shelf" "disk" "LJournalShelf$Disk;") ∈ js_all := List.mem_filter.mpr ⟨List.mem_append_right _ (List.mem_append_left _ (List.mem_of_getElem? (i := 62) rfl)), rfl⟩
theorem jk_64 : (Jvm.Cond.laysFinal "JournalShelf$Shelf" "JournalShelf$Shelf" "block" "[B") ∈ js_all := List.mem_filter.mpr ⟨List.mem_append_right _ (List.mem_append_left _ (List.mem_of_getElem? (i := 64) rfl)), rfl⟩
theorem jk_66 : (Jvm.Cond.laysFinal "JournalShelf$Shelf" "JournalShelf$Shelf" "fresh" "[B") ∈ js_all := List.mem_filter.mpr ⟨List.mem_append_right _ (List.mem_append_left _ (List.mem_of_getElem? (i := 66) rfl)), rfl⟩
theorem jk_68 : (Jvm.Cond.laysFinal "JournalShelf$Shelf" "JournalShelf$Shelf" "freshSlot" "[I") ∈ js_all := List.mem_filter.mpr ⟨List.mem_append_right _ (List.mem_append_left _ (List.mem_of_getElem? (i := 68) rfl)), rfl⟩
theorem jk_70 : (Jvm.Cond.lays "JournalShelf$Shelf" "JournalShelf$Shelf" "freshMany" "I") ∈ js_all := List.mem_filter.mpr ⟨List.mem_append_right _ (List.mem_append_left _ (List.mem_of_getElem? (i := 70) rfl)), rfl⟩
theorem jk_72 : (Jvm.Cond.lays "JournalShelf$Shelf" "JournalShelf$Shelf" "opened" "I") ∈ js_all := List.mem_filter.mpr ⟨List.mem_append_right _ (List.mem_append_left _ (List.mem_of_getElem? (i := 72) rfl)), rfl⟩
theorem jk_74 : (Jvm.Cond.lays "JournalShelf$Shelf" "JournalShelf$Shelf" "next" "I") ∈ js_all := List.mem_filter.mpr ⟨List.mem_append_right _ (List.mem_append_left _ (List.mem_of_getElem? (i := 74) rfl)), rfl⟩
theorem jk_76 : (Jvm.Cond.lays "JournalShelf$Shelf" "JournalShelf$Shelf" "place" "I") ∈ js_all := List.mem_filter.mpr ⟨List.mem_append_right _ (List.mem_append_left _ (List.mem_of_getElem? (i := 76) rfl)), rfl⟩
theorem jk_78 : (Jvm.Cond.lays "JournalShelf$Shelf" "JournalShelf$Shelf" "safe" "I") ∈ js_all := List.mem_filter.mpr ⟨List.mem_append_right _ (List.mem_append_left _ (List.mem_of_getElem? (i := 78) rfl)), rfl⟩
theorem jk_80 : (Jvm.Cond.lays "JournalShelf$Shelf" "JournalShelf$Shelf" "dirty" "Z") ∈ js_all := List.mem_filter.mpr ⟨List.mem_append_right _ (List.mem_append_left _ (List.mem_of_getElem? (i := 80) rfl)), rfl⟩
theorem jk_82 : (Jvm.Cond.laysFinal "JournalShelf$Shelf" "JournalShelf$Shelf" "number" "[I") ∈ js_all := List.mem_filter.mpr ⟨List.mem_append_right _ (List.mem_append_left _ (List.mem_of_getElem? (i := 82) rfl)), rfl⟩
theorem jk_84 : (Jvm.Cond.laysFinal "JournalShelf$Shelf" "JournalShelf$Shelf" "count" "[I") ∈ js_all := List.mem_filter.mpr ⟨List.mem_append_right _ (List.mem_append_left _ (List.mem_of_getElem? (i := 84) rfl)), rfl⟩
theorem jk_86 : (Jvm.Cond.laysFinal "JournalShelf$Shelf" "JournalShelf$Shelf" "part" "[I") ∈ js_all := List.mem_filter.mpr ⟨List.mem_append_right _ (List.mem_append_left _ (List.mem_of_getElem? (i := 86) rfl)), rfl⟩
theorem jk_89 : (Jvm.Cond.fieldLink "JournalShelf" (10 : Nat) "JournalShelf" "shelf" "LJournalShelf$Shelf;") ∈ js_all := List.mem_filter.mpr ⟨List.mem_append_right _ (List.mem_append_left _ (List.mem_of_getElem? (i := 89) rfl)), rfl⟩
theorem jk_90 : (Jvm.Cond.fieldLink "JournalShelf" (16 : Nat) "JournalShelf" "image" "[B") ∈ js_all := List.mem_filter.mpr ⟨List.mem_append_right _ (List.mem_append_left _ (List.mem_of_getElem? (i := 90) rfl)), rfl⟩
theorem jk_91 : (Jvm.Cond.fieldLink "JournalShelf" (24 : Nat) "JournalShelf" "changes" "I") ∈ js_all := List.mem_filter.mpr ⟨List.mem_append_right _ (List.mem_append_left _ (List.mem_of_getElem? (i := 91) rfl)), rfl⟩
theorem jk_92 : (Jvm.Cond.fieldLink "JournalShelf" (31 : Nat) "JournalShelf" "flushes" "I") ∈ js_all := List.mem_filter.mpr ⟨List.mem_append_right _ (List.mem_append_left _ (List.mem_of_getElem? (i := 92) rfl)), rfl⟩
theorem jk_93 : (Jvm.Cond.fieldLink "JournalShelf" (76 : Nat) "JournalShelf" "crashes" "I") ∈ js_all := List.mem_filter.mpr ⟨List.mem_append_right _ (List.mem_append_left _ (List.mem_of_getElem? (i := 93) rfl)), rfl⟩
theorem jk_94 : (Jvm.Cond.laysFinal "JournalShelf" "JournalShelf" "shelf" "LJournalShelf$Shelf;") ∈ js_all := List.mem_filter.mpr ⟨List.mem_append_right _ (List.mem_append_left _ (List.mem_of_getElem? (i := 94) rfl)), rfl⟩
theorem jk_96 : (Jvm.Cond.laysFinal "JournalShelf" "JournalShelf" "image" "[B") ∈ js_all := List.mem_filter.mpr ⟨List.mem_append_right _ (List.mem_append_left _ (List.mem_of_getElem? (i := 96) rfl)), rfl⟩
theorem jk_98 : (Jvm.Cond.lays "JournalShelf" "JournalShelf" "changes" "I") ∈ js_all := List.mem_filter.mpr ⟨List.mem_append_right _ (List.mem_append_left _ (List.mem_of_getElem? (i := 98) rfl)), rfl⟩
theorem jk_100 : (Jvm.Cond.lays "JournalShelf" "JournalShelf" "flushes" "I") ∈ js_all := List.mem_filter.mpr ⟨List.mem_append_right _ (List.mem_append_left _ (List.mem_of_getElem? (i := 100) rfl)), rfl⟩
theorem jk_102 : (Jvm.Cond.lays "JournalShelf" "JournalShelf" "crashes" "I") ∈ js_all := List.mem_filter.mpr ⟨List.mem_append_right _ (List.mem_append_left _ (List.mem_of_getElem? (i := 102) rfl)), rfl⟩
theorem jk_105 : (Jvm.Cond.methodLink "JournalShelfLaw" (13 : Nat) ({ cls := "JournalShelf", name := "change", desc := "(II)I" } : Jvm.MethodName)) ∈ js_all := List.mem_filter.mpr ⟨List.mem_append_right _ (List.mem_append_left _ (List.mem_of_getElem? (i := 105) rfl)), rfl⟩
theorem jk_106 : (Jvm.Cond.instanceMethod ({ cls := "JournalShelf", name := "change", desc := "(II)I" } : Jvm.MethodName)) ∈ js_all := List.mem_filter.mpr ⟨List.mem_append_right _ (List.mem_append_left _ (List.mem_of_getElem? (i := 106) rfl)), rfl⟩
theorem jk_107 : (Jvm.Cond.selects "JournalShelf" ({ cls := "JournalShelf", name := "change", desc := "(II)I" } : Jvm.MethodName) ({ cls := "JournalShelf", name := "change", desc := "(II)I" } : Jvm.MethodName)) ∈ js_all := List.mem_filter.mpr ⟨List.mem_append_right _ (List.mem_append_left _ (List.mem_of_getElem? (i := 107) rfl)), rfl⟩
theorem jk_108 : (Jvm.Cond.code ({ cls := "JournalShelf", name := "change", desc := "(II)I" } : Jvm.MethodName) prog_1_method_5_code (4 : Nat) (Option.some Jvm.ClassFile.FieldType.int)) ∈ js_all := List.mem_filter.mpr ⟨List.mem_append_right _ (List.mem_append_left _ (List.mem_of_getElem? (i := 108) rfl)), rfl⟩
theorem jk_109 : (Jvm.Cond.methodLink "JournalShelf" (20 : Nat) ({ cls := "JournalShelf", name := "in", desc := "(III)Z" } : Jvm.MethodName)) ∈ js_all := List.mem_filter.mpr ⟨List.mem_append_right _ (List.mem_append_left _ (List.mem_of_getElem? (i := 109) rfl)), rfl⟩
theorem jk_110 : (Jvm.Cond.static ({ cls := "JournalShelf", name := "in", desc := "(III)Z" } : Jvm.MethodName)) ∈ js_all := List.mem_filter.mpr ⟨List.mem_append_right _ (List.mem_append_left _ (List.mem_of_getElem? (i := 110) rfl)), rfl⟩
theorem jk_111 : (Jvm.Cond.code ({ cls := "JournalShelf", name := "in", desc := "(III)Z" } : Jvm.MethodName) prog_1_method_3_code (3 : Nat) (Option.some Jvm.ClassFile.FieldType.boolean)) ∈ js_all := List.mem_filter.mpr ⟨List.mem_append_right _ (List.mem_append_left _ (List.mem_of_getElem? (i := 111) rfl)), rfl⟩
theorem jk_112 : (Jvm.Cond.methodLink "JournalShelf" (34 : Nat) ({ cls := "JournalShelf$Shelf", name := "begin", desc := "()V" } : Jvm.MethodName)) ∈ js_all := List.mem_filter.mpr ⟨List.mem_append_right _ (List.mem_append_left _ (List.mem_of_getElem? (i := 112) rfl)), rfl⟩
theorem jk_113 : (Jvm.Cond.instanceMethod ({ cls := "JournalShelf$Shelf", name := "begin", desc := "()V" } : Jvm.MethodName)) ∈ js_all := List.mem_filter.mpr ⟨List.mem_append_right _ (List.mem_append_left _ (List.mem_of_getElem? (i := 113) rfl)), rfl⟩
theorem jk_114 : (Jvm.Cond.selects "JournalShelf$Shelf" ({ cls := "JournalShelf$Shelf", name := "begin", desc := "()V" } : Jvm.MethodName) ({ cls := "JournalShelf$Shelf", name := "begin", desc := "()V" } : Jvm.MethodName)) ∈ js_all := List.mem_filter.mpr ⟨List.mem_append_right _ (List.mem_append_left _ (List.mem_of_getElem? (i := 114) rfl)), rfl⟩
theorem jk_115 : (Jvm.Cond.code ({ cls := "JournalShelf$Shelf", name := "begin", desc := "()V" } : Jvm.MethodName) prog_3_method_3_code (1 : Nat) (Option.none : Option Jvm.ClassFile.FieldType)) ∈ js_all := List.mem_filter.mpr ⟨List.mem_append_right _ (List.mem_append_left _ (List.mem_of_getElem? (i := 115) rfl)), rfl⟩
theorem jk_116 : (Jvm.Cond.methodLink "JournalShelf$Shelf" (49 : Nat) ({ cls := "JournalShelf$Shelf", name := "flush", desc := "()V" } : Jvm.MethodName)) ∈ js_all := List.mem_filter.mpr ⟨List.mem_append_right _ (List.mem_append_left _ (List.mem_of_getElem? (i := 116) rfl)), rfl⟩
theorem jk_117 : (Jvm.Cond.instanceMethod ({ cls := "JournalShelf$Shelf", name := "flush", desc := "()V" } : Jvm.MethodName)) ∈ js_all := List.mem_filter.mpr ⟨List.mem_append_right _ (List.mem_append_left _ (List.mem_of_getElem? (i := 117) rfl)), rfl⟩
theorem jk_118 : (Jvm.Cond.selects "JournalShelf$Shelf" ({ cls := "JournalShelf$Shelf", name := "flush", desc := "()V" } : Jvm.MethodName) ({ cls := "JournalShelf$Shelf", name := "flush", desc := "()V" } : Jvm.MethodName)) ∈ js_all := List.mem_filter.mpr ⟨List.mem_append_right _ (List.mem_append_left _ (List.mem_of_getElem? (i := 118) rfl)), rfl⟩
theorem jk_119 : (Jvm.Cond.code ({ cls := "JournalShelf$Shelf", name := "flush", desc := "()V" } : Jvm.MethodName) prog_3_method_6_code (4 : Nat) (Option.none : Option Jvm.ClassFile.FieldType)) ∈ js_all := List.mem_filter.mpr ⟨List.mem_append_right _ (List.mem_append_left _ (List.mem_of_getElem? (i := 119) rfl)), rfl⟩
theorem jk_120 : (Jvm.Cond.methodLink "JournalShelf$Shelf" (75 : Nat) ({ cls := "JournalShelf$Disk", name := "flush", desc := "()V" } : Jvm.MethodName)) ∈ js_all := List.mem_filter.mpr ⟨List.mem_append_right _ (List.mem_append_left _ (List.mem_of_getElem? (i := 120) rfl)), rfl⟩
theorem jk_121 : (Jvm.Cond.instanceMethod ({ cls := "JournalShelf$Disk", name := "flush", desc := "()V" } : Jvm.MethodName)) ∈ js_all := List.mem_filter.mpr ⟨List.mem_append_right _ (List.mem_append_left _ (List.mem_of_getElem? (i := 121) rfl)), rfl⟩
theorem jk_122 : (Jvm.Cond.selects "JournalShelf$Disk" ({ cls := "JournalShelf$Disk", name := "flush", desc := "()V" } : Jvm.MethodName) ({ cls := "JournalShelf$Disk", name := "flush", desc := "()V" } : Jvm.MethodName)) ∈ js_all := List.mem_filter.mpr ⟨List.mem_append_right _ (List.mem_append_left _ (List.mem_of_getElem? (i := 122) rfl)), rfl⟩
theorem jk_123 : (Jvm.Cond.code ({ cls := "JournalShelf$Disk", name := "flush", desc := "()V" } : Jvm.MethodName) prog_2_method_6_code (2 : Nat) (Option.none : Option Jvm.ClassFile.FieldType)) ∈ js_all := List.mem_filter.mpr ⟨List.mem_append_right _ (List.mem_append_left _ (List.mem_of_getElem? (i := 123) rfl)), rfl⟩
theorem jk_124 : (Jvm.Cond.methodLink "JournalShelf$Disk" (33 : Nat) ({ cls := "JournalShelf$Disk", name := "land", desc := "(II)V" } : Jvm.MethodName)) ∈ js_all := List.mem_filter.mpr ⟨List.mem_append_right _ (List.mem_append_left _ (List.mem_of_getElem? (i := 124) rfl)), rfl⟩
theorem jk_126 : (Jvm.Cond.instanceMethod ({ cls := "JournalShelf$Disk", name := "land", desc := "(II)V" } : Jvm.MethodName)) ∈ js_all := List.mem_filter.mpr ⟨List.mem_append_right _ (List.mem_append_left _ (List.mem_of_getElem? (i := 126) rfl)), rfl⟩
theorem jk_127 : (Jvm.Cond.code ({ cls := "JournalShelf$Disk", name := "land", desc := "(II)V" } : Jvm.MethodName) prog_2_method_5_code (3 : Nat) (Option.none : Option Jvm.ClassFile.FieldType)) ∈ js_all := List.mem_filter.mpr ⟨List.mem_append_right _ (List.mem_append_left _ (List.mem_of_getElem? (i := 127) rfl)), rfl⟩
theorem jk_128 : (Jvm.Cond.methodLink "JournalShelf$Disk" (27 : Nat) ({ cls := "java/lang/System", name := "arraycopy", desc := "(Ljava/lang/Object;ILjava/lang/Object;II)V" } : Jvm.MethodName)) ∈ js_all := List.mem_filter.mpr ⟨List.mem_append_right _ (List.mem_append_left _ (List.mem_of_getElem? (i := 128) rfl)), rfl⟩
theorem jk_129 : (Jvm.Cond.static ({ cls := "java/lang/System", name := "arraycopy", desc := "(Ljava/lang/Object;ILjava/lang/Object;II)V" } : Jvm.MethodName)) ∈ js_all := List.mem_filter.mpr ⟨List.mem_append_right _ (List.mem_append_left _ (List.mem_of_getElem? (i := 129) rfl)), rfl⟩
theorem jk_130 : (Jvm.Cond.native ({ cls := "java/lang/System", name := "arraycopy", desc := "(Ljava/lang/Object;ILjava/lang/Object;II)V" } : Jvm.MethodName)) ∈ js_all := List.mem_filter.mpr ⟨List.mem_append_right _ (List.mem_append_left _ (List.mem_of_getElem? (i := 130) rfl)), rfl⟩
theorem jk_131 : (Jvm.Cond.methodLink "JournalShelf$Shelf" (76 : Nat) ({ cls := "JournalShelf$Shelf", name := "home", desc := "(I[BI)V" } : Jvm.MethodName)) ∈ js_all := List.mem_filter.mpr ⟨List.mem_append_right _ (List.mem_append_left _ (List.mem_of_getElem? (i := 131) rfl)), rfl⟩
theorem jk_133 : (Jvm.Cond.instanceMethod ({ cls := "JournalShelf$Shelf", name := "home", desc := "(I[BI)V" } : Jvm.MethodName)) ∈ js_all := List.mem_filter.mpr ⟨List.mem_append_right _ (List.mem_append_left _ (List.mem_of_getElem? (i := 133) rfl)), rfl⟩
theorem jk_134 : (Jvm.Cond.code ({ cls := "JournalShelf$Shelf", name := "home", desc := "(I[BI)V" } : Jvm.MethodName) prog_3_method_7_code (4 : Nat) (Option.none : Option Jvm.ClassFile.FieldType)) ∈ js_all := List.mem_filter.mpr ⟨List.mem_append_right _ (List.mem_append_left _ (List.mem_of_getElem? (i := 134) rfl)), rfl⟩
theorem jk_135 : (Jvm.Cond.methodLink "JournalShelf$Shelf" (80 : Nat) ({ cls := "JournalShelf$Disk", name := "hasRoom", desc := "()Z" } : Jvm.MethodName)) ∈ js_all := List.mem_filter.mpr ⟨List.mem_append_right _ (List.mem_append_left _ (List.mem_of_getElem? (i := 135) rfl)), rfl⟩
theorem jk_136 : (Jvm.Cond.instanceMethod ({ cls := "JournalShelf$Disk", name := "hasRoom", desc := "()Z" } : Jvm.MethodName)) ∈ js_all := List.mem_filter.mpr ⟨List.mem_append_right _ (List.mem_append_left _ (List.mem_of_getElem? (i := 136) rfl)), rfl⟩
theorem jk_137 : (Jvm.Cond.selects "JournalShelf$Disk" ({ cls := "JournalShelf$Disk", name := "hasRoom", desc := "()Z" } : Jvm.MethodName) ({ cls := "JournalShelf$Disk", name := "hasRoom", desc := "()Z" } : Jvm.MethodName)) ∈ js_all := List.mem_filter.mpr ⟨List.mem_append_right _ (List.mem_append_left _ (List.mem_of_getElem? (i := 137) rfl)), rfl⟩
theorem jk_138 : (Jvm.Cond.code ({ cls := "JournalShelf$Disk", name := "hasRoom", desc := "()Z" } : Jvm.MethodName) prog_2_method_2_code (1 : Nat) (Option.some Jvm.ClassFile.FieldType.boolean)) ∈ js_all := List.mem_filter.mpr ⟨List.mem_append_right _ (List.mem_append_left _ (List.mem_of_getElem? (i := 138) rfl)), rfl⟩
theorem jk_139 : (Jvm.Cond.methodLink "JournalShelf$Shelf" (84 : Nat) ({ cls := "java/util/Arrays", name := "fill", desc := "([BB)V" } : Jvm.MethodName)) ∈ js_all := List.mem_filter.mpr ⟨List.mem_append_right _ (List.mem_append_left _ (List.mem_of_getElem? (i := 139) rfl)), rfl⟩
theorem jk_140 : (Jvm.Cond.static ({ cls := "java/util/Arrays", name := "fill", desc := "([BB)V" } : Jvm.MethodName)) ∈ js_all := List.mem_filter.mpr ⟨List.mem_append_right _ (List.mem_append_left _ (List.mem_of_getElem? (i := 140) rfl)), rfl⟩
theorem jk_141 : (Jvm.Cond.code ({ cls := "java/util/Arrays", name := "fill", desc := "([BB)V" } : Jvm.MethodName) prog_8_method_109_code (4 : Nat) (Option.none : Option Jvm.ClassFile.FieldType)) ∈ js_all := List.mem_filter.mpr ⟨List.mem_append_right _ (List.mem_append_left _ (List.mem_of_getElem? (i := 141) rfl)), rfl⟩
theorem jk_142 : (Jvm.Cond.methodLink "JournalShelf$Shelf" (55 : Nat) ({ cls := "java/lang/System", name := "arraycopy", desc := "(Ljava/lang/Object;ILjava/lang/Object;II)V" } : Jvm.MethodName)) ∈ js_all := List.mem_filter.mpr ⟨List.mem_append_right _ (List.mem_append_left _ (List.mem_of_getElem? (i := 142) rfl)), rfl⟩
theorem jk_143 : (Jvm.Cond.methodLink "JournalShelf$Shelf" (71 : Nat) ({ cls := "JournalShelf$Disk", name := "write", desc := "(I[B)V" } : Jvm.MethodName)) ∈ js_all := List.mem_filter.mpr ⟨List.mem_append_right _ (List.mem_append_left _ (List.mem_of_getElem? (i := 143) rfl)), rfl⟩
theorem jk_144 : (Jvm.Cond.instanceMethod ({ cls := "JournalShelf$Disk", name := "write", desc := "(I[B)V" } : Jvm.MethodName)) ∈ js_all := List.mem_filter.mpr ⟨List.mem_append_right _ (List.mem_append_left _ (List.mem_of_getElem? (i := 144) rfl)), rfl⟩
theorem jk_145 : (Jvm.Cond.selects "JournalShelf$Disk" ({ cls := "JournalShelf$Disk", name := "write", desc := "(I[B)V" } : Jvm.MethodName) ({ cls := "JournalShelf$Disk", name := "write", desc := "(I[B)V" } : Jvm.MethodName)) ∈ js_all := List.mem_filter.mpr ⟨List.mem_append_right _ (List.mem_append_left _ (List.mem_of_getElem? (i := 145) rfl)), rfl⟩
theorem jk_146 : (Jvm.Cond.code ({ cls := "JournalShelf$Disk", name := "write", desc := "(I[B)V" } : Jvm.MethodName) prog_2_method_3_code (3 : Nat) (Option.none : Option Jvm.ClassFile.FieldType)) ∈ js_all := List.mem_filter.mpr ⟨List.mem_append_right _ (List.mem_append_left _ (List.mem_of_getElem? (i := 146) rfl)), rfl⟩
theorem jk_147 : (Jvm.Cond.methodLink "JournalShelf" (37 : Nat) ({ cls := "java/util/Arrays", name := "fill", desc := "([BB)V" } : Jvm.MethodName)) ∈ js_all := List.mem_filter.mpr ⟨List.mem_append_right _ (List.mem_append_left _ (List.mem_of_getElem? (i := 147) rfl)), rfl⟩
theorem jk_148 : (Jvm.Cond.methodLink "JournalShelf" (43 : Nat) ({ cls := "JournalShelf", name := "put4", desc := "([BII)V" } : Jvm.MethodName)) ∈ js_all := List.mem_filter.mpr ⟨List.mem_append_right _ (List.mem_append_left _ (List.mem_of_getElem? (i := 148) rfl)), rfl⟩
theorem jk_149 : (Jvm.Cond.static ({ cls := "JournalShelf", name := "put4", desc := "([BII)V" } : Jvm.MethodName)) ∈ js_all := List.mem_filter.mpr ⟨List.mem_append_right _ (List.mem_append_left _ (List.mem_of_getElem? (i := 149) rfl)), rfl⟩
theorem jk_150 : (Jvm.Cond.code ({ cls := "JournalShelf", name := "put4", desc := "([BII)V" } : Jvm.MethodName) prog_1_method_1_code (3 : Nat) (Option.none : Option Jvm.ClassFile.FieldType)) ∈ js_all := List.mem_filter.mpr ⟨List.mem_append_right _ (List.mem_append_left _ (List.mem_of_getElem? (i := 150) rfl)), rfl⟩
theorem jk_151 : (Jvm.Cond.methodLink "JournalShelf" (47 : Nat) ({ cls := "JournalShelf$Shelf", name := "stage", desc := "(I[B)V" } : Jvm.MethodName)) ∈ js_all := List.mem_filter.mpr ⟨List.mem_append_right _ (List.mem_append_left _ (List.mem_of_getElem? (i := 151) rfl)), rfl⟩
theorem jk_152 : (Jvm.Cond.instanceMethod ({ cls := "JournalShelf$Shelf", name := "stage", desc := "(I[B)V" } : Jvm.MethodName)) ∈ js_all := List.mem_filter.mpr ⟨List.mem_append_right _ (List.mem_append_left _ (List.mem_of_getElem? (i := 152) rfl)), rfl⟩
theorem jk_153 : (Jvm.Cond.selects "JournalShelf$Shelf" ({ cls := "JournalShelf$Shelf", name := "stage", desc := "(I[B)V" } : Jvm.MethodName) ({ cls := "JournalShelf$Shelf", name := "stage", desc := "(I[B)V" } : Jvm.MethodName)) ∈ js_all := List.mem_filter.mpr ⟨List.mem_append_right _ (List.mem_append_left _ (List.mem_of_getElem? (i := 153) rfl)), rfl⟩
theorem jk_154 : (Jvm.Cond.code ({ cls := "JournalShelf$Shelf", name := "stage", desc := "(I[B)V" } : Jvm.MethodName) prog_3_method_4_code (3 : Nat) (Option.none : Option Jvm.ClassFile.FieldType)) ∈ js_all := List.mem_filter.mpr ⟨List.mem_append_right _ (List.mem_append_left _ (List.mem_of_getElem? (i := 154) rfl)), rfl⟩
theorem jk_155 : (Jvm.Cond.methodLink "JournalShelfLaw" (18 : Nat) ({ cls := "JournalShelf", name := "commit", desc := "()I" } : Jvm.MethodName)) ∈ js_all := List.mem_filter.mpr ⟨List.mem_append_right _ (List.mem_append_left _ (List.mem_of_getElem? (i := 155) rfl)), rfl⟩
theorem jk_156 : (Jvm.Cond.instanceMethod ({ cls := "JournalShelf", name := "commit", desc := "()I" } : Jvm.MethodName)) ∈ js_all := List.mem_filter.mpr ⟨List.mem_append_right _ (List.mem_append_left _ (List.mem_of_getElem? (i := 156) rfl)), rfl⟩
theorem jk_157 : (Jvm.Cond.selects "JournalShelf" ({ cls := "JournalShelf", name := "commit", desc := "()I" } : Jvm.MethodName) ({ cls := "JournalShelf", name := "commit", desc := "()I" } : Jvm.MethodName)) ∈ js_all := List.mem_filter.mpr ⟨List.mem_append_right _ (List.mem_append_left _ (List.mem_of_getElem? (i := 157) rfl)), rfl⟩
theorem jk_158 : (Jvm.Cond.code ({ cls := "JournalShelf", name := "commit", desc := "()I" } : Jvm.MethodName) prog_1_method_6_code (2 : Nat) (Option.some Jvm.ClassFile.FieldType.int)) ∈ js_all := List.mem_filter.mpr ⟨List.mem_append_right _ (List.mem_append_left _ (List.mem_of_getElem? (i := 158) rfl)), rfl⟩
theorem jk_159 : (Jvm.Cond.methodLink "JournalShelf" (51 : Nat) ({ cls := "JournalShelf$Shelf", name := "commit", desc := "()V" } : Jvm.MethodName)) ∈ js_all := List.mem_filter.mpr ⟨List.mem_append_right _ (List.mem_append_left _ (List.mem_of_getElem? (i := 159) rfl)), rfl⟩
theorem jk_160 : (Jvm.Cond.instanceMethod ({ cls := "JournalShelf$Shelf", name := "commit", desc := "()V" } : Jvm.MethodName)) ∈ js_all := List.mem_filter.mpr ⟨List.mem_append_right _ (List.mem_append_left _ (List.mem_of_getElem? (i := 160) rfl)), rfl⟩
theorem jk_161 : (Jvm.Cond.selects "JournalShelf$Shelf" ({ cls := "JournalShelf$Shelf", name := "commit", desc := "()V" } : Jvm.MethodName) ({ cls := "JournalShelf$Shelf", name := "commit", desc := "()V" } : Jvm.MethodName)) ∈ js_all := List.mem_filter.mpr ⟨List.mem_append_right _ (List.mem_append_left _ (List.mem_of_getElem? (i := 161) rfl)), rfl⟩
theorem jk_162 : (Jvm.Cond.code ({ cls := "JournalShelf$Shelf", name := "commit", desc := "()V" } : Jvm.MethodName) prog_3_method_5_code (2 : Nat) (Option.none : Option Jvm.ClassFile.FieldType)) ∈ js_all := List.mem_filter.mpr ⟨List.mem_append_right _ (List.mem_append_left _ (List.mem_of_getElem? (i := 162) rfl)), rfl⟩
theorem jk_164 : (Jvm.Cond.methodLink "JournalShelfLaw" (23 : Nat) ({ cls := "JournalShelf", name := "forget", desc := "()I" } : Jvm.MethodName)) ∈ js_all := List.mem_filter.mpr ⟨List.mem_append_right _ (List.mem_append_left _ (List.mem_of_getElem? (i := 164) rfl)), rfl⟩
theorem jk_165 : (Jvm.Cond.instanceMethod ({ cls := "JournalShelf", name := "forget", desc := "()I" } : Jvm.MethodName)) ∈ js_all := List.mem_filter.mpr ⟨List.mem_append_right _ (List.mem_append_left _ (List.mem_of_getElem? (i := 165) rfl)), rfl⟩
theorem jk_166 : (Jvm.Cond.selects "JournalShelf" ({ cls := "JournalShelf", name := "forget", desc := "()I" } : Jvm.MethodName) ({ cls := "JournalShelf", name := "forget", desc := "()I" } : Jvm.MethodName)) ∈ js_all := List.mem_filter.mpr ⟨List.mem_append_right _ (List.mem_append_left _ (List.mem_of_getElem? (i := 166) rfl)), rfl⟩
theorem jk_167 : (Jvm.Cond.code ({ cls := "JournalShelf", name := "forget", desc := "()I" } : Jvm.MethodName) prog_1_method_7_code (2 : Nat) (Option.some Jvm.ClassFile.FieldType.int)) ∈ js_all := List.mem_filter.mpr ⟨List.mem_append_right _ (List.mem_append_left _ (List.mem_of_getElem? (i := 167) rfl)), rfl⟩
theorem jk_168 : (Jvm.Cond.methodLink "JournalShelfLaw" (27 : Nat) ({ cls := "JournalShelf", name := "flush", desc := "()I" } : Jvm.MethodName)) ∈ js_all := List.mem_filter.mpr ⟨List.mem_append_right _ (List.mem_append_left _ (List.mem_of_getElem? (i := 168) rfl)), rfl⟩
theorem jk_169 : (Jvm.Cond.instanceMethod ({ cls := "JournalShelf", name := "flush", desc := "()I" } : Jvm.MethodName)) ∈ js_all := List.mem_filter.mpr ⟨List.mem_append_right _ (List.mem_append_left _ (List.mem_of_getElem? (i := 169) rfl)), rfl⟩
theorem jk_170 : (Jvm.Cond.selects "JournalShelf" ({ cls := "JournalShelf", name := "flush", desc := "()I" } : Jvm.MethodName) ({ cls := "JournalShelf", name := "flush", desc := "()I" } : Jvm.MethodName)) ∈ js_all := List.mem_filter.mpr ⟨List.mem_append_right _ (List.mem_append_left _ (List.mem_of_getElem? (i := 170) rfl)), rfl⟩
theorem jk_171 : (Jvm.Cond.code ({ cls := "JournalShelf", name := "flush", desc := "()I" } : Jvm.MethodName) prog_1_method_8_code (2 : Nat) (Option.some Jvm.ClassFile.FieldType.int)) ∈ js_all := List.mem_filter.mpr ⟨List.mem_append_right _ (List.mem_append_left _ (List.mem_of_getElem? (i := 171) rfl)), rfl⟩
theorem jk_172 : (Jvm.Cond.methodLink "JournalShelf" (60 : Nat) ({ cls := "JournalShelf$Shelf", name := "flush", desc := "()V" } : Jvm.MethodName)) ∈ js_all := List.mem_filter.mpr ⟨List.mem_append_right _ (List.mem_append_left _ (List.mem_of_getElem? (i := 172) rfl)), rfl⟩
theorem jk_173 : (Jvm.Cond.methodLink "JournalShelfLaw" (31 : Nat) ({ cls := "JournalShelf", name := "crash", desc := "(II)I" } : Jvm.MethodName)) ∈ js_all := List.mem_filter.mpr ⟨List.mem_append_right _ (List.mem_append_left _ (List.mem_of_getElem? (i := 173) rfl)), rfl⟩
theorem jk_174 : (Jvm.Cond.instanceMethod ({ cls := "JournalShelf", name := "crash", desc := "(II)I" } : Jvm.MethodName)) ∈ js_all := List.mem_filter.mpr ⟨List.mem_append_right _ (List.mem_append_left _ (List.mem_of_getElem? (i := 174) rfl)), rfl⟩
theorem jk_175 : (Jvm.Cond.selects "JournalShelf" ({ cls := "JournalShelf", name := "crash", desc := "(II)I" } : Jvm.MethodName) ({ cls := "JournalShelf", name := "crash", desc := "(II)I" } : Jvm.MethodName)) ∈ js_all := List.mem_filter.mpr ⟨List.mem_append_right _ (List.mem_append_left _ (List.mem_of_getElem? (i := 175) rfl)), rfl⟩
theorem jk_176 : (Jvm.Cond.code ({ cls := "JournalShelf", name := "crash", desc := "(II)I" } : Jvm.MethodName) prog_1_method_9_code (4 : Nat) (Option.some Jvm.ClassFile.FieldType.int)) ∈ js_all := List.mem_filter.mpr ⟨List.mem_append_right _ (List.mem_append_left _ (List.mem_of_getElem? (i := 176) rfl)), rfl⟩
theorem jk_177 : (Jvm.Cond.methodLink "JournalShelf" (67 : Nat) ({ cls := "JournalShelf$Disk", name := "crash", desc := "(II)V" } : Jvm.MethodName)) ∈ js_all := List.mem_filter.mpr ⟨List.mem_append_right _ (List.mem_append_left _ (List.mem_of_getElem? (i := 177) rfl)), rfl⟩
theorem jk_178 : (Jvm.Cond.instanceMethod ({ cls := "JournalShelf$Disk", name := "crash", desc := "(II)V" } : Jvm.MethodName)) ∈ js_all := List.mem_filter.mpr ⟨List.mem_append_right _ (List.mem_append_left _ (List.mem_of_getElem? (i := 178) rfl)), rfl⟩
theorem jk_179 : (Jvm.Cond.selects "JournalShelf$Disk" ({ cls := "JournalShelf$Disk", name := "crash", desc := "(II)V" } : Jvm.MethodName) ({ cls := "JournalShelf$Disk", name := "crash", desc := "(II)V" } : Jvm.MethodName)) ∈ js_all := List.mem_filter.mpr ⟨List.mem_append_right _ (List.mem_append_left _ (List.mem_of_getElem? (i := 179) rfl)), rfl⟩
theorem jk_180 : (Jvm.Cond.code ({ cls := "JournalShelf$Disk", name := "crash", desc := "(II)V" } : Jvm.MethodName) prog_2_method_7_code (5 : Nat) (Option.none : Option Jvm.ClassFile.FieldType)) ∈ js_all := List.mem_filter.mpr ⟨List.mem_append_right _ (List.mem_append_left _ (List.mem_of_getElem? (i := 180) rfl)), rfl⟩
theorem jk_181 : (Jvm.Cond.methodLink "JournalShelf" (73 : Nat) ({ cls := "JournalShelf$Shelf", name := "recover", desc := "()V" } : Jvm.MethodName)) ∈ js_all := List.mem_filter.mpr ⟨List.mem_append_right _ (List.mem_append_left _ (List.mem_of_getElem? (i := 181) rfl)), rfl⟩
theorem jk_182 : (Jvm.Cond.instanceMethod ({ cls := "JournalShelf$Shelf", name := "recover", desc := "()V" } : Jvm.MethodName)) ∈ js_all := List.mem_filter.mpr ⟨List.mem_append_right _ (List.mem_append_left _ (List.mem_of_getElem? (i := 182) rfl)), rfl⟩
theorem jk_183 : (Jvm.Cond.selects "JournalShelf$Shelf" ({ cls := "JournalShelf$Shelf", name := "recover", desc := "()V" } : Jvm.MethodName) ({ cls := "JournalShelf$Shelf", name := "recover", desc := "()V" } : Jvm.MethodName)) ∈ js_all := List.mem_filter.mpr ⟨List.mem_append_right _ (List.mem_append_left _ (List.mem_of_getElem? (i := 183) rfl)), rfl⟩
theorem jk_184 : (Jvm.Cond.code ({ cls := "JournalShelf$Shelf", name := "recover", desc := "()V" } : Jvm.MethodName) prog_3_method_10_code (5 : Nat) (Option.none : Option Jvm.ClassFile.FieldType)) ∈ js_all := List.mem_filter.mpr ⟨List.mem_append_right _ (List.mem_append_left _ (List.mem_of_getElem? (i := 184) rfl)), rfl⟩
theorem jk_185 : (Jvm.Cond.methodLink "JournalShelf$Shelf" (90 : Nat) ({ cls := "JournalShelf$Disk", name := "read", desc := "(I[B)V" } : Jvm.MethodName)) ∈ js_all := List.mem_filter.mpr ⟨List.mem_append_right _ (List.mem_append_left _ (List.mem_of_getElem? (i := 185) rfl)), rfl⟩
theorem jk_186 : (Jvm.Cond.instanceMethod ({ cls := "JournalShelf$Disk", name := "read", desc := "(I[B)V" } : Jvm.MethodName)) ∈ js_all := List.mem_filter.mpr ⟨List.mem_append_right _ (List.mem_append_left _ (List.mem_of_getElem? (i := 186) rfl)), rfl⟩
theorem jk_187 : (Jvm.Cond.selects "JournalShelf$Disk" ({ cls := "JournalShelf$Disk", name := "read", desc := "(I[B)V" } : Jvm.MethodName) ({ cls := "JournalShelf$Disk", name := "read", desc := "(I[B)V" } : Jvm.MethodName)) ∈ js_all := List.mem_filter.mpr ⟨List.mem_append_right _ (List.mem_append_left _ (List.mem_of_getElem? (i := 187) rfl)), rfl⟩
theorem jk_188 : (Jvm.Cond.code ({ cls := "JournalShelf$Disk", name := "read", desc := "(I[B)V" } : Jvm.MethodName) prog_2_method_4_code (4 : Nat) (Option.none : Option Jvm.ClassFile.FieldType)) ∈ js_all := List.mem_filter.mpr ⟨List.mem_append_right _ (List.mem_append_left _ (List.mem_of_getElem? (i := 188) rfl)), rfl⟩
theorem jk_190 : (Jvm.Cond.static ({ cls := "JournalShelf", name := "get4", desc := "([BI)I" } : Jvm.MethodName)) ∈ js_all := List.mem_filter.mpr ⟨List.mem_append_right _ (List.mem_append_left _ (List.mem_of_getElem? (i := 190) rfl)), rfl⟩
theorem jk_191 : (Jvm.Cond.code ({ cls := "JournalShelf", name := "get4", desc := "([BI)I" } : Jvm.MethodName) prog_1_method_2_code (2 : Nat) (Option.some Jvm.ClassFile.FieldType.int)) ∈ js_all := List.mem_filter.mpr ⟨List.mem_append_right _ (List.mem_append_left _ (List.mem_of_getElem? (i := 191) rfl)), rfl⟩
theorem jk_193 : (Jvm.Cond.methodLink "JournalShelf$Shelf" (101 : Nat) ({ cls := "java/lang/Math", name := "max", desc := "(II)I" } : Jvm.MethodName)) ∈ js_all := List.mem_filter.mpr ⟨List.mem_append_right _ (List.mem_append_left _ (List.mem_of_getElem? (i := 193) rfl)), rfl⟩
theorem jk_194 : (Jvm.Cond.static ({ cls := "java/lang/Math", name := "max", desc := "(II)I" } : Jvm.MethodName)) ∈ js_all := List.mem_filter.mpr ⟨List.mem_append_right _ (List.mem_append_left _ (List.mem_of_getElem? (i := 194) rfl)), rfl⟩
theorem jk_195 : (Jvm.Cond.code ({ cls := "java/lang/Math", name := "max", desc := "(II)I" } : Jvm.MethodName) prog_6_method_65_code (2 : Nat) (Option.some Jvm.ClassFile.FieldType.int)) ∈ js_all := List.mem_filter.mpr ⟨List.mem_append_right _ (List.mem_append_left _ (List.mem_of_getElem? (i := 195) rfl)), rfl⟩
theorem jk_196 : (Jvm.Cond.methodLink "JournalShelf$Shelf" (107 : Nat) ({ cls := "JournalShelf$Shelf", name := "isWhole", desc := "(I)Z" } : Jvm.MethodName)) ∈ js_all := List.mem_filter.mpr ⟨List.mem_append_right _ (List.mem_append_left _ (List.mem_of_getElem? (i := 196) rfl)), rfl⟩
theorem jk_198 : (Jvm.Cond.instanceMethod ({ cls := "JournalShelf$Shelf", name := "isWhole", desc := "(I)Z" } : Jvm.MethodName)) ∈ js_all := List.mem_filter.mpr ⟨List.mem_append_right _ (List.mem_append_left _ (List.mem_of_getElem? (i := 198) rfl)), rfl⟩
theorem jk_199 : (Jvm.Cond.code ({ cls := "JournalShelf$Shelf", name := "isWhole", desc := "(I)Z" } : Jvm.MethodName) prog_3_method_9_code (5 : Nat) (Option.some Jvm.ClassFile.FieldType.boolean)) ∈ js_all := List.mem_filter.mpr ⟨List.mem_append_right _ (List.mem_append_left _ (List.mem_of_getElem? (i := 199) rfl)), rfl⟩
theorem jk_200 : (Jvm.Cond.methodLink "JournalShelf$Shelf" (111 : Nat) ({ cls := "JournalShelf$Shelf", name := "redo", desc := "(I)V" } : Jvm.MethodName)) ∈ js_all := List.mem_filter.mpr ⟨List.mem_append_right _ (List.mem_append_left _ (List.mem_of_getElem? (i := 200) rfl)), rfl⟩
theorem jk_202 : (Jvm.Cond.instanceMethod ({ cls := "JournalShelf$Shelf", name := "redo", desc := "(I)V" } : Jvm.MethodName)) ∈ js_all := List.mem_filter.mpr ⟨List.mem_append_right _ (List.mem_append_left _ (List.mem_of_getElem? (i := 202) rfl)), rfl⟩
theorem jk_203 : (Jvm.Cond.code ({ cls := "JournalShelf$Shelf", name := "redo", desc := "(I)V" } : Jvm.MethodName) prog_3_method_12_code (4 : Nat) (Option.none : Option Jvm.ClassFile.FieldType)) ∈ js_all := List.mem_filter.mpr ⟨List.mem_append_right _ (List.mem_append_left _ (List.mem_of_getElem? (i := 203) rfl)), rfl⟩
theorem jk_204 : (Jvm.Cond.methodLink "JournalShelf$Shelf" (115 : Nat) ({ cls := "JournalShelf$Shelf", name := "forget", desc := "(I)V" } : Jvm.MethodName)) ∈ js_all := List.mem_filter.mpr ⟨List.mem_append_right _ (List.mem_append_left _ (List.mem_of_getElem? (i := 204) rfl)), rfl⟩
theorem jk_206 : (Jvm.Cond.instanceMethod ({ cls := "JournalShelf$Shelf", name := "forget", desc := "(I)V" } : Jvm.MethodName)) ∈ js_all := List.mem_filter.mpr ⟨List.mem_append_right _ (List.mem_append_left _ (List.mem_of_getElem? (i := 206) rfl)), rfl⟩
theorem jk_207 : (Jvm.Cond.code ({ cls := "JournalShelf$Shelf", name := "forget", desc := "(I)V" } : Jvm.MethodName) prog_3_method_11_code (3 : Nat) (Option.none : Option Jvm.ClassFile.FieldType)) ∈ js_all := List.mem_filter.mpr ⟨List.mem_append_right _ (List.mem_append_left _ (List.mem_of_getElem? (i := 207) rfl)), rfl⟩
theorem jk_208 : (Jvm.Cond.methodLink "JournalShelfLaw" (35 : Nat) ({ cls := "JournalShelf", name := "get", desc := "(I)I" } : Jvm.MethodName)) ∈ js_all := List.mem_filter.mpr ⟨List.mem_append_right _ (List.mem_append_left _ (List.mem_of_getElem? (i := 208) rfl)), rfl⟩
theorem jk_209 : (Jvm.Cond.instanceMethod ({ cls := "JournalShelf", name := "get", desc := "(I)I" } : Jvm.MethodName)) ∈ js_all := List.mem_filter.mpr ⟨List.mem_append_right _ (List.mem_append_left _ (List.mem_of_getElem? (i := 209) rfl)), rfl⟩
theorem jk_210 : (Jvm.Cond.selects "JournalShelf" ({ cls := "JournalShelf", name := "get", desc := "(I)I" } : Jvm.MethodName) ({ cls := "JournalShelf", name := "get", desc := "(I)I" } : Jvm.MethodName)) ∈ js_all := List.mem_filter.mpr ⟨List.mem_append_right _ (List.mem_append_left _ (List.mem_of_getElem? (i := 210) rfl)), rfl⟩
theorem jk_211 : (Jvm.Cond.code ({ cls := "JournalShelf", name := "get", desc := "(I)I" } : Jvm.MethodName) prog_1_method_10_code (3 : Nat) (Option.some Jvm.ClassFile.FieldType.int)) ∈ js_all := List.mem_filter.mpr ⟨List.mem_append_right _ (List.mem_append_left _ (List.mem_of_getElem? (i := 211) rfl)), rfl⟩
theorem jk_212 : (Jvm.Cond.methodLink "JournalShelf" (79 : Nat) ({ cls := "JournalShelf$Shelf", name := "read", desc := "(I[B)V" } : Jvm.MethodName)) ∈ js_all := List.mem_filter.mpr ⟨List.mem_append_right _ (List.mem_append_left _ (List.mem_of_getElem? (i := 212) rfl)), rfl⟩
theorem jk_213 : (Jvm.Cond.instanceMethod ({ cls := "JournalShelf$Shelf", name := "read", desc := "(I[B)V" } : Jvm.MethodName)) ∈ js_all := List.mem_filter.mpr ⟨List.mem_append_right _ (List.mem_append_left _ (List.mem_of_getElem? (i := 213) rfl)), rfl⟩
theorem jk_214 : (Jvm.Cond.selects "JournalShelf$Shelf" ({ cls := "JournalShelf$Shelf", name := "read", desc := "(I[B)V" } : Jvm.MethodName) ({ cls := "JournalShelf$Shelf", name := "read", desc := "(I[B)V" } : Jvm.MethodName)) ∈ js_all := List.mem_filter.mpr ⟨List.mem_append_right _ (List.mem_append_left _ (List.mem_of_getElem? (i := 214) rfl)), rfl⟩
theorem jk_215 : (Jvm.Cond.code ({ cls := "JournalShelf$Shelf", name := "read", desc := "(I[B)V" } : Jvm.MethodName) prog_3_method_8_code (4 : Nat) (Option.none : Option Jvm.ClassFile.FieldType)) ∈ js_all := List.mem_filter.mpr ⟨List.mem_append_right _ (List.mem_append_left _ (List.mem_of_getElem? (i := 215) rfl)), rfl⟩
theorem jk_216 : (Jvm.Cond.methodLink "JournalShelf" (82 : Nat) ({ cls := "JournalShelf", name := "get4", desc := "([BI)I" } : Jvm.MethodName)) ∈ js_all := List.mem_filter.mpr ⟨List.mem_append_right _ (List.mem_append_left _ (List.mem_of_getElem? (i := 216) rfl)), rfl⟩
theorem jk_217 : (Jvm.Cond.methodLink "JournalShelfLaw" (40 : Nat) ({ cls := "JournalShelf", name := "torn", desc := "()I" } : Jvm.MethodName)) ∈ js_all := List.mem_filter.mpr ⟨List.mem_append_right _ (List.mem_append_left _ (List.mem_of_getElem? (i := 217) rfl)), rfl⟩
theorem jk_218 : (Jvm.Cond.instanceMethod ({ cls := "JournalShelf", name := "torn", desc := "()I" } : Jvm.MethodName)) ∈ js_all := List.mem_filter.mpr ⟨List.mem_append_right _ (List.mem_append_left _ (List.mem_of_getElem? (i := 218) rfl)), rfl⟩
theorem jk_219 : (Jvm.Cond.selects "JournalShelf" ({ cls := "JournalShelf", name := "torn", desc := "()I" } : Jvm.MethodName) ({ cls := "JournalShelf", name := "torn", desc := "()I" } : Jvm.MethodName)) ∈ js_all := List.mem_filter.mpr ⟨List.mem_append_right _ (List.mem_append_left _ (List.mem_of_getElem? (i := 219) rfl)), rfl⟩
theorem jk_220 : (Jvm.Cond.code ({ cls := "JournalShelf", name := "torn", desc := "()I" } : Jvm.MethodName) prog_1_method_11_code (7 : Nat) (Option.some Jvm.ClassFile.FieldType.int)) ∈ js_all := List.mem_filter.mpr ⟨List.mem_append_right _ (List.mem_append_left _ (List.mem_of_getElem? (i := 220) rfl)), rfl⟩
theorem jk_221 : (Jvm.Cond.methodLink "JournalShelfLaw" (44 : Nat) ({ cls := "JournalShelf", name := "count", desc := "(I)I" } : Jvm.MethodName)) ∈ js_all := List.mem_filter.mpr ⟨List.mem_append_right _ (List.mem_append_left _ (List.mem_of_getElem? (i := 221) rfl)), rfl⟩
theorem jk_222 : (Jvm.Cond.instanceMethod ({ cls := "JournalShelf", name := "count", desc := "(I)I" } : Jvm.MethodName)) ∈ js_all := List.mem_filter.mpr ⟨List.mem_append_right _ (List.mem_append_left _ (List.mem_of_getElem? (i := 222) rfl)), rfl⟩
theorem jk_223 : (Jvm.Cond.selects "JournalShelf" ({ cls := "JournalShelf", name := "count", desc := "(I)I" } : Jvm.MethodName) ({ cls := "JournalShelf", name := "count", desc := "(I)I" } : Jvm.MethodName)) ∈ js_all := List.mem_filter.mpr ⟨List.mem_append_right _ (List.mem_append_left _ (List.mem_of_getElem? (i := 223) rfl)), rfl⟩
theorem jk_224 : (Jvm.Cond.code ({ cls := "JournalShelf", name := "count", desc := "(I)I" } : Jvm.MethodName) prog_1_method_12_code (2 : Nat) (Option.some Jvm.ClassFile.FieldType.int)) ∈ js_all := List.mem_filter.mpr ⟨List.mem_append_right _ (List.mem_append_left _ (List.mem_of_getElem? (i := 224) rfl)), rfl⟩
theorem jk_225 : (Jvm.Cond.classLink "JournalShelfLaw" (10 : Nat) "JournalShelfModel") ∈ js_all := List.mem_filter.mpr ⟨List.mem_append_right _ (List.mem_append_left _ (List.mem_of_getElem? (i := 225) rfl)), rfl⟩
theorem jk_226 : (Jvm.Cond.instantiable "JournalShelfModel" (14 : Nat)) ∈ js_all := List.mem_filter.mpr ⟨List.mem_append_right _ (List.mem_append_left _ (List.mem_of_getElem? (i := 226) rfl)), rfl⟩
theorem jk_227 : (Jvm.Cond.methodLink "JournalShelfLaw" (12 : Nat) ({ cls := "JournalShelfModel", name := "<init>", desc := "()V" } : Jvm.MethodName)) ∈ js_all := List.mem_filter.mpr ⟨List.mem_append_right _ (List.mem_append_left _ (List.mem_of_getElem? (i := 227) rfl)), rfl⟩
theorem jk_228 : (Jvm.Cond.instanceMethod ({ cls := "JournalShelfModel", name := "<init>", desc := "()V" } : Jvm.MethodName)) ∈ js_all := List.mem_filter.mpr ⟨List.mem_append_right _ (List.mem_append_left _ (List.mem_of_getElem? (i := 228) rfl)), rfl⟩
theorem jk_229 : (Jvm.Cond.code ({ cls := "JournalShelfModel", name := "<init>", desc := "()V" } : Jvm.MethodName) prog_5_method_1_code (1 : Nat) (Option.none : Option Jvm.ClassFile.FieldType)) ∈ js_all := List.mem_filter.mpr ⟨List.mem_append_right _ (List.mem_append_left _ (List.mem_of_getElem? (i := 229) rfl)), rfl⟩
theorem jk_230 : (Jvm.Cond.methodLink "JournalShelfModel" (1 : Nat) ({ cls := "java/lang/Object", name := "<init>", desc := "()V" } : Jvm.MethodName)) ∈ js_all := List.mem_filter.mpr ⟨List.mem_append_right _ (List.mem_append_left _ (List.mem_of_getElem? (i := 230) rfl)), rfl⟩
theorem jk_231 : (Jvm.Cond.fieldLink "JournalShelfModel" (9 : Nat) "JournalShelfModel" "flushed" "[I") ∈ js_all := List.mem_filter.mpr ⟨List.mem_append_right _ (List.mem_append_left _ (List.mem_of_getElem? (i := 231) rfl)), rfl⟩
theorem jk_232 : (Jvm.Cond.fieldLink "JournalShelfModel" (13 : Nat) "JournalShelfModel" "now" "[I") ∈ js_all := List.mem_filter.mpr ⟨List.mem_append_right _ (List.mem_append_left _ (List.mem_of_getElem? (i := 232) rfl)), rfl⟩
theorem jk_233 : (Jvm.Cond.fieldLink "JournalShelfModel" (16 : Nat) "JournalShelfModel" "slot" "[I") ∈ js_all := List.mem_filter.mpr ⟨List.mem_append_right _ (List.mem_append_left _ (List.mem_of_getElem? (i := 233) rfl)), rfl⟩
theorem jk_234 : (Jvm.Cond.fieldLink "JournalShelfModel" (19 : Nat) "JournalShelfModel" "value" "[I") ∈ js_all := List.mem_filter.mpr ⟨List.mem_append_right _ (List.mem_append_left _ (List.mem_of_getElem? (i := 234) rfl)), rfl⟩
theorem jk_235 : (Jvm.Cond.fieldLink "JournalShelfModel" (22 : Nat) "JournalShelfModel" "lastOf" "[I") ∈ js_all := List.mem_filter.mpr ⟨List.mem_append_right _ (List.mem_append_left _ (List.mem_of_getElem? (i := 235) rfl)), rfl⟩
theorem jk_236 : (Jvm.Cond.fieldLink "JournalShelfModel" (31 : Nat) "JournalShelfModel" "changes" "I") ∈ js_all := List.mem_filter.mpr ⟨List.mem_append_right _ (List.mem_append_left _ (List.mem_of_getElem? (i := 236) rfl)), rfl⟩
theorem jk_237 : (Jvm.Cond.fieldLink "JournalShelfModel" (51 : Nat) "JournalShelfModel" "homes" "I") ∈ js_all := List.mem_filter.mpr ⟨List.mem_append_right _ (List.mem_append_left _ (List.mem_of_getElem? (i := 237) rfl)), rfl⟩
theorem jk_238 : (Jvm.Cond.fieldLink "JournalShelfModel" (25 : Nat) "JournalShelfModel" "ownSlot" "[I") ∈ js_all := List.mem_filter.mpr ⟨List.mem_append_right _ (List.mem_append_left _ (List.mem_of_getElem? (i := 238) rfl)), rfl⟩
theorem jk_239 : (Jvm.Cond.fieldLink "JournalShelfModel" (28 : Nat) "JournalShelfModel" "ownValue" "[I") ∈ js_all := List.mem_filter.mpr ⟨List.mem_append_right _ (List.mem_append_left _ (List.mem_of_getElem? (i := 239) rfl)), rfl⟩
theorem jk_240 : (Jvm.Cond.fieldLink "JournalShelfModel" (38 : Nat) "JournalShelfModel" "own" "I") ∈ js_all := List.mem_filter.mpr ⟨List.mem_append_right _ (List.mem_append_right _ (List.mem_of_getElem? (i := 0) rfl)), rfl⟩
theorem jk_241 : (Jvm.Cond.fieldLink "JournalShelfModel" (45 : Nat) "JournalShelfModel" "deeds" "I") ∈ js_all := List.mem_filter.mpr ⟨List.mem_append_right _ (List.mem_append_right _ (List.mem_of_getElem? (i := 1) rfl)), rfl⟩
theorem jk_242 : (Jvm.Cond.fieldLink "JournalShelfModel" (35 : Nat) "JournalShelfModel" "since" "I") ∈ js_all := List.mem_filter.mpr ⟨List.mem_append_right _ (List.mem_append_right _ (List.mem_of_getElem? (i := 2) rfl)), rfl⟩
theorem jk_243 : (Jvm.Cond.fieldLink "JournalShelfModel" (57 : Nat) "JournalShelfModel" "flushes" "I") ∈ js_all := List.mem_filter.mpr ⟨List.mem_append_right _ (List.mem_append_right _ (List.mem_of_getElem? (i := 3) rfl)), rfl⟩
theorem jk_244 : (Jvm.Cond.fieldLink "JournalShelfModel" (60 : Nat) "JournalShelfModel" "crashes" "I") ∈ js_all := List.mem_filter.mpr ⟨List.mem_append_right _ (List.mem_append_right _ (List.mem_of_getElem? (i := 4) rfl)), rfl⟩
theorem jk_245 : (Jvm.Cond.laysFinal "JournalShelfModel" "JournalShelfModel" "flushed" "[I") ∈ js_all := List.mem_filter.mpr ⟨List.mem_append_right _ (List.mem_append_right _ (List.mem_of_getElem? (i := 5) rfl)), rfl⟩
theorem jk_247 : (Jvm.Cond.laysFinal "JournalShelfModel" "JournalShelfModel" "now" "[I") ∈ js_all := List.mem_filter.mpr ⟨List.mem_append_right _ (List.mem_append_right _ (List.mem_of_getElem? (i := 7) rfl)), rfl⟩
theorem jk_249 : (Jvm.Cond.laysFinal "JournalShelfModel" "JournalShelfModel" "slot" "[I") ∈ js_all := List.mem_filter.mpr ⟨List.mem_append_right _ (List.mem_append_right _ (List.mem_of_getElem? (i := 9) rfl)), rfl⟩
theorem jk_251 : (Jvm.Cond.laysFinal "JournalShelfModel" "JournalShelfModel" "value" "[I") ∈ js_all := List.mem_filter.mpr ⟨List.mem_append_right _ (List.mem_append_right _ (List.mem_of_getElem? (i := 11) rfl)), rfl⟩
theorem jk_253 : (Jvm.Cond.laysFinal "JournalShelfModel" "JournalShelfModel" "lastOf" "[I") ∈ js_all := List.mem_filter.mpr ⟨List.mem_append_right _ (List.mem_append_right _ (List.mem_of_getElem? (i := 13) rfl)), rfl⟩
theorem jk_255 : (Jvm.Cond.lays "JournalShelfModel" "JournalShelfModel" "changes" "I") ∈ js_all := List.mem_filter.mpr ⟨List.mem_append_right _ (List.mem_append_right _ (List.mem_of_getElem? (i := 15) rfl)), rfl⟩
theorem jk_257 : (Jvm.Cond.lays "JournalShelfModel" "JournalShelfModel" "homes" "I") ∈ js_all := List.mem_filter.mpr ⟨List.mem_append_right _ (List.mem_append_right _ (List.mem_of_getElem? (i := 17) rfl)), rfl⟩
theorem jk_259 : (Jvm.Cond.laysFinal "JournalShelfModel" "JournalShelfModel" "ownSlot" "[I") ∈ js_all := List.mem_filter.mpr ⟨List.mem_append_right _ (List.mem_append_right _ (List.mem_of_getElem? (i := 19) rfl)), rfl⟩
theorem jk_261 : (Jvm.Cond.laysFinal "JournalShelfModel" "JournalShelfModel" "ownValue" "[I") ∈ js_all := List.mem_filter.mpr ⟨List.mem_append_right _ (List.mem_append_right _ (List.mem_of_getElem? (i := 21) rfl)), rfl⟩
theorem jk_263 : (Jvm.Cond.lays "JournalShelfModel" "JournalShelfModel" "own" "I") ∈ js_all := List.mem_filter.mpr ⟨List.mem_append_right _ (List.mem_append_right _ (List.mem_of_getElem? (i := 23) rfl)), rfl⟩
theorem jk_265 : (Jvm.Cond.lays "JournalShelfModel" "JournalShelfModel" "deeds" "I") ∈ js_all := List.mem_filter.mpr ⟨List.mem_append_right _ (List.mem_append_right _ (List.mem_of_getElem? (i := 25) rfl)), rfl⟩
theorem jk_267 : (Jvm.Cond.lays "JournalShelfModel" "JournalShelfModel" "since" "I") ∈ js_all := List.mem_filter.mpr ⟨List.mem_append_right _ (List.mem_append_right _ (List.mem_of_getElem? (i := 27) rfl)), rfl⟩
theorem jk_269 : (Jvm.Cond.lays "JournalShelfModel" "JournalShelfModel" "flushes" "I") ∈ js_all := List.mem_filter.mpr ⟨List.mem_append_right _ (List.mem_append_right _ (List.mem_of_getElem? (i := 29) rfl)), rfl⟩
theorem jk_271 : (Jvm.Cond.lays "JournalShelfModel" "JournalShelfModel" "crashes" "I") ∈ js_all := List.mem_filter.mpr ⟨List.mem_append_right _ (List.mem_append_right _ (List.mem_of_getElem? (i := 31) rfl)), rfl⟩
theorem jk_274 : (Jvm.Cond.methodLink "JournalShelfLaw" (17 : Nat) ({ cls := "JournalShelfModel", name := "change", desc := "(II)I" } : Jvm.MethodName)) ∈ js_all := List.mem_filter.mpr ⟨List.mem_append_right _ (List.mem_append_right _ (List.mem_of_getElem? (i := 34) rfl)), rfl⟩
theorem jk_275 : (Jvm.Cond.instanceMethod ({ cls := "JournalShelfModel", name := "change", desc := "(II)I" } : Jvm.MethodName)) ∈ js_all := List.mem_filter.mpr ⟨List.mem_append_right _ (List.mem_append_right _ (List.mem_of_getElem? (i := 35) rfl)), rfl⟩
theorem jk_276 : (Jvm.Cond.selects "JournalShelfModel" ({ cls := "JournalShelfModel", name := "change", desc := "(II)I" } : Jvm.MethodName) ({ cls := "JournalShelfModel", name := "change", desc := "(II)I" } : Jvm.MethodName)) ∈ js_all := List.mem_filter.mpr ⟨List.mem_append_right _ (List.mem_append_right _ (List.mem_of_getElem? (i := 36) rfl)), rfl⟩
theorem jk_277 : (Jvm.Cond.code ({ cls := "JournalShelfModel", name := "change", desc := "(II)I" } : Jvm.MethodName) prog_5_method_4_code (3 : Nat) (Option.some Jvm.ClassFile.FieldType.int)) ∈ js_all := List.mem_filter.mpr ⟨List.mem_append_right _ (List.mem_append_right _ (List.mem_of_getElem? (i := 37) rfl)), rfl⟩
theorem jk_278 : (Jvm.Cond.methodLink "JournalShelfModel" (41 : Nat) ({ cls := "JournalShelfModel", name := "flush", desc := "()I" } : Jvm.MethodName)) ∈ js_all := List.mem_filter.mpr ⟨List.mem_append_right _ (List.mem_append_right _ (List.mem_of_getElem? (i := 38) rfl)), rfl⟩
theorem jk_279 : (Jvm.Cond.instanceMethod ({ cls := "JournalShelfModel", name := "flush", desc := "()I" } : Jvm.MethodName)) ∈ js_all := List.mem_filter.mpr ⟨List.mem_append_right _ (List.mem_append_right _ (List.mem_of_getElem? (i := 39) rfl)), rfl⟩
theorem jk_280 : (Jvm.Cond.selects "JournalShelfModel" ({ cls := "JournalShelfModel", name := "flush", desc := "()I" } : Jvm.MethodName) ({ cls := "JournalShelfModel", name := "flush", desc := "()I" } : Jvm.MethodName)) ∈ js_all := List.mem_filter.mpr ⟨List.mem_append_right _ (List.mem_append_right _ (List.mem_of_getElem? (i := 40) rfl)), rfl⟩
theorem jk_281 : (Jvm.Cond.code ({ cls := "JournalShelfModel", name := "flush", desc := "()I" } : Jvm.MethodName) prog_5_method_7_code (2 : Nat) (Option.some Jvm.ClassFile.FieldType.int)) ∈ js_all := List.mem_filter.mpr ⟨List.mem_append_right _ (List.mem_append_right _ (List.mem_of_getElem? (i := 41) rfl)), rfl⟩
theorem jk_282 : (Jvm.Cond.methodLink "JournalShelfModel" (48 : Nat) ({ cls := "JournalShelfModel", name := "distinct", desc := "()I" } : Jvm.MethodName)) ∈ js_all := List.mem_filter.mpr ⟨List.mem_append_right _ (List.mem_append_right _ (List.mem_of_getElem? (i := 42) rfl)), rfl⟩
theorem jk_284 : (Jvm.Cond.instanceMethod ({ cls := "JournalShelfModel", name := "distinct", desc := "()I" } : Jvm.MethodName)) ∈ js_all := List.mem_filter.mpr ⟨List.mem_append_right _ (List.mem_append_right _ (List.mem_of_getElem? (i := 44) rfl)), rfl⟩
theorem jk_285 : (Jvm.Cond.code ({ cls := "JournalShelfModel", name := "distinct", desc := "()I" } : Jvm.MethodName) prog_5_method_3_code (5 : Nat) (Option.some Jvm.ClassFile.FieldType.int)) ∈ js_all := List.mem_filter.mpr ⟨List.mem_append_right _ (List.mem_append_right _ (List.mem_of_getElem? (i := 45) rfl)), rfl⟩
theorem jk_286 : (Jvm.Cond.methodLink "JournalShelfModel" (54 : Nat) ({ cls := "JournalShelfModel", name := "settle", desc := "()V" } : Jvm.MethodName)) ∈ js_all := List.mem_filter.mpr ⟨List.mem_append_right _ (List.mem_append_right _ (List.mem_of_getElem? (i := 46) rfl)), rfl⟩
theorem jk_288 : (Jvm.Cond.instanceMethod ({ cls := "JournalShelfModel", name := "settle", desc := "()V" } : Jvm.MethodName)) ∈ js_all := List.mem_filter.mpr ⟨List.mem_append_right _ (List.mem_append_right _ (List.mem_of_getElem? (i := 48) rfl)), rfl⟩
theorem jk_289 : (Jvm.Cond.code ({ cls := "JournalShelfModel", name := "settle", desc := "()V" } : Jvm.MethodName) prog_5_method_2_code (2 : Nat) (Option.none : Option Jvm.ClassFile.FieldType)) ∈ js_all := List.mem_filter.mpr ⟨List.mem_append_right _ (List.mem_append_right _ (List.mem_of_getElem? (i := 49) rfl)), rfl⟩
theorem jk_290 : (Jvm.Cond.methodLink "JournalShelfLaw" (22 : Nat) ({ cls := "JournalShelfModel", name := "commit", desc := "()I" } : Jvm.MethodName)) ∈ js_all := List.mem_filter.mpr ⟨List.mem_append_right _ (List.mem_append_right _ (List.mem_of_getElem? (i := 50) rfl)), rfl⟩
theorem jk_291 : (Jvm.Cond.instanceMethod ({ cls := "JournalShelfModel", name := "commit", desc := "()I" } : Jvm.MethodName)) ∈ js_all := List.mem_filter.mpr ⟨List.mem_append_right _ (List.mem_append_right _ (List.mem_of_getElem? (i := 51) rfl)), rfl⟩
theorem jk_292 : (Jvm.Cond.selects "JournalShelfModel" ({ cls := "JournalShelfModel", name := "commit", desc := "()I" } : Jvm.MethodName) ({ cls := "JournalShelfModel", name := "commit", desc := "()I" } : Jvm.MethodName)) ∈ js_all := List.mem_filter.mpr ⟨List.mem_append_right _ (List.mem_append_right _ (List.mem_of_getElem? (i := 52) rfl)), rfl⟩
theorem jk_293 : (Jvm.Cond.code ({ cls := "JournalShelfModel", name := "commit", desc := "()I" } : Jvm.MethodName) prog_5_method_5_code (3 : Nat) (Option.some Jvm.ClassFile.FieldType.int)) ∈ js_all := List.mem_filter.mpr ⟨List.mem_append_right _ (List.mem_append_right _ (List.mem_of_getElem? (i := 53) rfl)), rfl⟩
theorem jk_294 : (Jvm.Cond.methodLink "JournalShelfLaw" (26 : Nat) ({ cls := "JournalShelfModel", name := "forget", desc := "()I" } : Jvm.MethodName)) ∈ js_all := List.mem_filter.mpr ⟨List.mem_append_right _ (List.mem_append_right _ (List.mem_of_getElem? (i := 54) rfl)), rfl⟩
theorem jk_295 : (Jvm.Cond.instanceMethod ({ cls := "JournalShelfModel", name := "forget", desc := "()I" } : Jvm.MethodName)) ∈ js_all := List.mem_filter.mpr ⟨List.mem_append_right _ (List.mem_append_right _ (List.mem_of_getElem? (i := 55) rfl)), rfl⟩
theorem jk_296 : (Jvm.Cond.selects "JournalShelfModel" ({ cls := "JournalShelfModel", name := "forget", desc := "()I" } : Jvm.MethodName) ({ cls := "JournalShelfModel", name := "forget", desc := "()I" } : Jvm.MethodName)) ∈ js_all := List.mem_filter.mpr ⟨List.mem_append_right _ (List.mem_append_right _ (List.mem_of_getElem? (i := 56) rfl)), rfl⟩
theorem jk_297 : (Jvm.Cond.code ({ cls := "JournalShelfModel", name := "forget", desc := "()I" } : Jvm.MethodName) prog_5_method_6_code (2 : Nat) (Option.some Jvm.ClassFile.FieldType.int)) ∈ js_all := List.mem_filter.mpr ⟨List.mem_append_right _ (List.mem_append_right _ (List.mem_of_getElem? (i := 57) rfl)), rfl⟩
theorem jk_298 : (Jvm.Cond.methodLink "JournalShelfLaw" (30 : Nat) ({ cls := "JournalShelfModel", name := "flush", desc := "()I" } : Jvm.MethodName)) ∈ js_all := List.mem_filter.mpr ⟨List.mem_append_right _ (List.mem_append_right _ (List.mem_of_getElem? (i := 58) rfl)), rfl⟩
theorem jk_299 : (Jvm.Cond.methodLink "JournalShelfLaw" (34 : Nat) ({ cls := "JournalShelfModel", name := "crash", desc := "(II)I" } : Jvm.MethodName)) ∈ js_all := List.mem_filter.mpr ⟨List.mem_append_right _ (List.mem_append_right _ (List.mem_of_getElem? (i := 59) rfl)), rfl⟩
theorem jk_300 : (Jvm.Cond.instanceMethod ({ cls := "JournalShelfModel", name := "crash", desc := "(II)I" } : Jvm.MethodName)) ∈ js_all := List.mem_filter.mpr ⟨List.mem_append_right _ (List.mem_append_right _ (List.mem_of_getElem? (i := 60) rfl)), rfl⟩
theorem jk_301 : (Jvm.Cond.selects "JournalShelfModel" ({ cls := "JournalShelfModel", name := "crash", desc := "(II)I" } : Jvm.MethodName) ({ cls := "JournalShelfModel", name := "crash", desc := "(II)I" } : Jvm.MethodName)) ∈ js_all := List.mem_filter.mpr ⟨List.mem_append_right _ (List.mem_append_right _ (List.mem_of_getElem? (i := 61) rfl)), rfl⟩
theorem jk_302 : (Jvm.Cond.code ({ cls := "JournalShelfModel", name := "crash", desc := "(II)I" } : Jvm.MethodName) prog_5_method_8_code (7 : Nat) (Option.some Jvm.ClassFile.FieldType.int)) ∈ js_all := List.mem_filter.mpr ⟨List.mem_append_right _ (List.mem_append_right _ (List.mem_of_getElem? (i := 62) rfl)), rfl⟩
theorem jk_303 : (Jvm.Cond.methodLink "JournalShelfLaw" (39 : Nat) ({ cls := "JournalShelfModel", name := "get", desc := "(I)I" } : Jvm.MethodName)) ∈ js_all := List.mem_filter.mpr ⟨List.mem_append_right _ (List.mem_append_right _ (List.mem_of_getElem? (i := 63) rfl)), rfl⟩
theorem jk_304 : (Jvm.Cond.instanceMethod ({ cls := "JournalShelfModel", name := "get", desc := "(I)I" } : Jvm.MethodName)) ∈ js_all := List.mem_filter.mpr ⟨List.mem_append_right _ (List.mem_append_right _ (List.mem_of_getElem? (i := 64) rfl)), rfl⟩
theorem jk_305 : (Jvm.Cond.selects "JournalShelfModel" ({ cls := "JournalShelfModel", name := "get", desc := "(I)I" } : Jvm.MethodName) ({ cls := "JournalShelfModel", name := "get", desc := "(I)I" } : Jvm.MethodName)) ∈ js_all := List.mem_filter.mpr ⟨List.mem_append_right _ (List.mem_append_right _ (List.mem_of_getElem? (i := 65) rfl)), rfl⟩
theorem jk_306 : (Jvm.Cond.code ({ cls := "JournalShelfModel", name := "get", desc := "(I)I" } : Jvm.MethodName) prog_5_method_9_code (2 : Nat) (Option.some Jvm.ClassFile.FieldType.int)) ∈ js_all := List.mem_filter.mpr ⟨List.mem_append_right _ (List.mem_append_right _ (List.mem_of_getElem? (i := 66) rfl)), rfl⟩
theorem jk_307 : (Jvm.Cond.methodLink "JournalShelfLaw" (43 : Nat) ({ cls := "JournalShelfModel", name := "torn", desc := "()I" } : Jvm.MethodName)) ∈ js_all := List.mem_filter.mpr ⟨List.mem_append_right _ (List.mem_append_right _ (List.mem_of_getElem? (i := 67) rfl)), rfl⟩
theorem jk_308 : (Jvm.Cond.instanceMethod ({ cls := "JournalShelfModel", name := "torn", desc := "()I" } : Jvm.MethodName)) ∈ js_all := List.mem_filter.mpr ⟨List.mem_append_right _ (List.mem_append_right _ (List.mem_of_getElem? (i := 68) rfl)), rfl⟩
theorem jk_309 : (Jvm.Cond.selects "JournalShelfModel" ({ cls := "JournalShelfModel", name := "torn", desc := "()I" } : Jvm.MethodName) ({ cls := "JournalShelfModel", name := "torn", desc := "()I" } : Jvm.MethodName)) ∈ js_all := List.mem_filter.mpr ⟨List.mem_append_right _ (List.mem_append_right _ (List.mem_of_getElem? (i := 69) rfl)), rfl⟩
theorem jk_310 : (Jvm.Cond.code ({ cls := "JournalShelfModel", name := "torn", desc := "()I" } : Jvm.MethodName) prog_5_method_10_code (1 : Nat) (Option.some Jvm.ClassFile.FieldType.int)) ∈ js_all := List.mem_filter.mpr ⟨List.mem_append_right _ (List.mem_append_right _ (List.mem_of_getElem? (i := 70) rfl)), rfl⟩
theorem jk_311 : (Jvm.Cond.methodLink "JournalShelfLaw" (47 : Nat) ({ cls := "JournalShelfModel", name := "count", desc := "(I)I" } : Jvm.MethodName)) ∈ js_all := List.mem_filter.mpr ⟨List.mem_append_right _ (List.mem_append_right _ (List.mem_of_getElem? (i := 71) rfl)), rfl⟩
theorem jk_312 : (Jvm.Cond.instanceMethod ({ cls := "JournalShelfModel", name := "count", desc := "(I)I" } : Jvm.MethodName)) ∈ js_all := List.mem_filter.mpr ⟨List.mem_append_right _ (List.mem_append_right _ (List.mem_of_getElem? (i := 72) rfl)), rfl⟩
theorem jk_313 : (Jvm.Cond.selects "JournalShelfModel" ({ cls := "JournalShelfModel", name := "count", desc := "(I)I" } : Jvm.MethodName) ({ cls := "JournalShelfModel", name := "count", desc := "(I)I" } : Jvm.MethodName)) ∈ js_all := List.mem_filter.mpr ⟨List.mem_append_right _ (List.mem_append_right _ (List.mem_of_getElem? (i := 73) rfl)), rfl⟩
theorem jk_314 : (Jvm.Cond.code ({ cls := "JournalShelfModel", name := "count", desc := "(I)I" } : Jvm.MethodName) prog_5_method_11_code (2 : Nat) (Option.some Jvm.ClassFile.FieldType.int)) ∈ js_all := List.mem_filter.mpr ⟨List.mem_append_right _ (List.mem_append_right _ (List.mem_of_getElem? (i := 74) rfl)), rfl⟩
theorem jk_p0 : Cond.selects "JournalShelf$Disk" jy_Dk_land jy_Dk_land ∈ js_all := List.mem_filter.mpr ⟨List.mem_append_left _ (List.mem_of_getElem? (i := 0) rfl), rfl⟩
theorem jk_p1 : Cond.selects "JournalShelf$Shelf" jy_Sh_home jy_Sh_home ∈ js_all := List.mem_filter.mpr ⟨List.mem_append_left _ (List.mem_of_getElem? (i := 1) rfl), rfl⟩
theorem jk_p2 : Cond.selects "JournalShelf$Shelf" jy_Sh_isWhole jy_Sh_isWhole ∈ js_all := List.mem_filter.mpr ⟨List.mem_append_left _ (List.mem_of_getElem? (i := 2) rfl), rfl⟩
theorem jk_p3 : Cond.selects "JournalShelf$Shelf" jy_Sh_redo jy_Sh_redo ∈ js_all := List.mem_filter.mpr ⟨List.mem_append_left _ (List.mem_of_getElem? (i := 3) rfl), rfl⟩
theorem jk_p4 : Cond.selects "JournalShelf$Shelf" jy_Sh_forget jy_Sh_forget ∈ js_all := List.mem_filter.mpr ⟨List.mem_append_left _ (List.mem_of_getElem? (i := 4) rfl), rfl⟩
theorem jk_p5 : Cond.selects "JournalShelfModel" jy_Md_distinct jy_Md_distinct ∈ js_all := List.mem_filter.mpr ⟨List.mem_append_left _ (List.mem_of_getElem? (i := 5) rfl), rfl⟩
theorem jk_p6 : Cond.selects "JournalShelfModel" jy_Md_settle jy_Md_settle ∈ js_all := List.mem_filter.mpr ⟨List.mem_append_left _ (List.mem_of_getElem? (i := 6) rfl), rfl⟩
def js_nest : List Cond := [(Jvm.Cond.methodLinkNest "JournalShelf" (9 : Nat) ({ cls := "JournalShelf$Shelf", name := "<init>", desc := "()V" } : Jvm.MethodName) "JournalShelf"), (Jvm.Cond.methodLinkNest "JournalShelf$Shelf" (11 : Nat) ({ cls := "JournalShelf$Disk", name := "<init>", desc := "()V" } : Jvm.MethodName) "JournalShelf"), (Jvm.Cond.fieldLinkNest "JournalShelf" (86 : Nat) "JournalShelf$Disk" "many" "I" "JournalShelf"), (Jvm.Cond.fieldLinkNest "JournalShelf" (28 : Nat) "JournalShelf$Shelf" "freshMany" "I" "JournalShelf"), (Jvm.Cond.fieldLinkNest "JournalShelf" (54 : Nat) "JournalShelf$Shelf" "next" "I" "JournalShelf"), (Jvm.Cond.fieldLinkNest "JournalShelf" (57 : Nat) "JournalShelf$Shelf" "safe" "I" "JournalShelf"), (Jvm.Cond.methodLinkNest "JournalShelf$Shelf" (61 : Nat) ({ cls := "JournalShelf", name := "put4", desc := "([BII)V" } : Jvm.MethodName) "JournalShelf"), (Jvm.Cond.methodLinkNest "JournalShelf$Shelf" (93 : Nat) ({ cls := "JournalShelf", name := "get4", desc := "([BI)I" } : Jvm.MethodName) "JournalShelf"), (Jvm.Cond.methodLinkNest "JournalShelf$Shelf" (97 : Nat) ({ cls := "JournalShelf", name := "in", desc := "(III)Z" } : Jvm.MethodName) "JournalShelf")]
theorem jk_18 : (Jvm.Cond.methodLinkNest "JournalShelf" (9 : Nat) ({ cls := "JournalShelf$Shelf", name := "<init>", desc := "()V" } : Jvm.MethodName) "JournalShelf") ∈ js_nest := List.mem_of_getElem? (i := 0) rfl
theorem jk_24 : (Jvm.Cond.methodLinkNest "JournalShelf$Shelf" (11 : Nat) ({ cls := "JournalShelf$Disk", name := "<init>", desc := "()V" } : Jvm.MethodName) "JournalShelf") ∈ js_nest := List.mem_of_getElem? (i := 1) rfl
theorem jk_33 : (Jvm.Cond.fieldLinkNest "JournalShelf" (86 : Nat) "JournalShelf$Disk" "many" "I" "JournalShelf") ∈ js_nest := List.mem_of_getElem? (i := 2) rfl
theorem jk_51 : (Jvm.Cond.fieldLinkNest "JournalShelf" (28 : Nat) "JournalShelf$Shelf" "freshMany" "I" "JournalShelf") ∈ js_nest := List.mem_of_getElem? (i := 3) rfl
theorem jk_54 : (Jvm.Cond.fieldLinkNest "JournalShelf" (54 : Nat) "JournalShelf$Shelf" "next" "I" "JournalShelf") ∈ js_nest := List.mem_of_getElem? (i := 4) rfl
theorem jk_57 : (Jvm.Cond.fieldLinkNest "JournalShelf" (57 : Nat) "JournalShelf$Shelf" "safe" "I" "JournalShelf") ∈ js_nest := List.mem_of_getElem? (i := 5) rfl
theorem jk_163 : (Jvm.Cond.methodLinkNest "JournalShelf$Shelf" (61 : Nat) ({ cls := "JournalShelf", name := "put4", desc := "([BII)V" } : Jvm.MethodName) "JournalShelf") ∈ js_nest := List.mem_of_getElem? (i := 6) rfl
theorem jk_189 : (Jvm.Cond.methodLinkNest "JournalShelf$Shelf" (93 : Nat) ({ cls := "JournalShelf", name := "get4", desc := "([BI)I" } : Jvm.MethodName) "JournalShelf") ∈ js_nest := List.mem_of_getElem? (i := 7) rfl
theorem jk_192 : (Jvm.Cond.methodLinkNest "JournalShelf$Shelf" (97 : Nat) ({ cls := "JournalShelf", name := "in", desc := "(III)Z" } : Jvm.MethodName) "JournalShelf") ∈ js_nest := List.mem_of_getElem? (i := 8) rfl
theorem js_nest_in : ∀ w ∈ js_nest, w ∈ lw_tbl := by
  intro w hw
  simp only [js_nest, List.mem_cons, List.not_mem_nil, or_false] at hw
  rcases hw with rfl | rfl | rfl | rfl | rfl | rfl | rfl | rfl | rfl
  · exact List.mem_append_right _ (List.mem_append_left _ (List.mem_of_getElem? (i := 18) rfl))
  · exact List.mem_append_right _ (List.mem_append_left _ (List.mem_of_getElem? (i := 24) rfl))
  · exact List.mem_append_right _ (List.mem_append_left _ (List.mem_of_getElem? (i := 33) rfl))
  · exact List.mem_append_right _ (List.mem_append_left _ (List.mem_of_getElem? (i := 51) rfl))
  · exact List.mem_append_right _ (List.mem_append_left _ (List.mem_of_getElem? (i := 54) rfl))
  · exact List.mem_append_right _ (List.mem_append_left _ (List.mem_of_getElem? (i := 57) rfl))
  · exact List.mem_append_right _ (List.mem_append_left _ (List.mem_of_getElem? (i := 163) rfl))
  · exact List.mem_append_right _ (List.mem_append_left _ (List.mem_of_getElem? (i := 189) rfl))
  · exact List.mem_append_right _ (List.mem_append_left _ (List.mem_of_getElem? (i := 192) rfl))
theorem jl_JS : ∀ w ∈ u_ws jr_JS jf_JS 5, w ∈ js_all := by
  intro w hw
  obtain ⟨k, hk, rfl⟩ := List.mem_map.mp hw
  have hk := List.mem_range.mp hk
  match k, hk with
  | 0, _ => exact jk_94
  | 1, _ => exact jk_96
  | 2, _ => exact jk_98
  | 3, _ => exact jk_100
  | 4, _ => exact jk_102
  | n + 5, h => exact absurd h (by omega)
theorem jl_Sh : ∀ w ∈ u_ws jr_Sh jf_Sh 13, w ∈ js_all := by
  intro w hw
  obtain ⟨k, hk, rfl⟩ := List.mem_map.mp hw
  have hk := List.mem_range.mp hk
  match k, hk with
  | 0, _ => exact jk_62
  | 1, _ => exact jk_64
  | 2, _ => exact jk_66
  | 3, _ => exact jk_68
  | 4, _ => exact jk_70
  | 5, _ => exact jk_72
  | 6, _ => exact jk_74
  | 7, _ => exact jk_76
  | 8, _ => exact jk_78
  | 9, _ => exact jk_80
  | 10, _ => exact jk_82
  | 11, _ => exact jk_84
  | 12, _ => exact jk_86
  | n + 13, h => exact absurd h (by omega)
theorem jl_Dk : ∀ w ∈ u_ws jr_Dk jf_Dk 4, w ∈ js_all := by
  intro w hw
  obtain ⟨k, hk, rfl⟩ := List.mem_map.mp hw
  have hk := List.mem_range.mp hk
  match k, hk with
  | 0, _ => exact jk_34
  | 1, _ => exact jk_36
  | 2, _ => exact jk_38
  | 3, _ => exact jk_40
  | n + 4, h => exact absurd h (by omega)
theorem jl_Md : ∀ w ∈ u_ws jr_Md jf_Md 14, w ∈ js_all := by
  intro w hw
  obtain ⟨k, hk, rfl⟩ := List.mem_map.mp hw
  have hk := List.mem_range.mp hk
  match k, hk with
  | 0, _ => exact jk_245
  | 1, _ => exact jk_247
  | 2, _ => exact jk_249
  | 3, _ => exact jk_251
  | 4, _ => exact jk_253
  | 5, _ => exact jk_255
  | 6, _ => exact jk_257
  | 7, _ => exact jk_259
  | 8, _ => exact jk_261
  | 9, _ => exact jk_263
  | 10, _ => exact jk_265
  | 11, _ => exact jk_267
  | 12, _ => exact jk_269
  | 13, _ => exact jk_271
  | n + 14, h => exact absurd h (by omega)
end
section
theorem jd_JS_put4_0 : decode jb_JS_put4 0 = .ok (.aload_n 0, 1) := by decide +kernel
theorem jd_JS_put4_1 : decode jb_JS_put4 1 = .ok (.iload_n 1, 1) := by decide +kernel
theorem jd_JS_put4_2 : decode jb_JS_put4 2 = .ok (.iload_n 2, 1) := by decide +kernel
theorem jd_JS_put4_3 : decode jb_JS_put4 3 = .ok (.bipush 24, 2) := by decide +kernel
theorem jd_JS_put4_5 : decode jb_JS_put4 5 = .ok (.ishr, 1) := by decide +kernel
theorem jd_JS_put4_6 : decode jb_JS_put4 6 = .ok (.i2b, 1) := by decide +kernel
theorem jd_JS_put4_7 : decode jb_JS_put4 7 = .ok (.bastore, 1) := by decide +kernel
theorem jd_JS_put4_8 : decode jb_JS_put4 8 = .ok (.aload_n 0, 1) := by decide +kernel
theorem jd_JS_put4_9 : decode jb_JS_put4 9 = .ok (.iload_n 1, 1) := by decide +kernel
theorem jd_JS_put4_10 : decode jb_JS_put4 10 = .ok (.iconst 1, 1) := by decide +kernel
theorem jd_JS_put4_11 : decode jb_JS_put4 11 = .ok (.iadd, 1) := by decide +kernel
theorem jd_JS_put4_12 : decode jb_JS_put4 12 = .ok (.iload_n 2, 1) := by decide +kernel
theorem jd_JS_put4_13 : decode jb_JS_put4 13 = .ok (.bipush 16, 2) := by decide +kernel
theorem jd_JS_put4_15 : decode jb_JS_put4 15 = .ok (.ishr, 1) := by decide +kernel
theorem jd_JS_put4_16 : decode jb_JS_put4 16 = .ok (.i2b, 1) := by decide +kernel
theorem jd_JS_put4_17 : decode jb_JS_put4 17 = .ok (.bastore, 1) := by decide +kernel
theorem jd_JS_put4_18 : decode jb_JS_put4 18 = .ok (.aload_n 0, 1) := by decide +kernel
theorem jd_JS_put4_19 : decode jb_JS_put4 19 = .ok (.iload_n 1, 1) := by decide +kernel
theorem jd_JS_put4_20 : decode jb_JS_put4 20 = .ok (.iconst 2, 1) := by decide +kernel
theorem jd_JS_put4_21 : decode jb_JS_put4 21 = .ok (.iadd, 1) := by decide +kernel
theorem jd_JS_put4_22 : decode jb_JS_put4 22 = .ok (.iload_n 2, 1) := by decide +kernel
theorem jd_JS_put4_23 : decode jb_JS_put4 23 = .ok (.bipush 8, 2) := by decide +kernel
theorem jd_JS_put4_25 : decode jb_JS_put4 25 = .ok (.ishr, 1) := by decide +kernel
theorem jd_JS_put4_26 : decode jb_JS_put4 26 = .ok (.i2b, 1) := by decide +kernel
theorem jd_JS_put4_27 : decode jb_JS_put4 27 = .ok (.bastore, 1) := by decide +kernel
theorem jd_JS_put4_28 : decode jb_JS_put4 28 = .ok (.aload_n 0, 1) := by decide +kernel
theorem jd_JS_put4_29 : decode jb_JS_put4 29 = .ok (.iload_n 1, 1) := by decide +kernel
theorem jd_JS_put4_30 : decode jb_JS_put4 30 = .ok (.iconst 3, 1) := by decide +kernel
theorem jd_JS_put4_31 : decode jb_JS_put4 31 = .ok (.iadd, 1) := by decide +kernel
theorem jd_JS_put4_32 : decode jb_JS_put4 32 = .ok (.iload_n 2, 1) := by decide +kernel
theorem jd_JS_put4_33 : decode jb_JS_put4 33 = .ok (.i2b, 1) := by decide +kernel
theorem jd_JS_put4_34 : decode jb_JS_put4 34 = .ok (.bastore, 1) := by decide +kernel
theorem jd_JS_put4_35 : decode jb_JS_put4 35 = .ok (.return_, 1) := by decide +kernel
theorem jd_JS_get4_0 : decode jb_JS_get4 0 = .ok (.aload_n 0, 1) := by decide +kernel
theorem jd_JS_get4_1 : decode jb_JS_get4 1 = .ok (.iload_n 1, 1) := by decide +kernel
theorem jd_JS_get4_2 : decode jb_JS_get4 2 = .ok (.baload, 1) := by decide +kernel
theorem jd_JS_get4_3 : decode jb_JS_get4 3 = .ok (.bipush 24, 2) := by decide +kernel
theorem jd_JS_get4_5 : decode jb_JS_get4 5 = .ok (.ishl, 1) := by decide +kernel
theorem jd_JS_get4_6 : decode jb_JS_get4 6 = .ok (.aload_n 0, 1) := by decide +kernel
theorem jd_JS_get4_7 : decode jb_JS_get4 7 = .ok (.iload_n 1, 1) := by decide +kernel
theorem jd_JS_get4_8 : decode jb_JS_get4 8 = .ok (.iconst 1, 1) := by decide +kernel
theorem jd_JS_get4_9 : decode jb_JS_get4 9 = .ok (.iadd, 1) := by decide +kernel
theorem jd_JS_get4_10 : decode jb_JS_get4 10 = .ok (.baload, 1) := by decide +kernel
theorem jd_JS_get4_11 : decode jb_JS_get4 11 = .ok (.sipush 255, 3) := by decide +kernel
theorem jd_JS_get4_14 : decode jb_JS_get4 14 = .ok (.iand, 1) := by decide +kernel
theorem jd_JS_get4_15 : decode jb_JS_get4 15 = .ok (.bipush 16, 2) := by decide +kernel
theorem jd_JS_get4_17 : decode jb_JS_get4 17 = .ok (.ishl, 1) := by decide +kernel
theorem jd_JS_get4_18 : decode jb_JS_get4 18 = .ok (.ior, 1) := by decide +kernel
theorem jd_JS_get4_19 : decode jb_JS_get4 19 = .ok (.aload_n 0, 1) := by decide +kernel
theorem jd_JS_get4_20 : decode jb_JS_get4 20 = .ok (.iload_n 1, 1) := by decide +kernel
theorem jd_JS_get4_21 : decode jb_JS_get4 21 = .ok (.iconst 2, 1) := by decide +kernel
theorem jd_JS_get4_22 : decode jb_JS_get4 22 = .ok (.iadd, 1) := by decide +kernel
theorem jd_JS_get4_23 : decode jb_JS_get4 23 = .ok (.baload, 1) := by decide +kernel
theorem jd_JS_get4_24 : decode jb_JS_get4 24 = .ok (.sipush 255, 3) := by decide +kernel
theorem jd_JS_get4_27 : decode jb_JS_get4 27 = .ok (.iand, 1) := by decide +kernel
theorem jd_JS_get4_28 : decode jb_JS_get4 28 = .ok (.bipush 8, 2) := by decide +kernel
theorem jd_JS_get4_30 : decode jb_JS_get4 30 = .ok (.ishl, 1) := by decide +kernel
theorem jd_JS_get4_31 : decode jb_JS_get4 31 = .ok (.ior, 1) := by decide +kernel
theorem jd_JS_get4_32 : decode jb_JS_get4 32 = .ok (.aload_n 0, 1) := by decide +kernel
theorem jd_JS_get4_33 : decode jb_JS_get4 33 = .ok (.iload_n 1, 1) := by decide +kernel
theorem jd_JS_get4_34 : decode jb_JS_get4 34 = .ok (.iconst 3, 1) := by decide +kernel
theorem jd_JS_get4_35 : decode jb_JS_get4 35 = .ok (.iadd, 1) := by decide +kernel
theorem jd_JS_get4_36 : decode jb_JS_get4 36 = .ok (.baload, 1) := by decide +kernel
theorem jd_JS_get4_37 : decode jb_JS_get4 37 = .ok (.sipush 255, 3) := by decide +kernel
theorem jd_JS_get4_40 : decode jb_JS_get4 40 = .ok (.iand, 1) := by decide +kernel
theorem jd_JS_get4_41 : decode jb_JS_get4 41 = .ok (.ior, 1) := by decide +kernel
theorem jd_JS_get4_42 : decode jb_JS_get4 42 = .ok (.ireturn, 1) := by decide +kernel
theorem jd_JS_in_0 : decode jb_JS_in 0 = .ok (.iload_n 0, 1) := by decide +kernel
theorem jd_JS_in_1 : decode jb_JS_in 1 = .ok (.iload_n 1, 1) := by decide +kernel
theorem jd_JS_in_2 : decode jb_JS_in 2 = .ok (.if_icmp .lt 12, 3) := by decide +kernel
theorem jd_JS_in_5 : decode jb_JS_in 5 = .ok (.iload_n 0, 1) := by decide +kernel
theorem jd_JS_in_6 : decode jb_JS_in 6 = .ok (.iload_n 2, 1) := by decide +kernel
theorem jd_JS_in_7 : decode jb_JS_in 7 = .ok (.if_icmp .gt 7, 3) := by decide +kernel
theorem jd_JS_in_10 : decode jb_JS_in 10 = .ok (.iconst 1, 1) := by decide +kernel
theorem jd_JS_in_11 : decode jb_JS_in 11 = .ok (.goto 4, 3) := by decide +kernel
theorem jd_JS_in_14 : decode jb_JS_in 14 = .ok (.iconst 0, 1) := by decide +kernel
theorem jd_JS_in_15 : decode jb_JS_in 15 = .ok (.ireturn, 1) := by decide +kernel
theorem jd_JS_init_0 : decode jb_JS_init 0 = .ok (.aload_n 0, 1) := by decide +kernel
theorem jd_JS_init_1 : decode jb_JS_init 1 = .ok (.invokespecial 1, 3) := by decide +kernel
theorem jd_JS_init_4 : decode jb_JS_init 4 = .ok (.aload_n 0, 1) := by decide +kernel
theorem jd_JS_init_5 : decode jb_JS_init 5 = .ok (.new 7, 3) := by decide +kernel
theorem jd_JS_init_8 : decode jb_JS_init 8 = .ok (.dup, 1) := by decide +kernel
theorem jd_JS_init_9 : decode jb_JS_init 9 = .ok (.invokespecial 9, 3) := by decide +kernel
theorem jd_JS_init_12 : decode jb_JS_init 12 = .ok (.putfield 10, 3) := by decide +kernel
theorem jd_JS_init_15 : decode jb_JS_init 15 = .ok (.aload_n 0, 1) := by decide +kernel
theorem jd_JS_init_16 : decode jb_JS_init 16 = .ok (.sipush 496, 3) := by decide +kernel
theorem jd_JS_init_19 : decode jb_JS_init 19 = .ok (.newarray .byte, 2) := by decide +kernel
theorem jd_JS_init_21 : decode jb_JS_init 21 = .ok (.putfield 16, 3) := by decide +kernel
theorem jd_JS_init_24 : decode jb_JS_init 24 = .ok (.return_, 1) := by decide +kernel
theorem jd_JS_change_0 : decode jb_JS_change 0 = .ok (.iload_n 1, 1) := by decide +kernel
theorem jd_JS_change_1 : decode jb_JS_change 1 = .ok (.iconst 0, 1) := by decide +kernel
theorem jd_JS_change_2 : decode jb_JS_change 2 = .ok (.sipush 211, 3) := by decide +kernel
theorem jd_JS_change_5 : decode jb_JS_change 5 = .ok (.invokestatic 20, 3) := by decide +kernel
theorem jd_JS_change_8 : decode jb_JS_change 8 = .ok (.ifCond .ne 5, 3) := by decide +kernel
theorem jd_JS_change_11 : decode jb_JS_change 11 = .ok (.iconst (-1), 1) := by decide +kernel
theorem jd_JS_change_12 : decode jb_JS_change 12 = .ok (.ireturn, 1) := by decide +kernel
theorem jd_JS_change_13 : decode jb_JS_change 13 = .ok (.aload_n 0, 1) := by decide +kernel
theorem jd_JS_change_14 : decode jb_JS_change 14 = .ok (.getfield 24, 3) := by decide +kernel
theorem jd_JS_change_17 : decode jb_JS_change 17 = .ok (.bipush 17, 2) := by decide +kernel
theorem jd_JS_change_19 : decode jb_JS_change 19 = .ok (.if_icmp .ne 6, 3) := by decide +kernel
theorem jd_JS_change_22 : decode jb_JS_change 22 = .ok (.bipush (-2), 2) := by decide +kernel
theorem jd_JS_change_24 : decode jb_JS_change 24 = .ok (.ireturn, 1) := by decide +kernel
theorem jd_JS_change_25 : decode jb_JS_change 25 = .ok (.aload_n 0, 1) := by decide +kernel
theorem jd_JS_change_26 : decode jb_JS_change 26 = .ok (.getfield 24, 3) := by decide +kernel
theorem jd_JS_change_29 : decode jb_JS_change 29 = .ok (.ifCond .ne 35, 3) := by decide +kernel
theorem jd_JS_change_32 : decode jb_JS_change 32 = .ok (.aload_n 0, 1) := by decide +kernel
theorem jd_JS_change_33 : decode jb_JS_change 33 = .ok (.getfield 10, 3) := by decide +kernel
theorem jd_JS_change_36 : decode jb_JS_change 36 = .ok (.getfield 28, 3) := by decide +kernel
theorem jd_JS_change_39 : decode jb_JS_change 39 = .ok (.bipush 17, 2) := by decide +kernel
theorem jd_JS_change_41 : decode jb_JS_change 41 = .ok (.iadd, 1) := by decide +kernel
theorem jd_JS_change_42 : decode jb_JS_change 42 = .ok (.bipush 24, 2) := by decide +kernel
theorem jd_JS_change_44 : decode jb_JS_change 44 = .ok (.if_icmp .le 13, 3) := by decide +kernel
theorem jd_JS_change_47 : decode jb_JS_change 47 = .ok (.aload_n 0, 1) := by decide +kernel
theorem jd_JS_change_48 : decode jb_JS_change 48 = .ok (.dup, 1) := by decide +kernel
theorem jd_JS_change_49 : decode jb_JS_change 49 = .ok (.getfield 31, 3) := by decide +kernel
theorem jd_JS_change_52 : decode jb_JS_change 52 = .ok (.iconst 1, 1) := by decide +kernel
theorem jd_JS_change_53 : decode jb_JS_change 53 = .ok (.iadd, 1) := by decide +kernel
theorem jd_JS_change_54 : decode jb_JS_change 54 = .ok (.putfield 31, 3) := by decide +kernel
theorem jd_JS_change_57 : decode jb_JS_change 57 = .ok (.aload_n 0, 1) := by decide +kernel
theorem jd_JS_change_58 : decode jb_JS_change 58 = .ok (.getfield 10, 3) := by decide +kernel
theorem jd_JS_change_61 : decode jb_JS_change 61 = .ok (.invokevirtual 34, 3) := by decide +kernel
theorem jd_JS_change_64 : decode jb_JS_change 64 = .ok (.aload_n 0, 1) := by decide +kernel
theorem jd_JS_change_65 : decode jb_JS_change 65 = .ok (.getfield 16, 3) := by decide +kernel
theorem jd_JS_change_68 : decode jb_JS_change 68 = .ok (.iconst 0, 1) := by decide +kernel
theorem jd_JS_change_69 : decode jb_JS_change 69 = .ok (.invokestatic 37, 3) := by decide +kernel
theorem jd_JS_change_72 : decode jb_JS_change 72 = .ok (.iconst 0, 1) := by decide +kernel
theorem jd_JS_change_73 : decode jb_JS_change 73 = .ok (.istore_n 3, 1) := by decide +kernel
theorem jd_JS_change_74 : decode jb_JS_change 74 = .ok (.iload_n 3, 1) := by decide +kernel
theorem jd_JS_change_75 : decode jb_JS_change 75 = .ok (.sipush 496, 3) := by decide +kernel
theorem jd_JS_change_78 : decode jb_JS_change 78 = .ok (.if_icmp .ge 20, 3) := by decide +kernel
theorem jd_JS_change_81 : decode jb_JS_change 81 = .ok (.aload_n 0, 1) := by decide +kernel
theorem jd_JS_change_82 : decode jb_JS_change 82 = .ok (.getfield 16, 3) := by decide +kernel
theorem jd_JS_change_85 : decode jb_JS_change 85 = .ok (.iload_n 3, 1) := by decide +kernel
theorem jd_JS_change_86 : decode jb_JS_change 86 = .ok (.iload_n 2, 1) := by decide +kernel
theorem jd_JS_change_87 : decode jb_JS_change 87 = .ok (.iload_n 3, 1) := by decide +kernel
theorem jd_JS_change_88 : decode jb_JS_change 88 = .ok (.iadd, 1) := by decide +kernel
theorem jd_JS_change_89 : decode jb_JS_change 89 = .ok (.invokestatic 43, 3) := by decide +kernel
theorem jd_JS_change_92 : decode jb_JS_change 92 = .ok (.iinc 3 4, 3) := by decide +kernel
theorem jd_JS_change_95 : decode jb_JS_change 95 = .ok (.goto (-21), 3) := by decide +kernel
theorem jd_JS_change_98 : decode jb_JS_change 98 = .ok (.aload_n 0, 1) := by decide +kernel
theorem jd_JS_change_99 : decode jb_JS_change 99 = .ok (.getfield 10, 3) := by decide +kernel
theorem jd_JS_change_102 : decode jb_JS_change 102 = .ok (.iload_n 1, 1) := by decide +kernel
theorem jd_JS_change_103 : decode jb_JS_change 103 = .ok (.aload_n 0, 1) := by decide +kernel
theorem jd_JS_change_104 : decode jb_JS_change 104 = .ok (.getfield 16, 3) := by decide +kernel
theorem jd_JS_change_107 : decode jb_JS_change 107 = .ok (.invokevirtual 47, 3) := by decide +kernel
theorem jd_JS_change_110 : decode jb_JS_change 110 = .ok (.aload_n 0, 1) := by decide +kernel
theorem jd_JS_change_111 : decode jb_JS_change 111 = .ok (.dup, 1) := by decide +kernel
theorem jd_JS_change_112 : decode jb_JS_change 112 = .ok (.getfield 24, 3) := by decide +kernel
theorem jd_JS_change_115 : decode jb_JS_change 115 = .ok (.iconst 1, 1) := by decide +kernel
theorem jd_JS_change_116 : decode jb_JS_change 116 = .ok (.iadd, 1) := by decide +kernel
theorem jd_JS_change_117 : decode jb_JS_change 117 = .ok (.putfield 24, 3) := by decide +kernel
theorem jd_JS_change_120 : decode jb_JS_change 120 = .ok (.aload_n 0, 1) := by decide +kernel
theorem jd_JS_change_121 : decode jb_JS_change 121 = .ok (.getfield 24, 3) := by decide +kernel
theorem jd_JS_change_124 : decode jb_JS_change 124 = .ok (.ireturn, 1) := by decide +kernel
theorem jd_JS_commit_0 : decode jb_JS_commit 0 = .ok (.aload_n 0, 1) := by decide +kernel
theorem jd_JS_commit_1 : decode jb_JS_commit 1 = .ok (.getfield 24, 3) := by decide +kernel
theorem jd_JS_commit_4 : decode jb_JS_commit 4 = .ok (.ifCond .ne 5, 3) := by decide +kernel
theorem jd_JS_commit_7 : decode jb_JS_commit 7 = .ok (.iconst (-1), 1) := by decide +kernel
theorem jd_JS_commit_8 : decode jb_JS_commit 8 = .ok (.ireturn, 1) := by decide +kernel
theorem jd_JS_commit_9 : decode jb_JS_commit 9 = .ok (.aload_n 0, 1) := by decide +kernel
theorem jd_JS_commit_10 : decode jb_JS_commit 10 = .ok (.getfield 24, 3) := by decide +kernel
theorem jd_JS_commit_13 : decode jb_JS_commit 13 = .ok (.istore_n 1, 1) := by decide +kernel
theorem jd_JS_commit_14 : decode jb_JS_commit 14 = .ok (.aload_n 0, 1) := by decide +kernel
theorem jd_JS_commit_15 : decode jb_JS_commit 15 = .ok (.getfield 10, 3) := by decide +kernel
theorem jd_JS_commit_18 : decode jb_JS_commit 18 = .ok (.invokevirtual 51, 3) := by decide +kernel
theorem jd_JS_commit_21 : decode jb_JS_commit 21 = .ok (.aload_n 0, 1) := by decide +kernel
theorem jd_JS_commit_22 : decode jb_JS_commit 22 = .ok (.iconst 0, 1) := by decide +kernel
theorem jd_JS_commit_23 : decode jb_JS_commit 23 = .ok (.putfield 24, 3) := by decide +kernel
theorem jd_JS_commit_26 : decode jb_JS_commit 26 = .ok (.iload_n 1, 1) := by decide +kernel
theorem jd_JS_commit_27 : decode jb_JS_commit 27 = .ok (.ireturn, 1) := by decide +kernel
theorem jd_JS_forget_0 : decode jb_JS_forget 0 = .ok (.aload_n 0, 1) := by decide +kernel
theorem jd_JS_forget_1 : decode jb_JS_forget 1 = .ok (.getfield 24, 3) := by decide +kernel
theorem jd_JS_forget_4 : decode jb_JS_forget 4 = .ok (.istore_n 1, 1) := by decide +kernel
theorem jd_JS_forget_5 : decode jb_JS_forget 5 = .ok (.aload_n 0, 1) := by decide +kernel
theorem jd_JS_forget_6 : decode jb_JS_forget 6 = .ok (.iconst 0, 1) := by decide +kernel
theorem jd_JS_forget_7 : decode jb_JS_forget 7 = .ok (.putfield 24, 3) := by decide +kernel
theorem jd_JS_forget_10 : decode jb_JS_forget 10 = .ok (.iload_n 1, 1) := by decide +kernel
theorem jd_JS_forget_11 : decode jb_JS_forget 11 = .ok (.ireturn, 1) := by decide +kernel
theorem jd_JS_flush_0 : decode jb_JS_flush 0 = .ok (.aload_n 0, 1) := by decide +kernel
theorem jd_JS_flush_1 : decode jb_JS_flush 1 = .ok (.getfield 10, 3) := by decide +kernel
theorem jd_JS_flush_4 : decode jb_JS_flush 4 = .ok (.getfield 54, 3) := by decide +kernel
theorem jd_JS_flush_7 : decode jb_JS_flush 7 = .ok (.iconst 1, 1) := by decide +kernel
theorem jd_JS_flush_8 : decode jb_JS_flush 8 = .ok (.isub, 1) := by decide +kernel
theorem jd_JS_flush_9 : decode jb_JS_flush 9 = .ok (.aload_n 0, 1) := by decide +kernel
theorem jd_JS_flush_10 : decode jb_JS_flush 10 = .ok (.getfield 10, 3) := by decide +kernel
theorem jd_JS_flush_13 : decode jb_JS_flush 13 = .ok (.getfield 57, 3) := by decide +kernel
theorem jd_JS_flush_16 : decode jb_JS_flush 16 = .ok (.isub, 1) := by decide +kernel
theorem jd_JS_flush_17 : decode jb_JS_flush 17 = .ok (.istore_n 1, 1) := by decide +kernel
theorem jd_JS_flush_18 : decode jb_JS_flush 18 = .ok (.aload_n 0, 1) := by decide +kernel
theorem jd_JS_flush_19 : decode jb_JS_flush 19 = .ok (.getfield 10, 3) := by decide +kernel
theorem jd_JS_flush_22 : decode jb_JS_flush 22 = .ok (.invokevirtual 60, 3) := by decide +kernel
theorem jd_JS_flush_25 : decode jb_JS_flush 25 = .ok (.aload_n 0, 1) := by decide +kernel
theorem jd_JS_flush_26 : decode jb_JS_flush 26 = .ok (.iconst 0, 1) := by decide +kernel
theorem jd_JS_flush_27 : decode jb_JS_flush 27 = .ok (.putfield 24, 3) := by decide +kernel
theorem jd_JS_flush_30 : decode jb_JS_flush 30 = .ok (.aload_n 0, 1) := by decide +kernel
theorem jd_JS_flush_31 : decode jb_JS_flush 31 = .ok (.dup, 1) := by decide +kernel
theorem jd_JS_flush_32 : decode jb_JS_flush 32 = .ok (.getfield 31, 3) := by decide +kernel
theorem jd_JS_flush_35 : decode jb_JS_flush 35 = .ok (.iconst 1, 1) := by decide +kernel
theorem jd_JS_flush_36 : decode jb_JS_flush 36 = .ok (.iadd, 1) := by decide +kernel
theorem jd_JS_flush_37 : decode jb_JS_flush 37 = .ok (.putfield 31, 3) := by decide +kernel
theorem jd_JS_flush_40 : decode jb_JS_flush 40 = .ok (.iload_n 1, 1) := by decide +kernel
theorem jd_JS_flush_41 : decode jb_JS_flush 41 = .ok (.ireturn, 1) := by decide +kernel
theorem jd_JS_crash_0 : decode jb_JS_crash 0 = .ok (.iload_n 2, 1) := by decide +kernel
theorem jd_JS_crash_1 : decode jb_JS_crash 1 = .ok (.iconst 0, 1) := by decide +kernel
theorem jd_JS_crash_2 : decode jb_JS_crash 2 = .ok (.sipush 500, 3) := by decide +kernel
theorem jd_JS_crash_5 : decode jb_JS_crash 5 = .ok (.invokestatic 20, 3) := by decide +kernel
theorem jd_JS_crash_8 : decode jb_JS_crash 8 = .ok (.ifCond .ne 5, 3) := by decide +kernel
theorem jd_JS_crash_11 : decode jb_JS_crash 11 = .ok (.iconst (-1), 1) := by decide +kernel
theorem jd_JS_crash_12 : decode jb_JS_crash 12 = .ok (.ireturn, 1) := by decide +kernel
theorem jd_JS_crash_13 : decode jb_JS_crash 13 = .ok (.aload_n 0, 1) := by decide +kernel
theorem jd_JS_crash_14 : decode jb_JS_crash 14 = .ok (.getfield 10, 3) := by decide +kernel
theorem jd_JS_crash_17 : decode jb_JS_crash 17 = .ok (.getfield 54, 3) := by decide +kernel
theorem jd_JS_crash_20 : decode jb_JS_crash 20 = .ok (.istore_n 3, 1) := by decide +kernel
theorem jd_JS_crash_21 : decode jb_JS_crash 21 = .ok (.aload_n 0, 1) := by decide +kernel
theorem jd_JS_crash_22 : decode jb_JS_crash 22 = .ok (.getfield 10, 3) := by decide +kernel
theorem jd_JS_crash_25 : decode jb_JS_crash 25 = .ok (.getfield 63, 3) := by decide +kernel
theorem jd_JS_crash_28 : decode jb_JS_crash 28 = .ok (.iload_n 1, 1) := by decide +kernel
theorem jd_JS_crash_29 : decode jb_JS_crash 29 = .ok (.iload_n 2, 1) := by decide +kernel
theorem jd_JS_crash_30 : decode jb_JS_crash 30 = .ok (.invokevirtual 67, 3) := by decide +kernel
theorem jd_JS_crash_33 : decode jb_JS_crash 33 = .ok (.aload_n 0, 1) := by decide +kernel
theorem jd_JS_crash_34 : decode jb_JS_crash 34 = .ok (.getfield 10, 3) := by decide +kernel
theorem jd_JS_crash_37 : decode jb_JS_crash 37 = .ok (.invokevirtual 73, 3) := by decide +kernel
theorem jd_JS_crash_40 : decode jb_JS_crash 40 = .ok (.aload_n 0, 1) := by decide +kernel
theorem jd_JS_crash_41 : decode jb_JS_crash 41 = .ok (.iconst 0, 1) := by decide +kernel
theorem jd_JS_crash_42 : decode jb_JS_crash 42 = .ok (.putfield 24, 3) := by decide +kernel
theorem jd_JS_crash_45 : decode jb_JS_crash 45 = .ok (.aload_n 0, 1) := by decide +kernel
theorem jd_JS_crash_46 : decode jb_JS_crash 46 = .ok (.dup, 1) := by decide +kernel
theorem jd_JS_crash_47 : decode jb_JS_crash 47 = .ok (.getfield 76, 3) := by decide +kernel
theorem jd_JS_crash_50 : decode jb_JS_crash 50 = .ok (.iconst 1, 1) := by decide +kernel
theorem jd_JS_crash_51 : decode jb_JS_crash 51 = .ok (.iadd, 1) := by decide +kernel
theorem jd_JS_crash_52 : decode jb_JS_crash 52 = .ok (.putfield 76, 3) := by decide +kernel
theorem jd_JS_crash_55 : decode jb_JS_crash 55 = .ok (.iload_n 3, 1) := by decide +kernel
theorem jd_JS_crash_56 : decode jb_JS_crash 56 = .ok (.aload_n 0, 1) := by decide +kernel
theorem jd_JS_crash_57 : decode jb_JS_crash 57 = .ok (.getfield 10, 3) := by decide +kernel
theorem jd_JS_crash_60 : decode jb_JS_crash 60 = .ok (.getfield 54, 3) := by decide +kernel
theorem jd_JS_crash_63 : decode jb_JS_crash 63 = .ok (.isub, 1) := by decide +kernel
theorem jd_JS_crash_64 : decode jb_JS_crash 64 = .ok (.ireturn, 1) := by decide +kernel
theorem jd_JS_get_0 : decode jb_JS_get 0 = .ok (.iload_n 1, 1) := by decide +kernel
theorem jd_JS_get_1 : decode jb_JS_get 1 = .ok (.iconst 0, 1) := by decide +kernel
theorem jd_JS_get_2 : decode jb_JS_get 2 = .ok (.sipush 211, 3) := by decide +kernel
theorem jd_JS_get_5 : decode jb_JS_get 5 = .ok (.invokestatic 20, 3) := by decide +kernel
theorem jd_JS_get_8 : decode jb_JS_get 8 = .ok (.ifCond .ne 5, 3) := by decide +kernel
theorem jd_JS_get_11 : decode jb_JS_get 11 = .ok (.iconst 0, 1) := by decide +kernel
theorem jd_JS_get_12 : decode jb_JS_get 12 = .ok (.ireturn, 1) := by decide +kernel
theorem jd_JS_get_13 : decode jb_JS_get 13 = .ok (.aload_n 0, 1) := by decide +kernel
theorem jd_JS_get_14 : decode jb_JS_get 14 = .ok (.getfield 10, 3) := by decide +kernel
theorem jd_JS_get_17 : decode jb_JS_get 17 = .ok (.iload_n 1, 1) := by decide +kernel
theorem jd_JS_get_18 : decode jb_JS_get 18 = .ok (.aload_n 0, 1) := by decide +kernel
theorem jd_JS_get_19 : decode jb_JS_get 19 = .ok (.getfield 16, 3) := by decide +kernel
theorem jd_JS_get_22 : decode jb_JS_get 22 = .ok (.invokevirtual 79, 3) := by decide +kernel
theorem jd_JS_get_25 : decode jb_JS_get 25 = .ok (.aload_n 0, 1) := by decide +kernel
theorem jd_JS_get_26 : decode jb_JS_get 26 = .ok (.getfield 16, 3) := by decide +kernel
theorem jd_JS_get_29 : decode jb_JS_get 29 = .ok (.iconst 0, 1) := by decide +kernel
theorem jd_JS_get_30 : decode jb_JS_get 30 = .ok (.invokestatic 82, 3) := by decide +kernel
theorem jd_JS_get_33 : decode jb_JS_get 33 = .ok (.istore_n 2, 1) := by decide +kernel
theorem jd_JS_get_34 : decode jb_JS_get 34 = .ok (.aload_n 0, 1) := by decide +kernel
theorem jd_JS_get_35 : decode jb_JS_get 35 = .ok (.getfield 16, 3) := by decide +kernel
theorem jd_JS_get_38 : decode jb_JS_get 38 = .ok (.iconst 4, 1) := by decide +kernel
theorem jd_JS_get_39 : decode jb_JS_get 39 = .ok (.invokestatic 82, 3) := by decide +kernel
theorem jd_JS_get_42 : decode jb_JS_get 42 = .ok (.ifCond .ne 11, 3) := by decide +kernel
theorem jd_JS_get_45 : decode jb_JS_get 45 = .ok (.iload_n 2, 1) := by decide +kernel
theorem jd_JS_get_46 : decode jb_JS_get 46 = .ok (.ifCond .ne 7, 3) := by decide +kernel
theorem jd_JS_get_49 : decode jb_JS_get 49 = .ok (.iconst 0, 1) := by decide +kernel
theorem jd_JS_get_50 : decode jb_JS_get 50 = .ok (.goto 4, 3) := by decide +kernel
theorem jd_JS_get_53 : decode jb_JS_get 53 = .ok (.iload_n 2, 1) := by decide +kernel
theorem jd_JS_get_54 : decode jb_JS_get 54 = .ok (.ireturn, 1) := by decide +kernel
theorem jd_JS_torn_0 : decode jb_JS_torn 0 = .ok (.iconst 0, 1) := by decide +kernel
theorem jd_JS_torn_1 : decode jb_JS_torn 1 = .ok (.istore_n 1, 1) := by decide +kernel
theorem jd_JS_torn_2 : decode jb_JS_torn 2 = .ok (.iconst 0, 1) := by decide +kernel
theorem jd_JS_torn_3 : decode jb_JS_torn 3 = .ok (.istore_n 2, 1) := by decide +kernel
theorem jd_JS_torn_4 : decode jb_JS_torn 4 = .ok (.iload_n 2, 1) := by decide +kernel
theorem jd_JS_torn_5 : decode jb_JS_torn 5 = .ok (.sipush 212, 3) := by decide +kernel
theorem jd_JS_torn_8 : decode jb_JS_torn 8 = .ok (.if_icmp .ge 115, 3) := by decide +kernel
theorem jd_JS_torn_11 : decode jb_JS_torn 11 = .ok (.aload_n 0, 1) := by decide +kernel
theorem jd_JS_torn_12 : decode jb_JS_torn 12 = .ok (.getfield 10, 3) := by decide +kernel
theorem jd_JS_torn_15 : decode jb_JS_torn 15 = .ok (.iload_n 2, 1) := by decide +kernel
theorem jd_JS_torn_16 : decode jb_JS_torn 16 = .ok (.aload_n 0, 1) := by decide +kernel
theorem jd_JS_torn_17 : decode jb_JS_torn 17 = .ok (.getfield 16, 3) := by decide +kernel
theorem jd_JS_torn_20 : decode jb_JS_torn 20 = .ok (.invokevirtual 79, 3) := by decide +kernel
theorem jd_JS_torn_23 : decode jb_JS_torn 23 = .ok (.aload_n 0, 1) := by decide +kernel
theorem jd_JS_torn_24 : decode jb_JS_torn 24 = .ok (.getfield 16, 3) := by decide +kernel
theorem jd_JS_torn_27 : decode jb_JS_torn 27 = .ok (.iconst 0, 1) := by decide +kernel
theorem jd_JS_torn_28 : decode jb_JS_torn 28 = .ok (.invokestatic 82, 3) := by decide +kernel
theorem jd_JS_torn_31 : decode jb_JS_torn 31 = .ok (.istore_n 3, 1) := by decide +kernel
theorem jd_JS_torn_32 : decode jb_JS_torn 32 = .ok (.iload_n 3, 1) := by decide +kernel
theorem jd_JS_torn_33 : decode jb_JS_torn 33 = .ok (.ifCond .ne 18, 3) := by decide +kernel
theorem jd_JS_torn_36 : decode jb_JS_torn 36 = .ok (.aload_n 0, 1) := by decide +kernel
theorem jd_JS_torn_37 : decode jb_JS_torn 37 = .ok (.getfield 16, 3) := by decide +kernel
theorem jd_JS_torn_40 : decode jb_JS_torn 40 = .ok (.iconst 4, 1) := by decide +kernel
theorem jd_JS_torn_41 : decode jb_JS_torn 41 = .ok (.invokestatic 82, 3) := by decide +kernel
theorem jd_JS_torn_44 : decode jb_JS_torn 44 = .ok (.ifCond .ne 7, 3) := by decide +kernel
theorem jd_JS_torn_47 : decode jb_JS_torn 47 = .ok (.iconst 1, 1) := by decide +kernel
theorem jd_JS_torn_48 : decode jb_JS_torn 48 = .ok (.goto 4, 3) := by decide +kernel
theorem jd_JS_torn_51 : decode jb_JS_torn 51 = .ok (.iconst 0, 1) := by decide +kernel
theorem jd_JS_torn_52 : decode jb_JS_torn 52 = .ok (.istore 4, 2) := by decide +kernel
theorem jd_JS_torn_54 : decode jb_JS_torn 54 = .ok (.iconst 0, 1) := by decide +kernel
theorem jd_JS_torn_55 : decode jb_JS_torn 55 = .ok (.istore 5, 2) := by decide +kernel
theorem jd_JS_torn_57 : decode jb_JS_torn 57 = .ok (.iconst 0, 1) := by decide +kernel
theorem jd_JS_torn_58 : decode jb_JS_torn 58 = .ok (.istore 6, 2) := by decide +kernel
theorem jd_JS_torn_60 : decode jb_JS_torn 60 = .ok (.iload 6, 2) := by decide +kernel
theorem jd_JS_torn_62 : decode jb_JS_torn 62 = .ok (.sipush 496, 3) := by decide +kernel
theorem jd_JS_torn_65 : decode jb_JS_torn 65 = .ok (.if_icmp .ge 44, 3) := by decide +kernel
theorem jd_JS_torn_68 : decode jb_JS_torn 68 = .ok (.iload 5, 2) := by decide +kernel
theorem jd_JS_torn_70 : decode jb_JS_torn 70 = .ok (.aload_n 0, 1) := by decide +kernel
theorem jd_JS_torn_71 : decode jb_JS_torn 71 = .ok (.getfield 16, 3) := by decide +kernel
theorem jd_JS_torn_74 : decode jb_JS_torn 74 = .ok (.iload 6, 2) := by decide +kernel
theorem jd_JS_torn_76 : decode jb_JS_torn 76 = .ok (.invokestatic 82, 3) := by decide +kernel
theorem jd_JS_torn_79 : decode jb_JS_torn 79 = .ok (.iload 4, 2) := by decide +kernel
theorem jd_JS_torn_81 : decode jb_JS_torn 81 = .ok (.ifCond .eq 7, 3) := by decide +kernel
theorem jd_JS_torn_84 : decode jb_JS_torn 84 = .ok (.iconst 0, 1) := by decide +kernel
theorem jd_JS_torn_85 : decode jb_JS_torn 85 = .ok (.goto 7, 3) := by decide +kernel
theorem jd_JS_torn_88 : decode jb_JS_torn 88 = .ok (.iload_n 3, 1) := by decide +kernel
theorem jd_JS_torn_89 : decode jb_JS_torn 89 = .ok (.iload 6, 2) := by decide +kernel
theorem jd_JS_torn_91 : decode jb_JS_torn 91 = .ok (.iadd, 1) := by decide +kernel
theorem jd_JS_torn_92 : decode jb_JS_torn 92 = .ok (.if_icmp .eq 7, 3) := by decide +kernel
theorem jd_JS_torn_95 : decode jb_JS_torn 95 = .ok (.iconst 1, 1) := by decide +kernel
theorem jd_JS_torn_96 : decode jb_JS_torn 96 = .ok (.goto 4, 3) := by decide +kernel
theorem jd_JS_torn_99 : decode jb_JS_torn 99 = .ok (.iconst 0, 1) := by decide +kernel
theorem jd_JS_torn_100 : decode jb_JS_torn 100 = .ok (.ior, 1) := by decide +kernel
theorem jd_JS_torn_101 : decode jb_JS_torn 101 = .ok (.istore 5, 2) := by decide +kernel
theorem jd_JS_torn_103 : decode jb_JS_torn 103 = .ok (.iinc 6 4, 3) := by decide +kernel
theorem jd_JS_torn_106 : decode jb_JS_torn 106 = .ok (.goto (-46), 3) := by decide +kernel
theorem jd_JS_torn_109 : decode jb_JS_torn 109 = .ok (.iload 5, 2) := by decide +kernel
theorem jd_JS_torn_111 : decode jb_JS_torn 111 = .ok (.ifCond .eq 6, 3) := by decide +kernel
theorem jd_JS_torn_114 : decode jb_JS_torn 114 = .ok (.iinc 1 1, 3) := by decide +kernel
theorem jd_JS_torn_117 : decode jb_JS_torn 117 = .ok (.iinc 2 1, 3) := by decide +kernel
theorem jd_JS_torn_120 : decode jb_JS_torn 120 = .ok (.goto (-116), 3) := by decide +kernel
theorem jd_JS_torn_123 : decode jb_JS_torn 123 = .ok (.iload_n 1, 1) := by decide +kernel
theorem jd_JS_torn_124 : decode jb_JS_torn 124 = .ok (.ireturn, 1) := by decide +kernel
theorem jd_JS_count_0 : decode jb_JS_count 0 = .ok (.iload_n 1, 1) := by decide +kernel
theorem jd_JS_count_1 : decode jb_JS_count 1 = .ok (.tableswitch 93 0 5 #[39, 49, 67, 78, 83, 88], 39) := by decide +kernel
theorem jd_JS_count_40 : decode jb_JS_count 40 = .ok (.aload_n 0, 1) := by decide +kernel
theorem jd_JS_count_41 : decode jb_JS_count 41 = .ok (.getfield 10, 3) := by decide +kernel
theorem jd_JS_count_44 : decode jb_JS_count 44 = .ok (.getfield 54, 3) := by decide +kernel
theorem jd_JS_count_47 : decode jb_JS_count 47 = .ok (.iconst 1, 1) := by decide +kernel
theorem jd_JS_count_48 : decode jb_JS_count 48 = .ok (.isub, 1) := by decide +kernel
theorem jd_JS_count_49 : decode jb_JS_count 49 = .ok (.ireturn, 1) := by decide +kernel
theorem jd_JS_count_50 : decode jb_JS_count 50 = .ok (.aload_n 0, 1) := by decide +kernel
theorem jd_JS_count_51 : decode jb_JS_count 51 = .ok (.getfield 10, 3) := by decide +kernel
theorem jd_JS_count_54 : decode jb_JS_count 54 = .ok (.getfield 54, 3) := by decide +kernel
theorem jd_JS_count_57 : decode jb_JS_count 57 = .ok (.iconst 1, 1) := by decide +kernel
theorem jd_JS_count_58 : decode jb_JS_count 58 = .ok (.isub, 1) := by decide +kernel
theorem jd_JS_count_59 : decode jb_JS_count 59 = .ok (.aload_n 0, 1) := by decide +kernel
theorem jd_JS_count_60 : decode jb_JS_count 60 = .ok (.getfield 10, 3) := by decide +kernel
theorem jd_JS_count_63 : decode jb_JS_count 63 = .ok (.getfield 57, 3) := by decide +kernel
theorem jd_JS_count_66 : decode jb_JS_count 66 = .ok (.isub, 1) := by decide +kernel
theorem jd_JS_count_67 : decode jb_JS_count 67 = .ok (.ireturn, 1) := by decide +kernel
theorem jd_JS_count_68 : decode jb_JS_count 68 = .ok (.aload_n 0, 1) := by decide +kernel
theorem jd_JS_count_69 : decode jb_JS_count 69 = .ok (.getfield 10, 3) := by decide +kernel
theorem jd_JS_count_72 : decode jb_JS_count 72 = .ok (.getfield 63, 3) := by decide +kernel
theorem jd_JS_count_75 : decode jb_JS_count 75 = .ok (.getfield 86, 3) := by decide +kernel
theorem jd_JS_count_78 : decode jb_JS_count 78 = .ok (.ireturn, 1) := by decide +kernel
theorem jd_JS_count_79 : decode jb_JS_count 79 = .ok (.aload_n 0, 1) := by decide +kernel
theorem jd_JS_count_80 : decode jb_JS_count 80 = .ok (.getfield 24, 3) := by decide +kernel
theorem jd_JS_count_83 : decode jb_JS_count 83 = .ok (.ireturn, 1) := by decide +kernel
theorem jd_JS_count_84 : decode jb_JS_count 84 = .ok (.aload_n 0, 1) := by decide +kernel
theorem jd_JS_count_85 : decode jb_JS_count 85 = .ok (.getfield 31, 3) := by decide +kernel
theorem jd_JS_count_88 : decode jb_JS_count 88 = .ok (.ireturn, 1) := by decide +kernel
theorem jd_JS_count_89 : decode jb_JS_count 89 = .ok (.aload_n 0, 1) := by decide +kernel
theorem jd_JS_count_90 : decode jb_JS_count 90 = .ok (.getfield 76, 3) := by decide +kernel
theorem jd_JS_count_93 : decode jb_JS_count 93 = .ok (.ireturn, 1) := by decide +kernel
theorem jd_JS_count_94 : decode jb_JS_count 94 = .ok (.iconst (-1), 1) := by decide +kernel
theorem jd_JS_count_95 : decode jb_JS_count 95 = .ok (.ireturn, 1) := by decide +kernel
theorem jd_Md_init_0 : decode jb_Md_init 0 = .ok (.aload_n 0, 1) := by decide +kernel
theorem jd_Md_init_1 : decode jb_Md_init 1 = .ok (.invokespecial 1, 3) := by decide +kernel
theorem jd_Md_init_4 : decode jb_Md_init 4 = .ok (.aload_n 0, 1) := by decide +kernel
theorem jd_Md_init_5 : decode jb_Md_init 5 = .ok (.sipush 212, 3) := by decide +kernel
theorem jd_Md_init_8 : decode jb_Md_init 8 = .ok (.newarray .int, 2) := by decide +kernel
theorem jd_Md_init_10 : decode jb_Md_init 10 = .ok (.putfield 9, 3) := by decide +kernel
theorem jd_Md_init_13 : decode jb_Md_init 13 = .ok (.aload_n 0, 1) := by decide +kernel
theorem jd_Md_init_14 : decode jb_Md_init 14 = .ok (.sipush 212, 3) := by decide +kernel
theorem jd_Md_init_17 : decode jb_Md_init 17 = .ok (.newarray .int, 2) := by decide +kernel
theorem jd_Md_init_19 : decode jb_Md_init 19 = .ok (.putfield 13, 3) := by decide +kernel
theorem jd_Md_init_22 : decode jb_Md_init 22 = .ok (.aload_n 0, 1) := by decide +kernel
theorem jd_Md_init_23 : decode jb_Md_init 23 = .ok (.bipush 24, 2) := by decide +kernel
theorem jd_Md_init_25 : decode jb_Md_init 25 = .ok (.newarray .int, 2) := by decide +kernel
theorem jd_Md_init_27 : decode jb_Md_init 27 = .ok (.putfield 16, 3) := by decide +kernel
theorem jd_Md_init_30 : decode jb_Md_init 30 = .ok (.aload_n 0, 1) := by decide +kernel
theorem jd_Md_init_31 : decode jb_Md_init 31 = .ok (.bipush 24, 2) := by decide +kernel
theorem jd_Md_init_33 : decode jb_Md_init 33 = .ok (.newarray .int, 2) := by decide +kernel
theorem jd_Md_init_35 : decode jb_Md_init 35 = .ok (.putfield 19, 3) := by decide +kernel
theorem jd_Md_init_38 : decode jb_Md_init 38 = .ok (.aload_n 0, 1) := by decide +kernel
theorem jd_Md_init_39 : decode jb_Md_init 39 = .ok (.bipush 24, 2) := by decide +kernel
theorem jd_Md_init_41 : decode jb_Md_init 41 = .ok (.newarray .int, 2) := by decide +kernel
theorem jd_Md_init_43 : decode jb_Md_init 43 = .ok (.putfield 22, 3) := by decide +kernel
theorem jd_Md_init_46 : decode jb_Md_init 46 = .ok (.aload_n 0, 1) := by decide +kernel
theorem jd_Md_init_47 : decode jb_Md_init 47 = .ok (.bipush 17, 2) := by decide +kernel
theorem jd_Md_init_49 : decode jb_Md_init 49 = .ok (.newarray .int, 2) := by decide +kernel
theorem jd_Md_init_51 : decode jb_Md_init 51 = .ok (.putfield 25, 3) := by decide +kernel
theorem jd_Md_init_54 : decode jb_Md_init 54 = .ok (.aload_n 0, 1) := by decide +kernel
theorem jd_Md_init_55 : decode jb_Md_init 55 = .ok (.bipush 17, 2) := by decide +kernel
theorem jd_Md_init_57 : decode jb_Md_init 57 = .ok (.newarray .int, 2) := by decide +kernel
theorem jd_Md_init_59 : decode jb_Md_init 59 = .ok (.putfield 28, 3) := by decide +kernel
theorem jd_Md_init_62 : decode jb_Md_init 62 = .ok (.return_, 1) := by decide +kernel
theorem jd_Md_settle_0 : decode jb_Md_settle 0 = .ok (.iconst 0, 1) := by decide +kernel
theorem jd_Md_settle_1 : decode jb_Md_settle 1 = .ok (.istore_n 1, 1) := by decide +kernel
theorem jd_Md_settle_2 : decode jb_Md_settle 2 = .ok (.iload_n 1, 1) := by decide +kernel
theorem jd_Md_settle_3 : decode jb_Md_settle 3 = .ok (.sipush 212, 3) := by decide +kernel
theorem jd_Md_settle_6 : decode jb_Md_settle 6 = .ok (.if_icmp .ge 21, 3) := by decide +kernel
theorem jd_Md_settle_9 : decode jb_Md_settle 9 = .ok (.aload_n 0, 1) := by decide +kernel
theorem jd_Md_settle_10 : decode jb_Md_settle 10 = .ok (.getfield 9, 3) := by decide +kernel
theorem jd_Md_settle_13 : decode jb_Md_settle 13 = .ok (.iload_n 1, 1) := by decide +kernel
theorem jd_Md_settle_14 : decode jb_Md_settle 14 = .ok (.aload_n 0, 1) := by decide +kernel
theorem jd_Md_settle_15 : decode jb_Md_settle 15 = .ok (.getfield 13, 3) := by decide +kernel
theorem jd_Md_settle_18 : decode jb_Md_settle 18 = .ok (.iload_n 1, 1) := by decide +kernel
theorem jd_Md_settle_19 : decode jb_Md_settle 19 = .ok (.iaload, 1) := by decide +kernel
theorem jd_Md_settle_20 : decode jb_Md_settle 20 = .ok (.iastore, 1) := by decide +kernel
theorem jd_Md_settle_21 : decode jb_Md_settle 21 = .ok (.iinc 1 1, 3) := by decide +kernel
theorem jd_Md_settle_24 : decode jb_Md_settle 24 = .ok (.goto (-22), 3) := by decide +kernel
theorem jd_Md_settle_27 : decode jb_Md_settle 27 = .ok (.aload_n 0, 1) := by decide +kernel
theorem jd_Md_settle_28 : decode jb_Md_settle 28 = .ok (.iconst 0, 1) := by decide +kernel
theorem jd_Md_settle_29 : decode jb_Md_settle 29 = .ok (.putfield 31, 3) := by decide +kernel
theorem jd_Md_settle_32 : decode jb_Md_settle 32 = .ok (.aload_n 0, 1) := by decide +kernel
theorem jd_Md_settle_33 : decode jb_Md_settle 33 = .ok (.iconst 0, 1) := by decide +kernel
theorem jd_Md_settle_34 : decode jb_Md_settle 34 = .ok (.putfield 35, 3) := by decide +kernel
theorem jd_Md_settle_37 : decode jb_Md_settle 37 = .ok (.return_, 1) := by decide +kernel
theorem jd_Md_distinct_0 : decode jb_Md_distinct 0 = .ok (.iconst 0, 1) := by decide +kernel
theorem jd_Md_distinct_1 : decode jb_Md_distinct 1 = .ok (.istore_n 1, 1) := by decide +kernel
theorem jd_Md_distinct_2 : decode jb_Md_distinct 2 = .ok (.iconst 0, 1) := by decide +kernel
theorem jd_Md_distinct_3 : decode jb_Md_distinct 3 = .ok (.istore_n 2, 1) := by decide +kernel
theorem jd_Md_distinct_4 : decode jb_Md_distinct 4 = .ok (.iload_n 2, 1) := by decide +kernel
theorem jd_Md_distinct_5 : decode jb_Md_distinct 5 = .ok (.aload_n 0, 1) := by decide +kernel
theorem jd_Md_distinct_6 : decode jb_Md_distinct 6 = .ok (.getfield 31, 3) := by decide +kernel
theorem jd_Md_distinct_9 : decode jb_Md_distinct 9 = .ok (.if_icmp .ge 51, 3) := by decide +kernel
theorem jd_Md_distinct_12 : decode jb_Md_distinct 12 = .ok (.iconst 1, 1) := by decide +kernel
theorem jd_Md_distinct_13 : decode jb_Md_distinct 13 = .ok (.istore_n 3, 1) := by decide +kernel
theorem jd_Md_distinct_14 : decode jb_Md_distinct 14 = .ok (.iconst 0, 1) := by decide +kernel
theorem jd_Md_distinct_15 : decode jb_Md_distinct 15 = .ok (.istore 4, 2) := by decide +kernel
theorem jd_Md_distinct_17 : decode jb_Md_distinct 17 = .ok (.iload 4, 2) := by decide +kernel
theorem jd_Md_distinct_19 : decode jb_Md_distinct 19 = .ok (.iload_n 2, 1) := by decide +kernel
theorem jd_Md_distinct_20 : decode jb_Md_distinct 20 = .ok (.if_icmp .ge 27, 3) := by decide +kernel
theorem jd_Md_distinct_23 : decode jb_Md_distinct 23 = .ok (.aload_n 0, 1) := by decide +kernel
theorem jd_Md_distinct_24 : decode jb_Md_distinct 24 = .ok (.getfield 16, 3) := by decide +kernel
theorem jd_Md_distinct_27 : decode jb_Md_distinct 27 = .ok (.iload 4, 2) := by decide +kernel
theorem jd_Md_distinct_29 : decode jb_Md_distinct 29 = .ok (.iaload, 1) := by decide +kernel
theorem jd_Md_distinct_30 : decode jb_Md_distinct 30 = .ok (.aload_n 0, 1) := by decide +kernel
theorem jd_Md_distinct_31 : decode jb_Md_distinct 31 = .ok (.getfield 16, 3) := by decide +kernel
theorem jd_Md_distinct_34 : decode jb_Md_distinct 34 = .ok (.iload_n 2, 1) := by decide +kernel
theorem jd_Md_distinct_35 : decode jb_Md_distinct 35 = .ok (.iaload, 1) := by decide +kernel
theorem jd_Md_distinct_36 : decode jb_Md_distinct 36 = .ok (.if_icmp .ne 5, 3) := by decide +kernel
theorem jd_Md_distinct_39 : decode jb_Md_distinct 39 = .ok (.iconst 0, 1) := by decide +kernel
theorem jd_Md_distinct_40 : decode jb_Md_distinct 40 = .ok (.istore_n 3, 1) := by decide +kernel
theorem jd_Md_distinct_41 : decode jb_Md_distinct 41 = .ok (.iinc 4 1, 3) := by decide +kernel
theorem jd_Md_distinct_44 : decode jb_Md_distinct 44 = .ok (.goto (-27), 3) := by decide +kernel
theorem jd_Md_distinct_47 : decode jb_Md_distinct 47 = .ok (.iload_n 3, 1) := by decide +kernel
theorem jd_Md_distinct_48 : decode jb_Md_distinct 48 = .ok (.ifCond .eq 6, 3) := by decide +kernel
theorem jd_Md_distinct_51 : decode jb_Md_distinct 51 = .ok (.iinc 1 1, 3) := by decide +kernel
theorem jd_Md_distinct_54 : decode jb_Md_distinct 54 = .ok (.iinc 2 1, 3) := by decide +kernel
theorem jd_Md_distinct_57 : decode jb_Md_distinct 57 = .ok (.goto (-53), 3) := by decide +kernel
theorem jd_Md_distinct_60 : decode jb_Md_distinct 60 = .ok (.iload_n 1, 1) := by decide +kernel
theorem jd_Md_distinct_61 : decode jb_Md_distinct 61 = .ok (.ireturn, 1) := by decide +kernel
theorem jd_Md_change_0 : decode jb_Md_change 0 = .ok (.iload_n 1, 1) := by decide +kernel
theorem jd_Md_change_1 : decode jb_Md_change 1 = .ok (.ifCond .lt 10, 3) := by decide +kernel
theorem jd_Md_change_4 : decode jb_Md_change 4 = .ok (.iload_n 1, 1) := by decide +kernel
theorem jd_Md_change_5 : decode jb_Md_change 5 = .ok (.sipush 212, 3) := by decide +kernel
theorem jd_Md_change_8 : decode jb_Md_change 8 = .ok (.if_icmp .lt 5, 3) := by decide +kernel
theorem jd_Md_change_11 : decode jb_Md_change 11 = .ok (.iconst (-1), 1) := by decide +kernel
theorem jd_Md_change_12 : decode jb_Md_change 12 = .ok (.ireturn, 1) := by decide +kernel
theorem jd_Md_change_13 : decode jb_Md_change 13 = .ok (.aload_n 0, 1) := by decide +kernel
theorem jd_Md_change_14 : decode jb_Md_change 14 = .ok (.getfield 38, 3) := by decide +kernel
theorem jd_Md_change_17 : decode jb_Md_change 17 = .ok (.bipush 17, 2) := by decide +kernel
theorem jd_Md_change_19 : decode jb_Md_change 19 = .ok (.if_icmp .ne 6, 3) := by decide +kernel
theorem jd_Md_change_22 : decode jb_Md_change 22 = .ok (.bipush (-2), 2) := by decide +kernel
theorem jd_Md_change_24 : decode jb_Md_change 24 = .ok (.ireturn, 1) := by decide +kernel
theorem jd_Md_change_25 : decode jb_Md_change 25 = .ok (.aload_n 0, 1) := by decide +kernel
theorem jd_Md_change_26 : decode jb_Md_change 26 = .ok (.getfield 38, 3) := by decide +kernel
theorem jd_Md_change_29 : decode jb_Md_change 29 = .ok (.ifCond .ne 17, 3) := by decide +kernel
theorem jd_Md_change_32 : decode jb_Md_change 32 = .ok (.aload_n 0, 1) := by decide +kernel
theorem jd_Md_change_33 : decode jb_Md_change 33 = .ok (.getfield 31, 3) := by decide +kernel
theorem jd_Md_change_36 : decode jb_Md_change 36 = .ok (.bipush 7, 2) := by decide +kernel
theorem jd_Md_change_38 : decode jb_Md_change 38 = .ok (.if_icmp .le 8, 3) := by decide +kernel
theorem jd_Md_change_41 : decode jb_Md_change 41 = .ok (.aload_n 0, 1) := by decide +kernel
theorem jd_Md_change_42 : decode jb_Md_change 42 = .ok (.invokevirtual 41, 3) := by decide +kernel
theorem jd_Md_change_45 : decode jb_Md_change 45 = .ok (.pop, 1) := by decide +kernel
theorem jd_Md_change_46 : decode jb_Md_change 46 = .ok (.aload_n 0, 1) := by decide +kernel
theorem jd_Md_change_47 : decode jb_Md_change 47 = .ok (.getfield 25, 3) := by decide +kernel
theorem jd_Md_change_50 : decode jb_Md_change 50 = .ok (.aload_n 0, 1) := by decide +kernel
theorem jd_Md_change_51 : decode jb_Md_change 51 = .ok (.getfield 38, 3) := by decide +kernel
theorem jd_Md_change_54 : decode jb_Md_change 54 = .ok (.iload_n 1, 1) := by decide +kernel
theorem jd_Md_change_55 : decode jb_Md_change 55 = .ok (.iastore, 1) := by decide +kernel
theorem jd_Md_change_56 : decode jb_Md_change 56 = .ok (.aload_n 0, 1) := by decide +kernel
theorem jd_Md_change_57 : decode jb_Md_change 57 = .ok (.getfield 28, 3) := by decide +kernel
theorem jd_Md_change_60 : decode jb_Md_change 60 = .ok (.aload_n 0, 1) := by decide +kernel
theorem jd_Md_change_61 : decode jb_Md_change 61 = .ok (.getfield 38, 3) := by decide +kernel
theorem jd_Md_change_64 : decode jb_Md_change 64 = .ok (.iload_n 2, 1) := by decide +kernel
theorem jd_Md_change_65 : decode jb_Md_change 65 = .ok (.iastore, 1) := by decide +kernel
theorem jd_Md_change_66 : decode jb_Md_change 66 = .ok (.aload_n 0, 1) := by decide +kernel
theorem jd_Md_change_67 : decode jb_Md_change 67 = .ok (.dup, 1) := by decide +kernel
theorem jd_Md_change_68 : decode jb_Md_change 68 = .ok (.getfield 38, 3) := by decide +kernel
theorem jd_Md_change_71 : decode jb_Md_change 71 = .ok (.iconst 1, 1) := by decide +kernel
theorem jd_Md_change_72 : decode jb_Md_change 72 = .ok (.iadd, 1) := by decide +kernel
theorem jd_Md_change_73 : decode jb_Md_change 73 = .ok (.putfield 38, 3) := by decide +kernel
theorem jd_Md_change_76 : decode jb_Md_change 76 = .ok (.aload_n 0, 1) := by decide +kernel
theorem jd_Md_change_77 : decode jb_Md_change 77 = .ok (.getfield 38, 3) := by decide +kernel
theorem jd_Md_change_80 : decode jb_Md_change 80 = .ok (.ireturn, 1) := by decide +kernel
theorem jd_Md_commit_0 : decode jb_Md_commit 0 = .ok (.aload_n 0, 1) := by decide +kernel
theorem jd_Md_commit_1 : decode jb_Md_commit 1 = .ok (.getfield 38, 3) := by decide +kernel
theorem jd_Md_commit_4 : decode jb_Md_commit 4 = .ok (.istore_n 1, 1) := by decide +kernel
theorem jd_Md_commit_5 : decode jb_Md_commit 5 = .ok (.iload_n 1, 1) := by decide +kernel
theorem jd_Md_commit_6 : decode jb_Md_commit 6 = .ok (.ifCond .ne 5, 3) := by decide +kernel
theorem jd_Md_commit_9 : decode jb_Md_commit 9 = .ok (.iconst (-1), 1) := by decide +kernel
theorem jd_Md_commit_10 : decode jb_Md_commit 10 = .ok (.ireturn, 1) := by decide +kernel
theorem jd_Md_commit_11 : decode jb_Md_commit 11 = .ok (.iconst 0, 1) := by decide +kernel
theorem jd_Md_commit_12 : decode jb_Md_commit 12 = .ok (.istore_n 2, 1) := by decide +kernel
theorem jd_Md_commit_13 : decode jb_Md_commit 13 = .ok (.iload_n 2, 1) := by decide +kernel
theorem jd_Md_commit_14 : decode jb_Md_commit 14 = .ok (.iload_n 1, 1) := by decide +kernel
theorem jd_Md_commit_15 : decode jb_Md_commit 15 = .ok (.if_icmp .ge 87, 3) := by decide +kernel
theorem jd_Md_commit_18 : decode jb_Md_commit 18 = .ok (.aload_n 0, 1) := by decide +kernel
theorem jd_Md_commit_19 : decode jb_Md_commit 19 = .ok (.getfield 16, 3) := by decide +kernel
theorem jd_Md_commit_22 : decode jb_Md_commit 22 = .ok (.aload_n 0, 1) := by decide +kernel
theorem jd_Md_commit_23 : decode jb_Md_commit 23 = .ok (.getfield 31, 3) := by decide +kernel
theorem jd_Md_commit_26 : decode jb_Md_commit 26 = .ok (.aload_n 0, 1) := by decide +kernel
theorem jd_Md_commit_27 : decode jb_Md_commit 27 = .ok (.getfield 25, 3) := by decide +kernel
theorem jd_Md_commit_30 : decode jb_Md_commit 30 = .ok (.iload_n 2, 1) := by decide +kernel
theorem jd_Md_commit_31 : decode jb_Md_commit 31 = .ok (.iaload, 1) := by decide +kernel
theorem jd_Md_commit_32 : decode jb_Md_commit 32 = .ok (.iastore, 1) := by decide +kernel
theorem jd_Md_commit_33 : decode jb_Md_commit 33 = .ok (.aload_n 0, 1) := by decide +kernel
theorem jd_Md_commit_34 : decode jb_Md_commit 34 = .ok (.getfield 19, 3) := by decide +kernel
theorem jd_Md_commit_37 : decode jb_Md_commit 37 = .ok (.aload_n 0, 1) := by decide +kernel
theorem jd_Md_commit_38 : decode jb_Md_commit 38 = .ok (.getfield 31, 3) := by decide +kernel
theorem jd_Md_commit_41 : decode jb_Md_commit 41 = .ok (.aload_n 0, 1) := by decide +kernel
theorem jd_Md_commit_42 : decode jb_Md_commit 42 = .ok (.getfield 28, 3) := by decide +kernel
theorem jd_Md_commit_45 : decode jb_Md_commit 45 = .ok (.iload_n 2, 1) := by decide +kernel
theorem jd_Md_commit_46 : decode jb_Md_commit 46 = .ok (.iaload, 1) := by decide +kernel
theorem jd_Md_commit_47 : decode jb_Md_commit 47 = .ok (.iastore, 1) := by decide +kernel
theorem jd_Md_commit_48 : decode jb_Md_commit 48 = .ok (.aload_n 0, 1) := by decide +kernel
theorem jd_Md_commit_49 : decode jb_Md_commit 49 = .ok (.getfield 22, 3) := by decide +kernel
theorem jd_Md_commit_52 : decode jb_Md_commit 52 = .ok (.aload_n 0, 1) := by decide +kernel
theorem jd_Md_commit_53 : decode jb_Md_commit 53 = .ok (.getfield 31, 3) := by decide +kernel
theorem jd_Md_commit_56 : decode jb_Md_commit 56 = .ok (.iload_n 2, 1) := by decide +kernel
theorem jd_Md_commit_57 : decode jb_Md_commit 57 = .ok (.iload_n 1, 1) := by decide +kernel
theorem jd_Md_commit_58 : decode jb_Md_commit 58 = .ok (.iconst 1, 1) := by decide +kernel
theorem jd_Md_commit_59 : decode jb_Md_commit 59 = .ok (.isub, 1) := by decide +kernel
theorem jd_Md_commit_60 : decode jb_Md_commit 60 = .ok (.if_icmp .ne 7, 3) := by decide +kernel
theorem jd_Md_commit_63 : decode jb_Md_commit 63 = .ok (.iconst 1, 1) := by decide +kernel
theorem jd_Md_commit_64 : decode jb_Md_commit 64 = .ok (.goto 4, 3) := by decide +kernel
theorem jd_Md_commit_67 : decode jb_Md_commit 67 = .ok (.iconst 0, 1) := by decide +kernel
theorem jd_Md_commit_68 : decode jb_Md_commit 68 = .ok (.iastore, 1) := by decide +kernel
theorem jd_Md_commit_69 : decode jb_Md_commit 69 = .ok (.aload_n 0, 1) := by decide +kernel
theorem jd_Md_commit_70 : decode jb_Md_commit 70 = .ok (.dup, 1) := by decide +kernel
theorem jd_Md_commit_71 : decode jb_Md_commit 71 = .ok (.getfield 31, 3) := by decide +kernel
theorem jd_Md_commit_74 : decode jb_Md_commit 74 = .ok (.iconst 1, 1) := by decide +kernel
theorem jd_Md_commit_75 : decode jb_Md_commit 75 = .ok (.iadd, 1) := by decide +kernel
theorem jd_Md_commit_76 : decode jb_Md_commit 76 = .ok (.putfield 31, 3) := by decide +kernel
theorem jd_Md_commit_79 : decode jb_Md_commit 79 = .ok (.aload_n 0, 1) := by decide +kernel
theorem jd_Md_commit_80 : decode jb_Md_commit 80 = .ok (.getfield 13, 3) := by decide +kernel
theorem jd_Md_commit_83 : decode jb_Md_commit 83 = .ok (.aload_n 0, 1) := by decide +kernel
theorem jd_Md_commit_84 : decode jb_Md_commit 84 = .ok (.getfield 25, 3) := by decide +kernel
theorem jd_Md_commit_87 : decode jb_Md_commit 87 = .ok (.iload_n 2, 1) := by decide +kernel
theorem jd_Md_commit_88 : decode jb_Md_commit 88 = .ok (.iaload, 1) := by decide +kernel
theorem jd_Md_commit_89 : decode jb_Md_commit 89 = .ok (.aload_n 0, 1) := by decide +kernel
theorem jd_Md_commit_90 : decode jb_Md_commit 90 = .ok (.getfield 28, 3) := by decide +kernel
theorem jd_Md_commit_93 : decode jb_Md_commit 93 = .ok (.iload_n 2, 1) := by decide +kernel
theorem jd_Md_commit_94 : decode jb_Md_commit 94 = .ok (.iaload, 1) := by decide +kernel
theorem jd_Md_commit_95 : decode jb_Md_commit 95 = .ok (.iastore, 1) := by decide +kernel
theorem jd_Md_commit_96 : decode jb_Md_commit 96 = .ok (.iinc 2 1, 3) := by decide +kernel
theorem jd_Md_commit_99 : decode jb_Md_commit 99 = .ok (.goto (-86), 3) := by decide +kernel
end
section
theorem jd_Md_commit_102 : decode jb_Md_commit 102 = .ok (.aload_n 0, 1) := by decide +kernel
theorem jd_Md_commit_103 : decode jb_Md_commit 103 = .ok (.iconst 0, 1) := by decide +kernel
theorem jd_Md_commit_104 : decode jb_Md_commit 104 = .ok (.putfield 38, 3) := by decide +kernel
theorem jd_Md_commit_107 : decode jb_Md_commit 107 = .ok (.aload_n 0, 1) := by decide +kernel
theorem jd_Md_commit_108 : decode jb_Md_commit 108 = .ok (.dup, 1) := by decide +kernel
theorem jd_Md_commit_109 : decode jb_Md_commit 109 = .ok (.getfield 45, 3) := by decide +kernel
theorem jd_Md_commit_112 : decode jb_Md_commit 112 = .ok (.iconst 1, 1) := by decide +kernel
theorem jd_Md_commit_113 : decode jb_Md_commit 113 = .ok (.iadd, 1) := by decide +kernel
theorem jd_Md_commit_114 : decode jb_Md_commit 114 = .ok (.putfield 45, 3) := by decide +kernel
theorem jd_Md_commit_117 : decode jb_Md_commit 117 = .ok (.aload_n 0, 1) := by decide +kernel
theorem jd_Md_commit_118 : decode jb_Md_commit 118 = .ok (.dup, 1) := by decide +kernel
theorem jd_Md_commit_119 : decode jb_Md_commit 119 = .ok (.getfield 35, 3) := by decide +kernel
theorem jd_Md_commit_122 : decode jb_Md_commit 122 = .ok (.iconst 1, 1) := by decide +kernel
theorem jd_Md_commit_123 : decode jb_Md_commit 123 = .ok (.iadd, 1) := by decide +kernel
theorem jd_Md_commit_124 : decode jb_Md_commit 124 = .ok (.putfield 35, 3) := by decide +kernel
theorem jd_Md_commit_127 : decode jb_Md_commit 127 = .ok (.iload_n 1, 1) := by decide +kernel
theorem jd_Md_commit_128 : decode jb_Md_commit 128 = .ok (.ireturn, 1) := by decide +kernel
theorem jd_Md_forget_0 : decode jb_Md_forget 0 = .ok (.aload_n 0, 1) := by decide +kernel
theorem jd_Md_forget_1 : decode jb_Md_forget 1 = .ok (.getfield 38, 3) := by decide +kernel
theorem jd_Md_forget_4 : decode jb_Md_forget 4 = .ok (.istore_n 1, 1) := by decide +kernel
theorem jd_Md_forget_5 : decode jb_Md_forget 5 = .ok (.aload_n 0, 1) := by decide +kernel
theorem jd_Md_forget_6 : decode jb_Md_forget 6 = .ok (.iconst 0, 1) := by decide +kernel
theorem jd_Md_forget_7 : decode jb_Md_forget 7 = .ok (.putfield 38, 3) := by decide +kernel
theorem jd_Md_forget_10 : decode jb_Md_forget 10 = .ok (.iload_n 1, 1) := by decide +kernel
theorem jd_Md_forget_11 : decode jb_Md_forget 11 = .ok (.ireturn, 1) := by decide +kernel
theorem jd_Md_flush_0 : decode jb_Md_flush 0 = .ok (.aload_n 0, 1) := by decide +kernel
theorem jd_Md_flush_1 : decode jb_Md_flush 1 = .ok (.getfield 35, 3) := by decide +kernel
theorem jd_Md_flush_4 : decode jb_Md_flush 4 = .ok (.istore_n 1, 1) := by decide +kernel
theorem jd_Md_flush_5 : decode jb_Md_flush 5 = .ok (.aload_n 0, 1) := by decide +kernel
theorem jd_Md_flush_6 : decode jb_Md_flush 6 = .ok (.iconst 0, 1) := by decide +kernel
theorem jd_Md_flush_7 : decode jb_Md_flush 7 = .ok (.putfield 38, 3) := by decide +kernel
theorem jd_Md_flush_10 : decode jb_Md_flush 10 = .ok (.aload_n 0, 1) := by decide +kernel
theorem jd_Md_flush_11 : decode jb_Md_flush 11 = .ok (.aload_n 0, 1) := by decide +kernel
theorem jd_Md_flush_12 : decode jb_Md_flush 12 = .ok (.invokevirtual 48, 3) := by decide +kernel
theorem jd_Md_flush_15 : decode jb_Md_flush 15 = .ok (.putfield 51, 3) := by decide +kernel
theorem jd_Md_flush_18 : decode jb_Md_flush 18 = .ok (.aload_n 0, 1) := by decide +kernel
theorem jd_Md_flush_19 : decode jb_Md_flush 19 = .ok (.invokevirtual 54, 3) := by decide +kernel
theorem jd_Md_flush_22 : decode jb_Md_flush 22 = .ok (.aload_n 0, 1) := by decide +kernel
theorem jd_Md_flush_23 : decode jb_Md_flush 23 = .ok (.dup, 1) := by decide +kernel
theorem jd_Md_flush_24 : decode jb_Md_flush 24 = .ok (.getfield 57, 3) := by decide +kernel
theorem jd_Md_flush_27 : decode jb_Md_flush 27 = .ok (.iconst 1, 1) := by decide +kernel
theorem jd_Md_flush_28 : decode jb_Md_flush 28 = .ok (.iadd, 1) := by decide +kernel
theorem jd_Md_flush_29 : decode jb_Md_flush 29 = .ok (.putfield 57, 3) := by decide +kernel
theorem jd_Md_flush_32 : decode jb_Md_flush 32 = .ok (.iload_n 1, 1) := by decide +kernel
theorem jd_Md_flush_33 : decode jb_Md_flush 33 = .ok (.ireturn, 1) := by decide +kernel
theorem jd_Md_crash_0 : decode jb_Md_crash 0 = .ok (.iload_n 2, 1) := by decide +kernel
theorem jd_Md_crash_1 : decode jb_Md_crash 1 = .ok (.ifCond .lt 10, 3) := by decide +kernel
theorem jd_Md_crash_4 : decode jb_Md_crash 4 = .ok (.iload_n 2, 1) := by decide +kernel
theorem jd_Md_crash_5 : decode jb_Md_crash 5 = .ok (.sipush 500, 3) := by decide +kernel
theorem jd_Md_crash_8 : decode jb_Md_crash 8 = .ok (.if_icmp .le 5, 3) := by decide +kernel
theorem jd_Md_crash_11 : decode jb_Md_crash 11 = .ok (.iconst (-1), 1) := by decide +kernel
theorem jd_Md_crash_12 : decode jb_Md_crash 12 = .ok (.ireturn, 1) := by decide +kernel
theorem jd_Md_crash_13 : decode jb_Md_crash 13 = .ok (.iconst 0, 1) := by decide +kernel
theorem jd_Md_crash_14 : decode jb_Md_crash 14 = .ok (.istore_n 3, 1) := by decide +kernel
theorem jd_Md_crash_15 : decode jb_Md_crash 15 = .ok (.iconst 0, 1) := by decide +kernel
theorem jd_Md_crash_16 : decode jb_Md_crash 16 = .ok (.istore 4, 2) := by decide +kernel
theorem jd_Md_crash_18 : decode jb_Md_crash 18 = .ok (.iconst 1, 1) := by decide +kernel
theorem jd_Md_crash_19 : decode jb_Md_crash 19 = .ok (.istore 5, 2) := by decide +kernel
theorem jd_Md_crash_21 : decode jb_Md_crash 21 = .ok (.iconst 0, 1) := by decide +kernel
theorem jd_Md_crash_22 : decode jb_Md_crash 22 = .ok (.istore 6, 2) := by decide +kernel
theorem jd_Md_crash_24 : decode jb_Md_crash 24 = .ok (.iload 6, 2) := by decide +kernel
theorem jd_Md_crash_26 : decode jb_Md_crash 26 = .ok (.aload_n 0, 1) := by decide +kernel
theorem jd_Md_crash_27 : decode jb_Md_crash 27 = .ok (.getfield 31, 3) := by decide +kernel
theorem jd_Md_crash_30 : decode jb_Md_crash 30 = .ok (.if_icmp .ge 53, 3) := by decide +kernel
theorem jd_Md_crash_33 : decode jb_Md_crash 33 = .ok (.iload_n 1, 1) := by decide +kernel
theorem jd_Md_crash_34 : decode jb_Md_crash 34 = .ok (.aload_n 0, 1) := by decide +kernel
theorem jd_Md_crash_35 : decode jb_Md_crash 35 = .ok (.getfield 51, 3) := by decide +kernel
theorem jd_Md_crash_38 : decode jb_Md_crash 38 = .ok (.iload 6, 2) := by decide +kernel
theorem jd_Md_crash_40 : decode jb_Md_crash 40 = .ok (.iadd, 1) := by decide +kernel
theorem jd_Md_crash_41 : decode jb_Md_crash 41 = .ok (.bipush 31, 2) := by decide +kernel
theorem jd_Md_crash_43 : decode jb_Md_crash 43 = .ok (.irem, 1) := by decide +kernel
theorem jd_Md_crash_44 : decode jb_Md_crash 44 = .ok (.ishr, 1) := by decide +kernel
theorem jd_Md_crash_45 : decode jb_Md_crash 45 = .ok (.iconst 1, 1) := by decide +kernel
theorem jd_Md_crash_46 : decode jb_Md_crash 46 = .ok (.iand, 1) := by decide +kernel
theorem jd_Md_crash_47 : decode jb_Md_crash 47 = .ok (.ifCond .ne 6, 3) := by decide +kernel
theorem jd_Md_crash_50 : decode jb_Md_crash 50 = .ok (.iconst 0, 1) := by decide +kernel
theorem jd_Md_crash_51 : decode jb_Md_crash 51 = .ok (.istore 5, 2) := by decide +kernel
theorem jd_Md_crash_53 : decode jb_Md_crash 53 = .ok (.iload 5, 2) := by decide +kernel
theorem jd_Md_crash_55 : decode jb_Md_crash 55 = .ok (.ifCond .eq 22, 3) := by decide +kernel
theorem jd_Md_crash_58 : decode jb_Md_crash 58 = .ok (.aload_n 0, 1) := by decide +kernel
theorem jd_Md_crash_59 : decode jb_Md_crash 59 = .ok (.getfield 22, 3) := by decide +kernel
theorem jd_Md_crash_62 : decode jb_Md_crash 62 = .ok (.iload 6, 2) := by decide +kernel
theorem jd_Md_crash_64 : decode jb_Md_crash 64 = .ok (.iaload, 1) := by decide +kernel
theorem jd_Md_crash_65 : decode jb_Md_crash 65 = .ok (.iconst 1, 1) := by decide +kernel
theorem jd_Md_crash_66 : decode jb_Md_crash 66 = .ok (.if_icmp .ne 11, 3) := by decide +kernel
theorem jd_Md_crash_69 : decode jb_Md_crash 69 = .ok (.iload 6, 2) := by decide +kernel
theorem jd_Md_crash_71 : decode jb_Md_crash 71 = .ok (.iconst 1, 1) := by decide +kernel
theorem jd_Md_crash_72 : decode jb_Md_crash 72 = .ok (.iadd, 1) := by decide +kernel
theorem jd_Md_crash_73 : decode jb_Md_crash 73 = .ok (.istore_n 3, 1) := by decide +kernel
theorem jd_Md_crash_74 : decode jb_Md_crash 74 = .ok (.iinc 4 1, 3) := by decide +kernel
theorem jd_Md_crash_77 : decode jb_Md_crash 77 = .ok (.iinc 6 1, 3) := by decide +kernel
theorem jd_Md_crash_80 : decode jb_Md_crash 80 = .ok (.goto (-56), 3) := by decide +kernel
theorem jd_Md_crash_83 : decode jb_Md_crash 83 = .ok (.iconst 0, 1) := by decide +kernel
theorem jd_Md_crash_84 : decode jb_Md_crash 84 = .ok (.istore 6, 2) := by decide +kernel
theorem jd_Md_crash_86 : decode jb_Md_crash 86 = .ok (.iload 6, 2) := by decide +kernel
theorem jd_Md_crash_88 : decode jb_Md_crash 88 = .ok (.sipush 212, 3) := by decide +kernel
theorem jd_Md_crash_91 : decode jb_Md_crash 91 = .ok (.if_icmp .ge 23, 3) := by decide +kernel
theorem jd_Md_crash_94 : decode jb_Md_crash 94 = .ok (.aload_n 0, 1) := by decide +kernel
theorem jd_Md_crash_95 : decode jb_Md_crash 95 = .ok (.getfield 13, 3) := by decide +kernel
theorem jd_Md_crash_98 : decode jb_Md_crash 98 = .ok (.iload 6, 2) := by decide +kernel
theorem jd_Md_crash_100 : decode jb_Md_crash 100 = .ok (.aload_n 0, 1) := by decide +kernel
theorem jd_Md_crash_101 : decode jb_Md_crash 101 = .ok (.getfield 9, 3) := by decide +kernel
theorem jd_Md_crash_104 : decode jb_Md_crash 104 = .ok (.iload 6, 2) := by decide +kernel
theorem jd_Md_crash_106 : decode jb_Md_crash 106 = .ok (.iaload, 1) := by decide +kernel
theorem jd_Md_crash_107 : decode jb_Md_crash 107 = .ok (.iastore, 1) := by decide +kernel
theorem jd_Md_crash_108 : decode jb_Md_crash 108 = .ok (.iinc 6 1, 3) := by decide +kernel
theorem jd_Md_crash_111 : decode jb_Md_crash 111 = .ok (.goto (-25), 3) := by decide +kernel
theorem jd_Md_crash_114 : decode jb_Md_crash 114 = .ok (.iconst 0, 1) := by decide +kernel
theorem jd_Md_crash_115 : decode jb_Md_crash 115 = .ok (.istore 6, 2) := by decide +kernel
theorem jd_Md_crash_117 : decode jb_Md_crash 117 = .ok (.iload 6, 2) := by decide +kernel
theorem jd_Md_crash_119 : decode jb_Md_crash 119 = .ok (.iload_n 3, 1) := by decide +kernel
theorem jd_Md_crash_120 : decode jb_Md_crash 120 = .ok (.if_icmp .ge 28, 3) := by decide +kernel
theorem jd_Md_crash_123 : decode jb_Md_crash 123 = .ok (.aload_n 0, 1) := by decide +kernel
theorem jd_Md_crash_124 : decode jb_Md_crash 124 = .ok (.getfield 13, 3) := by decide +kernel
theorem jd_Md_crash_127 : decode jb_Md_crash 127 = .ok (.aload_n 0, 1) := by decide +kernel
theorem jd_Md_crash_128 : decode jb_Md_crash 128 = .ok (.getfield 16, 3) := by decide +kernel
theorem jd_Md_crash_131 : decode jb_Md_crash 131 = .ok (.iload 6, 2) := by decide +kernel
theorem jd_Md_crash_133 : decode jb_Md_crash 133 = .ok (.iaload, 1) := by decide +kernel
theorem jd_Md_crash_134 : decode jb_Md_crash 134 = .ok (.aload_n 0, 1) := by decide +kernel
theorem jd_Md_crash_135 : decode jb_Md_crash 135 = .ok (.getfield 19, 3) := by decide +kernel
theorem jd_Md_crash_138 : decode jb_Md_crash 138 = .ok (.iload 6, 2) := by decide +kernel
theorem jd_Md_crash_140 : decode jb_Md_crash 140 = .ok (.iaload, 1) := by decide +kernel
theorem jd_Md_crash_141 : decode jb_Md_crash 141 = .ok (.iastore, 1) := by decide +kernel
theorem jd_Md_crash_142 : decode jb_Md_crash 142 = .ok (.iinc 6 1, 3) := by decide +kernel
theorem jd_Md_crash_145 : decode jb_Md_crash 145 = .ok (.goto (-28), 3) := by decide +kernel
theorem jd_Md_crash_148 : decode jb_Md_crash 148 = .ok (.aload_n 0, 1) := by decide +kernel
theorem jd_Md_crash_149 : decode jb_Md_crash 149 = .ok (.getfield 35, 3) := by decide +kernel
theorem jd_Md_crash_152 : decode jb_Md_crash 152 = .ok (.iload 4, 2) := by decide +kernel
theorem jd_Md_crash_154 : decode jb_Md_crash 154 = .ok (.isub, 1) := by decide +kernel
theorem jd_Md_crash_155 : decode jb_Md_crash 155 = .ok (.istore 6, 2) := by decide +kernel
theorem jd_Md_crash_157 : decode jb_Md_crash 157 = .ok (.aload_n 0, 1) := by decide +kernel
theorem jd_Md_crash_158 : decode jb_Md_crash 158 = .ok (.dup, 1) := by decide +kernel
theorem jd_Md_crash_159 : decode jb_Md_crash 159 = .ok (.getfield 45, 3) := by decide +kernel
theorem jd_Md_crash_162 : decode jb_Md_crash 162 = .ok (.iload 6, 2) := by decide +kernel
theorem jd_Md_crash_164 : decode jb_Md_crash 164 = .ok (.isub, 1) := by decide +kernel
theorem jd_Md_crash_165 : decode jb_Md_crash 165 = .ok (.putfield 45, 3) := by decide +kernel
theorem jd_Md_crash_168 : decode jb_Md_crash 168 = .ok (.aload_n 0, 1) := by decide +kernel
theorem jd_Md_crash_169 : decode jb_Md_crash 169 = .ok (.iconst 0, 1) := by decide +kernel
theorem jd_Md_crash_170 : decode jb_Md_crash 170 = .ok (.putfield 38, 3) := by decide +kernel
theorem jd_Md_crash_173 : decode jb_Md_crash 173 = .ok (.aload_n 0, 1) := by decide +kernel
theorem jd_Md_crash_174 : decode jb_Md_crash 174 = .ok (.iconst 0, 1) := by decide +kernel
theorem jd_Md_crash_175 : decode jb_Md_crash 175 = .ok (.putfield 51, 3) := by decide +kernel
theorem jd_Md_crash_178 : decode jb_Md_crash 178 = .ok (.aload_n 0, 1) := by decide +kernel
theorem jd_Md_crash_179 : decode jb_Md_crash 179 = .ok (.invokevirtual 54, 3) := by decide +kernel
theorem jd_Md_crash_182 : decode jb_Md_crash 182 = .ok (.aload_n 0, 1) := by decide +kernel
theorem jd_Md_crash_183 : decode jb_Md_crash 183 = .ok (.dup, 1) := by decide +kernel
theorem jd_Md_crash_184 : decode jb_Md_crash 184 = .ok (.getfield 60, 3) := by decide +kernel
theorem jd_Md_crash_187 : decode jb_Md_crash 187 = .ok (.iconst 1, 1) := by decide +kernel
theorem jd_Md_crash_188 : decode jb_Md_crash 188 = .ok (.iadd, 1) := by decide +kernel
theorem jd_Md_crash_189 : decode jb_Md_crash 189 = .ok (.putfield 60, 3) := by decide +kernel
theorem jd_Md_crash_192 : decode jb_Md_crash 192 = .ok (.iload 6, 2) := by decide +kernel
theorem jd_Md_crash_194 : decode jb_Md_crash 194 = .ok (.ireturn, 1) := by decide +kernel
theorem jd_Md_get_0 : decode jb_Md_get 0 = .ok (.iload_n 1, 1) := by decide +kernel
theorem jd_Md_get_1 : decode jb_Md_get 1 = .ok (.ifCond .lt 10, 3) := by decide +kernel
theorem jd_Md_get_4 : decode jb_Md_get 4 = .ok (.iload_n 1, 1) := by decide +kernel
theorem jd_Md_get_5 : decode jb_Md_get 5 = .ok (.sipush 212, 3) := by decide +kernel
theorem jd_Md_get_8 : decode jb_Md_get 8 = .ok (.if_icmp .lt 7, 3) := by decide +kernel
theorem jd_Md_get_11 : decode jb_Md_get 11 = .ok (.iconst 0, 1) := by decide +kernel
theorem jd_Md_get_12 : decode jb_Md_get 12 = .ok (.goto 9, 3) := by decide +kernel
theorem jd_Md_get_15 : decode jb_Md_get 15 = .ok (.aload_n 0, 1) := by decide +kernel
theorem jd_Md_get_16 : decode jb_Md_get 16 = .ok (.getfield 13, 3) := by decide +kernel
theorem jd_Md_get_19 : decode jb_Md_get 19 = .ok (.iload_n 1, 1) := by decide +kernel
theorem jd_Md_get_20 : decode jb_Md_get 20 = .ok (.iaload, 1) := by decide +kernel
theorem jd_Md_get_21 : decode jb_Md_get 21 = .ok (.ireturn, 1) := by decide +kernel
theorem jd_Md_torn_0 : decode jb_Md_torn 0 = .ok (.iconst 0, 1) := by decide +kernel
theorem jd_Md_torn_1 : decode jb_Md_torn 1 = .ok (.ireturn, 1) := by decide +kernel
theorem jd_Md_count_0 : decode jb_Md_count 0 = .ok (.iload_n 1, 1) := by decide +kernel
theorem jd_Md_count_1 : decode jb_Md_count 1 = .ok (.tableswitch 74 0 5 #[39, 44, 49, 59, 64, 69], 39) := by decide +kernel
theorem jd_Md_count_40 : decode jb_Md_count 40 = .ok (.aload_n 0, 1) := by decide +kernel
theorem jd_Md_count_41 : decode jb_Md_count 41 = .ok (.getfield 45, 3) := by decide +kernel
theorem jd_Md_count_44 : decode jb_Md_count 44 = .ok (.ireturn, 1) := by decide +kernel
theorem jd_Md_count_45 : decode jb_Md_count 45 = .ok (.aload_n 0, 1) := by decide +kernel
theorem jd_Md_count_46 : decode jb_Md_count 46 = .ok (.getfield 35, 3) := by decide +kernel
theorem jd_Md_count_49 : decode jb_Md_count 49 = .ok (.ireturn, 1) := by decide +kernel
theorem jd_Md_count_50 : decode jb_Md_count 50 = .ok (.aload_n 0, 1) := by decide +kernel
theorem jd_Md_count_51 : decode jb_Md_count 51 = .ok (.getfield 51, 3) := by decide +kernel
theorem jd_Md_count_54 : decode jb_Md_count 54 = .ok (.aload_n 0, 1) := by decide +kernel
theorem jd_Md_count_55 : decode jb_Md_count 55 = .ok (.getfield 31, 3) := by decide +kernel
theorem jd_Md_count_58 : decode jb_Md_count 58 = .ok (.iadd, 1) := by decide +kernel
theorem jd_Md_count_59 : decode jb_Md_count 59 = .ok (.ireturn, 1) := by decide +kernel
theorem jd_Md_count_60 : decode jb_Md_count 60 = .ok (.aload_n 0, 1) := by decide +kernel
theorem jd_Md_count_61 : decode jb_Md_count 61 = .ok (.getfield 38, 3) := by decide +kernel
theorem jd_Md_count_64 : decode jb_Md_count 64 = .ok (.ireturn, 1) := by decide +kernel
theorem jd_Md_count_65 : decode jb_Md_count 65 = .ok (.aload_n 0, 1) := by decide +kernel
theorem jd_Md_count_66 : decode jb_Md_count 66 = .ok (.getfield 57, 3) := by decide +kernel
theorem jd_Md_count_69 : decode jb_Md_count 69 = .ok (.ireturn, 1) := by decide +kernel
theorem jd_Md_count_70 : decode jb_Md_count 70 = .ok (.aload_n 0, 1) := by decide +kernel
theorem jd_Md_count_71 : decode jb_Md_count 71 = .ok (.getfield 60, 3) := by decide +kernel
theorem jd_Md_count_74 : decode jb_Md_count 74 = .ok (.ireturn, 1) := by decide +kernel
theorem jd_Md_count_75 : decode jb_Md_count 75 = .ok (.iconst (-1), 1) := by decide +kernel
theorem jd_Md_count_76 : decode jb_Md_count 76 = .ok (.ireturn, 1) := by decide +kernel
theorem jd_Dk_init_0 : decode jb_Dk_init 0 = .ok (.aload_n 0, 1) := by decide +kernel
theorem jd_Dk_init_1 : decode jb_Dk_init 1 = .ok (.invokespecial 3, 3) := by decide +kernel
theorem jd_Dk_init_4 : decode jb_Dk_init 4 = .ok (.aload_n 0, 1) := by decide +kernel
theorem jd_Dk_init_5 : decode jb_Dk_init 5 = .ok (.ldc 9, 2) := by decide +kernel
theorem jd_Dk_init_7 : decode jb_Dk_init 7 = .ok (.newarray .byte, 2) := by decide +kernel
theorem jd_Dk_init_9 : decode jb_Dk_init 9 = .ok (.putfield 10, 3) := by decide +kernel
theorem jd_Dk_init_12 : decode jb_Dk_init 12 = .ok (.aload_n 0, 1) := by decide +kernel
theorem jd_Dk_init_13 : decode jb_Dk_init 13 = .ok (.sipush 24576, 3) := by decide +kernel
theorem jd_Dk_init_16 : decode jb_Dk_init 16 = .ok (.newarray .byte, 2) := by decide +kernel
theorem jd_Dk_init_18 : decode jb_Dk_init 18 = .ok (.putfield 16, 3) := by decide +kernel
theorem jd_Dk_init_21 : decode jb_Dk_init 21 = .ok (.aload_n 0, 1) := by decide +kernel
theorem jd_Dk_init_22 : decode jb_Dk_init 22 = .ok (.bipush 48, 2) := by decide +kernel
theorem jd_Dk_init_24 : decode jb_Dk_init 24 = .ok (.newarray .int, 2) := by decide +kernel
theorem jd_Dk_init_26 : decode jb_Dk_init 26 = .ok (.putfield 19, 3) := by decide +kernel
theorem jd_Dk_init_29 : decode jb_Dk_init 29 = .ok (.return_, 1) := by decide +kernel
theorem jd_Dk_hasRoom_0 : decode jb_Dk_hasRoom 0 = .ok (.aload_n 0, 1) := by decide +kernel
theorem jd_Dk_hasRoom_1 : decode jb_Dk_hasRoom 1 = .ok (.getfield 23, 3) := by decide +kernel
theorem jd_Dk_hasRoom_4 : decode jb_Dk_hasRoom 4 = .ok (.bipush 48, 2) := by decide +kernel
theorem jd_Dk_hasRoom_6 : decode jb_Dk_hasRoom 6 = .ok (.if_icmp .ge 7, 3) := by decide +kernel
theorem jd_Dk_hasRoom_9 : decode jb_Dk_hasRoom 9 = .ok (.iconst 1, 1) := by decide +kernel
theorem jd_Dk_hasRoom_10 : decode jb_Dk_hasRoom 10 = .ok (.goto 4, 3) := by decide +kernel
theorem jd_Dk_hasRoom_13 : decode jb_Dk_hasRoom 13 = .ok (.iconst 0, 1) := by decide +kernel
theorem jd_Dk_hasRoom_14 : decode jb_Dk_hasRoom 14 = .ok (.ireturn, 1) := by decide +kernel
theorem jd_Dk_write_0 : decode jb_Dk_write 0 = .ok (.aload_n 2, 1) := by decide +kernel
theorem jd_Dk_write_1 : decode jb_Dk_write 1 = .ok (.iconst 0, 1) := by decide +kernel
theorem jd_Dk_write_2 : decode jb_Dk_write 2 = .ok (.aload_n 0, 1) := by decide +kernel
theorem jd_Dk_write_3 : decode jb_Dk_write 3 = .ok (.getfield 16, 3) := by decide +kernel
theorem jd_Dk_write_6 : decode jb_Dk_write 6 = .ok (.sipush 512, 3) := by decide +kernel
theorem jd_Dk_write_9 : decode jb_Dk_write 9 = .ok (.aload_n 0, 1) := by decide +kernel
theorem jd_Dk_write_10 : decode jb_Dk_write 10 = .ok (.getfield 23, 3) := by decide +kernel
theorem jd_Dk_write_13 : decode jb_Dk_write 13 = .ok (.imul, 1) := by decide +kernel
theorem jd_Dk_write_14 : decode jb_Dk_write 14 = .ok (.sipush 512, 3) := by decide +kernel
theorem jd_Dk_write_17 : decode jb_Dk_write 17 = .ok (.invokestatic 27, 3) := by decide +kernel
theorem jd_Dk_write_20 : decode jb_Dk_write 20 = .ok (.aload_n 0, 1) := by decide +kernel
theorem jd_Dk_write_21 : decode jb_Dk_write 21 = .ok (.getfield 19, 3) := by decide +kernel
theorem jd_Dk_write_24 : decode jb_Dk_write 24 = .ok (.aload_n 0, 1) := by decide +kernel
theorem jd_Dk_write_25 : decode jb_Dk_write 25 = .ok (.getfield 23, 3) := by decide +kernel
theorem jd_Dk_write_28 : decode jb_Dk_write 28 = .ok (.iload_n 1, 1) := by decide +kernel
theorem jd_Dk_write_29 : decode jb_Dk_write 29 = .ok (.iastore, 1) := by decide +kernel
theorem jd_Dk_write_30 : decode jb_Dk_write 30 = .ok (.aload_n 0, 1) := by decide +kernel
theorem jd_Dk_write_31 : decode jb_Dk_write 31 = .ok (.dup, 1) := by decide +kernel
theorem jd_Dk_write_32 : decode jb_Dk_write 32 = .ok (.getfield 23, 3) := by decide +kernel
theorem jd_Dk_write_35 : decode jb_Dk_write 35 = .ok (.iconst 1, 1) := by decide +kernel
theorem jd_Dk_write_36 : decode jb_Dk_write 36 = .ok (.iadd, 1) := by decide +kernel
theorem jd_Dk_write_37 : decode jb_Dk_write 37 = .ok (.putfield 23, 3) := by decide +kernel
theorem jd_Dk_write_40 : decode jb_Dk_write 40 = .ok (.return_, 1) := by decide +kernel
theorem jd_Dk_read_0 : decode jb_Dk_read 0 = .ok (.aload_n 0, 1) := by decide +kernel
theorem jd_Dk_read_1 : decode jb_Dk_read 1 = .ok (.getfield 23, 3) := by decide +kernel
theorem jd_Dk_read_4 : decode jb_Dk_read 4 = .ok (.iconst 1, 1) := by decide +kernel
theorem jd_Dk_read_5 : decode jb_Dk_read 5 = .ok (.isub, 1) := by decide +kernel
theorem jd_Dk_read_6 : decode jb_Dk_read 6 = .ok (.istore_n 3, 1) := by decide +kernel
theorem jd_Dk_read_7 : decode jb_Dk_read 7 = .ok (.iload_n 3, 1) := by decide +kernel
theorem jd_Dk_read_8 : decode jb_Dk_read 8 = .ok (.ifCond .lt 19, 3) := by decide +kernel
theorem jd_Dk_read_11 : decode jb_Dk_read 11 = .ok (.aload_n 0, 1) := by decide +kernel
theorem jd_Dk_read_12 : decode jb_Dk_read 12 = .ok (.getfield 19, 3) := by decide +kernel
theorem jd_Dk_read_15 : decode jb_Dk_read 15 = .ok (.iload_n 3, 1) := by decide +kernel
theorem jd_Dk_read_16 : decode jb_Dk_read 16 = .ok (.iaload, 1) := by decide +kernel
theorem jd_Dk_read_17 : decode jb_Dk_read 17 = .ok (.iload_n 1, 1) := by decide +kernel
theorem jd_Dk_read_18 : decode jb_Dk_read 18 = .ok (.if_icmp .eq 9, 3) := by decide +kernel
theorem jd_Dk_read_21 : decode jb_Dk_read 21 = .ok (.iinc 3 (-1), 3) := by decide +kernel
theorem jd_Dk_read_24 : decode jb_Dk_read 24 = .ok (.goto (-17), 3) := by decide +kernel
theorem jd_Dk_read_27 : decode jb_Dk_read 27 = .ok (.iload_n 3, 1) := by decide +kernel
theorem jd_Dk_read_28 : decode jb_Dk_read 28 = .ok (.ifCond .lt 23, 3) := by decide +kernel
theorem jd_Dk_read_31 : decode jb_Dk_read 31 = .ok (.aload_n 0, 1) := by decide +kernel
theorem jd_Dk_read_32 : decode jb_Dk_read 32 = .ok (.getfield 16, 3) := by decide +kernel
theorem jd_Dk_read_35 : decode jb_Dk_read 35 = .ok (.sipush 512, 3) := by decide +kernel
theorem jd_Dk_read_38 : decode jb_Dk_read 38 = .ok (.iload_n 3, 1) := by decide +kernel
theorem jd_Dk_read_39 : decode jb_Dk_read 39 = .ok (.imul, 1) := by decide +kernel
theorem jd_Dk_read_40 : decode jb_Dk_read 40 = .ok (.aload_n 2, 1) := by decide +kernel
theorem jd_Dk_read_41 : decode jb_Dk_read 41 = .ok (.iconst 0, 1) := by decide +kernel
theorem jd_Dk_read_42 : decode jb_Dk_read 42 = .ok (.sipush 512, 3) := by decide +kernel
theorem jd_Dk_read_45 : decode jb_Dk_read 45 = .ok (.invokestatic 27, 3) := by decide +kernel
theorem jd_Dk_read_48 : decode jb_Dk_read 48 = .ok (.goto 20, 3) := by decide +kernel
theorem jd_Dk_read_51 : decode jb_Dk_read 51 = .ok (.aload_n 0, 1) := by decide +kernel
theorem jd_Dk_read_52 : decode jb_Dk_read 52 = .ok (.getfield 10, 3) := by decide +kernel
theorem jd_Dk_read_55 : decode jb_Dk_read 55 = .ok (.sipush 512, 3) := by decide +kernel
theorem jd_Dk_read_58 : decode jb_Dk_read 58 = .ok (.iload_n 1, 1) := by decide +kernel
theorem jd_Dk_read_59 : decode jb_Dk_read 59 = .ok (.imul, 1) := by decide +kernel
theorem jd_Dk_read_60 : decode jb_Dk_read 60 = .ok (.aload_n 2, 1) := by decide +kernel
theorem jd_Dk_read_61 : decode jb_Dk_read 61 = .ok (.iconst 0, 1) := by decide +kernel
theorem jd_Dk_read_62 : decode jb_Dk_read 62 = .ok (.sipush 512, 3) := by decide +kernel
theorem jd_Dk_read_65 : decode jb_Dk_read 65 = .ok (.invokestatic 27, 3) := by decide +kernel
theorem jd_Dk_read_68 : decode jb_Dk_read 68 = .ok (.return_, 1) := by decide +kernel
theorem jd_Dk_land_0 : decode jb_Dk_land 0 = .ok (.aload_n 0, 1) := by decide +kernel
theorem jd_Dk_land_1 : decode jb_Dk_land 1 = .ok (.getfield 16, 3) := by decide +kernel
theorem jd_Dk_land_4 : decode jb_Dk_land 4 = .ok (.sipush 512, 3) := by decide +kernel
theorem jd_Dk_land_7 : decode jb_Dk_land 7 = .ok (.iload_n 1, 1) := by decide +kernel
theorem jd_Dk_land_8 : decode jb_Dk_land 8 = .ok (.imul, 1) := by decide +kernel
theorem jd_Dk_land_9 : decode jb_Dk_land 9 = .ok (.aload_n 0, 1) := by decide +kernel
theorem jd_Dk_land_10 : decode jb_Dk_land 10 = .ok (.getfield 10, 3) := by decide +kernel
theorem jd_Dk_land_13 : decode jb_Dk_land 13 = .ok (.sipush 512, 3) := by decide +kernel
theorem jd_Dk_land_16 : decode jb_Dk_land 16 = .ok (.aload_n 0, 1) := by decide +kernel
theorem jd_Dk_land_17 : decode jb_Dk_land 17 = .ok (.getfield 19, 3) := by decide +kernel
theorem jd_Dk_land_20 : decode jb_Dk_land 20 = .ok (.iload_n 1, 1) := by decide +kernel
theorem jd_Dk_land_21 : decode jb_Dk_land 21 = .ok (.iaload, 1) := by decide +kernel
theorem jd_Dk_land_22 : decode jb_Dk_land 22 = .ok (.imul, 1) := by decide +kernel
theorem jd_Dk_land_23 : decode jb_Dk_land 23 = .ok (.iload_n 2, 1) := by decide +kernel
theorem jd_Dk_land_24 : decode jb_Dk_land 24 = .ok (.invokestatic 27, 3) := by decide +kernel
theorem jd_Dk_land_27 : decode jb_Dk_land 27 = .ok (.return_, 1) := by decide +kernel
theorem jd_Dk_flush_0 : decode jb_Dk_flush 0 = .ok (.iconst 0, 1) := by decide +kernel
theorem jd_Dk_flush_1 : decode jb_Dk_flush 1 = .ok (.istore_n 1, 1) := by decide +kernel
theorem jd_Dk_flush_2 : decode jb_Dk_flush 2 = .ok (.iload_n 1, 1) := by decide +kernel
theorem jd_Dk_flush_3 : decode jb_Dk_flush 3 = .ok (.aload_n 0, 1) := by decide +kernel
theorem jd_Dk_flush_4 : decode jb_Dk_flush 4 = .ok (.getfield 23, 3) := by decide +kernel
theorem jd_Dk_flush_7 : decode jb_Dk_flush 7 = .ok (.if_icmp .ge 17, 3) := by decide +kernel
theorem jd_Dk_flush_10 : decode jb_Dk_flush 10 = .ok (.aload_n 0, 1) := by decide +kernel
theorem jd_Dk_flush_11 : decode jb_Dk_flush 11 = .ok (.iload_n 1, 1) := by decide +kernel
theorem jd_Dk_flush_12 : decode jb_Dk_flush 12 = .ok (.sipush 512, 3) := by decide +kernel
theorem jd_Dk_flush_15 : decode jb_Dk_flush 15 = .ok (.invokevirtual 33, 3) := by decide +kernel
theorem jd_Dk_flush_18 : decode jb_Dk_flush 18 = .ok (.iinc 1 1, 3) := by decide +kernel
theorem jd_Dk_flush_21 : decode jb_Dk_flush 21 = .ok (.goto (-19), 3) := by decide +kernel
theorem jd_Dk_flush_24 : decode jb_Dk_flush 24 = .ok (.aload_n 0, 1) := by decide +kernel
theorem jd_Dk_flush_25 : decode jb_Dk_flush 25 = .ok (.iconst 0, 1) := by decide +kernel
theorem jd_Dk_flush_26 : decode jb_Dk_flush 26 = .ok (.putfield 23, 3) := by decide +kernel
theorem jd_Dk_flush_29 : decode jb_Dk_flush 29 = .ok (.return_, 1) := by decide +kernel
theorem jd_Dk_crash_0 : decode jb_Dk_crash 0 = .ok (.iconst 0, 1) := by decide +kernel
theorem jd_Dk_crash_1 : decode jb_Dk_crash 1 = .ok (.istore_n 3, 1) := by decide +kernel
theorem jd_Dk_crash_2 : decode jb_Dk_crash 2 = .ok (.iconst 0, 1) := by decide +kernel
theorem jd_Dk_crash_3 : decode jb_Dk_crash 3 = .ok (.istore 4, 2) := by decide +kernel
theorem jd_Dk_crash_5 : decode jb_Dk_crash 5 = .ok (.iload 4, 2) := by decide +kernel
theorem jd_Dk_crash_7 : decode jb_Dk_crash 7 = .ok (.aload_n 0, 1) := by decide +kernel
theorem jd_Dk_crash_8 : decode jb_Dk_crash 8 = .ok (.getfield 23, 3) := by decide +kernel
theorem jd_Dk_crash_11 : decode jb_Dk_crash 11 = .ok (.if_icmp .ge 51, 3) := by decide +kernel
theorem jd_Dk_crash_14 : decode jb_Dk_crash 14 = .ok (.iload_n 1, 1) := by decide +kernel
theorem jd_Dk_crash_15 : decode jb_Dk_crash 15 = .ok (.iload 4, 2) := by decide +kernel
theorem jd_Dk_crash_17 : decode jb_Dk_crash 17 = .ok (.bipush 31, 2) := by decide +kernel
theorem jd_Dk_crash_19 : decode jb_Dk_crash 19 = .ok (.irem, 1) := by decide +kernel
theorem jd_Dk_crash_20 : decode jb_Dk_crash 20 = .ok (.ishr, 1) := by decide +kernel
theorem jd_Dk_crash_21 : decode jb_Dk_crash 21 = .ok (.iconst 1, 1) := by decide +kernel
theorem jd_Dk_crash_22 : decode jb_Dk_crash 22 = .ok (.iand, 1) := by decide +kernel
theorem jd_Dk_crash_23 : decode jb_Dk_crash 23 = .ok (.iconst 1, 1) := by decide +kernel
theorem jd_Dk_crash_24 : decode jb_Dk_crash 24 = .ok (.if_icmp .ne 15, 3) := by decide +kernel
theorem jd_Dk_crash_27 : decode jb_Dk_crash 27 = .ok (.aload_n 0, 1) := by decide +kernel
theorem jd_Dk_crash_28 : decode jb_Dk_crash 28 = .ok (.iload 4, 2) := by decide +kernel
theorem jd_Dk_crash_30 : decode jb_Dk_crash 30 = .ok (.sipush 512, 3) := by decide +kernel
theorem jd_Dk_crash_33 : decode jb_Dk_crash 33 = .ok (.invokevirtual 33, 3) := by decide +kernel
theorem jd_Dk_crash_36 : decode jb_Dk_crash 36 = .ok (.goto 20, 3) := by decide +kernel
theorem jd_Dk_crash_39 : decode jb_Dk_crash 39 = .ok (.iload_n 3, 1) := by decide +kernel
theorem jd_Dk_crash_40 : decode jb_Dk_crash 40 = .ok (.ifCond .ne 16, 3) := by decide +kernel
theorem jd_Dk_crash_43 : decode jb_Dk_crash 43 = .ok (.aload_n 0, 1) := by decide +kernel
theorem jd_Dk_crash_44 : decode jb_Dk_crash 44 = .ok (.iload 4, 2) := by decide +kernel
theorem jd_Dk_crash_46 : decode jb_Dk_crash 46 = .ok (.iload_n 2, 1) := by decide +kernel
theorem jd_Dk_crash_47 : decode jb_Dk_crash 47 = .ok (.sipush 511, 3) := by decide +kernel
theorem jd_Dk_crash_50 : decode jb_Dk_crash 50 = .ok (.iand, 1) := by decide +kernel
theorem jd_Dk_crash_51 : decode jb_Dk_crash 51 = .ok (.invokevirtual 33, 3) := by decide +kernel
theorem jd_Dk_crash_54 : decode jb_Dk_crash 54 = .ok (.iconst 1, 1) := by decide +kernel
theorem jd_Dk_crash_55 : decode jb_Dk_crash 55 = .ok (.istore_n 3, 1) := by decide +kernel
theorem jd_Dk_crash_56 : decode jb_Dk_crash 56 = .ok (.iinc 4 1, 3) := by decide +kernel
theorem jd_Dk_crash_59 : decode jb_Dk_crash 59 = .ok (.goto (-54), 3) := by decide +kernel
theorem jd_Dk_crash_62 : decode jb_Dk_crash 62 = .ok (.aload_n 0, 1) := by decide +kernel
theorem jd_Dk_crash_63 : decode jb_Dk_crash 63 = .ok (.iconst 0, 1) := by decide +kernel
theorem jd_Dk_crash_64 : decode jb_Dk_crash 64 = .ok (.putfield 23, 3) := by decide +kernel
theorem jd_Dk_crash_67 : decode jb_Dk_crash 67 = .ok (.return_, 1) := by decide +kernel
theorem jd_Sh_init_0 : decode jb_Sh_init 0 = .ok (.aload_n 0, 1) := by decide +kernel
theorem jd_Sh_init_1 : decode jb_Sh_init 1 = .ok (.invokespecial 3, 3) := by decide +kernel
theorem jd_Sh_init_4 : decode jb_Sh_init 4 = .ok (.aload_n 0, 1) := by decide +kernel
theorem jd_Sh_init_5 : decode jb_Sh_init 5 = .ok (.new 9, 3) := by decide +kernel
theorem jd_Sh_init_8 : decode jb_Sh_init 8 = .ok (.dup, 1) := by decide +kernel
theorem jd_Sh_init_9 : decode jb_Sh_init 9 = .ok (.invokespecial 11, 3) := by decide +kernel
theorem jd_Sh_init_12 : decode jb_Sh_init 12 = .ok (.putfield 12, 3) := by decide +kernel
theorem jd_Sh_init_15 : decode jb_Sh_init 15 = .ok (.aload_n 0, 1) := by decide +kernel
theorem jd_Sh_init_16 : decode jb_Sh_init 16 = .ok (.sipush 512, 3) := by decide +kernel
theorem jd_Sh_init_19 : decode jb_Sh_init 19 = .ok (.newarray .byte, 2) := by decide +kernel
theorem jd_Sh_init_21 : decode jb_Sh_init 21 = .ok (.putfield 18, 3) := by decide +kernel
theorem jd_Sh_init_24 : decode jb_Sh_init 24 = .ok (.aload_n 0, 1) := by decide +kernel
theorem jd_Sh_init_25 : decode jb_Sh_init 25 = .ok (.sipush 11904, 3) := by decide +kernel
theorem jd_Sh_init_28 : decode jb_Sh_init 28 = .ok (.newarray .byte, 2) := by decide +kernel
theorem jd_Sh_init_30 : decode jb_Sh_init 30 = .ok (.putfield 22, 3) := by decide +kernel
theorem jd_Sh_init_33 : decode jb_Sh_init 33 = .ok (.aload_n 0, 1) := by decide +kernel
theorem jd_Sh_init_34 : decode jb_Sh_init 34 = .ok (.bipush 24, 2) := by decide +kernel
theorem jd_Sh_init_36 : decode jb_Sh_init 36 = .ok (.newarray .int, 2) := by decide +kernel
theorem jd_Sh_init_38 : decode jb_Sh_init 38 = .ok (.putfield 25, 3) := by decide +kernel
theorem jd_Sh_init_41 : decode jb_Sh_init 41 = .ok (.aload_n 0, 1) := by decide +kernel
theorem jd_Sh_init_42 : decode jb_Sh_init 42 = .ok (.iconst 1, 1) := by decide +kernel
theorem jd_Sh_init_43 : decode jb_Sh_init 43 = .ok (.putfield 29, 3) := by decide +kernel
theorem jd_Sh_init_46 : decode jb_Sh_init 46 = .ok (.aload_n 0, 1) := by decide +kernel
theorem jd_Sh_init_47 : decode jb_Sh_init 47 = .ok (.bipush 52, 2) := by decide +kernel
theorem jd_Sh_init_49 : decode jb_Sh_init 49 = .ok (.newarray .int, 2) := by decide +kernel
theorem jd_Sh_init_51 : decode jb_Sh_init 51 = .ok (.putfield 33, 3) := by decide +kernel
theorem jd_Sh_init_54 : decode jb_Sh_init 54 = .ok (.aload_n 0, 1) := by decide +kernel
theorem jd_Sh_init_55 : decode jb_Sh_init 55 = .ok (.bipush 52, 2) := by decide +kernel
theorem jd_Sh_init_57 : decode jb_Sh_init 57 = .ok (.newarray .int, 2) := by decide +kernel
theorem jd_Sh_init_59 : decode jb_Sh_init 59 = .ok (.putfield 36, 3) := by decide +kernel
theorem jd_Sh_init_62 : decode jb_Sh_init 62 = .ok (.aload_n 0, 1) := by decide +kernel
theorem jd_Sh_init_63 : decode jb_Sh_init 63 = .ok (.bipush 52, 2) := by decide +kernel
theorem jd_Sh_init_65 : decode jb_Sh_init 65 = .ok (.newarray .int, 2) := by decide +kernel
theorem jd_Sh_init_67 : decode jb_Sh_init 67 = .ok (.putfield 39, 3) := by decide +kernel
theorem jd_Sh_init_70 : decode jb_Sh_init 70 = .ok (.return_, 1) := by decide +kernel
theorem jd_Sh_begin_0 : decode jb_Sh_begin 0 = .ok (.aload_n 0, 1) := by decide +kernel
theorem jd_Sh_begin_1 : decode jb_Sh_begin 1 = .ok (.getfield 46, 3) := by decide +kernel
theorem jd_Sh_begin_4 : decode jb_Sh_begin 4 = .ok (.bipush 17, 2) := by decide +kernel
theorem jd_Sh_begin_6 : decode jb_Sh_begin 6 = .ok (.iadd, 1) := by decide +kernel
theorem jd_Sh_begin_7 : decode jb_Sh_begin 7 = .ok (.bipush 24, 2) := by decide +kernel
theorem jd_Sh_begin_9 : decode jb_Sh_begin 9 = .ok (.if_icmp .le 7, 3) := by decide +kernel
theorem jd_Sh_begin_12 : decode jb_Sh_begin 12 = .ok (.aload_n 0, 1) := by decide +kernel
theorem jd_Sh_begin_13 : decode jb_Sh_begin 13 = .ok (.invokevirtual 49, 3) := by decide +kernel
theorem jd_Sh_begin_16 : decode jb_Sh_begin 16 = .ok (.aload_n 0, 1) := by decide +kernel
theorem jd_Sh_begin_17 : decode jb_Sh_begin 17 = .ok (.iconst 0, 1) := by decide +kernel
theorem jd_Sh_begin_18 : decode jb_Sh_begin 18 = .ok (.putfield 52, 3) := by decide +kernel
theorem jd_Sh_begin_21 : decode jb_Sh_begin 21 = .ok (.return_, 1) := by decide +kernel
theorem jd_Sh_stage_0 : decode jb_Sh_stage 0 = .ok (.aload_n 2, 1) := by decide +kernel
theorem jd_Sh_stage_1 : decode jb_Sh_stage 1 = .ok (.iconst 0, 1) := by decide +kernel
theorem jd_Sh_stage_2 : decode jb_Sh_stage 2 = .ok (.aload_n 0, 1) := by decide +kernel
theorem jd_Sh_stage_3 : decode jb_Sh_stage 3 = .ok (.getfield 22, 3) := by decide +kernel
theorem jd_Sh_stage_6 : decode jb_Sh_stage 6 = .ok (.sipush 496, 3) := by decide +kernel
theorem jd_Sh_stage_9 : decode jb_Sh_stage 9 = .ok (.aload_n 0, 1) := by decide +kernel
theorem jd_Sh_stage_10 : decode jb_Sh_stage 10 = .ok (.getfield 46, 3) := by decide +kernel
theorem jd_Sh_stage_13 : decode jb_Sh_stage 13 = .ok (.aload_n 0, 1) := by decide +kernel
theorem jd_Sh_stage_14 : decode jb_Sh_stage 14 = .ok (.getfield 52, 3) := by decide +kernel
theorem jd_Sh_stage_17 : decode jb_Sh_stage 17 = .ok (.iadd, 1) := by decide +kernel
theorem jd_Sh_stage_18 : decode jb_Sh_stage 18 = .ok (.imul, 1) := by decide +kernel
theorem jd_Sh_stage_19 : decode jb_Sh_stage 19 = .ok (.sipush 496, 3) := by decide +kernel
theorem jd_Sh_stage_22 : decode jb_Sh_stage 22 = .ok (.invokestatic 55, 3) := by decide +kernel
theorem jd_Sh_stage_25 : decode jb_Sh_stage 25 = .ok (.aload_n 0, 1) := by decide +kernel
theorem jd_Sh_stage_26 : decode jb_Sh_stage 26 = .ok (.getfield 25, 3) := by decide +kernel
theorem jd_Sh_stage_29 : decode jb_Sh_stage 29 = .ok (.aload_n 0, 1) := by decide +kernel
theorem jd_Sh_stage_30 : decode jb_Sh_stage 30 = .ok (.getfield 46, 3) := by decide +kernel
theorem jd_Sh_stage_33 : decode jb_Sh_stage 33 = .ok (.aload_n 0, 1) := by decide +kernel
theorem jd_Sh_stage_34 : decode jb_Sh_stage 34 = .ok (.getfield 52, 3) := by decide +kernel
theorem jd_Sh_stage_37 : decode jb_Sh_stage 37 = .ok (.iadd, 1) := by decide +kernel
theorem jd_Sh_stage_38 : decode jb_Sh_stage 38 = .ok (.iload_n 1, 1) := by decide +kernel
theorem jd_Sh_stage_39 : decode jb_Sh_stage 39 = .ok (.iastore, 1) := by decide +kernel
theorem jd_Sh_stage_40 : decode jb_Sh_stage 40 = .ok (.aload_n 0, 1) := by decide +kernel
theorem jd_Sh_stage_41 : decode jb_Sh_stage 41 = .ok (.dup, 1) := by decide +kernel
theorem jd_Sh_stage_42 : decode jb_Sh_stage 42 = .ok (.getfield 52, 3) := by decide +kernel
theorem jd_Sh_stage_45 : decode jb_Sh_stage 45 = .ok (.iconst 1, 1) := by decide +kernel
theorem jd_Sh_stage_46 : decode jb_Sh_stage 46 = .ok (.iadd, 1) := by decide +kernel
theorem jd_Sh_stage_47 : decode jb_Sh_stage 47 = .ok (.putfield 52, 3) := by decide +kernel
theorem jd_Sh_stage_50 : decode jb_Sh_stage 50 = .ok (.return_, 1) := by decide +kernel
theorem jd_Sh_commit_0 : decode jb_Sh_commit 0 = .ok (.iconst 0, 1) := by decide +kernel
theorem jd_Sh_commit_1 : decode jb_Sh_commit 1 = .ok (.istore_n 1, 1) := by decide +kernel
theorem jd_Sh_commit_2 : decode jb_Sh_commit 2 = .ok (.iload_n 1, 1) := by decide +kernel
theorem jd_Sh_commit_3 : decode jb_Sh_commit 3 = .ok (.aload_n 0, 1) := by decide +kernel
theorem jd_Sh_commit_4 : decode jb_Sh_commit 4 = .ok (.getfield 52, 3) := by decide +kernel
theorem jd_Sh_commit_7 : decode jb_Sh_commit 7 = .ok (.if_icmp .ge 148, 3) := by decide +kernel
theorem jd_Sh_commit_10 : decode jb_Sh_commit 10 = .ok (.aload_n 0, 1) := by decide +kernel
theorem jd_Sh_commit_11 : decode jb_Sh_commit 11 = .ok (.getfield 18, 3) := by decide +kernel
theorem jd_Sh_commit_14 : decode jb_Sh_commit 14 = .ok (.iconst 0, 1) := by decide +kernel
theorem jd_Sh_commit_15 : decode jb_Sh_commit 15 = .ok (.aload_n 0, 1) := by decide +kernel
theorem jd_Sh_commit_16 : decode jb_Sh_commit 16 = .ok (.getfield 29, 3) := by decide +kernel
theorem jd_Sh_commit_19 : decode jb_Sh_commit 19 = .ok (.invokestatic 61, 3) := by decide +kernel
theorem jd_Sh_commit_22 : decode jb_Sh_commit 22 = .ok (.aload_n 0, 1) := by decide +kernel
theorem jd_Sh_commit_23 : decode jb_Sh_commit 23 = .ok (.getfield 18, 3) := by decide +kernel
theorem jd_Sh_commit_26 : decode jb_Sh_commit 26 = .ok (.iconst 4, 1) := by decide +kernel
theorem jd_Sh_commit_27 : decode jb_Sh_commit 27 = .ok (.iload_n 1, 1) := by decide +kernel
theorem jd_Sh_commit_28 : decode jb_Sh_commit 28 = .ok (.i2b, 1) := by decide +kernel
theorem jd_Sh_commit_29 : decode jb_Sh_commit 29 = .ok (.bastore, 1) := by decide +kernel
theorem jd_Sh_commit_30 : decode jb_Sh_commit 30 = .ok (.aload_n 0, 1) := by decide +kernel
theorem jd_Sh_commit_31 : decode jb_Sh_commit 31 = .ok (.getfield 18, 3) := by decide +kernel
theorem jd_Sh_commit_34 : decode jb_Sh_commit 34 = .ok (.iconst 5, 1) := by decide +kernel
theorem jd_Sh_commit_35 : decode jb_Sh_commit 35 = .ok (.aload_n 0, 1) := by decide +kernel
theorem jd_Sh_commit_36 : decode jb_Sh_commit 36 = .ok (.getfield 52, 3) := by decide +kernel
theorem jd_Sh_commit_39 : decode jb_Sh_commit 39 = .ok (.i2b, 1) := by decide +kernel
theorem jd_Sh_commit_40 : decode jb_Sh_commit 40 = .ok (.bastore, 1) := by decide +kernel
theorem jd_Sh_commit_41 : decode jb_Sh_commit 41 = .ok (.aload_n 0, 1) := by decide +kernel
theorem jd_Sh_commit_42 : decode jb_Sh_commit 42 = .ok (.getfield 18, 3) := by decide +kernel
theorem jd_Sh_commit_45 : decode jb_Sh_commit 45 = .ok (.bipush 6, 2) := by decide +kernel
theorem jd_Sh_commit_47 : decode jb_Sh_commit 47 = .ok (.aload_n 0, 1) := by decide +kernel
theorem jd_Sh_commit_48 : decode jb_Sh_commit 48 = .ok (.getfield 25, 3) := by decide +kernel
theorem jd_Sh_commit_51 : decode jb_Sh_commit 51 = .ok (.aload_n 0, 1) := by decide +kernel
theorem jd_Sh_commit_52 : decode jb_Sh_commit 52 = .ok (.getfield 46, 3) := by decide +kernel
theorem jd_Sh_commit_55 : decode jb_Sh_commit 55 = .ok (.iload_n 1, 1) := by decide +kernel
theorem jd_Sh_commit_56 : decode jb_Sh_commit 56 = .ok (.iadd, 1) := by decide +kernel
theorem jd_Sh_commit_57 : decode jb_Sh_commit 57 = .ok (.iaload, 1) := by decide +kernel
theorem jd_Sh_commit_58 : decode jb_Sh_commit 58 = .ok (.i2b, 1) := by decide +kernel
theorem jd_Sh_commit_59 : decode jb_Sh_commit 59 = .ok (.bastore, 1) := by decide +kernel
theorem jd_Sh_commit_60 : decode jb_Sh_commit 60 = .ok (.aload_n 0, 1) := by decide +kernel
theorem jd_Sh_commit_61 : decode jb_Sh_commit 61 = .ok (.getfield 18, 3) := by decide +kernel
theorem jd_Sh_commit_64 : decode jb_Sh_commit 64 = .ok (.bipush 7, 2) := by decide +kernel
theorem jd_Sh_commit_66 : decode jb_Sh_commit 66 = .ok (.iconst 0, 1) := by decide +kernel
theorem jd_Sh_commit_67 : decode jb_Sh_commit 67 = .ok (.bastore, 1) := by decide +kernel
theorem jd_Sh_commit_68 : decode jb_Sh_commit 68 = .ok (.aload_n 0, 1) := by decide +kernel
theorem jd_Sh_commit_69 : decode jb_Sh_commit 69 = .ok (.getfield 18, 3) := by decide +kernel
theorem jd_Sh_commit_72 : decode jb_Sh_commit 72 = .ok (.bipush 8, 2) := by decide +kernel
theorem jd_Sh_commit_74 : decode jb_Sh_commit 74 = .ok (.aload_n 0, 1) := by decide +kernel
theorem jd_Sh_commit_75 : decode jb_Sh_commit 75 = .ok (.getfield 65, 3) := by decide +kernel
theorem jd_Sh_commit_78 : decode jb_Sh_commit 78 = .ok (.invokestatic 61, 3) := by decide +kernel
theorem jd_Sh_commit_81 : decode jb_Sh_commit 81 = .ok (.aload_n 0, 1) := by decide +kernel
theorem jd_Sh_commit_82 : decode jb_Sh_commit 82 = .ok (.getfield 22, 3) := by decide +kernel
theorem jd_Sh_commit_85 : decode jb_Sh_commit 85 = .ok (.sipush 496, 3) := by decide +kernel
theorem jd_Sh_commit_88 : decode jb_Sh_commit 88 = .ok (.aload_n 0, 1) := by decide +kernel
theorem jd_Sh_commit_89 : decode jb_Sh_commit 89 = .ok (.getfield 46, 3) := by decide +kernel
theorem jd_Sh_commit_92 : decode jb_Sh_commit 92 = .ok (.iload_n 1, 1) := by decide +kernel
theorem jd_Sh_commit_93 : decode jb_Sh_commit 93 = .ok (.iadd, 1) := by decide +kernel
theorem jd_Sh_commit_94 : decode jb_Sh_commit 94 = .ok (.imul, 1) := by decide +kernel
theorem jd_Sh_commit_95 : decode jb_Sh_commit 95 = .ok (.aload_n 0, 1) := by decide +kernel
theorem jd_Sh_commit_96 : decode jb_Sh_commit 96 = .ok (.getfield 18, 3) := by decide +kernel
theorem jd_Sh_commit_99 : decode jb_Sh_commit 99 = .ok (.bipush 12, 2) := by decide +kernel
theorem jd_Sh_commit_101 : decode jb_Sh_commit 101 = .ok (.sipush 496, 3) := by decide +kernel
theorem jd_Sh_commit_104 : decode jb_Sh_commit 104 = .ok (.invokestatic 55, 3) := by decide +kernel
theorem jd_Sh_commit_107 : decode jb_Sh_commit 107 = .ok (.aload_n 0, 1) := by decide +kernel
theorem jd_Sh_commit_108 : decode jb_Sh_commit 108 = .ok (.getfield 18, 3) := by decide +kernel
theorem jd_Sh_commit_111 : decode jb_Sh_commit 111 = .ok (.sipush 508, 3) := by decide +kernel
theorem jd_Sh_commit_114 : decode jb_Sh_commit 114 = .ok (.aload_n 0, 1) := by decide +kernel
theorem jd_Sh_commit_115 : decode jb_Sh_commit 115 = .ok (.getfield 29, 3) := by decide +kernel
theorem jd_Sh_commit_118 : decode jb_Sh_commit 118 = .ok (.invokestatic 61, 3) := by decide +kernel
theorem jd_Sh_commit_121 : decode jb_Sh_commit 121 = .ok (.aload_n 0, 1) := by decide +kernel
theorem jd_Sh_commit_122 : decode jb_Sh_commit 122 = .ok (.getfield 12, 3) := by decide +kernel
theorem jd_Sh_commit_125 : decode jb_Sh_commit 125 = .ok (.aload_n 0, 1) := by decide +kernel
theorem jd_Sh_commit_126 : decode jb_Sh_commit 126 = .ok (.getfield 68, 3) := by decide +kernel
theorem jd_Sh_commit_129 : decode jb_Sh_commit 129 = .ok (.aload_n 0, 1) := by decide +kernel
theorem jd_Sh_commit_130 : decode jb_Sh_commit 130 = .ok (.getfield 18, 3) := by decide +kernel
theorem jd_Sh_commit_133 : decode jb_Sh_commit 133 = .ok (.invokevirtual 71, 3) := by decide +kernel
theorem jd_Sh_commit_136 : decode jb_Sh_commit 136 = .ok (.aload_n 0, 1) := by decide +kernel
theorem jd_Sh_commit_137 : decode jb_Sh_commit 137 = .ok (.aload_n 0, 1) := by decide +kernel
theorem jd_Sh_commit_138 : decode jb_Sh_commit 138 = .ok (.getfield 68, 3) := by decide +kernel
theorem jd_Sh_commit_141 : decode jb_Sh_commit 141 = .ok (.iconst 1, 1) := by decide +kernel
theorem jd_Sh_commit_142 : decode jb_Sh_commit 142 = .ok (.iadd, 1) := by decide +kernel
theorem jd_Sh_commit_143 : decode jb_Sh_commit 143 = .ok (.bipush 52, 2) := by decide +kernel
theorem jd_Sh_commit_145 : decode jb_Sh_commit 145 = .ok (.irem, 1) := by decide +kernel
theorem jd_Sh_commit_146 : decode jb_Sh_commit 146 = .ok (.putfield 68, 3) := by decide +kernel
theorem jd_Sh_commit_149 : decode jb_Sh_commit 149 = .ok (.iinc 1 1, 3) := by decide +kernel
theorem jd_Sh_commit_152 : decode jb_Sh_commit 152 = .ok (.goto (-150), 3) := by decide +kernel
theorem jd_Sh_commit_155 : decode jb_Sh_commit 155 = .ok (.aload_n 0, 1) := by decide +kernel
theorem jd_Sh_commit_156 : decode jb_Sh_commit 156 = .ok (.dup, 1) := by decide +kernel
theorem jd_Sh_commit_157 : decode jb_Sh_commit 157 = .ok (.getfield 46, 3) := by decide +kernel
theorem jd_Sh_commit_160 : decode jb_Sh_commit 160 = .ok (.aload_n 0, 1) := by decide +kernel
theorem jd_Sh_commit_161 : decode jb_Sh_commit 161 = .ok (.getfield 52, 3) := by decide +kernel
theorem jd_Sh_commit_164 : decode jb_Sh_commit 164 = .ok (.iadd, 1) := by decide +kernel
theorem jd_Sh_commit_165 : decode jb_Sh_commit 165 = .ok (.putfield 46, 3) := by decide +kernel
theorem jd_Sh_commit_168 : decode jb_Sh_commit 168 = .ok (.aload_n 0, 1) := by decide +kernel
theorem jd_Sh_commit_169 : decode jb_Sh_commit 169 = .ok (.iconst 0, 1) := by decide +kernel
theorem jd_Sh_commit_170 : decode jb_Sh_commit 170 = .ok (.putfield 52, 3) := by decide +kernel
theorem jd_Sh_commit_173 : decode jb_Sh_commit 173 = .ok (.aload_n 0, 1) := by decide +kernel
theorem jd_Sh_commit_174 : decode jb_Sh_commit 174 = .ok (.dup, 1) := by decide +kernel
theorem jd_Sh_commit_175 : decode jb_Sh_commit 175 = .ok (.getfield 29, 3) := by decide +kernel
theorem jd_Sh_commit_178 : decode jb_Sh_commit 178 = .ok (.iconst 1, 1) := by decide +kernel
theorem jd_Sh_commit_179 : decode jb_Sh_commit 179 = .ok (.iadd, 1) := by decide +kernel
theorem jd_Sh_commit_180 : decode jb_Sh_commit 180 = .ok (.putfield 29, 3) := by decide +kernel
theorem jd_Sh_commit_183 : decode jb_Sh_commit 183 = .ok (.aload_n 0, 1) := by decide +kernel
theorem jd_Sh_commit_184 : decode jb_Sh_commit 184 = .ok (.iconst 1, 1) := by decide +kernel
theorem jd_Sh_commit_185 : decode jb_Sh_commit 185 = .ok (.putfield 42, 3) := by decide +kernel
theorem jd_Sh_commit_188 : decode jb_Sh_commit 188 = .ok (.return_, 1) := by decide +kernel
theorem jd_Sh_flush_0 : decode jb_Sh_flush 0 = .ok (.aload_n 0, 1) := by decide +kernel
theorem jd_Sh_flush_1 : decode jb_Sh_flush 1 = .ok (.getfield 12, 3) := by decide +kernel
theorem jd_Sh_flush_4 : decode jb_Sh_flush 4 = .ok (.invokevirtual 75, 3) := by decide +kernel
theorem jd_Sh_flush_7 : decode jb_Sh_flush 7 = .ok (.aload_n 0, 1) := by decide +kernel
theorem jd_Sh_flush_8 : decode jb_Sh_flush 8 = .ok (.aload_n 0, 1) := by decide +kernel
theorem jd_Sh_flush_9 : decode jb_Sh_flush 9 = .ok (.getfield 29, 3) := by decide +kernel
theorem jd_Sh_flush_12 : decode jb_Sh_flush 12 = .ok (.iconst 1, 1) := by decide +kernel
theorem jd_Sh_flush_13 : decode jb_Sh_flush 13 = .ok (.isub, 1) := by decide +kernel
theorem jd_Sh_flush_14 : decode jb_Sh_flush 14 = .ok (.putfield 65, 3) := by decide +kernel
theorem jd_Sh_flush_17 : decode jb_Sh_flush 17 = .ok (.iconst 0, 1) := by decide +kernel
theorem jd_Sh_flush_18 : decode jb_Sh_flush 18 = .ok (.istore_n 1, 1) := by decide +kernel
theorem jd_Sh_flush_19 : decode jb_Sh_flush 19 = .ok (.iload_n 1, 1) := by decide +kernel
theorem jd_Sh_flush_20 : decode jb_Sh_flush 20 = .ok (.aload_n 0, 1) := by decide +kernel
theorem jd_Sh_flush_21 : decode jb_Sh_flush 21 = .ok (.getfield 46, 3) := by decide +kernel
theorem jd_Sh_flush_24 : decode jb_Sh_flush 24 = .ok (.if_icmp .ge 75, 3) := by decide +kernel
theorem jd_Sh_flush_27 : decode jb_Sh_flush 27 = .ok (.iconst 1, 1) := by decide +kernel
theorem jd_Sh_flush_28 : decode jb_Sh_flush 28 = .ok (.istore_n 2, 1) := by decide +kernel
theorem jd_Sh_flush_29 : decode jb_Sh_flush 29 = .ok (.iload_n 1, 1) := by decide +kernel
theorem jd_Sh_flush_30 : decode jb_Sh_flush 30 = .ok (.iconst 1, 1) := by decide +kernel
theorem jd_Sh_flush_31 : decode jb_Sh_flush 31 = .ok (.iadd, 1) := by decide +kernel
theorem jd_Sh_flush_32 : decode jb_Sh_flush 32 = .ok (.istore_n 3, 1) := by decide +kernel
theorem jd_Sh_flush_33 : decode jb_Sh_flush 33 = .ok (.iload_n 3, 1) := by decide +kernel
theorem jd_Sh_flush_34 : decode jb_Sh_flush 34 = .ok (.aload_n 0, 1) := by decide +kernel
theorem jd_Sh_flush_35 : decode jb_Sh_flush 35 = .ok (.getfield 46, 3) := by decide +kernel
theorem jd_Sh_flush_38 : decode jb_Sh_flush 38 = .ok (.if_icmp .ge 32, 3) := by decide +kernel
theorem jd_Sh_flush_41 : decode jb_Sh_flush 41 = .ok (.iload_n 2, 1) := by decide +kernel
theorem jd_Sh_flush_42 : decode jb_Sh_flush 42 = .ok (.aload_n 0, 1) := by decide +kernel
theorem jd_Sh_flush_43 : decode jb_Sh_flush 43 = .ok (.getfield 25, 3) := by decide +kernel
theorem jd_Sh_flush_46 : decode jb_Sh_flush 46 = .ok (.iload_n 3, 1) := by decide +kernel
theorem jd_Sh_flush_47 : decode jb_Sh_flush 47 = .ok (.iaload, 1) := by decide +kernel
theorem jd_Sh_flush_48 : decode jb_Sh_flush 48 = .ok (.aload_n 0, 1) := by decide +kernel
theorem jd_Sh_flush_49 : decode jb_Sh_flush 49 = .ok (.getfield 25, 3) := by decide +kernel
theorem jd_Sh_flush_52 : decode jb_Sh_flush 52 = .ok (.iload_n 1, 1) := by decide +kernel
end
section
theorem jd_Sh_flush_53 : decode jb_Sh_flush 53 = .ok (.iaload, 1) := by decide +kernel
theorem jd_Sh_flush_54 : decode jb_Sh_flush 54 = .ok (.if_icmp .eq 7, 3) := by decide +kernel
theorem jd_Sh_flush_57 : decode jb_Sh_flush 57 = .ok (.iconst 1, 1) := by decide +kernel
theorem jd_Sh_flush_58 : decode jb_Sh_flush 58 = .ok (.goto 4, 3) := by decide +kernel
theorem jd_Sh_flush_61 : decode jb_Sh_flush 61 = .ok (.iconst 0, 1) := by decide +kernel
theorem jd_Sh_flush_62 : decode jb_Sh_flush 62 = .ok (.iand, 1) := by decide +kernel
theorem jd_Sh_flush_63 : decode jb_Sh_flush 63 = .ok (.istore_n 2, 1) := by decide +kernel
theorem jd_Sh_flush_64 : decode jb_Sh_flush 64 = .ok (.iinc 3 1, 3) := by decide +kernel
theorem jd_Sh_flush_67 : decode jb_Sh_flush 67 = .ok (.goto (-34), 3) := by decide +kernel
theorem jd_Sh_flush_70 : decode jb_Sh_flush 70 = .ok (.iload_n 2, 1) := by decide +kernel
theorem jd_Sh_flush_71 : decode jb_Sh_flush 71 = .ok (.ifCond .eq 22, 3) := by decide +kernel
theorem jd_Sh_flush_74 : decode jb_Sh_flush 74 = .ok (.aload_n 0, 1) := by decide +kernel
theorem jd_Sh_flush_75 : decode jb_Sh_flush 75 = .ok (.aload_n 0, 1) := by decide +kernel
theorem jd_Sh_flush_76 : decode jb_Sh_flush 76 = .ok (.getfield 25, 3) := by decide +kernel
theorem jd_Sh_flush_79 : decode jb_Sh_flush 79 = .ok (.iload_n 1, 1) := by decide +kernel
theorem jd_Sh_flush_80 : decode jb_Sh_flush 80 = .ok (.iaload, 1) := by decide +kernel
theorem jd_Sh_flush_81 : decode jb_Sh_flush 81 = .ok (.aload_n 0, 1) := by decide +kernel
theorem jd_Sh_flush_82 : decode jb_Sh_flush 82 = .ok (.getfield 22, 3) := by decide +kernel
theorem jd_Sh_flush_85 : decode jb_Sh_flush 85 = .ok (.sipush 496, 3) := by decide +kernel
theorem jd_Sh_flush_88 : decode jb_Sh_flush 88 = .ok (.iload_n 1, 1) := by decide +kernel
theorem jd_Sh_flush_89 : decode jb_Sh_flush 89 = .ok (.imul, 1) := by decide +kernel
theorem jd_Sh_flush_90 : decode jb_Sh_flush 90 = .ok (.invokevirtual 76, 3) := by decide +kernel
theorem jd_Sh_flush_93 : decode jb_Sh_flush 93 = .ok (.iinc 1 1, 3) := by decide +kernel
theorem jd_Sh_flush_96 : decode jb_Sh_flush 96 = .ok (.goto (-77), 3) := by decide +kernel
theorem jd_Sh_flush_99 : decode jb_Sh_flush 99 = .ok (.aload_n 0, 1) := by decide +kernel
theorem jd_Sh_flush_100 : decode jb_Sh_flush 100 = .ok (.iconst 0, 1) := by decide +kernel
theorem jd_Sh_flush_101 : decode jb_Sh_flush 101 = .ok (.putfield 46, 3) := by decide +kernel
theorem jd_Sh_flush_104 : decode jb_Sh_flush 104 = .ok (.aload_n 0, 1) := by decide +kernel
theorem jd_Sh_flush_105 : decode jb_Sh_flush 105 = .ok (.iconst 0, 1) := by decide +kernel
theorem jd_Sh_flush_106 : decode jb_Sh_flush 106 = .ok (.putfield 42, 3) := by decide +kernel
theorem jd_Sh_flush_109 : decode jb_Sh_flush 109 = .ok (.return_, 1) := by decide +kernel
theorem jd_Sh_home_0 : decode jb_Sh_home 0 = .ok (.aload_n 0, 1) := by decide +kernel
theorem jd_Sh_home_1 : decode jb_Sh_home 1 = .ok (.getfield 12, 3) := by decide +kernel
theorem jd_Sh_home_4 : decode jb_Sh_home 4 = .ok (.invokevirtual 80, 3) := by decide +kernel
theorem jd_Sh_home_7 : decode jb_Sh_home 7 = .ok (.ifCond .ne 10, 3) := by decide +kernel
theorem jd_Sh_home_10 : decode jb_Sh_home 10 = .ok (.aload_n 0, 1) := by decide +kernel
theorem jd_Sh_home_11 : decode jb_Sh_home 11 = .ok (.getfield 12, 3) := by decide +kernel
theorem jd_Sh_home_14 : decode jb_Sh_home 14 = .ok (.invokevirtual 75, 3) := by decide +kernel
theorem jd_Sh_home_17 : decode jb_Sh_home 17 = .ok (.aload_n 0, 1) := by decide +kernel
theorem jd_Sh_home_18 : decode jb_Sh_home 18 = .ok (.getfield 18, 3) := by decide +kernel
theorem jd_Sh_home_21 : decode jb_Sh_home 21 = .ok (.iconst 0, 1) := by decide +kernel
theorem jd_Sh_home_22 : decode jb_Sh_home 22 = .ok (.invokestatic 84, 3) := by decide +kernel
theorem jd_Sh_home_25 : decode jb_Sh_home 25 = .ok (.aload_n 2, 1) := by decide +kernel
theorem jd_Sh_home_26 : decode jb_Sh_home 26 = .ok (.iload_n 3, 1) := by decide +kernel
theorem jd_Sh_home_27 : decode jb_Sh_home 27 = .ok (.aload_n 0, 1) := by decide +kernel
theorem jd_Sh_home_28 : decode jb_Sh_home 28 = .ok (.getfield 18, 3) := by decide +kernel
theorem jd_Sh_home_31 : decode jb_Sh_home 31 = .ok (.iconst 0, 1) := by decide +kernel
theorem jd_Sh_home_32 : decode jb_Sh_home 32 = .ok (.sipush 496, 3) := by decide +kernel
theorem jd_Sh_home_35 : decode jb_Sh_home 35 = .ok (.invokestatic 55, 3) := by decide +kernel
theorem jd_Sh_home_38 : decode jb_Sh_home 38 = .ok (.aload_n 0, 1) := by decide +kernel
theorem jd_Sh_home_39 : decode jb_Sh_home 39 = .ok (.getfield 12, 3) := by decide +kernel
theorem jd_Sh_home_42 : decode jb_Sh_home 42 = .ok (.bipush 52, 2) := by decide +kernel
theorem jd_Sh_home_44 : decode jb_Sh_home 44 = .ok (.iload_n 1, 1) := by decide +kernel
theorem jd_Sh_home_45 : decode jb_Sh_home 45 = .ok (.iadd, 1) := by decide +kernel
theorem jd_Sh_home_46 : decode jb_Sh_home 46 = .ok (.aload_n 0, 1) := by decide +kernel
theorem jd_Sh_home_47 : decode jb_Sh_home 47 = .ok (.getfield 18, 3) := by decide +kernel
theorem jd_Sh_home_50 : decode jb_Sh_home 50 = .ok (.invokevirtual 71, 3) := by decide +kernel
theorem jd_Sh_home_53 : decode jb_Sh_home 53 = .ok (.return_, 1) := by decide +kernel
theorem jd_Sh_read_0 : decode jb_Sh_read 0 = .ok (.aload_n 0, 1) := by decide +kernel
theorem jd_Sh_read_1 : decode jb_Sh_read 1 = .ok (.getfield 46, 3) := by decide +kernel
theorem jd_Sh_read_4 : decode jb_Sh_read 4 = .ok (.iconst 1, 1) := by decide +kernel
theorem jd_Sh_read_5 : decode jb_Sh_read 5 = .ok (.isub, 1) := by decide +kernel
theorem jd_Sh_read_6 : decode jb_Sh_read 6 = .ok (.istore_n 3, 1) := by decide +kernel
theorem jd_Sh_read_7 : decode jb_Sh_read 7 = .ok (.iload_n 3, 1) := by decide +kernel
theorem jd_Sh_read_8 : decode jb_Sh_read 8 = .ok (.ifCond .lt 19, 3) := by decide +kernel
theorem jd_Sh_read_11 : decode jb_Sh_read 11 = .ok (.aload_n 0, 1) := by decide +kernel
theorem jd_Sh_read_12 : decode jb_Sh_read 12 = .ok (.getfield 25, 3) := by decide +kernel
theorem jd_Sh_read_15 : decode jb_Sh_read 15 = .ok (.iload_n 3, 1) := by decide +kernel
theorem jd_Sh_read_16 : decode jb_Sh_read 16 = .ok (.iaload, 1) := by decide +kernel
theorem jd_Sh_read_17 : decode jb_Sh_read 17 = .ok (.iload_n 1, 1) := by decide +kernel
theorem jd_Sh_read_18 : decode jb_Sh_read 18 = .ok (.if_icmp .eq 9, 3) := by decide +kernel
theorem jd_Sh_read_21 : decode jb_Sh_read 21 = .ok (.iinc 3 (-1), 3) := by decide +kernel
theorem jd_Sh_read_24 : decode jb_Sh_read 24 = .ok (.goto (-17), 3) := by decide +kernel
theorem jd_Sh_read_27 : decode jb_Sh_read 27 = .ok (.iload_n 3, 1) := by decide +kernel
theorem jd_Sh_read_28 : decode jb_Sh_read 28 = .ok (.ifCond .lt 21, 3) := by decide +kernel
theorem jd_Sh_read_31 : decode jb_Sh_read 31 = .ok (.aload_n 0, 1) := by decide +kernel
theorem jd_Sh_read_32 : decode jb_Sh_read 32 = .ok (.getfield 22, 3) := by decide +kernel
theorem jd_Sh_read_35 : decode jb_Sh_read 35 = .ok (.sipush 496, 3) := by decide +kernel
theorem jd_Sh_read_38 : decode jb_Sh_read 38 = .ok (.iload_n 3, 1) := by decide +kernel
theorem jd_Sh_read_39 : decode jb_Sh_read 39 = .ok (.imul, 1) := by decide +kernel
theorem jd_Sh_read_40 : decode jb_Sh_read 40 = .ok (.aload_n 2, 1) := by decide +kernel
theorem jd_Sh_read_41 : decode jb_Sh_read 41 = .ok (.iconst 0, 1) := by decide +kernel
theorem jd_Sh_read_42 : decode jb_Sh_read 42 = .ok (.sipush 496, 3) := by decide +kernel
theorem jd_Sh_read_45 : decode jb_Sh_read 45 = .ok (.invokestatic 55, 3) := by decide +kernel
theorem jd_Sh_read_48 : decode jb_Sh_read 48 = .ok (.return_, 1) := by decide +kernel
theorem jd_Sh_read_49 : decode jb_Sh_read 49 = .ok (.aload_n 0, 1) := by decide +kernel
theorem jd_Sh_read_50 : decode jb_Sh_read 50 = .ok (.getfield 12, 3) := by decide +kernel
theorem jd_Sh_read_53 : decode jb_Sh_read 53 = .ok (.bipush 52, 2) := by decide +kernel
theorem jd_Sh_read_55 : decode jb_Sh_read 55 = .ok (.iload_n 1, 1) := by decide +kernel
theorem jd_Sh_read_56 : decode jb_Sh_read 56 = .ok (.iadd, 1) := by decide +kernel
theorem jd_Sh_read_57 : decode jb_Sh_read 57 = .ok (.aload_n 0, 1) := by decide +kernel
theorem jd_Sh_read_58 : decode jb_Sh_read 58 = .ok (.getfield 18, 3) := by decide +kernel
theorem jd_Sh_read_61 : decode jb_Sh_read 61 = .ok (.invokevirtual 90, 3) := by decide +kernel
theorem jd_Sh_read_64 : decode jb_Sh_read 64 = .ok (.aload_n 0, 1) := by decide +kernel
theorem jd_Sh_read_65 : decode jb_Sh_read 65 = .ok (.getfield 18, 3) := by decide +kernel
theorem jd_Sh_read_68 : decode jb_Sh_read 68 = .ok (.iconst 0, 1) := by decide +kernel
theorem jd_Sh_read_69 : decode jb_Sh_read 69 = .ok (.aload_n 2, 1) := by decide +kernel
theorem jd_Sh_read_70 : decode jb_Sh_read 70 = .ok (.iconst 0, 1) := by decide +kernel
theorem jd_Sh_read_71 : decode jb_Sh_read 71 = .ok (.sipush 496, 3) := by decide +kernel
theorem jd_Sh_read_74 : decode jb_Sh_read 74 = .ok (.invokestatic 55, 3) := by decide +kernel
theorem jd_Sh_read_77 : decode jb_Sh_read 77 = .ok (.return_, 1) := by decide +kernel
theorem jd_Sh_isWhole_0 : decode jb_Sh_isWhole 0 = .ok (.iconst 0, 1) := by decide +kernel
theorem jd_Sh_isWhole_1 : decode jb_Sh_isWhole 1 = .ok (.istore_n 2, 1) := by decide +kernel
theorem jd_Sh_isWhole_2 : decode jb_Sh_isWhole 2 = .ok (.iconst 1, 1) := by decide +kernel
theorem jd_Sh_isWhole_3 : decode jb_Sh_isWhole 3 = .ok (.istore_n 3, 1) := by decide +kernel
theorem jd_Sh_isWhole_4 : decode jb_Sh_isWhole 4 = .ok (.iconst 0, 1) := by decide +kernel
theorem jd_Sh_isWhole_5 : decode jb_Sh_isWhole 5 = .ok (.istore 4, 2) := by decide +kernel
theorem jd_Sh_isWhole_7 : decode jb_Sh_isWhole 7 = .ok (.iload 4, 2) := by decide +kernel
theorem jd_Sh_isWhole_9 : decode jb_Sh_isWhole 9 = .ok (.bipush 52, 2) := by decide +kernel
theorem jd_Sh_isWhole_11 : decode jb_Sh_isWhole 11 = .ok (.if_icmp .ge 34, 3) := by decide +kernel
theorem jd_Sh_isWhole_14 : decode jb_Sh_isWhole 14 = .ok (.aload_n 0, 1) := by decide +kernel
theorem jd_Sh_isWhole_15 : decode jb_Sh_isWhole 15 = .ok (.getfield 33, 3) := by decide +kernel
theorem jd_Sh_isWhole_18 : decode jb_Sh_isWhole 18 = .ok (.iload 4, 2) := by decide +kernel
theorem jd_Sh_isWhole_20 : decode jb_Sh_isWhole 20 = .ok (.iaload, 1) := by decide +kernel
theorem jd_Sh_isWhole_21 : decode jb_Sh_isWhole 21 = .ok (.iload_n 1, 1) := by decide +kernel
theorem jd_Sh_isWhole_22 : decode jb_Sh_isWhole 22 = .ok (.if_icmp .eq 6, 3) := by decide +kernel
theorem jd_Sh_isWhole_25 : decode jb_Sh_isWhole 25 = .ok (.goto 14, 3) := by decide +kernel
theorem jd_Sh_isWhole_28 : decode jb_Sh_isWhole 28 = .ok (.iinc 2 1, 3) := by decide +kernel
theorem jd_Sh_isWhole_31 : decode jb_Sh_isWhole 31 = .ok (.aload_n 0, 1) := by decide +kernel
theorem jd_Sh_isWhole_32 : decode jb_Sh_isWhole 32 = .ok (.getfield 36, 3) := by decide +kernel
theorem jd_Sh_isWhole_35 : decode jb_Sh_isWhole 35 = .ok (.iload 4, 2) := by decide +kernel
theorem jd_Sh_isWhole_37 : decode jb_Sh_isWhole 37 = .ok (.iaload, 1) := by decide +kernel
theorem jd_Sh_isWhole_38 : decode jb_Sh_isWhole 38 = .ok (.istore_n 3, 1) := by decide +kernel
theorem jd_Sh_isWhole_39 : decode jb_Sh_isWhole 39 = .ok (.iinc 4 1, 3) := by decide +kernel
theorem jd_Sh_isWhole_42 : decode jb_Sh_isWhole 42 = .ok (.goto (-35), 3) := by decide +kernel
theorem jd_Sh_isWhole_45 : decode jb_Sh_isWhole 45 = .ok (.iload_n 1, 1) := by decide +kernel
theorem jd_Sh_isWhole_46 : decode jb_Sh_isWhole 46 = .ok (.ifCond .le 12, 3) := by decide +kernel
theorem jd_Sh_isWhole_49 : decode jb_Sh_isWhole 49 = .ok (.iload_n 2, 1) := by decide +kernel
theorem jd_Sh_isWhole_50 : decode jb_Sh_isWhole 50 = .ok (.iload_n 3, 1) := by decide +kernel
theorem jd_Sh_isWhole_51 : decode jb_Sh_isWhole 51 = .ok (.if_icmp .ne 7, 3) := by decide +kernel
theorem jd_Sh_isWhole_54 : decode jb_Sh_isWhole 54 = .ok (.iconst 1, 1) := by decide +kernel
theorem jd_Sh_isWhole_55 : decode jb_Sh_isWhole 55 = .ok (.goto 4, 3) := by decide +kernel
theorem jd_Sh_isWhole_58 : decode jb_Sh_isWhole 58 = .ok (.iconst 0, 1) := by decide +kernel
theorem jd_Sh_isWhole_59 : decode jb_Sh_isWhole 59 = .ok (.ireturn, 1) := by decide +kernel
theorem jd_Sh_recover_0 : decode jb_Sh_recover 0 = .ok (.iconst 0, 1) := by decide +kernel
theorem jd_Sh_recover_1 : decode jb_Sh_recover 1 = .ok (.istore_n 1, 1) := by decide +kernel
theorem jd_Sh_recover_2 : decode jb_Sh_recover 2 = .ok (.iconst 0, 1) := by decide +kernel
theorem jd_Sh_recover_3 : decode jb_Sh_recover 3 = .ok (.istore_n 2, 1) := by decide +kernel
theorem jd_Sh_recover_4 : decode jb_Sh_recover 4 = .ok (.iload_n 2, 1) := by decide +kernel
theorem jd_Sh_recover_5 : decode jb_Sh_recover 5 = .ok (.bipush 52, 2) := by decide +kernel
theorem jd_Sh_recover_7 : decode jb_Sh_recover 7 = .ok (.if_icmp .ge 153, 3) := by decide +kernel
theorem jd_Sh_recover_10 : decode jb_Sh_recover 10 = .ok (.aload_n 0, 1) := by decide +kernel
theorem jd_Sh_recover_11 : decode jb_Sh_recover 11 = .ok (.getfield 12, 3) := by decide +kernel
theorem jd_Sh_recover_14 : decode jb_Sh_recover 14 = .ok (.iload_n 2, 1) := by decide +kernel
theorem jd_Sh_recover_15 : decode jb_Sh_recover 15 = .ok (.aload_n 0, 1) := by decide +kernel
theorem jd_Sh_recover_16 : decode jb_Sh_recover 16 = .ok (.getfield 18, 3) := by decide +kernel
theorem jd_Sh_recover_19 : decode jb_Sh_recover 19 = .ok (.invokevirtual 90, 3) := by decide +kernel
theorem jd_Sh_recover_22 : decode jb_Sh_recover 22 = .ok (.aload_n 0, 1) := by decide +kernel
theorem jd_Sh_recover_23 : decode jb_Sh_recover 23 = .ok (.getfield 18, 3) := by decide +kernel
theorem jd_Sh_recover_26 : decode jb_Sh_recover 26 = .ok (.iconst 0, 1) := by decide +kernel
theorem jd_Sh_recover_27 : decode jb_Sh_recover 27 = .ok (.invokestatic 93, 3) := by decide +kernel
theorem jd_Sh_recover_30 : decode jb_Sh_recover 30 = .ok (.istore_n 3, 1) := by decide +kernel
theorem jd_Sh_recover_31 : decode jb_Sh_recover 31 = .ok (.iload_n 3, 1) := by decide +kernel
theorem jd_Sh_recover_32 : decode jb_Sh_recover 32 = .ok (.ifCond .le 57, 3) := by decide +kernel
theorem jd_Sh_recover_35 : decode jb_Sh_recover 35 = .ok (.iload_n 3, 1) := by decide +kernel
theorem jd_Sh_recover_36 : decode jb_Sh_recover 36 = .ok (.aload_n 0, 1) := by decide +kernel
theorem jd_Sh_recover_37 : decode jb_Sh_recover 37 = .ok (.getfield 18, 3) := by decide +kernel
theorem jd_Sh_recover_40 : decode jb_Sh_recover 40 = .ok (.sipush 508, 3) := by decide +kernel
theorem jd_Sh_recover_43 : decode jb_Sh_recover 43 = .ok (.invokestatic 93, 3) := by decide +kernel
theorem jd_Sh_recover_46 : decode jb_Sh_recover 46 = .ok (.if_icmp .ne 43, 3) := by decide +kernel
theorem jd_Sh_recover_49 : decode jb_Sh_recover 49 = .ok (.aload_n 0, 1) := by decide +kernel
theorem jd_Sh_recover_50 : decode jb_Sh_recover 50 = .ok (.getfield 18, 3) := by decide +kernel
theorem jd_Sh_recover_53 : decode jb_Sh_recover 53 = .ok (.iconst 5, 1) := by decide +kernel
theorem jd_Sh_recover_54 : decode jb_Sh_recover 54 = .ok (.baload, 1) := by decide +kernel
theorem jd_Sh_recover_55 : decode jb_Sh_recover 55 = .ok (.iconst 1, 1) := by decide +kernel
theorem jd_Sh_recover_56 : decode jb_Sh_recover 56 = .ok (.bipush 17, 2) := by decide +kernel
theorem jd_Sh_recover_58 : decode jb_Sh_recover 58 = .ok (.invokestatic 97, 3) := by decide +kernel
theorem jd_Sh_recover_61 : decode jb_Sh_recover 61 = .ok (.ifCond .eq 28, 3) := by decide +kernel
theorem jd_Sh_recover_64 : decode jb_Sh_recover 64 = .ok (.aload_n 0, 1) := by decide +kernel
theorem jd_Sh_recover_65 : decode jb_Sh_recover 65 = .ok (.getfield 18, 3) := by decide +kernel
theorem jd_Sh_recover_68 : decode jb_Sh_recover 68 = .ok (.iconst 4, 1) := by decide +kernel
theorem jd_Sh_recover_69 : decode jb_Sh_recover 69 = .ok (.baload, 1) := by decide +kernel
theorem jd_Sh_recover_70 : decode jb_Sh_recover 70 = .ok (.iconst 0, 1) := by decide +kernel
theorem jd_Sh_recover_71 : decode jb_Sh_recover 71 = .ok (.aload_n 0, 1) := by decide +kernel
theorem jd_Sh_recover_72 : decode jb_Sh_recover 72 = .ok (.getfield 18, 3) := by decide +kernel
theorem jd_Sh_recover_75 : decode jb_Sh_recover 75 = .ok (.iconst 5, 1) := by decide +kernel
theorem jd_Sh_recover_76 : decode jb_Sh_recover 76 = .ok (.baload, 1) := by decide +kernel
theorem jd_Sh_recover_77 : decode jb_Sh_recover 77 = .ok (.iconst 1, 1) := by decide +kernel
theorem jd_Sh_recover_78 : decode jb_Sh_recover 78 = .ok (.isub, 1) := by decide +kernel
theorem jd_Sh_recover_79 : decode jb_Sh_recover 79 = .ok (.invokestatic 97, 3) := by decide +kernel
theorem jd_Sh_recover_82 : decode jb_Sh_recover 82 = .ok (.ifCond .eq 7, 3) := by decide +kernel
theorem jd_Sh_recover_85 : decode jb_Sh_recover 85 = .ok (.iconst 1, 1) := by decide +kernel
theorem jd_Sh_recover_86 : decode jb_Sh_recover 86 = .ok (.goto 4, 3) := by decide +kernel
theorem jd_Sh_recover_89 : decode jb_Sh_recover 89 = .ok (.iconst 0, 1) := by decide +kernel
theorem jd_Sh_recover_90 : decode jb_Sh_recover 90 = .ok (.istore 4, 2) := by decide +kernel
theorem jd_Sh_recover_92 : decode jb_Sh_recover 92 = .ok (.aload_n 0, 1) := by decide +kernel
theorem jd_Sh_recover_93 : decode jb_Sh_recover 93 = .ok (.getfield 33, 3) := by decide +kernel
theorem jd_Sh_recover_96 : decode jb_Sh_recover 96 = .ok (.iload_n 2, 1) := by decide +kernel
theorem jd_Sh_recover_97 : decode jb_Sh_recover 97 = .ok (.iload 4, 2) := by decide +kernel
theorem jd_Sh_recover_99 : decode jb_Sh_recover 99 = .ok (.ifCond .eq 7, 3) := by decide +kernel
theorem jd_Sh_recover_102 : decode jb_Sh_recover 102 = .ok (.iload_n 3, 1) := by decide +kernel
theorem jd_Sh_recover_103 : decode jb_Sh_recover 103 = .ok (.goto 4, 3) := by decide +kernel
theorem jd_Sh_recover_106 : decode jb_Sh_recover 106 = .ok (.iconst 0, 1) := by decide +kernel
theorem jd_Sh_recover_107 : decode jb_Sh_recover 107 = .ok (.iastore, 1) := by decide +kernel
theorem jd_Sh_recover_108 : decode jb_Sh_recover 108 = .ok (.aload_n 0, 1) := by decide +kernel
theorem jd_Sh_recover_109 : decode jb_Sh_recover 109 = .ok (.getfield 36, 3) := by decide +kernel
theorem jd_Sh_recover_112 : decode jb_Sh_recover 112 = .ok (.iload_n 2, 1) := by decide +kernel
theorem jd_Sh_recover_113 : decode jb_Sh_recover 113 = .ok (.aload_n 0, 1) := by decide +kernel
theorem jd_Sh_recover_114 : decode jb_Sh_recover 114 = .ok (.getfield 18, 3) := by decide +kernel
theorem jd_Sh_recover_117 : decode jb_Sh_recover 117 = .ok (.iconst 5, 1) := by decide +kernel
theorem jd_Sh_recover_118 : decode jb_Sh_recover 118 = .ok (.baload, 1) := by decide +kernel
theorem jd_Sh_recover_119 : decode jb_Sh_recover 119 = .ok (.iastore, 1) := by decide +kernel
theorem jd_Sh_recover_120 : decode jb_Sh_recover 120 = .ok (.aload_n 0, 1) := by decide +kernel
theorem jd_Sh_recover_121 : decode jb_Sh_recover 121 = .ok (.getfield 39, 3) := by decide +kernel
theorem jd_Sh_recover_124 : decode jb_Sh_recover 124 = .ok (.iload_n 2, 1) := by decide +kernel
theorem jd_Sh_recover_125 : decode jb_Sh_recover 125 = .ok (.aload_n 0, 1) := by decide +kernel
theorem jd_Sh_recover_126 : decode jb_Sh_recover 126 = .ok (.getfield 18, 3) := by decide +kernel
theorem jd_Sh_recover_129 : decode jb_Sh_recover 129 = .ok (.iconst 4, 1) := by decide +kernel
theorem jd_Sh_recover_130 : decode jb_Sh_recover 130 = .ok (.baload, 1) := by decide +kernel
theorem jd_Sh_recover_131 : decode jb_Sh_recover 131 = .ok (.iastore, 1) := by decide +kernel
theorem jd_Sh_recover_132 : decode jb_Sh_recover 132 = .ok (.iload 4, 2) := by decide +kernel
theorem jd_Sh_recover_134 : decode jb_Sh_recover 134 = .ok (.ifCond .ne 6, 3) := by decide +kernel
theorem jd_Sh_recover_137 : decode jb_Sh_recover 137 = .ok (.goto 17, 3) := by decide +kernel
theorem jd_Sh_recover_140 : decode jb_Sh_recover 140 = .ok (.iload_n 1, 1) := by decide +kernel
theorem jd_Sh_recover_141 : decode jb_Sh_recover 141 = .ok (.aload_n 0, 1) := by decide +kernel
theorem jd_Sh_recover_142 : decode jb_Sh_recover 142 = .ok (.getfield 18, 3) := by decide +kernel
theorem jd_Sh_recover_145 : decode jb_Sh_recover 145 = .ok (.bipush 8, 2) := by decide +kernel
theorem jd_Sh_recover_147 : decode jb_Sh_recover 147 = .ok (.invokestatic 93, 3) := by decide +kernel
theorem jd_Sh_recover_150 : decode jb_Sh_recover 150 = .ok (.invokestatic 101, 3) := by decide +kernel
theorem jd_Sh_recover_153 : decode jb_Sh_recover 153 = .ok (.istore_n 1, 1) := by decide +kernel
theorem jd_Sh_recover_154 : decode jb_Sh_recover 154 = .ok (.iinc 2 1, 3) := by decide +kernel
theorem jd_Sh_recover_157 : decode jb_Sh_recover 157 = .ok (.goto (-153), 3) := by decide +kernel
theorem jd_Sh_recover_160 : decode jb_Sh_recover 160 = .ok (.iload_n 1, 1) := by decide +kernel
theorem jd_Sh_recover_161 : decode jb_Sh_recover 161 = .ok (.iconst 1, 1) := by decide +kernel
theorem jd_Sh_recover_162 : decode jb_Sh_recover 162 = .ok (.iadd, 1) := by decide +kernel
theorem jd_Sh_recover_163 : decode jb_Sh_recover 163 = .ok (.istore_n 2, 1) := by decide +kernel
theorem jd_Sh_recover_164 : decode jb_Sh_recover 164 = .ok (.iload_n 1, 1) := by decide +kernel
theorem jd_Sh_recover_165 : decode jb_Sh_recover 165 = .ok (.istore_n 3, 1) := by decide +kernel
theorem jd_Sh_recover_166 : decode jb_Sh_recover 166 = .ok (.aload_n 0, 1) := by decide +kernel
theorem jd_Sh_recover_167 : decode jb_Sh_recover 167 = .ok (.iload_n 2, 1) := by decide +kernel
theorem jd_Sh_recover_168 : decode jb_Sh_recover 168 = .ok (.iconst 1, 1) := by decide +kernel
theorem jd_Sh_recover_169 : decode jb_Sh_recover 169 = .ok (.isub, 1) := by decide +kernel
theorem jd_Sh_recover_170 : decode jb_Sh_recover 170 = .ok (.invokevirtual 107, 3) := by decide +kernel
theorem jd_Sh_recover_173 : decode jb_Sh_recover 173 = .ok (.ifCond .eq 9, 3) := by decide +kernel
theorem jd_Sh_recover_176 : decode jb_Sh_recover 176 = .ok (.iinc 2 (-1), 3) := by decide +kernel
theorem jd_Sh_recover_179 : decode jb_Sh_recover 179 = .ok (.goto (-13), 3) := by decide +kernel
theorem jd_Sh_recover_182 : decode jb_Sh_recover 182 = .ok (.aload_n 0, 1) := by decide +kernel
theorem jd_Sh_recover_183 : decode jb_Sh_recover 183 = .ok (.iload_n 3, 1) := by decide +kernel
theorem jd_Sh_recover_184 : decode jb_Sh_recover 184 = .ok (.iconst 1, 1) := by decide +kernel
theorem jd_Sh_recover_185 : decode jb_Sh_recover 185 = .ok (.iadd, 1) := by decide +kernel
theorem jd_Sh_recover_186 : decode jb_Sh_recover 186 = .ok (.invokevirtual 107, 3) := by decide +kernel
theorem jd_Sh_recover_189 : decode jb_Sh_recover 189 = .ok (.ifCond .eq 9, 3) := by decide +kernel
theorem jd_Sh_recover_192 : decode jb_Sh_recover 192 = .ok (.iinc 3 1, 3) := by decide +kernel
theorem jd_Sh_recover_195 : decode jb_Sh_recover 195 = .ok (.goto (-13), 3) := by decide +kernel
theorem jd_Sh_recover_198 : decode jb_Sh_recover 198 = .ok (.iload_n 2, 1) := by decide +kernel
theorem jd_Sh_recover_199 : decode jb_Sh_recover 199 = .ok (.istore 4, 2) := by decide +kernel
theorem jd_Sh_recover_201 : decode jb_Sh_recover 201 = .ok (.iload 4, 2) := by decide +kernel
theorem jd_Sh_recover_203 : decode jb_Sh_recover 203 = .ok (.iload_n 3, 1) := by decide +kernel
theorem jd_Sh_recover_204 : decode jb_Sh_recover 204 = .ok (.if_icmp .gt 15, 3) := by decide +kernel
theorem jd_Sh_recover_207 : decode jb_Sh_recover 207 = .ok (.aload_n 0, 1) := by decide +kernel
theorem jd_Sh_recover_208 : decode jb_Sh_recover 208 = .ok (.iload 4, 2) := by decide +kernel
theorem jd_Sh_recover_210 : decode jb_Sh_recover 210 = .ok (.invokevirtual 111, 3) := by decide +kernel
theorem jd_Sh_recover_213 : decode jb_Sh_recover 213 = .ok (.iinc 4 1, 3) := by decide +kernel
theorem jd_Sh_recover_216 : decode jb_Sh_recover 216 = .ok (.goto (-15), 3) := by decide +kernel
theorem jd_Sh_recover_219 : decode jb_Sh_recover 219 = .ok (.aload_n 0, 1) := by decide +kernel
theorem jd_Sh_recover_220 : decode jb_Sh_recover 220 = .ok (.iload_n 3, 1) := by decide +kernel
theorem jd_Sh_recover_221 : decode jb_Sh_recover 221 = .ok (.invokevirtual 115, 3) := by decide +kernel
theorem jd_Sh_recover_224 : decode jb_Sh_recover 224 = .ok (.aload_n 0, 1) := by decide +kernel
theorem jd_Sh_recover_225 : decode jb_Sh_recover 225 = .ok (.iconst 0, 1) := by decide +kernel
theorem jd_Sh_recover_226 : decode jb_Sh_recover 226 = .ok (.putfield 46, 3) := by decide +kernel
theorem jd_Sh_recover_229 : decode jb_Sh_recover 229 = .ok (.aload_n 0, 1) := by decide +kernel
theorem jd_Sh_recover_230 : decode jb_Sh_recover 230 = .ok (.iconst 0, 1) := by decide +kernel
theorem jd_Sh_recover_231 : decode jb_Sh_recover 231 = .ok (.putfield 52, 3) := by decide +kernel
theorem jd_Sh_recover_234 : decode jb_Sh_recover 234 = .ok (.aload_n 0, 1) := by decide +kernel
theorem jd_Sh_recover_235 : decode jb_Sh_recover 235 = .ok (.iload_n 3, 1) := by decide +kernel
theorem jd_Sh_recover_236 : decode jb_Sh_recover 236 = .ok (.iconst 1, 1) := by decide +kernel
theorem jd_Sh_recover_237 : decode jb_Sh_recover 237 = .ok (.iadd, 1) := by decide +kernel
theorem jd_Sh_recover_238 : decode jb_Sh_recover 238 = .ok (.putfield 29, 3) := by decide +kernel
theorem jd_Sh_recover_241 : decode jb_Sh_recover 241 = .ok (.aload_n 0, 1) := by decide +kernel
theorem jd_Sh_recover_242 : decode jb_Sh_recover 242 = .ok (.iload_n 3, 1) := by decide +kernel
theorem jd_Sh_recover_243 : decode jb_Sh_recover 243 = .ok (.putfield 65, 3) := by decide +kernel
theorem jd_Sh_recover_246 : decode jb_Sh_recover 246 = .ok (.aload_n 0, 1) := by decide +kernel
theorem jd_Sh_recover_247 : decode jb_Sh_recover 247 = .ok (.iconst 0, 1) := by decide +kernel
theorem jd_Sh_recover_248 : decode jb_Sh_recover 248 = .ok (.putfield 42, 3) := by decide +kernel
theorem jd_Sh_recover_251 : decode jb_Sh_recover 251 = .ok (.return_, 1) := by decide +kernel
theorem jd_Sh_forget_0 : decode jb_Sh_forget 0 = .ok (.aload_n 0, 1) := by decide +kernel
theorem jd_Sh_forget_1 : decode jb_Sh_forget 1 = .ok (.iconst 0, 1) := by decide +kernel
theorem jd_Sh_forget_2 : decode jb_Sh_forget 2 = .ok (.putfield 68, 3) := by decide +kernel
theorem jd_Sh_forget_5 : decode jb_Sh_forget 5 = .ok (.aload_n 0, 1) := by decide +kernel
theorem jd_Sh_forget_6 : decode jb_Sh_forget 6 = .ok (.getfield 18, 3) := by decide +kernel
theorem jd_Sh_forget_9 : decode jb_Sh_forget 9 = .ok (.iconst 0, 1) := by decide +kernel
theorem jd_Sh_forget_10 : decode jb_Sh_forget 10 = .ok (.invokestatic 84, 3) := by decide +kernel
theorem jd_Sh_forget_13 : decode jb_Sh_forget 13 = .ok (.iconst 0, 1) := by decide +kernel
theorem jd_Sh_forget_14 : decode jb_Sh_forget 14 = .ok (.istore_n 2, 1) := by decide +kernel
theorem jd_Sh_forget_15 : decode jb_Sh_forget 15 = .ok (.iload_n 2, 1) := by decide +kernel
theorem jd_Sh_forget_16 : decode jb_Sh_forget 16 = .ok (.bipush 52, 2) := by decide +kernel
theorem jd_Sh_forget_18 : decode jb_Sh_forget 18 = .ok (.if_icmp .ge 101, 3) := by decide +kernel
theorem jd_Sh_forget_21 : decode jb_Sh_forget 21 = .ok (.aload_n 0, 1) := by decide +kernel
theorem jd_Sh_forget_22 : decode jb_Sh_forget 22 = .ok (.getfield 33, 3) := by decide +kernel
theorem jd_Sh_forget_25 : decode jb_Sh_forget 25 = .ok (.iload_n 2, 1) := by decide +kernel
theorem jd_Sh_forget_26 : decode jb_Sh_forget 26 = .ok (.iaload, 1) := by decide +kernel
theorem jd_Sh_forget_27 : decode jb_Sh_forget 27 = .ok (.iload_n 1, 1) := by decide +kernel
theorem jd_Sh_forget_28 : decode jb_Sh_forget 28 = .ok (.if_icmp .ne 43, 3) := by decide +kernel
theorem jd_Sh_forget_31 : decode jb_Sh_forget 31 = .ok (.iload_n 1, 1) := by decide +kernel
theorem jd_Sh_forget_32 : decode jb_Sh_forget 32 = .ok (.ifCond .le 39, 3) := by decide +kernel
theorem jd_Sh_forget_35 : decode jb_Sh_forget 35 = .ok (.aload_n 0, 1) := by decide +kernel
theorem jd_Sh_forget_36 : decode jb_Sh_forget 36 = .ok (.getfield 33, 3) := by decide +kernel
theorem jd_Sh_forget_39 : decode jb_Sh_forget 39 = .ok (.iload_n 2, 1) := by decide +kernel
theorem jd_Sh_forget_40 : decode jb_Sh_forget 40 = .ok (.iconst 1, 1) := by decide +kernel
theorem jd_Sh_forget_41 : decode jb_Sh_forget 41 = .ok (.iadd, 1) := by decide +kernel
theorem jd_Sh_forget_42 : decode jb_Sh_forget 42 = .ok (.bipush 52, 2) := by decide +kernel
theorem jd_Sh_forget_44 : decode jb_Sh_forget 44 = .ok (.irem, 1) := by decide +kernel
theorem jd_Sh_forget_45 : decode jb_Sh_forget 45 = .ok (.iaload, 1) := by decide +kernel
theorem jd_Sh_forget_46 : decode jb_Sh_forget 46 = .ok (.iload_n 1, 1) := by decide +kernel
theorem jd_Sh_forget_47 : decode jb_Sh_forget 47 = .ok (.if_icmp .ne 14, 3) := by decide +kernel
theorem jd_Sh_forget_50 : decode jb_Sh_forget 50 = .ok (.aload_n 0, 1) := by decide +kernel
theorem jd_Sh_forget_51 : decode jb_Sh_forget 51 = .ok (.getfield 36, 3) := by decide +kernel
theorem jd_Sh_forget_54 : decode jb_Sh_forget 54 = .ok (.iload_n 2, 1) := by decide +kernel
theorem jd_Sh_forget_55 : decode jb_Sh_forget 55 = .ok (.iaload, 1) := by decide +kernel
theorem jd_Sh_forget_56 : decode jb_Sh_forget 56 = .ok (.bipush 52, 2) := by decide +kernel
theorem jd_Sh_forget_58 : decode jb_Sh_forget 58 = .ok (.if_icmp .ne 13, 3) := by decide +kernel
theorem jd_Sh_forget_61 : decode jb_Sh_forget 61 = .ok (.aload_n 0, 1) := by decide +kernel
theorem jd_Sh_forget_62 : decode jb_Sh_forget 62 = .ok (.iload_n 2, 1) := by decide +kernel
theorem jd_Sh_forget_63 : decode jb_Sh_forget 63 = .ok (.iconst 1, 1) := by decide +kernel
theorem jd_Sh_forget_64 : decode jb_Sh_forget 64 = .ok (.iadd, 1) := by decide +kernel
theorem jd_Sh_forget_65 : decode jb_Sh_forget 65 = .ok (.bipush 52, 2) := by decide +kernel
theorem jd_Sh_forget_67 : decode jb_Sh_forget 67 = .ok (.irem, 1) := by decide +kernel
theorem jd_Sh_forget_68 : decode jb_Sh_forget 68 = .ok (.putfield 68, 3) := by decide +kernel
theorem jd_Sh_forget_71 : decode jb_Sh_forget 71 = .ok (.aload_n 0, 1) := by decide +kernel
theorem jd_Sh_forget_72 : decode jb_Sh_forget 72 = .ok (.getfield 33, 3) := by decide +kernel
theorem jd_Sh_forget_75 : decode jb_Sh_forget 75 = .ok (.iload_n 2, 1) := by decide +kernel
theorem jd_Sh_forget_76 : decode jb_Sh_forget 76 = .ok (.iaload, 1) := by decide +kernel
theorem jd_Sh_forget_77 : decode jb_Sh_forget 77 = .ok (.iload_n 1, 1) := by decide +kernel
theorem jd_Sh_forget_78 : decode jb_Sh_forget 78 = .ok (.if_icmp .gt 6, 3) := by decide +kernel
theorem jd_Sh_forget_81 : decode jb_Sh_forget 81 = .ok (.goto 32, 3) := by decide +kernel
theorem jd_Sh_forget_84 : decode jb_Sh_forget 84 = .ok (.aload_n 0, 1) := by decide +kernel
theorem jd_Sh_forget_85 : decode jb_Sh_forget 85 = .ok (.getfield 12, 3) := by decide +kernel
theorem jd_Sh_forget_88 : decode jb_Sh_forget 88 = .ok (.invokevirtual 80, 3) := by decide +kernel
theorem jd_Sh_forget_91 : decode jb_Sh_forget 91 = .ok (.ifCond .ne 10, 3) := by decide +kernel
theorem jd_Sh_forget_94 : decode jb_Sh_forget 94 = .ok (.aload_n 0, 1) := by decide +kernel
theorem jd_Sh_forget_95 : decode jb_Sh_forget 95 = .ok (.getfield 12, 3) := by decide +kernel
theorem jd_Sh_forget_98 : decode jb_Sh_forget 98 = .ok (.invokevirtual 75, 3) := by decide +kernel
theorem jd_Sh_forget_101 : decode jb_Sh_forget 101 = .ok (.aload_n 0, 1) := by decide +kernel
theorem jd_Sh_forget_102 : decode jb_Sh_forget 102 = .ok (.getfield 12, 3) := by decide +kernel
theorem jd_Sh_forget_105 : decode jb_Sh_forget 105 = .ok (.iload_n 2, 1) := by decide +kernel
theorem jd_Sh_forget_106 : decode jb_Sh_forget 106 = .ok (.aload_n 0, 1) := by decide +kernel
theorem jd_Sh_forget_107 : decode jb_Sh_forget 107 = .ok (.getfield 18, 3) := by decide +kernel
theorem jd_Sh_forget_110 : decode jb_Sh_forget 110 = .ok (.invokevirtual 71, 3) := by decide +kernel
theorem jd_Sh_forget_113 : decode jb_Sh_forget 113 = .ok (.iinc 2 1, 3) := by decide +kernel
theorem jd_Sh_forget_116 : decode jb_Sh_forget 116 = .ok (.goto (-101), 3) := by decide +kernel
theorem jd_Sh_forget_119 : decode jb_Sh_forget 119 = .ok (.aload_n 0, 1) := by decide +kernel
theorem jd_Sh_forget_120 : decode jb_Sh_forget 120 = .ok (.getfield 12, 3) := by decide +kernel
theorem jd_Sh_forget_123 : decode jb_Sh_forget 123 = .ok (.invokevirtual 75, 3) := by decide +kernel
theorem jd_Sh_forget_126 : decode jb_Sh_forget 126 = .ok (.return_, 1) := by decide +kernel
theorem jd_Sh_redo_0 : decode jb_Sh_redo 0 = .ok (.iconst 0, 1) := by decide +kernel
theorem jd_Sh_redo_1 : decode jb_Sh_redo 1 = .ok (.istore_n 2, 1) := by decide +kernel
theorem jd_Sh_redo_2 : decode jb_Sh_redo 2 = .ok (.aload_n 0, 1) := by decide +kernel
theorem jd_Sh_redo_3 : decode jb_Sh_redo 3 = .ok (.getfield 33, 3) := by decide +kernel
theorem jd_Sh_redo_6 : decode jb_Sh_redo 6 = .ok (.iload_n 2, 1) := by decide +kernel
theorem jd_Sh_redo_7 : decode jb_Sh_redo 7 = .ok (.iaload, 1) := by decide +kernel
theorem jd_Sh_redo_8 : decode jb_Sh_redo 8 = .ok (.iload_n 1, 1) := by decide +kernel
theorem jd_Sh_redo_9 : decode jb_Sh_redo 9 = .ok (.if_icmp .ne 12, 3) := by decide +kernel
theorem jd_Sh_redo_12 : decode jb_Sh_redo 12 = .ok (.aload_n 0, 1) := by decide +kernel
theorem jd_Sh_redo_13 : decode jb_Sh_redo 13 = .ok (.getfield 39, 3) := by decide +kernel
theorem jd_Sh_redo_16 : decode jb_Sh_redo 16 = .ok (.iload_n 2, 1) := by decide +kernel
theorem jd_Sh_redo_17 : decode jb_Sh_redo 17 = .ok (.iaload, 1) := by decide +kernel
theorem jd_Sh_redo_18 : decode jb_Sh_redo 18 = .ok (.ifCond .le 9, 3) := by decide +kernel
theorem jd_Sh_redo_21 : decode jb_Sh_redo 21 = .ok (.iinc 2 1, 3) := by decide +kernel
theorem jd_Sh_redo_24 : decode jb_Sh_redo 24 = .ok (.goto (-22), 3) := by decide +kernel
theorem jd_Sh_redo_27 : decode jb_Sh_redo 27 = .ok (.aload_n 0, 1) := by decide +kernel
theorem jd_Sh_redo_28 : decode jb_Sh_redo 28 = .ok (.getfield 33, 3) := by decide +kernel
theorem jd_Sh_redo_31 : decode jb_Sh_redo 31 = .ok (.iload_n 2, 1) := by decide +kernel
theorem jd_Sh_redo_32 : decode jb_Sh_redo 32 = .ok (.iaload, 1) := by decide +kernel
theorem jd_Sh_redo_33 : decode jb_Sh_redo 33 = .ok (.iload_n 1, 1) := by decide +kernel
theorem jd_Sh_redo_34 : decode jb_Sh_redo 34 = .ok (.if_icmp .ne 64, 3) := by decide +kernel
theorem jd_Sh_redo_37 : decode jb_Sh_redo 37 = .ok (.aload_n 0, 1) := by decide +kernel
theorem jd_Sh_redo_38 : decode jb_Sh_redo 38 = .ok (.getfield 12, 3) := by decide +kernel
theorem jd_Sh_redo_41 : decode jb_Sh_redo 41 = .ok (.iload_n 2, 1) := by decide +kernel
theorem jd_Sh_redo_42 : decode jb_Sh_redo 42 = .ok (.aload_n 0, 1) := by decide +kernel
theorem jd_Sh_redo_43 : decode jb_Sh_redo 43 = .ok (.getfield 18, 3) := by decide +kernel
theorem jd_Sh_redo_46 : decode jb_Sh_redo 46 = .ok (.invokevirtual 90, 3) := by decide +kernel
theorem jd_Sh_redo_49 : decode jb_Sh_redo 49 = .ok (.aload_n 0, 1) := by decide +kernel
theorem jd_Sh_redo_50 : decode jb_Sh_redo 50 = .ok (.getfield 18, 3) := by decide +kernel
theorem jd_Sh_redo_53 : decode jb_Sh_redo 53 = .ok (.bipush 6, 2) := by decide +kernel
theorem jd_Sh_redo_55 : decode jb_Sh_redo 55 = .ok (.baload, 1) := by decide +kernel
theorem jd_Sh_redo_56 : decode jb_Sh_redo 56 = .ok (.sipush 255, 3) := by decide +kernel
theorem jd_Sh_redo_59 : decode jb_Sh_redo 59 = .ok (.iand, 1) := by decide +kernel
theorem jd_Sh_redo_60 : decode jb_Sh_redo 60 = .ok (.istore_n 3, 1) := by decide +kernel
theorem jd_Sh_redo_61 : decode jb_Sh_redo 61 = .ok (.aload_n 0, 1) := by decide +kernel
theorem jd_Sh_redo_62 : decode jb_Sh_redo 62 = .ok (.getfield 18, 3) := by decide +kernel
theorem jd_Sh_redo_65 : decode jb_Sh_redo 65 = .ok (.bipush 12, 2) := by decide +kernel
theorem jd_Sh_redo_67 : decode jb_Sh_redo 67 = .ok (.aload_n 0, 1) := by decide +kernel
theorem jd_Sh_redo_68 : decode jb_Sh_redo 68 = .ok (.getfield 22, 3) := by decide +kernel
theorem jd_Sh_redo_71 : decode jb_Sh_redo 71 = .ok (.iconst 0, 1) := by decide +kernel
theorem jd_Sh_redo_72 : decode jb_Sh_redo 72 = .ok (.sipush 496, 3) := by decide +kernel
theorem jd_Sh_redo_75 : decode jb_Sh_redo 75 = .ok (.invokestatic 55, 3) := by decide +kernel
theorem jd_Sh_redo_78 : decode jb_Sh_redo 78 = .ok (.aload_n 0, 1) := by decide +kernel
theorem jd_Sh_redo_79 : decode jb_Sh_redo 79 = .ok (.iload_n 3, 1) := by decide +kernel
theorem jd_Sh_redo_80 : decode jb_Sh_redo 80 = .ok (.aload_n 0, 1) := by decide +kernel
theorem jd_Sh_redo_81 : decode jb_Sh_redo 81 = .ok (.getfield 22, 3) := by decide +kernel
theorem jd_Sh_redo_84 : decode jb_Sh_redo 84 = .ok (.iconst 0, 1) := by decide +kernel
theorem jd_Sh_redo_85 : decode jb_Sh_redo 85 = .ok (.invokevirtual 76, 3) := by decide +kernel
theorem jd_Sh_redo_88 : decode jb_Sh_redo 88 = .ok (.iload_n 2, 1) := by decide +kernel
theorem jd_Sh_redo_89 : decode jb_Sh_redo 89 = .ok (.iconst 1, 1) := by decide +kernel
theorem jd_Sh_redo_90 : decode jb_Sh_redo 90 = .ok (.iadd, 1) := by decide +kernel
theorem jd_Sh_redo_91 : decode jb_Sh_redo 91 = .ok (.bipush 52, 2) := by decide +kernel
theorem jd_Sh_redo_93 : decode jb_Sh_redo 93 = .ok (.irem, 1) := by decide +kernel
theorem jd_Sh_redo_94 : decode jb_Sh_redo 94 = .ok (.istore_n 2, 1) := by decide +kernel
theorem jd_Sh_redo_95 : decode jb_Sh_redo 95 = .ok (.goto (-68), 3) := by decide +kernel
theorem jd_Sh_redo_98 : decode jb_Sh_redo 98 = .ok (.return_, 1) := by decide +kernel
theorem jd_Lw_law_0 : decode code 0 = .ok (.new 7, 3) := by decide +kernel
theorem jd_Lw_law_3 : decode code 3 = .ok (.dup, 1) := by decide +kernel
theorem jd_Lw_law_4 : decode code 4 = .ok (.invokespecial 9, 3) := by decide +kernel
theorem jd_Lw_law_7 : decode code 7 = .ok (.astore_n 1, 1) := by decide +kernel
theorem jd_Lw_law_8 : decode code 8 = .ok (.new 10, 3) := by decide +kernel
theorem jd_Lw_law_11 : decode code 11 = .ok (.dup, 1) := by decide +kernel
theorem jd_Lw_law_12 : decode code 12 = .ok (.invokespecial 12, 3) := by decide +kernel
theorem jd_Lw_law_15 : decode code 15 = .ok (.astore_n 2, 1) := by decide +kernel
theorem jd_Lw_law_16 : decode code 16 = .ok (.iconst 0, 1) := by decide +kernel
theorem jd_Lw_law_17 : decode code 17 = .ok (.istore_n 3, 1) := by decide +kernel
theorem jd_Lw_law_18 : decode code 18 = .ok (.iload_n 3, 1) := by decide +kernel
theorem jd_Lw_law_19 : decode code 19 = .ok (.aload_n 0, 1) := by decide +kernel
theorem jd_Lw_law_20 : decode code 20 = .ok (.arraylength, 1) := by decide +kernel
theorem jd_Lw_law_21 : decode code 21 = .ok (.iconst 3, 1) := by decide +kernel
theorem jd_Lw_law_22 : decode code 22 = .ok (.isub, 1) := by decide +kernel
theorem jd_Lw_law_23 : decode code 23 = .ok (.if_icmp .gt 227, 3) := by decide +kernel
theorem jd_Lw_law_26 : decode code 26 = .ok (.aload_n 0, 1) := by decide +kernel
theorem jd_Lw_law_27 : decode code 27 = .ok (.iload_n 3, 1) := by decide +kernel
theorem jd_Lw_law_28 : decode code 28 = .ok (.iaload, 1) := by decide +kernel
theorem jd_Lw_law_29 : decode code 29 = .ok (.bipush 7, 2) := by decide +kernel
theorem jd_Lw_law_31 : decode code 31 = .ok (.iand, 1) := by decide +kernel
theorem jd_Lw_law_32 : decode code 32 = .ok (.tableswitch 212 0 7 #[48, 81, 94, 107, 120, 153, 176, 189], 48) := by decide +kernel
theorem jd_Lw_law_80 : decode code 80 = .ok (.aload_n 1, 1) := by decide +kernel
theorem jd_Lw_law_81 : decode code 81 = .ok (.aload_n 0, 1) := by decide +kernel
theorem jd_Lw_law_82 : decode code 82 = .ok (.iload_n 3, 1) := by decide +kernel
theorem jd_Lw_law_83 : decode code 83 = .ok (.iconst 1, 1) := by decide +kernel
theorem jd_Lw_law_84 : decode code 84 = .ok (.iadd, 1) := by decide +kernel
theorem jd_Lw_law_85 : decode code 85 = .ok (.iaload, 1) := by decide +kernel
theorem jd_Lw_law_86 : decode code 86 = .ok (.aload_n 0, 1) := by decide +kernel
theorem jd_Lw_law_87 : decode code 87 = .ok (.iload_n 3, 1) := by decide +kernel
theorem jd_Lw_law_88 : decode code 88 = .ok (.iconst 2, 1) := by decide +kernel
theorem jd_Lw_law_89 : decode code 89 = .ok (.iadd, 1) := by decide +kernel
theorem jd_Lw_law_90 : decode code 90 = .ok (.iaload, 1) := by decide +kernel
theorem jd_Lw_law_91 : decode code 91 = .ok (.invokevirtual 13, 3) := by decide +kernel
theorem jd_Lw_law_94 : decode code 94 = .ok (.aload_n 2, 1) := by decide +kernel
theorem jd_Lw_law_95 : decode code 95 = .ok (.aload_n 0, 1) := by decide +kernel
theorem jd_Lw_law_96 : decode code 96 = .ok (.iload_n 3, 1) := by decide +kernel
theorem jd_Lw_law_97 : decode code 97 = .ok (.iconst 1, 1) := by decide +kernel
theorem jd_Lw_law_98 : decode code 98 = .ok (.iadd, 1) := by decide +kernel
theorem jd_Lw_law_99 : decode code 99 = .ok (.iaload, 1) := by decide +kernel
theorem jd_Lw_law_100 : decode code 100 = .ok (.aload_n 0, 1) := by decide +kernel
theorem jd_Lw_law_101 : decode code 101 = .ok (.iload_n 3, 1) := by decide +kernel
theorem jd_Lw_law_102 : decode code 102 = .ok (.iconst 2, 1) := by decide +kernel
theorem jd_Lw_law_103 : decode code 103 = .ok (.iadd, 1) := by decide +kernel
theorem jd_Lw_law_104 : decode code 104 = .ok (.iaload, 1) := by decide +kernel
theorem jd_Lw_law_105 : decode code 105 = .ok (.invokevirtual 17, 3) := by decide +kernel
theorem jd_Lw_law_108 : decode code 108 = .ok (.if_icmp .eq 136, 3) := by decide +kernel
theorem jd_Lw_law_111 : decode code 111 = .ok (.iconst 0, 1) := by decide +kernel
theorem jd_Lw_law_112 : decode code 112 = .ok (.ireturn, 1) := by decide +kernel
theorem jd_Lw_law_113 : decode code 113 = .ok (.aload_n 1, 1) := by decide +kernel
theorem jd_Lw_law_114 : decode code 114 = .ok (.invokevirtual 18, 3) := by decide +kernel
theorem jd_Lw_law_117 : decode code 117 = .ok (.aload_n 2, 1) := by decide +kernel
theorem jd_Lw_law_118 : decode code 118 = .ok (.invokevirtual 22, 3) := by decide +kernel
theorem jd_Lw_law_121 : decode code 121 = .ok (.if_icmp .eq 123, 3) := by decide +kernel
theorem jd_Lw_law_124 : decode code 124 = .ok (.iconst 0, 1) := by decide +kernel
theorem jd_Lw_law_125 : decode code 125 = .ok (.ireturn, 1) := by decide +kernel
theorem jd_Lw_law_126 : decode code 126 = .ok (.aload_n 1, 1) := by decide +kernel
theorem jd_Lw_law_127 : decode code 127 = .ok (.invokevirtual 23, 3) := by decide +kernel
theorem jd_Lw_law_130 : decode code 130 = .ok (.aload_n 2, 1) := by decide +kernel
theorem jd_Lw_law_131 : decode code 131 = .ok (.invokevirtual 26, 3) := by decide +kernel
theorem jd_Lw_law_134 : decode code 134 = .ok (.if_icmp .eq 110, 3) := by decide +kernel
theorem jd_Lw_law_137 : decode code 137 = .ok (.iconst 0, 1) := by decide +kernel
theorem jd_Lw_law_138 : decode code 138 = .ok (.ireturn, 1) := by decide +kernel
theorem jd_Lw_law_139 : decode code 139 = .ok (.aload_n 1, 1) := by decide +kernel
theorem jd_Lw_law_140 : decode code 140 = .ok (.invokevirtual 27, 3) := by decide +kernel
theorem jd_Lw_law_143 : decode code 143 = .ok (.aload_n 2, 1) := by decide +kernel
theorem jd_Lw_law_144 : decode code 144 = .ok (.invokevirtual 30, 3) := by decide +kernel
theorem jd_Lw_law_147 : decode code 147 = .ok (.if_icmp .eq 97, 3) := by decide +kernel
theorem jd_Lw_law_150 : decode code 150 = .ok (.iconst 0, 1) := by decide +kernel
theorem jd_Lw_law_151 : decode code 151 = .ok (.ireturn, 1) := by decide +kernel
theorem jd_Lw_law_152 : decode code 152 = .ok (.aload_n 1, 1) := by decide +kernel
theorem jd_Lw_law_153 : decode code 153 = .ok (.aload_n 0, 1) := by decide +kernel
theorem jd_Lw_law_154 : decode code 154 = .ok (.iload_n 3, 1) := by decide +kernel
theorem jd_Lw_law_155 : decode code 155 = .ok (.iconst 1, 1) := by decide +kernel
theorem jd_Lw_law_156 : decode code 156 = .ok (.iadd, 1) := by decide +kernel
theorem jd_Lw_law_157 : decode code 157 = .ok (.iaload, 1) := by decide +kernel
theorem jd_Lw_law_158 : decode code 158 = .ok (.aload_n 0, 1) := by decide +kernel
theorem jd_Lw_law_159 : decode code 159 = .ok (.iload_n 3, 1) := by decide +kernel
theorem jd_Lw_law_160 : decode code 160 = .ok (.iconst 2, 1) := by decide +kernel
theorem jd_Lw_law_161 : decode code 161 = .ok (.iadd, 1) := by decide +kernel
theorem jd_Lw_law_162 : decode code 162 = .ok (.iaload, 1) := by decide +kernel
theorem jd_Lw_law_163 : decode code 163 = .ok (.invokevirtual 31, 3) := by decide +kernel
theorem jd_Lw_law_166 : decode code 166 = .ok (.aload_n 2, 1) := by decide +kernel
theorem jd_Lw_law_167 : decode code 167 = .ok (.aload_n 0, 1) := by decide +kernel
theorem jd_Lw_law_168 : decode code 168 = .ok (.iload_n 3, 1) := by decide +kernel
theorem jd_Lw_law_169 : decode code 169 = .ok (.iconst 1, 1) := by decide +kernel
theorem jd_Lw_law_170 : decode code 170 = .ok (.iadd, 1) := by decide +kernel
theorem jd_Lw_law_171 : decode code 171 = .ok (.iaload, 1) := by decide +kernel
theorem jd_Lw_law_172 : decode code 172 = .ok (.aload_n 0, 1) := by decide +kernel
theorem jd_Lw_law_173 : decode code 173 = .ok (.iload_n 3, 1) := by decide +kernel
theorem jd_Lw_law_174 : decode code 174 = .ok (.iconst 2, 1) := by decide +kernel
theorem jd_Lw_law_175 : decode code 175 = .ok (.iadd, 1) := by decide +kernel
theorem jd_Lw_law_176 : decode code 176 = .ok (.iaload, 1) := by decide +kernel
theorem jd_Lw_law_177 : decode code 177 = .ok (.invokevirtual 34, 3) := by decide +kernel
theorem jd_Lw_law_180 : decode code 180 = .ok (.if_icmp .eq 64, 3) := by decide +kernel
theorem jd_Lw_law_183 : decode code 183 = .ok (.iconst 0, 1) := by decide +kernel
theorem jd_Lw_law_184 : decode code 184 = .ok (.ireturn, 1) := by decide +kernel
theorem jd_Lw_law_185 : decode code 185 = .ok (.aload_n 1, 1) := by decide +kernel
theorem jd_Lw_law_186 : decode code 186 = .ok (.aload_n 0, 1) := by decide +kernel
theorem jd_Lw_law_187 : decode code 187 = .ok (.iload_n 3, 1) := by decide +kernel
theorem jd_Lw_law_188 : decode code 188 = .ok (.iconst 1, 1) := by decide +kernel
theorem jd_Lw_law_189 : decode code 189 = .ok (.iadd, 1) := by decide +kernel
theorem jd_Lw_law_190 : decode code 190 = .ok (.iaload, 1) := by decide +kernel
theorem jd_Lw_law_191 : decode code 191 = .ok (.invokevirtual 35, 3) := by decide +kernel
theorem jd_Lw_law_194 : decode code 194 = .ok (.aload_n 2, 1) := by decide +kernel
theorem jd_Lw_law_195 : decode code 195 = .ok (.aload_n 0, 1) := by decide +kernel
theorem jd_Lw_law_196 : decode code 196 = .ok (.iload_n 3, 1) := by decide +kernel
theorem jd_Lw_law_197 : decode code 197 = .ok (.iconst 1, 1) := by decide +kernel
theorem jd_Lw_law_198 : decode code 198 = .ok (.iadd, 1) := by decide +kernel
theorem jd_Lw_law_199 : decode code 199 = .ok (.iaload, 1) := by decide +kernel
theorem jd_Lw_law_200 : decode code 200 = .ok (.invokevirtual 39, 3) := by decide +kernel
theorem jd_Lw_law_203 : decode code 203 = .ok (.if_icmp .eq 41, 3) := by decide +kernel
theorem jd_Lw_law_206 : decode code 206 = .ok (.iconst 0, 1) := by decide +kernel
theorem jd_Lw_law_207 : decode code 207 = .ok (.ireturn, 1) := by decide +kernel
theorem jd_Lw_law_208 : decode code 208 = .ok (.aload_n 1, 1) := by decide +kernel
theorem jd_Lw_law_209 : decode code 209 = .ok (.invokevirtual 40, 3) := by decide +kernel
theorem jd_Lw_law_212 : decode code 212 = .ok (.aload_n 2, 1) := by decide +kernel
theorem jd_Lw_law_213 : decode code 213 = .ok (.invokevirtual 43, 3) := by decide +kernel
theorem jd_Lw_law_216 : decode code 216 = .ok (.if_icmp .eq 28, 3) := by decide +kernel
theorem jd_Lw_law_219 : decode code 219 = .ok (.iconst 0, 1) := by decide +kernel
theorem jd_Lw_law_220 : decode code 220 = .ok (.ireturn, 1) := by decide +kernel
theorem jd_Lw_law_221 : decode code 221 = .ok (.aload_n 1, 1) := by decide +kernel
theorem jd_Lw_law_222 : decode code 222 = .ok (.aload_n 0, 1) := by decide +kernel
theorem jd_Lw_law_223 : decode code 223 = .ok (.iload_n 3, 1) := by decide +kernel
theorem jd_Lw_law_224 : decode code 224 = .ok (.iconst 1, 1) := by decide +kernel
theorem jd_Lw_law_225 : decode code 225 = .ok (.iadd, 1) := by decide +kernel
theorem jd_Lw_law_226 : decode code 226 = .ok (.iaload, 1) := by decide +kernel
theorem jd_Lw_law_227 : decode code 227 = .ok (.invokevirtual 44, 3) := by decide +kernel
theorem jd_Lw_law_230 : decode code 230 = .ok (.aload_n 2, 1) := by decide +kernel
theorem jd_Lw_law_231 : decode code 231 = .ok (.aload_n 0, 1) := by decide +kernel
theorem jd_Lw_law_232 : decode code 232 = .ok (.iload_n 3, 1) := by decide +kernel
theorem jd_Lw_law_233 : decode code 233 = .ok (.iconst 1, 1) := by decide +kernel
theorem jd_Lw_law_234 : decode code 234 = .ok (.iadd, 1) := by decide +kernel
theorem jd_Lw_law_235 : decode code 235 = .ok (.iaload, 1) := by decide +kernel
theorem jd_Lw_law_236 : decode code 236 = .ok (.invokevirtual 47, 3) := by decide +kernel
theorem jd_Lw_law_239 : decode code 239 = .ok (.if_icmp .eq 5, 3) := by decide +kernel
theorem jd_Lw_law_242 : decode code 242 = .ok (.iconst 0, 1) := by decide +kernel
theorem jd_Lw_law_243 : decode code 243 = .ok (.ireturn, 1) := by decide +kernel
theorem jd_Lw_law_244 : decode code 244 = .ok (.iinc 3 3, 3) := by decide +kernel
theorem jd_Lw_law_247 : decode code 247 = .ok (.goto (-229), 3) := by decide +kernel
theorem jd_Lw_law_250 : decode code 250 = .ok (.iconst 1, 1) := by decide +kernel
theorem jd_Lw_law_251 : decode code 251 = .ok (.ireturn, 1) := by decide +kernel
theorem jd_Ar_fill_0 : decode jb_Ar_fill 0 = .ok (.iconst 0, 1) := by decide +kernel
theorem jd_Ar_fill_1 : decode jb_Ar_fill 1 = .ok (.istore_n 2, 1) := by decide +kernel
theorem jd_Ar_fill_2 : decode jb_Ar_fill 2 = .ok (.aload_n 0, 1) := by decide +kernel
theorem jd_Ar_fill_3 : decode jb_Ar_fill 3 = .ok (.arraylength, 1) := by decide +kernel
theorem jd_Ar_fill_4 : decode jb_Ar_fill 4 = .ok (.istore_n 3, 1) := by decide +kernel
theorem jd_Ar_fill_5 : decode jb_Ar_fill 5 = .ok (.iload_n 2, 1) := by decide +kernel
theorem jd_Ar_fill_6 : decode jb_Ar_fill 6 = .ok (.iload_n 3, 1) := by decide +kernel
theorem jd_Ar_fill_7 : decode jb_Ar_fill 7 = .ok (.if_icmp .ge 13, 3) := by decide +kernel
theorem jd_Ar_fill_10 : decode jb_Ar_fill 10 = .ok (.aload_n 0, 1) := by decide +kernel
theorem jd_Ar_fill_11 : decode jb_Ar_fill 11 = .ok (.iload_n 2, 1) := by decide +kernel
theorem jd_Ar_fill_12 : decode jb_Ar_fill 12 = .ok (.iload_n 1, 1) := by decide +kernel
theorem jd_Ar_fill_13 : decode jb_Ar_fill 13 = .ok (.bastore, 1) := by decide +kernel
theorem jd_Ar_fill_14 : decode jb_Ar_fill 14 = .ok (.iinc 2 1, 3) := by decide +kernel
theorem jd_Ar_fill_17 : decode jb_Ar_fill 17 = .ok (.goto (-12), 3) := by decide +kernel
theorem jd_Ar_fill_20 : decode jb_Ar_fill 20 = .ok (.return_, 1) := by decide +kernel
end
section
theorem js_w_nat : Cond.native arraycopyName ∈ js_all := jk_130
theorem js_w_stat : Cond.static arraycopyName ∈ js_all := jk_129
theorem js_w_sys : Cond.initialized "java/lang/System" ∈ js_all := jk_5
theorem js_w_mstat : Cond.static Lib.Math.max.name ∈ js_all := jk_194
theorem js_w_mini : Cond.initialized "java/lang/Math" ∈ js_all := jk_7
theorem js_w_mcode : Cond.code Lib.Math.max.name Lib.Math.max.code 2 (some .int) ∈ js_all := jk_195
/-- the array classes -/
abbrev js_tys (cB cI : ClassId) : List (ClassId × FieldType) := [(cB, .byte), (cI, .int)]
def js_NW (U : State) : Prop := ∀ w ∈ js_nest, va_Nw w U
theorem js_NW.warm {s U : State} (hW : s.WarmedH U.vm) (h : js_NW s) : js_NW U := by
  intro w hw
  have h0 := h w hw
  simp only [js_nest, List.mem_cons, List.not_mem_nil, or_false] at hw
  rcases hw with rfl | rfl | rfl | rfl | rfl | rfl | rfl | rfl | rfl <;> first | exact va_Nw.warmF hW h0 | exact va_Nw.warmM hW h0
theorem js_NW.blind {U V : State} (hv : U.vm = V.vm) (h : js_NW U) : js_NW V := by
  intro w hw
  have h0 := h w hw
  simp only [js_nest, List.mem_cons, List.not_mem_nil, or_false] at hw
  rcases hw with rfl | rfl | rfl | rfl | rfl | rfl | rfl | rfl | rfl <;> exact va_Nw.same rfl hv h0
/-- what a method knows of the machine and of the tables, all along its way -/
def CX (p : Program) (s : State) (m : MethodId) (args : Array Value) (c : Code) (cc : ByteArray) (own : String) (nL : Nat) (D : va_G) (cB cI : ClassId) : Prop :=
  p.tables.exec = Jvm.exec ∧ c.code = cc ∧ c.maxLocals = nL ∧ s.vm.findClass own = some m.cls ∧ (∀ w ∈ js_all, w.before args s = true) ∧ va_K D js_cls (js_tys cB cI) s ∧ js_NW s
/-- the machine at pc, with the world ws, the locals lv, the operands st: it comes to Q -/
def VV (p : Program) (l : Launch) (e : Env) (R : Room) (s : State) (m : MethodId) (args : Array Value) (below : List Frame) (meth : Method) (c : Code) (D : va_G) (A : Nat → Prop) (nL cells slots : Nat) (Q : State → Prop) (ws : va_W) (lv : List (Nat × Value)) (pc : Nat) (st : List Value) : Prop :=
  ∀ (H : Heap) (ls : Array Slot) (locs : List Loc), va_P D js_cls ws H → va_D A ws → va_S A s.heap H locs → lv_has ls nL lv → W p l e R s m args below meth c H locs cells slots Q (F0 m pc ls st)
section VL
variable {p : Program} {l : Launch} {e : Env} {R : Room} {s : State} {m : MethodId} {args : Array Value} {below : List Frame} {meth : Method} {c : Code} {Q : State → Prop}
variable {D : va_G} {A : Nat → Prop} {cc : ByteArray} {own : String} {nL cells slots pc : Nat} {cB cI : ClassId} {ws ws' : va_W} {lv lv' : List (Nat × Value)} {st : List Value}
theorem vv_eq {st2 : List Value} (h : st = st2) (k : VV p l e R s m args below meth c D A nL (cells) (slots) (Q) (ws) (lv) (pc) (st2)) : VV p l e R s m args below meth c D A nL (cells) (slots) (Q) (ws) (lv) (pc) (st) := h ▸ k
theorem vv_lv (ks : List Nat) (h : lv_pick lv ks = lv') (k : VV p l e R s m args below meth c D A nL (cells) (slots) (Q) (ws) (lv') (pc) (st)) : VV p l e R s m args below meth c D A nL (cells) (slots) (Q) (ws) (lv) (pc) (st) := fun H ls locs hP hD hS hl => k H ls locs hP hD hS (lv_sub hl ks h)
theorem vv_ws (h : ws = ws') (k : VV p l e R s m args below meth c D A nL (cells) (slots) (Q) (ws') (lv) (pc) (st)) : VV p l e R s m args below meth c D A nL (cells) (slots) (Q) (ws) (lv) (pc) (st) := h ▸ k
theorem vv_iconst (X : CX p s m args c cc own nL D cB cI) {n : Int} {v : Int32} (d : decode cc pc = .ok (.iconst n, 1)) (hv : Int32.ofInt n = v) (k : VV p l e R s m args below meth c D A nL (cells) (slots) (Q) (ws) (lv) (pc + 1) (.int v :: st)) : VV p l e R s m args below meth c D A nL (cells) (slots) (Q) (ws) (lv) (pc) (st) := fun H ls locs hP hD hS hl => lv_iconst X.1 X.2.1 d hv (k H ls locs hP hD hS hl)
theorem vv_bipush (X : CX p s m args c cc own nL D cB cI) {n : Int} {v : Int32} (d : decode cc pc = .ok (.bipush n, 2)) (hv : (Int8.ofInt n).toInt32 = v) (k : VV p l e R s m args below meth c D A nL (cells) (slots) (Q) (ws) (lv) (pc + 2) (.int v :: st)) : VV p l e R s m args below meth c D A nL (cells) (slots) (Q) (ws) (lv) (pc) (st) := fun H ls locs hP hD hS hl => lv_bipush X.1 X.2.1 d hv (k H ls locs hP hD hS hl)
theorem vv_sipush (X : CX p s m args c cc own nL D cB cI) {n : Int} {v : Int32} (d : decode cc pc = .ok (.sipush n, 3)) (hv : (Int16.ofInt n).toInt32 = v) (k : VV p l e R s m args below meth c D A nL (cells) (slots) (Q) (ws) (lv) (pc + 3) (.int v :: st)) : VV p l e R s m args below meth c D A nL (cells) (slots) (Q) (ws) (lv) (pc) (st) := fun H ls locs hP hD hS hl => lv_sipush X.1 X.2.1 d hv (k H ls locs hP hD hS hl)
theorem vv_ldc (X : CX p s m args c cc own nL D cB cI) {index : Nat} {v : Int32} (hw : Cond.constant own index v ∈ js_all) (d : decode cc pc = .ok (.ldc index, 2)) (k : VV p l e R s m args below meth c D A nL (cells) (slots) (Q) (ws) (lv) (pc + 2) (.int v :: st)) : VV p l e R s m args below meth c D A nL (cells) (slots) (Q) (ws) (lv) (pc) (st) := fun H ls locs hP hD hS hl => lv_ldc X.1 X.2.1 X.2.2.2.1 (X.2.2.2.2.1 _ hw) d (k H ls locs hP hD hS hl)
theorem vv_iload_n (X : CX p s m args c cc own nL D cB cI) {j : Fin 4} {i : Nat} {x : Int32} (d : decode cc pc = .ok (.iload_n j, 1)) (q : Nat) (hi : (j : Nat) = i) (hq : lv[q]? = some (i, .int x)) (k : VV p l e R s m args below meth c D A nL (cells) (slots) (Q) (ws) (lv) (pc + 1) (.int x :: st)) : VV p l e R s m args below meth c D A nL (cells) (slots) (Q) (ws) (lv) (pc) (st) := fun H ls locs hP hD hS hl => lv_iload_n X.1 X.2.1 d hi (lv_at hl q hq) (k H ls locs hP hD hS hl)
theorem vv_iload (X : CX p s m args c cc own nL D cB cI) {i : Nat} {x : Int32} (d : decode cc pc = .ok (.iload i, 2)) (q : Nat) (hq : lv[q]? = some (i, .int x)) (k : VV p l e R s m args below meth c D A nL (cells) (slots) (Q) (ws) (lv) (pc + 2) (.int x :: st)) : VV p l e R s m args below meth c D A nL (cells) (slots) (Q) (ws) (lv) (pc) (st) := fun H ls locs hP hD hS hl => lv_iload X.1 X.2.1 d (lv_at hl q hq) (k H ls locs hP hD hS hl)
theorem vv_istore_n (X : CX p s m args c cc own nL D cB cI) {j : Fin 4} {i : Nat} {x : Int32} (d : decode cc pc = .ok (.istore_n j, 1)) (ks : List Nat) (hi : (j : Nat) = i) (hn : i < nL) (hp : lv_pick ((i, .int x) :: lv.filter (fun q => !(q.1 == i) && !(q.1 + 1 == i && q.2.category == 2))) ks = lv') (k : VV p l e R s m args below meth c D A nL (cells) (slots) (Q) (ws) (lv') (pc + 1) (st)) : VV p l e R s m args below meth c D A nL (cells) (slots) (Q) (ws) (lv) (pc) (.int x :: st) := fun H ls locs hP hD hS hl => lv_istore_n X.1 X.2.1 d hi hl hn rfl (fun ls1 hl1 => k H ls1 locs hP hD hS (lv_sub hl1 ks hp))
theorem vv_istore (X : CX p s m args c cc own nL D cB cI) {i : Nat} {x : Int32} (d : decode cc pc = .ok (.istore i, 2)) (ks : List Nat) (hn : i < nL) (hp : lv_pick ((i, .int x) :: lv.filter (fun q => !(q.1 == i) && !(q.1 + 1 == i && q.2.category == 2))) ks = lv') (k : VV p l e R s m args below meth c D A nL (cells) (slots) (Q) (ws) (lv') (pc + 2) (st)) : VV p l e R s m args below meth c D A nL (cells) (slots) (Q) (ws) (lv) (pc) (.int x :: st) := fun H ls locs hP hD hS hl => lv_istore X.1 X.2.1 d hl hn rfl (fun ls1 hl1 => k H ls1 locs hP hD hS (lv_sub hl1 ks hp))
theorem vv_aload_n (X : CX p s m args c cc own nL D cB cI) {j : Fin 4} {i : Nat} {x : Nat} (d : decode cc pc = .ok (.aload_n j, 1)) (q : Nat) (hi : (j : Nat) = i) (hq : lv[q]? = some (i, .ref x)) (k : VV p l e R s m args below meth c D A nL (cells) (slots) (Q) (ws) (lv) (pc + 1) (.ref x :: st)) : VV p l e R s m args below meth c D A nL (cells) (slots) (Q) (ws) (lv) (pc) (st) := fun H ls locs hP hD hS hl => lv_aload_n X.1 X.2.1 d hi (lv_at hl q hq) (k H ls locs hP hD hS hl)
theorem vv_aload (X : CX p s m args c cc own nL D cB cI) {i : Nat} {x : Nat} (d : decode cc pc = .ok (.aload i, 2)) (q : Nat) (hq : lv[q]? = some (i, .ref x)) (k : VV p l e R s m args below meth c D A nL (cells) (slots) (Q) (ws) (lv) (pc + 2) (.ref x :: st)) : VV p l e R s m args below meth c D A nL (cells) (slots) (Q) (ws) (lv) (pc) (st) := fun H ls locs hP hD hS hl => lv_aload X.1 X.2.1 d (lv_at hl q hq) (k H ls locs hP hD hS hl)
theorem vv_astore_n (X : CX p s m args c cc own nL D cB cI) {j : Fin 4} {i : Nat} {x : Nat} (d : decode cc pc = .ok (.astore_n j, 1)) (ks : List Nat) (hi : (j : Nat) = i) (hn : i < nL) (hp : lv_pick ((i, .ref x) :: lv.filter (fun q => !(q.1 == i) && !(q.1 + 1 == i && q.2.category == 2))) ks = lv') (k : VV p l e R s m args below meth c D A nL (cells) (slots) (Q) (ws) (lv') (pc + 1) (st)) : VV p l e R s m args below meth c D A nL (cells) (slots) (Q) (ws) (lv) (pc) (.ref x :: st) := fun H ls locs hP hD hS hl => lv_astore_n X.1 X.2.1 d hi hl hn rfl (fun ls1 hl1 => k H ls1 locs hP hD hS (lv_sub hl1 ks hp))
theorem vv_astore (X : CX p s m args c cc own nL D cB cI) {i : Nat} {x : Nat} (d : decode cc pc = .ok (.astore i, 2)) (ks : List Nat) (hn : i < nL) (hp : lv_pick ((i, .ref x) :: lv.filter (fun q => !(q.1 == i) && !(q.1 + 1 == i && q.2.category == 2))) ks = lv') (k : VV p l e R s m args below meth c D A nL (cells) (slots) (Q) (ws) (lv') (pc + 2) (st)) : VV p l e R s m args below meth c D A nL (cells) (slots) (Q) (ws) (lv) (pc) (.ref x :: st) := fun H ls locs hP hD hS hl => lv_astore X.1 X.2.1 d hl hn rfl (fun ls1 hl1 => k H ls1 locs hP hD hS (lv_sub hl1 ks hp))
theorem vv_iinc (X : CX p s m args c cc own nL D cB cI) {i : Nat} {n : Int} {x v : Int32} (d : decode cc pc = .ok (.iinc i n, 3)) (q : Nat) (ks : List Nat) (hq : lv[q]? = some (i, .int x)) (hv : x + Int32.ofInt n = v) (hn : i < nL) (hp : lv_pick ((i, .int v) :: lv.filter (fun q => !(q.1 == i) && !(q.1 + 1 == i && q.2.category == 2))) ks = lv') (k : VV p l e R s m args below meth c D A nL (cells) (slots) (Q) (ws) (lv') (pc + 3) (st)) : VV p l e R s m args below meth c D A nL (cells) (slots) (Q) (ws) (lv) (pc) (st) := fun H ls locs hP hD hS hl => lv_iinc X.1 X.2.1 d hl hq hv hn rfl (fun ls1 hl1 => k H ls1 locs hP hD hS (lv_sub hl1 ks hp))
theorem vv_iadd (X : CX p s m args c cc own nL D cB cI) {x y z : Int32} (d : decode cc pc = .ok (.iadd, 1)) (hz : x + y = z) (k : VV p l e R s m args below meth c D A nL (cells) (slots) (Q) (ws) (lv) (pc + 1) (.int z :: st)) : VV p l e R s m args below meth c D A nL (cells) (slots) (Q) (ws) (lv) (pc) (.int y :: .int x :: st) := fun H ls locs hP hD hS hl => by subst hz; exact lv_iadd X.1 X.2.1 d (k H ls locs hP hD hS hl)
theorem vv_isub (X : CX p s m args c cc own nL D cB cI) {x y z : Int32} (d : decode cc pc = .ok (.isub, 1)) (hz : x - y = z) (k : VV p l e R s m args below meth c D A nL (cells) (slots) (Q) (ws) (lv) (pc + 1) (.int z :: st)) : VV p l e R s m args below meth c D A nL (cells) (slots) (Q) (ws) (lv) (pc) (.int y :: .int x :: st) := fun H ls locs hP hD hS hl => by subst hz; exact lv_isub X.1 X.2.1 d (k H ls locs hP hD hS hl)
theorem vv_imul (X : CX p s m args c cc own nL D cB cI) {x y z : Int32} (d : decode cc pc = .ok (.imul, 1)) (hz : x * y = z) (k : VV p l e R s m args below meth c D A nL (cells) (slots) (Q) (ws) (lv) (pc + 1) (.int z :: st)) : VV p l e R s m args below meth c D A nL (cells) (slots) (Q) (ws) (lv) (pc) (.int y :: .int x :: st) := fun H ls locs hP hD hS hl => by subst hz; exact lv_imul X.1 X.2.1 d (k H ls locs hP hD hS hl)
theorem vv_iand (X : CX p s m args c cc own nL D cB cI) {x y z : Int32} (d : decode cc pc = .ok (.iand, 1)) (hz : x &&& y = z) (k : VV p l e R s m args below meth c D A nL (cells) (slots) (Q) (ws) (lv) (pc + 1) (.int z :: st)) : VV p l e R s m args below meth c D A nL (cells) (slots) (Q) (ws) (lv) (pc) (.int y :: .int x :: st) := fun H ls locs hP hD hS hl => by subst hz; exact lv_iand X.1 X.2.1 d (k H ls locs hP hD hS hl)
theorem vv_ior (X : CX p s m args c cc own nL D cB cI) {x y z : Int32} (d : decode cc pc = .ok (.ior, 1)) (hz : x ||| y = z) (k : VV p l e R s m args below meth c D A nL (cells) (slots) (Q) (ws) (lv) (pc + 1) (.int z :: st)) : VV p l e R s m args below meth c D A nL (cells) (slots) (Q) (ws) (lv) (pc) (.int y :: .int x :: st) := fun H ls locs hP hD hS hl => by subst hz; exact lv_ior X.1 X.2.1 d (k H ls locs hP hD hS hl)
theorem vv_ixor (X : CX p s m args c cc own nL D cB cI) {x y z : Int32} (d : decode cc pc = .ok (.ixor, 1)) (hz : x ^^^ y = z) (k : VV p l e R s m args below meth c D A nL (cells) (slots) (Q) (ws) (lv) (pc + 1) (.int z :: st)) : VV p l e R s m args below meth c D A nL (cells) (slots) (Q) (ws) (lv) (pc) (.int y :: .int x :: st) := fun H ls locs hP hD hS hl => by subst hz; exact lv_ixor X.1 X.2.1 d (k H ls locs hP hD hS hl)
theorem vv_ishl (X : CX p s m args c cc own nL D cB cI) {x y z : Int32} (d : decode cc pc = .ok (.ishl, 1)) (hz : x <<< (y &&& 31) = z) (k : VV p l e R s m args below meth c D A nL (cells) (slots) (Q) (ws) (lv) (pc + 1) (.int z :: st)) : VV p l e R s m args below meth c D A nL (cells) (slots) (Q) (ws) (lv) (pc) (.int y :: .int x :: st) := fun H ls locs hP hD hS hl => by subst hz; exact lv_ishl X.1 X.2.1 d (k H ls locs hP hD hS hl)
theorem vv_ishr (X : CX p s m args c cc own nL D cB cI) {x y z : Int32} (d : decode cc pc = .ok (.ishr, 1)) (hz : x >>> (y &&& 31) = z) (k : VV p l e R s m args below meth c D A nL (cells) (slots) (Q) (ws) (lv) (pc + 1) (.int z :: st)) : VV p l e R s m args below meth c D A nL (cells) (slots) (Q) (ws) (lv) (pc) (.int y :: .int x :: st) := fun H ls locs hP hD hS hl => by subst hz; exact lv_ishr X.1 X.2.1 d (k H ls locs hP hD hS hl)
theorem vv_irem (X : CX p s m args c cc own nL D cB cI) {x y z : Int32} (d : decode cc pc = .ok (.irem, 1)) (hne : ¬ y = 0) (hz : x - x / y * y = z) (k : VV p l e R s m args below meth c D A nL (cells) (slots) (Q) (ws) (lv) (pc + 1) (.int z :: st)) : VV p l e R s m args below meth c D A nL (cells) (slots) (Q) (ws) (lv) (pc) (.int y :: .int x :: st) := fun H ls locs hP hD hS hl => by subst hz; exact lv_irem X.1 X.2.1 d hne (k H ls locs hP hD hS hl)
theorem vv_i2b (X : CX p s m args c cc own nL D cB cI) {x z : Int32} (d : decode cc pc = .ok (.i2b, 1)) (hz : x.toInt8.toInt32 = z) (k : VV p l e R s m args below meth c D A nL (cells) (slots) (Q) (ws) (lv) (pc + 1) (.int z :: st)) : VV p l e R s m args below meth c D A nL (cells) (slots) (Q) (ws) (lv) (pc) (.int x :: st) := fun H ls locs hP hD hS hl => lv_i2b X.1 X.2.1 d hz (k H ls locs hP hD hS hl)
theorem vv_dup (X : CX p s m args c cc own nL D cB cI) {va : Value} (d : decode cc pc = .ok (.dup, 1)) (hva : va.category = 1) (k : VV p l e R s m args below meth c D A nL (cells) (slots) (Q) (ws) (lv) (pc + 1) (va :: va :: st)) : VV p l e R s m args below meth c D A nL (cells) (slots) (Q) (ws) (lv) (pc) (va :: st) := fun H ls locs hP hD hS hl => lv_dup X.1 X.2.1 d hva (k H ls locs hP hD hS hl)
theorem vv_pop (X : CX p s m args c cc own nL D cB cI) {va : Value} (d : decode cc pc = .ok (.pop, 1)) (hva : va.category = 1) (k : VV p l e R s m args below meth c D A nL (cells) (slots) (Q) (ws) (lv) (pc + 1) (st)) : VV p l e R s m args below meth c D A nL (cells) (slots) (Q) (ws) (lv) (pc) (va :: st) := fun H ls locs hP hD hS hl => lv_pop X.1 X.2.1 d hva (k H ls locs hP hD hS hl)
theorem vv_if_eq (X : CX p s m args c cc own nL D cB cI) {x : Int32} {off : Int} {tgt : Nat} (d : decode cc pc = .ok (.ifCond .eq off, 3)) (ht : (pc : Int) + off = (tgt : Int)) (kt : x = 0 → VV p l e R s m args below meth c D A nL (cells) (slots) (Q) (ws) (lv) (tgt) (st)) (kf : ¬ x = 0 → VV p l e R s m args below meth c D A nL (cells) (slots) (Q) (ws) (lv) (pc + 3) (st)) : VV p l e R s m args below meth c D A nL (cells) (slots) (Q) (ws) (lv) (pc) (.int x :: st) := fun H ls locs hP hD hS hl => lv_if_eq X.1 X.2.1 d ht (fun h => kt h H ls locs hP hD hS hl) (fun h => kf h H ls locs hP hD hS hl)
theorem vv_icmp_eq (X : CX p s m args c cc own nL D cB cI) {x y : Int32} {off : Int} {tgt : Nat} (d : decode cc pc = .ok (.if_icmp .eq off, 3)) (ht : (pc : Int) + off = (tgt : Int)) (kt : x = y → VV p l e R s m args below meth c D A nL (cells) (slots) (Q) (ws) (lv) (tgt) (st)) (kf : ¬ x = y → VV p l e R s m args below meth c D A nL (cells) (slots) (Q) (ws) (lv) (pc + 3) (st)) : VV p l e R s m args below meth c D A nL (cells) (slots) (Q) (ws) (lv) (pc) (.int y :: .int x :: st) := fun H ls locs hP hD hS hl => lv_icmp_eq X.1 X.2.1 d ht (fun h => kt h H ls locs hP hD hS hl) (fun h => kf h H ls locs hP hD hS hl)
theorem vv_if_ne (X : CX p s m args c cc own nL D cB cI) {x : Int32} {off : Int} {tgt : Nat} (d : decode cc pc = .ok (.ifCond .ne off, 3)) (ht : (pc : Int) + off = (tgt : Int)) (kt : ¬ x = 0 → VV p l e R s m args below meth c D A nL (cells) (slots) (Q) (ws) (lv) (tgt) (st)) (kf : x = 0 → VV p l e R s m args below meth c D A nL (cells) (slots) (Q) (ws) (lv) (pc + 3) (st)) : VV p l e R s m args below meth c D A nL (cells) (slots) (Q) (ws) (lv) (pc) (.int x :: st) := fun H ls locs hP hD hS hl => lv_if_ne X.1 X.2.1 d ht (fun h => kt h H ls locs hP hD hS hl) (fun h => kf h H ls locs hP hD hS hl)
theorem vv_icmp_ne (X : CX p s m args c cc own nL D cB cI) {x y : Int32} {off : Int} {tgt : Nat} (d : decode cc pc = .ok (.if_icmp .ne off, 3)) (ht : (pc : Int) + off = (tgt : Int)) (kt : ¬ x = y → VV p l e R s m args below meth c D A nL (cells) (slots) (Q) (ws) (lv) (tgt) (st)) (kf : x = y → VV p l e R s m args below meth c D A nL (cells) (slots) (Q) (ws) (lv) (pc + 3) (st)) : VV p l e R s m args below meth c D A nL (cells) (slots) (Q) (ws) (lv) (pc) (.int y :: .int x :: st) := fun H ls locs hP hD hS hl => lv_icmp_ne X.1 X.2.1 d ht (fun h => kt h H ls locs hP hD hS hl) (fun h => kf h H ls locs hP hD hS hl)
theorem vv_if_lt (X : CX p s m args c cc own nL D cB cI) {x : Int32} {off : Int} {tgt : Nat} (d : decode cc pc = .ok (.ifCond .lt off, 3)) (ht : (pc : Int) + off = (tgt : Int)) (kt : x < 0 → VV p l e R s m args below meth c D A nL (cells) (slots) (Q) (ws) (lv) (tgt) (st)) (kf : ¬ x < 0 → VV p l e R s m args below meth c D A nL (cells) (slots) (Q) (ws) (lv) (pc + 3) (st)) : VV p l e R s m args below meth c D A nL (cells) (slots) (Q) (ws) (lv) (pc) (.int x :: st) := fun H ls locs hP hD hS hl => lv_if_lt X.1 X.2.1 d ht (fun h => kt h H ls locs hP hD hS hl) (fun h => kf h H ls locs hP hD hS hl)
theorem vv_icmp_lt (X : CX p s m args c cc own nL D cB cI) {x y : Int32} {off : Int} {tgt : Nat} (d : decode cc pc = .ok (.if_icmp .lt off, 3)) (ht : (pc : Int) + off = (tgt : Int)) (kt : x < y → VV p l e R s m args below meth c D A nL (cells) (slots) (Q) (ws) (lv) (tgt) (st)) (kf : ¬ x < y → VV p l e R s m args below meth c D A nL (cells) (slots) (Q) (ws) (lv) (pc + 3) (st)) : VV p l e R s m args below meth c D A nL (cells) (slots) (Q) (ws) (lv) (pc) (.int y :: .int x :: st) := fun H ls locs hP hD hS hl => lv_icmp_lt X.1 X.2.1 d ht (fun h => kt h H ls locs hP hD hS hl) (fun h => kf h H ls locs hP hD hS hl)
theorem vv_if_ge (X : CX p s m args c cc own nL D cB cI) {x : Int32} {off : Int} {tgt : Nat} (d : decode cc pc = .ok (.ifCond .ge off, 3)) (ht : (pc : Int) + off = (tgt : Int)) (kt : 0 ≤ x → VV p l e R s m args below meth c D A nL (cells) (slots) (Q) (ws) (lv) (tgt) (st)) (kf : ¬ 0 ≤ x → VV p l e R s m args below meth c D A nL (cells) (slots) (Q) (ws) (lv) (pc + 3) (st)) : VV p l e R s m args below meth c D A nL (cells) (slots) (Q) (ws) (lv) (pc) (.int x :: st) := fun H ls locs hP hD hS hl => lv_if_ge X.1 X.2.1 d ht (fun h => kt h H ls locs hP hD hS hl) (fun h => kf h H ls locs hP hD hS hl)
theorem vv_icmp_ge (X : CX p s m args c cc own nL D cB cI) {x y : Int32} {off : Int} {tgt : Nat} (d : decode cc pc = .ok (.if_icmp .ge off, 3)) (ht : (pc : Int) + off = (tgt : Int)) (kt : y ≤ x → VV p l e R s m args below meth c D A nL (cells) (slots) (Q) (ws) (lv) (tgt) (st)) (kf : ¬ y ≤ x → VV p l e R s m args below meth c D A nL (cells) (slots) (Q) (ws) (lv) (pc + 3) (st)) : VV p l e R s m args below meth c D A nL (cells) (slots) (Q) (ws) (lv) (pc) (.int y :: .int x :: st) := fun H ls locs hP hD hS hl => lv_icmp_ge X.1 X.2.1 d ht (fun h => kt h H ls locs hP hD hS hl) (fun h => kf h H ls locs hP hD hS hl)
theorem vv_if_gt (X : CX p s m args c cc own nL D cB cI) {x : Int32} {off : Int} {tgt : Nat} (d : decode cc pc = .ok (.ifCond .gt off, 3)) (ht : (pc : Int) + off = (tgt : Int)) (kt : 0 < x → VV p l e R s m args below meth c D A nL (cells) (slots) (Q) (ws) (lv) (tgt) (st)) (kf : ¬ 0 < x → VV p l e R s m args below meth c D A nL (cells) (slots) (Q) (ws) (lv) (pc + 3) (st)) : VV p l e R s m args below meth c D A nL (cells) (slots) (Q) (ws) (lv) (pc) (.int x :: st) := fun H ls locs hP hD hS hl => lv_if_gt X.1 X.2.1 d ht (fun h => kt h H ls locs hP hD hS hl) (fun h => kf h H ls locs hP hD hS hl)
theorem vv_icmp_gt (X : CX p s m args c cc own nL D cB cI) {x y : Int32} {off : Int} {tgt : Nat} (d : decode cc pc = .ok (.if_icmp .gt off, 3)) (ht : (pc : Int) + off = (tgt : Int)) (kt : y < x → VV p l e R s m args below meth c D A nL (cells) (slots) (Q) (ws) (lv) (tgt) (st)) (kf : ¬ y < x → VV p l e R s m args below meth c D A nL (cells) (slots) (Q) (ws) (lv) (pc + 3) (st)) : VV p l e R s m args below meth c D A nL (cells) (slots) (Q) (ws) (lv) (pc) (.int y :: .int x :: st) := fun H ls locs hP hD hS hl => lv_icmp_gt X.1 X.2.1 d ht (fun h => kt h H ls locs hP hD hS hl) (fun h => kf h H ls locs hP hD hS hl)
theorem vv_if_le (X : CX p s m args c cc own nL D cB cI) {x : Int32} {off : Int} {tgt : Nat} (d : decode cc pc = .ok (.ifCond .le off, 3)) (ht : (pc : Int) + off = (tgt : Int)) (kt : x ≤ 0 → VV p l e R s m args below meth c D A nL (cells) (slots) (Q) (ws) (lv) (tgt) (st)) (kf : ¬ x ≤ 0 → VV p l e R s m args below meth c D A nL (cells) (slots) (Q) (ws) (lv) (pc + 3) (st)) : VV p l e R s m args below meth c D A nL (cells) (slots) (Q) (ws) (lv) (pc) (.int x :: st) := fun H ls locs hP hD hS hl => lv_if_le X.1 X.2.1 d ht (fun h => kt h H ls locs hP hD hS hl) (fun h => kf h H ls locs hP hD hS hl)
theorem vv_icmp_le (X : CX p s m args c cc own nL D cB cI) {x y : Int32} {off : Int} {tgt : Nat} (d : decode cc pc = .ok (.if_icmp .le off, 3)) (ht : (pc : Int) + off = (tgt : Int)) (kt : x ≤ y → VV p l e R s m args below meth c D A nL (cells) (slots) (Q) (ws) (lv) (tgt) (st)) (kf : ¬ x ≤ y → VV p l e R s m args below meth c D A nL (cells) (slots) (Q) (ws) (lv) (pc + 3) (st)) : VV p l e R s m args below meth c D A nL (cells) (slots) (Q) (ws) (lv) (pc) (.int y :: .int x :: st) := fun H ls locs hP hD hS hl => lv_icmp_le X.1 X.2.1 d ht (fun h => kt h H ls locs hP hD hS hl) (fun h => kf h H ls locs hP hD hS hl)
theorem vv_goto (X : CX p s m args c cc own nL D cB cI) {off : Int} {tgt : Nat} (d : decode cc pc = .ok (.goto off, 3)) (ht : (pc : Int) + off = (tgt : Int)) (k : VV p l e R s m args below meth c D A nL (cells) (slots) (Q) (ws) (lv) (tgt) (st)) : VV p l e R s m args below meth c D A nL (cells) (slots) (Q) (ws) (lv) (pc) (st) := fun H ls locs hP hD hS hl => lv_goto X.1 X.2.1 d ht (k H ls locs hP hD hS hl)
theorem vv_swOut (X : CX p s m args c cc own nL D cB cI) {dflt lo hi : Int} {offs : Array Int} {len : Nat} {x : Int32} {tgt : Nat} (d : decode cc pc = .ok (.tableswitch dflt lo hi offs, len)) (h : x.toInt < lo ∨ hi < x.toInt) (ht : (pc : Int) + dflt = (tgt : Int)) (k : VV p l e R s m args below meth c D A nL (cells) (slots) (Q) (ws) (lv) (tgt) (st)) : VV p l e R s m args below meth c D A nL (cells) (slots) (Q) (ws) (lv) (pc) (.int x :: st) := fun H ls locs hP hD hS hl => lv_tableOut X.1 X.2.1 d h ht (k H ls locs hP hD hS hl)
theorem vv_swIn (X : CX p s m args c cc own nL D cB cI) {dflt lo hi : Int} {offs : Array Int} {len : Nat} {x : Int32} {off : Int} {tgt : Nat} (d : decode cc pc = .ok (.tableswitch dflt lo hi offs, len)) (h1 : ¬ x.toInt < lo) (h2 : ¬ hi < x.toInt) (ho : offs[(x.toInt - lo).toNat]? = some off) (ht : (pc : Int) + off = (tgt : Int)) (k : VV p l e R s m args below meth c D A nL (cells) (slots) (Q) (ws) (lv) (tgt) (st)) : VV p l e R s m args below meth c D A nL (cells) (slots) (Q) (ws) (lv) (pc) (.int x :: st) := fun H ls locs hP hD hS hl => lv_tableIn X.1 X.2.1 d h1 h2 ho ht (k H ls locs hP hD hS hl)
theorem vv_get (X : CX p s m args c cc own nL D cB cI) {C : String} {T : u_T} {N ci index : Nat} (hin : ∀ w ∈ u_ws C T N, w ∈ js_all) (hc : js_cls[ci]? = some (C, T, N)) (f : Nat) (hf : f < N) (hT : (T f).1 = C) (hw : Cond.fieldLink own index C (T f).2.1 (T f).2.2.1 ∈ js_all) (q : Nat) {a : Nat} {fs : List Value} {v : Value} (d : decode cc pc = .ok (.getfield index, 3)) (he : ws[q]? = some (a, .inr (ci, fs))) (hv : fs[f]? = some v) (k : VV p l e R s m args below meth c D A nL (cells) (slots) (Q) (ws) (lv) (pc + 3) (v :: st)) : VV p l e R s m args below meth c D A nL (cells) (slots) (Q) (ws) (lv) (pc) (.ref a :: st) := fun H ls locs hP hD hS hl => va_get X.1 X.2.1 X.2.2.2.2.1 hin X.2.2.2.1 X.2.2.2.2.2.1 hP q he hc f hf (X.2.2.2.2.1 _ hw) (fun x9 h9 => by rw [hT] at h9; exact h9) hv d (k H ls locs hP hD hS hl)
theorem vv_getN (X : CX p s m args c cc own nL D cB cI) {C : String} {T : u_T} {N ci index : Nat} {host : String} (hin : ∀ w ∈ u_ws C T N, w ∈ js_all) (hc : js_cls[ci]? = some (C, T, N)) (f : Nat) (hf : f < N) (hT : (T f).1 = C) (hw : Cond.fieldLinkNest own index C (T f).2.1 (T f).2.2.1 host ∈ js_nest) (q : Nat) {a : Nat} {fs : List Value} {v : Value} (d : decode cc pc = .ok (.getfield index, 3)) (he : ws[q]? = some (a, .inr (ci, fs))) (hv : fs[f]? = some v) (k : VV p l e R s m args below meth c D A nL (cells) (slots) (Q) (ws) (lv) (pc + 3) (v :: st)) : VV p l e R s m args below meth c D A nL (cells) (slots) (Q) (ws) (lv) (pc) (.ref a :: st) := fun H ls locs hP hD hS hl => va_getN X.1 X.2.1 X.2.2.2.2.1 hin X.2.2.2.1 X.2.2.2.2.2.1 hP q he hc f hf (va_Nw.use rfl (X.2.2.2.2.2.2 _ hw)) (fun x9 h9 => by rw [hT] at h9; exact h9) hv d (k H ls locs hP hD hS hl)
theorem vv_put (X : CX p s m args c cc own nL D cB cI) {C : String} {T : u_T} {N ci index : Nat} (hin : ∀ w ∈ u_ws C T N, w ∈ js_all) (ty0 : Nat → FieldType) (hty : ∀ k, k < N → parseFieldDescriptor (T k).2.2.1 = some (ty0 k)) (hnm : ∀ a, a < N → ∀ b, b < N → a ≠ b → (T a).2.1 ≠ (T b).2.1) (hc : js_cls[ci]? = some (C, T, N)) (f : Nat) (hf : f < N) (hT : (T f).1 = C) (hfin : (T f).2.2.2 = false) {ty : FieldType} (hd : parseFieldDescriptor (T f).2.2.1 = some ty) (hw : Cond.fieldLink own index C (T f).2.1 (T f).2.2.1 ∈ js_all) (q : Nat) {a : Nat} {fs : List Value} {v : Value} (d : decode cc pc = .ok (.putfield index, 3)) (he : ws[q]? = some (a, .inr (ci, fs))) (hl0 : f < fs.length) (hn : narrow ty v = v) (hfit : fits ty v = true) (hs : ws.set q (a, .inr (ci, fs.set f v)) = ws') (k : VV p l e R s m args below meth c D A nL (cells) (slots) (Q) (ws') (lv) (pc + 3) (st)) : VV p l e R s m args below meth c D A nL (cells) (slots) (Q) (ws) (lv) (pc) (v :: .ref a :: st) := fun H ls locs hP hD hS hl => by subst hs; exact va_put X.1 X.2.1 X.2.2.2.2.1 hin ty0 hty hnm X.2.2.2.1 X.2.2.2.2.2.1 hP hD hS q he hc f hf (X.2.2.2.2.1 _ hw) (fun x9 h9 => by rw [hT] at h9; exact h9) hfin hd hn hfit hl0 d (fun H1 locs1 hP1 hD1 hS1 => k H1 ls locs1 hP1 hD1 hS1 hl)
theorem vv_putF (X : CX p s m args c cc own nL D cB cI) {C : String} {T : u_T} {N ci index : Nat} (hin : ∀ w ∈ u_ws C T N, w ∈ js_all) (ty0 : Nat → FieldType) (hty : ∀ k, k < N → parseFieldDescriptor (T k).2.2.1 = some (ty0 k)) (hnm : ∀ a, a < N → ∀ b, b < N → a ≠ b → (T a).2.1 ≠ (T b).2.1) (hc : js_cls[ci]? = some (C, T, N)) (hown : C = own) (hini : meth.name = "<init>") (f : Nat) (hf : f < N) (hT : (T f).1 = C) (hfin : (T f).2.2.2 = true) {ty : FieldType} (hd : parseFieldDescriptor (T f).2.2.1 = some ty) (hw : Cond.fieldLink own index C (T f).2.1 (T f).2.2.1 ∈ js_all) (q : Nat) {a : Nat} {fs : List Value} {v : Value} (d : decode cc pc = .ok (.putfield index, 3)) (he : ws[q]? = some (a, .inr (ci, fs))) (hl0 : f < fs.length) (hn : narrow ty v = v) (hfit : fits ty v = true) (hs : ws.set q (a, .inr (ci, fs.set f v)) = ws') (k : VV p l e R s m args below meth c D A nL (cells) (slots) (Q) (ws') (lv) (pc + 3) (st)) : VV p l e R s m args below meth c D A nL (cells) (slots) (Q) (ws) (lv) (pc) (v :: .ref a :: st) := fun H ls locs hP hD hS hl => by subst hs; exact va_putF X.1 X.2.1 X.2.2.2.2.1 hin ty0 hty hnm X.2.2.2.1 X.2.2.2.2.2.1 hP hD hS q he hc f hf (X.2.2.2.2.1 _ hw) (fun x9 h9 => by rw [hT] at h9; exact h9) hfin hini (hT.trans hown) hd hn hfit hl0 d (fun H1 locs1 hP1 hD1 hS1 => k H1 ls locs1 hP1 hD1 hS1 hl)
theorem vv_iald (X : CX p s m args c cc own nL D cB cI) (q : Nat) {a n : Nat} {f : Nat → Int32} {i v : Int32} (d : decode cc pc = .ok (.iaload, 1)) (he : ws[q]? = some (a, .inl (cI, n, .inl f))) (j : Nat) (hi : i = nI j) (hj : j < n) (hn : n < 2 ^ 31) (hv : f j = v) (k : VV p l e R s m args below meth c D A nL (cells) (slots) (Q) (ws) (lv) (pc + 1) (.int v :: st)) : VV p l e R s m args below meth c D A nL (cells) (slots) (Q) (ws) (lv) (pc) (.int i :: .ref a :: st) := fun H ls locs hP hD hS hl => by subst hi; subst hv; have h0 := va_iald (i := nI j) (rest := st) (pc := pc) (ls := ls) (Q := Q) (e := e) (l := l) (R := R) (m := m) (args := args) (below := below) (meth := meth) (locs := locs) (cells := cells) (slots := slots) X.1 X.2.1 X.2.2.2.2.2.1 hP q 1 he rfl (vp_in_nI hj hn) d; rw [nI_clamp (by omega)] at h0; exact h0 (k H ls locs hP hD hS hl)
theorem vv_bald (X : CX p s m args c cc own nL D cB cI) (q : Nat) {a n : Nat} {f : Nat → Int32} {i v : Int32} (d : decode cc pc = .ok (.baload, 1)) (he : ws[q]? = some (a, .inl (cB, n, .inl f))) (j : Nat) (hi : i = nI j) (hj : j < n) (hn : n < 2 ^ 31) (hv : f j = v) (k : VV p l e R s m args below meth c D A nL (cells) (slots) (Q) (ws) (lv) (pc + 1) (.int v :: st)) : VV p l e R s m args below meth c D A nL (cells) (slots) (Q) (ws) (lv) (pc) (.int i :: .ref a :: st) := fun H ls locs hP hD hS hl => by subst hi; subst hv; have h0 := va_bald (i := nI j) (rest := st) (pc := pc) (ls := ls) (Q := Q) (e := e) (l := l) (R := R) (m := m) (args := args) (below := below) (meth := meth) (locs := locs) (cells := cells) (slots := slots) X.1 X.2.1 X.2.2.2.2.2.1 hP q 0 he rfl (vp_in_nI hj hn) d; rw [nI_clamp (by omega)] at h0; exact h0 (k H ls locs hP hD hS hl)
theorem vv_iast (X : CX p s m args c cc own nL D cB cI) (q : Nat) {a n : Nat} {f : Nat → Int32} {i x : Int32} (d : decode cc pc = .ok (.iastore, 1)) (he : ws[q]? = some (a, .inl (cI, n, .inl f))) (j : Nat) (hi : i = nI j) (hj : j < n) (hn : n < 2 ^ 31) (hs : ws.set q (a, .inl (cI, n, .inl (upd f j (x)))) = ws') (k : VV p l e R s m args below meth c D A nL (cells) (slots) (Q) (ws') (lv) (pc + 1) (st)) : VV p l e R s m args below meth c D A nL (cells) (slots) (Q) (ws) (lv) (pc) (.int x :: .int i :: .ref a :: st) := fun H ls locs hP hD hS hl => by subst hi; subst hs; have h0 := va_iast (i := nI j) (x := x) (rest := st) (pc := pc) (ls := ls) (Q := Q) (e := e) (l := l) (R := R) (m := m) (args := args) (below := below) (meth := meth) (cells := cells) (slots := slots) X.1 X.2.1 X.2.2.2.2.2.1 hP hD hS q 1 he rfl (vp_in_nI hj hn) d; rw [nI_clamp (by omega)] at h0; exact h0 (fun H1 locs1 hP1 hD1 hS1 => k H1 ls locs1 hP1 hD1 hS1 hl)
theorem vv_bast (X : CX p s m args c cc own nL D cB cI) (q : Nat) {a n : Nat} {f : Nat → Int32} {i x : Int32} (d : decode cc pc = .ok (.bastore, 1)) (he : ws[q]? = some (a, .inl (cB, n, .inl f))) (j : Nat) (hi : i = nI j) (hj : j < n) (hn : n < 2 ^ 31) (hs : ws.set q (a, .inl (cB, n, .inl (upd f j (vp_nar .byte x)))) = ws') (k : VV p l e R s m args below meth c D A nL (cells) (slots) (Q) (ws') (lv) (pc + 1) (st)) : VV p l e R s m args below meth c D A nL (cells) (slots) (Q) (ws) (lv) (pc) (.int x :: .int i :: .ref a :: st) := fun H ls locs hP hD hS hl => by subst hi; subst hs; have h0 := va_bast (i := nI j) (x := x) (rest := st) (pc := pc) (ls := ls) (Q := Q) (e := e) (l := l) (R := R) (m := m) (args := args) (below := below) (meth := meth) (cells := cells) (slots := slots) X.1 X.2.1 X.2.2.2.2.2.1 hP hD hS q 0 he rfl (vp_in_nI hj hn) d; rw [nI_clamp (by omega)] at h0; exact h0 (fun H1 locs1 hP1 hD1 hS1 => k H1 ls locs1 hP1 hD1 hS1 hl)
theorem vv_alenB (X : CX p s m args c cc own nL D cB cI) (q : Nat) {a n : Nat} {f : Nat → Int32} (d : decode cc pc = .ok (.arraylength, 1)) (he : ws[q]? = some (a, .inl (cB, n, .inl f))) (k : VV p l e R s m args below meth c D A nL (cells) (slots) (Q) (ws) (lv) (pc + 1) (.int (nI n) :: st)) : VV p l e R s m args below meth c D A nL (cells) (slots) (Q) (ws) (lv) (pc) (.ref a :: st) := fun H ls locs hP hD hS hl => va_alen X.1 X.2.1 X.2.2.2.2.2.1 hP q 0 he (ty := .byte) rfl (v := nI n) rfl d (k H ls locs hP hD hS hl)
theorem vv_copy (X : CX p s m args c cc own nL D cB cI) {index : Nat} (hw : Cond.methodLink own index arraycopyName ∈ js_all) (q0 q1 : Nat) {a0 a1 n0 n1 : Nat} {f g : Nat → Int32} {isp idp inn : Int32} (d : decode cc pc = .ok (.invokestatic index, 3)) (he0 : ws[q0]? = some (a0, .inl (cB, n0, .inl f))) (he1 : ws[q1]? = some (a1, .inl (cB, n1, .inl g))) (sp dp n : Nat) (h1 : isp = nI sp) (h2 : idp = nI dp) (h3 : inn = nI n) (h4 : sp + n ≤ n0) (h5 : dp + n ≤ n1) (hn0 : n0 < 2 ^ 31) (hn1 : n1 < 2 ^ 31) (hfit : ∀ i, i < n → fits .byte (.int (f (sp + i))) = true) (hfr : 1 ≤ R.frames) (hlo : 30 ≤ R.locals) (hst : (st.map fun v => v.category).sum ≤ 8) (hs : ws.set q1 (a1, .inl (cB, n1, .inl (va_cpy f g sp dp n))) = ws') (k : VV p l e R s m args below meth c D A nL (cells) (slots) (Q) (ws') (lv) (pc + 3) (st)) : VV p l e R s m args below meth c D A nL (cells) (slots) (Q) (ws) (lv) (pc) (.int inn :: .int idp :: .ref a1 :: .int isp :: .ref a0 :: st) := fun H ls locs hP hD hS hl => by
  subst h1; subst h2; subst h3; subst hs
  have c1 : (nI sp).toNatClampNeg = sp := nI_clamp (by omega)
  have c2 : (nI dp).toNatClampNeg = dp := nI_clamp (by omega)
  have c3 : (nI n).toNatClampNeg = n := nI_clamp (by omega)
  have h0 := va_copyi (rest := st) (pc := pc) (ls := ls) (Q := Q) (e := e) (l := l) (R := R) (m := m) (args := args) (below := below) (meth := meth) (cells := cells) (slots := slots) (sp := nI sp) (dp := nI dp) (n := nI n) (ty := .byte) X.1 X.2.1 (X.2.2.1.trans hl.1.symm) X.2.2.2.1 (X.2.2.2.2.1 _ hw) (X.2.2.2.2.1 _ js_w_nat) (X.2.2.2.2.1 _ js_w_stat) (X.2.2.2.2.1 _ js_w_sys) X.2.2.2.2.2.1 hP hD hS q0 q1 0 0 he0 he1 rfl rfl rfl (nI_pos (by omega)) (nI_pos (by omega)) (nI_pos (by omega)) (by rw [c1, c3]; exact h4) (by rw [c2, c3]; exact h5) (by rw [c1, c3]; exact hfit) hfr (Nat.le_trans (Nat.add_le_add hst (Nat.le_refl _)) (Nat.le_trans (Nat.le_of_ble_eq_true rfl) hlo)) d
  rw [c1, c2, c3] at h0
  exact h0 (fun H1 locs1 hP1 hD1 hS1 => k H1 ls locs1 hP1 hD1 hS1 hl)
theorem vv_max (X : CX p s m args c cc own nL D cB cI) {index : Nat} {x y z : Int32} (hw : Cond.methodLink own index Lib.Math.max.name ∈ js_all) (d : decode cc pc = .ok (.invokestatic index, 3)) (hz : (if x < y then y else x) = z) (hfr : 1 ≤ R.frames) (hlo : 30 ≤ R.locals) (hst : (st.map fun v => v.category).sum ≤ 8) (hc : cells ≤ R.cells) (hs : slots ≤ R.slots) (k : VV p l e R s m args below meth c D A nL (cells) (slots) (Q) (ws) (lv) (pc + 3) (.int z :: st)) : VV p l e R s m args below meth c D A nL (cells) (slots) (Q) (ws) (lv) (pc) (.int y :: .int x :: st) := fun H ls locs hP hD hS hl => by subst hz; exact va_mmax X.1 X.2.1 (X.2.2.1.trans hl.1.symm) X.2.2.2.1 (X.2.2.2.2.1 _ hw) (X.2.2.2.2.1 _ js_w_mstat) (X.2.2.2.2.1 _ js_w_mini) (X.2.2.2.2.1 _ js_w_mcode) hfr (by omega) hc hs d (k H ls locs hP hD hS hl)
end VL
end
section
/-- the addresses of a world -/
def js_A (wc : va_W) : Nat → Prop := fun q => ∃ (k : Nat) (e : va_E), wc[k]? = some (q, e)
/-- a contract's start: the world wc, the arguments av -/
def JP (D : va_G) (cB cI : ClassId) (wc : va_W) (av : List Value) : Array Value → State → Prop := va_Pc av (fun U => va_P D js_cls wc U.heap ∧ va_K D js_cls (js_tys cB cI) U ∧ va_D (fun _ => True) wc ∧ js_NW U)
theorem JP.blind {D : va_G} {cB cI : ClassId} {wc : va_W} {av : List Value} : FrameBlind (JP D cB cI wc av) := by
  intro a U g mk q
  obtain ⟨q0, qP, qK, qD, qN⟩ := q
  exact ⟨q0, qP, va_K.moved (u := U) (U := U.calling g mk a) (Vm.Alike.refl U.vm) qK, qD, js_NW.blind (U := U) (V := U.calling g mk a) rfl qN⟩
theorem js_A.self {wc : va_W} {B : Nat → Prop} (h : va_D B wc) : va_D (js_A wc) wc := ⟨h.1, fun k q hk => ⟨k, q.2, hk⟩⟩
/-- a world with some of its cells put anew -/
def js_put (ws : va_W) : List Nat → va_W → va_W
  | i :: is, x :: xs => (js_put ws is xs).set i x
  | _, _ => ws
theorem js_put_get {ws : va_W} : ∀ (is : List Nat) (xs : va_W) (k : Nat) (q : Nat × va_E), is.length = xs.length → (js_put ws is xs)[k]? = some q → (∃ j : Nat, is[j]? = some k ∧ xs[j]? = some q) ∨ (k ∉ is ∧ ws[k]? = some q)
  | [], xs, k, q, hn, h => by
    cases xs with
    | nil => exact Or.inr ⟨List.not_mem_nil, h⟩
    | cons x xs => simp at hn
  | i :: is, [], k, q, hn, h => by simp at hn
  | i :: is, x :: xs, k, q, hn, h => by
    have hn' : is.length = xs.length := by simpa using hn
    simp only [js_put, List.getElem?_set] at h
    by_cases hi : i = k
    · rw [if_pos hi] at h
      split at h
      · exact Or.inl ⟨0, by simp [hi], by simpa using h⟩
      · cases h
    · rw [if_neg hi] at h
      rcases js_put_get is xs k q hn' h with ⟨j, h1, h2⟩ | ⟨h1, h2⟩
      · exact Or.inl ⟨j + 1, by simpa using h1, by simpa using h2⟩
      · exact Or.inr ⟨fun hm => by rcases List.mem_cons.mp hm with e1 | e1; exact hi e1.symm; exact h1 e1, h2⟩
theorem js_put_fst {ws : va_W} : ∀ (is : List Nat) (xs : va_W), (∀ (j i : Nat) (x : Nat × va_E), is[j]? = some i → xs[j]? = some x → ∃ y, ws[i]? = some y ∧ y.1 = x.1) → (js_put ws is xs).map (fun z => z.1) = ws.map (fun z => z.1)
  | [], xs, _ => by cases xs <;> rfl
  | i :: is, [], _ => rfl
  | i :: is, x :: xs, h => by
    have ih := js_put_fst is xs (fun j i' x' h1 h2 => h (j + 1) i' x' (by simpa using h1) (by simpa using h2))
    obtain ⟨y, hy, hyx⟩ := h 0 i x rfl rfl
    simp only [js_put, List.map_set, ih]
    apply List.ext_getElem?
    intro n
    rw [List.getElem?_set]
    by_cases hi : i = n
    · subst hi
      have hlt : i < ws.length := (List.getElem?_eq_some_iff.mp hy).1
      rw [if_pos rfl, if_pos (by simpa using hlt), List.getElem?_map, hy]
      simp [hyx]
    · rw [if_neg hi]
theorem js_D_fst {A : Nat → Prop} {ws ws' : va_W} (h : va_D A ws) (hf : ws.map (fun z => z.1) = ws'.map (fun z => z.1)) : va_D A ws' := by
  have at' : ∀ (k : Nat) (q : Nat × va_E), ws'[k]? = some q → ∃ q', ws[k]? = some q' ∧ q'.1 = q.1 := by
    intro k q hq
    have h1 : (ws.map (fun z => z.1))[k]? = some q.1 := by rw [hf, List.getElem?_map, hq]; rfl
    rw [List.getElem?_map] at h1
    cases hk : ws[k]? with
    | none => rw [hk] at h1; cases h1
    | some q' => rw [hk] at h1; exact ⟨q', rfl, Option.some.inj h1⟩
  refine ⟨fun i j p q hi hj hpq => ?_, fun k q hq => ?_⟩
  · obtain ⟨p', h1, h2⟩ := at' i p hi
    obtain ⟨q', h3, h4⟩ := at' j q hj
    exact h.1 i j p' q' h1 h3 (by rw [h2, h4, hpq])
  · obtain ⟨q', h1, h2⟩ := at' k q hq
    rw [← h2]
    exact h.2 k q' h1
theorem js_at {ws wc : va_W} {is : List Nat} (hC : is.map (fun i => ws[i]?) = wc.map some) (k : Nat) (q : Nat × va_E) (hk : wc[k]? = some q) : ∃ i, is[k]? = some i ∧ ws[i]? = some q := by
  have h1 : (is.map (fun i => ws[i]?))[k]? = some (some q) := by rw [hC, List.getElem?_map, hk]; rfl
  rw [List.getElem?_map] at h1
  cases hi : is[k]? with
  | none => rw [hi] at h1; cases h1
  | some i => rw [hi] at h1; exact ⟨i, rfl, Option.some.inj h1⟩
theorem js_sub {D : va_G} {ws wc : va_W} {is : List Nat} {H : Heap} (hC : is.map (fun i => ws[i]?) = wc.map some) (hP : va_P D js_cls ws H) : va_P D js_cls wc H := fun k q hk => by
  obtain ⟨i, -, h⟩ := js_at hC k q hk
  exact hP i q h
theorem js_in {A : Nat → Prop} {ws wc : va_W} {is : List Nat} (hC : is.map (fun i => ws[i]?) = wc.map some) (hD : va_D A ws) : ∀ q, js_A wc q → A q := fun q h => by
  obtain ⟨k, e, h⟩ := h
  obtain ⟨i, -, h2⟩ := js_at hC k _ h
  exact hD.2 i _ h2
/-- behind a call: the callee's cells put anew, the rest as it was -/
theorem js_join {A : Nat → Prop} {D : va_G} {ws wc w1 : va_W} {is : List Nat} {H H1 : Heap} (hP : va_P D js_cls ws H) (hD : va_D A ws) (hC : is.map (fun i => ws[i]?) = wc.map some) (h1 : w1.map (fun z => z.1) = wc.map (fun z => z.1)) (hk : ∀ q : Nat, q < H.size → ¬ js_A wc q → H1[q]? = H[q]?) (hP1 : va_P D js_cls w1 H1) : va_P D js_cls (js_put ws is w1) H1 ∧ va_D A (js_put ws is w1) := by
  have hlen : is.length = w1.length := by
    have e1 := congrArg List.length hC
    have e2 := congrArg List.length h1
    simp at e1 e2
    omega
  refine ⟨fun k q hq => ?_, js_D_fst hD (js_put_fst is w1 (fun j i x hj hx => ?_)).symm⟩
  · rcases js_put_get is w1 k q hlen hq with ⟨j, a1, a2⟩ | ⟨a1, a2⟩
    · exact hP1 j q a2
    · have h0 := hP k q a2
      refine h0.kept (hk q.1 h0.lt (fun hA => ?_))
      obtain ⟨k2, e, h2⟩ := hA
      obtain ⟨i2, b1, b2⟩ := js_at hC k2 _ h2
      have := hD.1 k i2 q _ a2 b2 rfl
      subst this
      exact a1 (List.mem_of_getElem? b1)
  · have e1 : (wc.map (fun z => z.1))[j]? = some x.1 := by rw [← h1, List.getElem?_map, hx]; rfl
    rw [List.getElem?_map] at e1
    cases hwc : wc[j]? with
    | none => rw [hwc] at e1; cases e1
    | some y =>
      rw [hwc] at e1
      obtain ⟨i', b1, b2⟩ := js_at hC j y hwc
      rw [hj] at b1
      cases b1
      exact ⟨y, b2, Option.some.inj e1⟩
/-- the words of a call of an instance method, of a static method, of a nest mate's static method -/
def js_okB (y : MethodName) (b : ByteArray) (maxL : Nat) (ret : Option FieldType) (n : Nat) : Prop := Cond.code y b maxL ret ∈ js_all ∧ Cond.initialized y.cls ∈ js_all ∧ (y.cls ≠ "java/lang/invoke/MethodHandle" ∧ y.cls ≠ "java/lang/invoke/VarHandle" ∧ (parseMethodDescriptor y.desc).map (fun d => d.parameters.length) = some n)
def js_okV (own : String) (index : Nat) (C : String) (y : MethodName) (b : ByteArray) (maxL : Nat) (ret : Option FieldType) (n : Nat) : Prop := js_okB y b maxL ret n ∧ Cond.methodLink own index y ∈ js_all ∧ Cond.instanceMethod y ∈ js_all ∧ Cond.selects C y y ∈ js_all
def js_okS (own : String) (index : Nat) (y : MethodName) (b : ByteArray) (maxL : Nat) (ret : Option FieldType) (n : Nat) : Prop := js_okB y b maxL ret n ∧ Cond.methodLink own index y ∈ js_all ∧ Cond.static y ∈ js_all
def js_okN (own : String) (index : Nat) (y : MethodName) (b : ByteArray) (maxL : Nat) (ret : Option FieldType) (n : Nat) (host : String) : Prop := js_okB y b maxL ret n ∧ Cond.methodLinkNest own index y host ∈ js_nest ∧ Cond.static y ∈ js_all
theorem js_good {z : Cond} (hz : z ∈ js_all) : GoodIn js_all (z :: js_all) := by
  intro w hw
  have hm : w ∈ js_all := by
    rcases List.mem_cons.mp hw with rfl | h
    · exact hz
    · exact h
  exact ⟨hm, good_of_word (List.mem_filter.mp hm).2⟩
def js_rm (R rm : Room) (maxL : Nat) : Prop := rm.cells = 0 ∧ rm.slots = 0 ∧ rm.frames + 1 ≤ R.frames ∧ 8 + (maxL + 11) + rm.locals ≤ R.locals
section VC
variable {p : Program} {l : Launch} {e : Env} {R : Room} {s : State} {m : MethodId} {args : Array Value} {below : List Frame} {meth : Method} {c : Code} {Q : State → Prop}
variable {D : va_G} {A : Nat → Prop} {cc : ByteArray} {own : String} {nL cells slots pc : Nat} {cB cI : ClassId} {ws ws' : va_W} {lv lv' : List (Nat × Value)} {st : List Value}
variable {y : MethodName} {b : ByteArray} {maxL n index : Nat} {ret : Option FieldType} {rm : Room} {wc : va_W} {As : List Value} {S : Type} {w1 : S → va_W} {host C : String} {st0 : List Value}
theorem vv_runV {Qc : Array Value → State → Outcome → State → Prop} (X : CX p s m args c cc own nL D cB cI) {o : Nat} {H : Heap} {ls : Array Slot} {locs : List Loc} (hP : va_P D js_cls ws H) (hD : va_D A ws) (hl : lv_has ls nL lv)
    (hM : Met l y (Cond.code y b maxL ret :: js_all) rm (JP D cB cI wc (.ref o :: As)) Qc 0 0 (js_A wc)) (ok : js_okV own index C y b maxL ret n) (hrm : js_rm R rm maxL) (d : decode cc pc = .ok (.invokevirtual index, 3))
    (q ci : Nat) {r : vw_C} {fs : List Value} (hr : js_cls[ci]? = some r) (hrC : r.1 = C) (he : ws[q]? = some (o, .inr (ci, fs))) (is : List Nat) (hC : is.map (fun i => ws[i]?) = wc.map some) (hnd : va_nd is = true)
    (hn : As.length = n) (hst0 : st0 = As.reverse ++ .ref o :: st) (hroom : (st.map fun v => v.category).sum ≤ 8) (hcs : cells ≤ R.cells ∧ slots ≤ R.slots) : va_Run p l e R s m args below meth c H locs cells slots 0 0 (F0 m pc ls st0) st (Qc (Value.ref o :: As).toArray) (js_A wc) := by
  obtain ⟨⟨o1, o2, o3, o4, o5⟩, o6, o7, o8⟩ := ok
  obtain ⟨r1, r2, r3, r4⟩ := hrm
  have hts := X.2.2.2.2.1
  refine va_runV (Ts := js_all) (maxL := maxL) (bytes := b) (ret := ret) (n := n) (C := C) (As := As) ⟨X.1, X.2.1, X.2.2.1, X.2.2.2.1, hts⟩ hM ⟨callB_of n hts (js_good o1) rfl r1 r2 (hts _ o2) (hts _ o6) ⟨o3, o4, o5⟩ ⟨r3, r4⟩, hts _ o7, hts _ o8⟩ ⟨JP.blind, ?_, fun U hU hW => ⟨rfl, by rw [hU]; exact js_sub hC hP, va_K.moved hW.alike X.2.2.2.2.2.1, (hD.sub is hnd hC).weaken (fun _ _ _ _ => trivial), js_NW.warm hW X.2.2.2.2.2.2⟩⟩ rfl hn hl.1 hst0 (by show 2 * 0 + _ ≤ 8; omega) d hcs
  subst hrC
  exact va_recv X.2.2.2.2.2.1 hP hr he
theorem vv_runS {Qc : Array Value → State → Outcome → State → Prop} (X : CX p s m args c cc own nL D cB cI) {H : Heap} {ls : Array Slot} {locs : List Loc} (hP : va_P D js_cls ws H) (hD : va_D A ws) (hl : lv_has ls nL lv)
    (hM : Met l y (Cond.code y b maxL ret :: js_all) rm (JP D cB cI wc As) Qc 0 0 (js_A wc)) (ok : js_okS own index y b maxL ret n) (hrm : js_rm R rm maxL) (d : decode cc pc = .ok (.invokestatic index, 3))
    (is : List Nat) (hC : is.map (fun i => ws[i]?) = wc.map some) (hnd : va_nd is = true)
    (hn : As.length = n) (hst0 : st0 = As.reverse ++ st) (hroom : (st.map fun v => v.category).sum ≤ 8) (hcs : cells ≤ R.cells ∧ slots ≤ R.slots) : va_Run p l e R s m args below meth c H locs cells slots 0 0 (F0 m pc ls st0) st (Qc As.toArray) (js_A wc) := by
  obtain ⟨⟨o1, o2, o3, o4, o5⟩, o6, o7⟩ := ok
  obtain ⟨r1, r2, r3, r4⟩ := hrm
  have hts := X.2.2.2.2.1
  exact va_runS (Ts := js_all) (maxL := maxL) (bytes := b) (ret := ret) (n := n) (As := As) ⟨X.1, X.2.1, X.2.2.1, X.2.2.2.1, hts⟩ hM ⟨callB_of n hts (js_good o1) rfl r1 r2 (hts _ o2) (hts _ o6) ⟨o3, o4, o5⟩ ⟨r3, r4⟩, hts _ o7⟩ ⟨JP.blind, fun U hU hW => ⟨rfl, by rw [hU]; exact js_sub hC hP, va_K.moved hW.alike X.2.2.2.2.2.1, (hD.sub is hnd hC).weaken (fun _ _ _ _ => trivial), js_NW.warm hW X.2.2.2.2.2.2⟩⟩ rfl hn hl.1 hst0 (by show 2 * 0 + _ ≤ 8; omega) d hcs
theorem vv_runN {Qc : Array Value → State → Outcome → State → Prop} (X : CX p s m args c cc own nL D cB cI) {H : Heap} {ls : Array Slot} {locs : List Loc} (hP : va_P D js_cls ws H) (hD : va_D A ws) (hl : lv_has ls nL lv)
    (hM : Met l y (Cond.code y b maxL ret :: js_all) rm (JP D cB cI wc As) Qc 0 0 (js_A wc)) (ok : js_okN own index y b maxL ret n host) (hrm : js_rm R rm maxL) (d : decode cc pc = .ok (.invokestatic index, 3))
    (is : List Nat) (hC : is.map (fun i => ws[i]?) = wc.map some) (hnd : va_nd is = true)
    (hn : As.length = n) (hst0 : st0 = As.reverse ++ st) (hroom : (st.map fun v => v.category).sum ≤ 8) (hcs : cells ≤ R.cells ∧ slots ≤ R.slots) : va_Run p l e R s m args below meth c H locs cells slots 0 0 (F0 m pc ls st0) st (Qc As.toArray) (js_A wc) := by
  obtain ⟨⟨o1, o2, o3, o4, o5⟩, o6, o7⟩ := ok
  obtain ⟨r1, r2, r3, r4⟩ := hrm
  have hts := X.2.2.2.2.1
  exact va_runSN (Ts := js_all) (maxL := maxL) (bytes := b) (ret := ret) (n := n) (host := host) (As := As) ⟨X.1, X.2.1, X.2.2.1, X.2.2.2.1, hts⟩ hM ⟨va_cnB n hts (js_good o1) rfl r1 r2 (X.2.2.2.2.2.2 _ o6) (hts _ o2) ⟨o3, o4, o5⟩ ⟨r3, r4⟩, hts _ o7, trivial⟩ ⟨JP.blind, fun U hU hW => ⟨rfl, by rw [hU]; exact js_sub hC hP, va_K.moved hW.alike X.2.2.2.2.2.1, (hD.sub is hnd hC).weaken (fun _ _ _ _ => trivial), js_NW.warm hW X.2.2.2.2.2.2⟩⟩ rfl hn hl.1 hst0 (by show 2 * 0 + _ ≤ 8; omega) d hcs
theorem vv_cVv (X : CX p s m args c cc own nL D cB cI) {o : Nat} {post : S → Prop} (hM : Met l y (Cond.code y b maxL none :: js_all) rm (JP D cB cI wc (.ref o :: As)) (va_Qv post (fun u t => va_P D js_cls (w1 u) t.heap) (js_A wc)) 0 0 (js_A wc)) (ok : js_okV own index C y b maxL none n) (hrm : js_rm R rm maxL) (d : decode cc pc = .ok (.invokevirtual index, 3)) (q ci : Nat) {r0 : vw_C} {fs : List Value} (hr : js_cls[ci]? = some r0) (hrC : r0.1 = C) (he : ws[q]? = some (o, .inr (ci, fs))) (is : List Nat) (hC : is.map (fun i => ws[i]?) = wc.map some) (hnd : va_nd is = true) (as : List Nat) (h1 : ∀ u, (w1 u).map (fun z => z.1) = as) (h2 : wc.map (fun z => z.1) = as) (hn : As.length = n) (hst0 : st0 = As.reverse ++ .ref o :: st) (hroom : (st.map fun v => v.category).sum ≤ 8) (hcs : cells ≤ R.cells ∧ slots ≤ R.slots) (k : ∀ u, post u → VV p l e R s m args below meth c D A nL (cells) (slots) (Q) (js_put ws is (w1 u)) (lv) (pc + 3) (st)) : VV p l e R s m args below meth c D A nL (cells) (slots) (Q) (ws) (lv) (pc) (st0) := by
  intro H ls locs hP hD hS hl
  refine va_callv (vv_runV X hP hD hl hM ok hrm d q ci hr hrC he is hC hnd hn hst0 hroom hcs) hS (fun q _ h => js_in hC hD q h) (js_in hC hD) (fun u t H1 locs1 ht hvm hp hB hz hk hS1 => ?_)
  rw [ht] at hB
  obtain ⟨hP2, hD2⟩ := js_join hP hD hC ((h1 u).trans h2.symm) hk hB
  exact k u hp H1 ls locs1 hP2 hD2 hS1 hl
theorem vv_cVi (X : CX p s m args c cc own nL D cB cI) {o : Nat} {post : Int32 → S → Prop} (hM : Met l y (Cond.code y b maxL ret :: js_all) rm (JP D cB cI wc (.ref o :: As)) (va_Qi post (fun u t => va_P D js_cls (w1 u) t.heap) (js_A wc)) 0 0 (js_A wc)) (ok : js_okV own index C y b maxL ret n) (hrm : js_rm R rm maxL) (d : decode cc pc = .ok (.invokevirtual index, 3)) (q ci : Nat) {r0 : vw_C} {fs : List Value} (hr : js_cls[ci]? = some r0) (hrC : r0.1 = C) (he : ws[q]? = some (o, .inr (ci, fs))) (is : List Nat) (hC : is.map (fun i => ws[i]?) = wc.map some) (hnd : va_nd is = true) (as : List Nat) (h1 : ∀ u, (w1 u).map (fun z => z.1) = as) (h2 : wc.map (fun z => z.1) = as) (hn : As.length = n) (hst0 : st0 = As.reverse ++ .ref o :: st) (hroom : (st.map fun v => v.category).sum ≤ 8) (hcs : cells ≤ R.cells ∧ slots ≤ R.slots) (k : ∀ r u, post r u → VV p l e R s m args below meth c D A nL (cells) (slots) (Q) (js_put ws is (w1 u)) (lv) (pc + 3) (.int r :: st)) : VV p l e R s m args below meth c D A nL (cells) (slots) (Q) (ws) (lv) (pc) (st0) := by
  intro H ls locs hP hD hS hl
  refine va_calli (vv_runV X hP hD hl hM ok hrm d q ci hr hrC he is hC hnd hn hst0 hroom hcs) hS (fun q _ h => js_in hC hD q h) (js_in hC hD) (fun r u t H1 locs1 ht hvm hp hB hz hk hS1 => ?_)
  rw [ht] at hB
  obtain ⟨hP2, hD2⟩ := js_join hP hD hC ((h1 u).trans h2.symm) hk hB
  exact k r u hp H1 ls locs1 hP2 hD2 hS1 hl
theorem vv_cSv (X : CX p s m args c cc own nL D cB cI) {post : S → Prop} (hM : Met l y (Cond.code y b maxL none :: js_all) rm (JP D cB cI wc As) (va_Qv post (fun u t => va_P D js_cls (w1 u) t.heap) (js_A wc)) 0 0 (js_A wc)) (ok : js_okS own index y b maxL none n) (hrm : js_rm R rm maxL) (d : decode cc pc = .ok (.invokestatic index, 3)) (is : List Nat) (hC : is.map (fun i => ws[i]?) = wc.map some) (hnd : va_nd is = true) (as : List Nat) (h1 : ∀ u, (w1 u).map (fun z => z.1) = as) (h2 : wc.map (fun z => z.1) = as) (hn : As.length = n) (hst0 : st0 = As.reverse ++ st) (hroom : (st.map fun v => v.category).sum ≤ 8) (hcs : cells ≤ R.cells ∧ slots ≤ R.slots) (k : ∀ u, post u → VV p l e R s m args below meth c D A nL (cells) (slots) (Q) (js_put ws is (w1 u)) (lv) (pc + 3) (st)) : VV p l e R s m args below meth c D A nL (cells) (slots) (Q) (ws) (lv) (pc) (st0) := by
  intro H ls locs hP hD hS hl
  refine va_callv (vv_runS X hP hD hl hM ok hrm d is hC hnd hn hst0 hroom hcs) hS (fun q _ h => js_in hC hD q h) (js_in hC hD) (fun u t H1 locs1 ht hvm hp hB hz hk hS1 => ?_)
  rw [ht] at hB
  obtain ⟨hP2, hD2⟩ := js_join hP hD hC ((h1 u).trans h2.symm) hk hB
  exact k u hp H1 ls locs1 hP2 hD2 hS1 hl
theorem vv_cSi (X : CX p s m args c cc own nL D cB cI) {post : Int32 → S → Prop} (hM : Met l y (Cond.code y b maxL ret :: js_all) rm (JP D cB cI wc As) (va_Qi post (fun u t => va_P D js_cls (w1 u) t.heap) (js_A wc)) 0 0 (js_A wc)) (ok : js_okS own index y b maxL ret n) (hrm : js_rm R rm maxL) (d : decode cc pc = .ok (.invokestatic index, 3)) (is : List Nat) (hC : is.map (fun i => ws[i]?) = wc.map some) (hnd : va_nd is = true) (as : List Nat) (h1 : ∀ u, (w1 u).map (fun z => z.1) = as) (h2 : wc.map (fun z => z.1) = as) (hn : As.length = n) (hst0 : st0 = As.reverse ++ st) (hroom : (st.map fun v => v.category).sum ≤ 8) (hcs : cells ≤ R.cells ∧ slots ≤ R.slots) (k : ∀ r u, post r u → VV p l e R s m args below meth c D A nL (cells) (slots) (Q) (js_put ws is (w1 u)) (lv) (pc + 3) (.int r :: st)) : VV p l e R s m args below meth c D A nL (cells) (slots) (Q) (ws) (lv) (pc) (st0) := by
  intro H ls locs hP hD hS hl
  refine va_calli (vv_runS X hP hD hl hM ok hrm d is hC hnd hn hst0 hroom hcs) hS (fun q _ h => js_in hC hD q h) (js_in hC hD) (fun r u t H1 locs1 ht hvm hp hB hz hk hS1 => ?_)
  rw [ht] at hB
  obtain ⟨hP2, hD2⟩ := js_join hP hD hC ((h1 u).trans h2.symm) hk hB
  exact k r u hp H1 ls locs1 hP2 hD2 hS1 hl
theorem vv_cNv (X : CX p s m args c cc own nL D cB cI) {post : S → Prop} (hM : Met l y (Cond.code y b maxL none :: js_all) rm (JP D cB cI wc As) (va_Qv post (fun u t => va_P D js_cls (w1 u) t.heap) (js_A wc)) 0 0 (js_A wc)) (ok : js_okN own index y b maxL none n host) (hrm : js_rm R rm maxL) (d : decode cc pc = .ok (.invokestatic index, 3)) (is : List Nat) (hC : is.map (fun i => ws[i]?) = wc.map some) (hnd : va_nd is = true) (as : List Nat) (h1 : ∀ u, (w1 u).map (fun z => z.1) = as) (h2 : wc.map (fun z => z.1) = as) (hn : As.length = n) (hst0 : st0 = As.reverse ++ st) (hroom : (st.map fun v => v.category).sum ≤ 8) (hcs : cells ≤ R.cells ∧ slots ≤ R.slots) (k : ∀ u, post u → VV p l e R s m args below meth c D A nL (cells) (slots) (Q) (js_put ws is (w1 u)) (lv) (pc + 3) (st)) : VV p l e R s m args below meth c D A nL (cells) (slots) (Q) (ws) (lv) (pc) (st0) := by
  intro H ls locs hP hD hS hl
  refine va_callv (vv_runN X hP hD hl hM ok hrm d is hC hnd hn hst0 hroom hcs) hS (fun q _ h => js_in hC hD q h) (js_in hC hD) (fun u t H1 locs1 ht hvm hp hB hz hk hS1 => ?_)
  rw [ht] at hB
  obtain ⟨hP2, hD2⟩ := js_join hP hD hC ((h1 u).trans h2.symm) hk hB
  exact k u hp H1 ls locs1 hP2 hD2 hS1 hl
theorem vv_cNi (X : CX p s m args c cc own nL D cB cI) {post : Int32 → S → Prop} (hM : Met l y (Cond.code y b maxL ret :: js_all) rm (JP D cB cI wc As) (va_Qi post (fun u t => va_P D js_cls (w1 u) t.heap) (js_A wc)) 0 0 (js_A wc)) (ok : js_okN own index y b maxL ret n host) (hrm : js_rm R rm maxL) (d : decode cc pc = .ok (.invokestatic index, 3)) (is : List Nat) (hC : is.map (fun i => ws[i]?) = wc.map some) (hnd : va_nd is = true) (as : List Nat) (h1 : ∀ u, (w1 u).map (fun z => z.1) = as) (h2 : wc.map (fun z => z.1) = as) (hn : As.length = n) (hst0 : st0 = As.reverse ++ st) (hroom : (st.map fun v => v.category).sum ≤ 8) (hcs : cells ≤ R.cells ∧ slots ≤ R.slots) (k : ∀ r u, post r u → VV p l e R s m args below meth c D A nL (cells) (slots) (Q) (js_put ws is (w1 u)) (lv) (pc + 3) (.int r :: st)) : VV p l e R s m args below meth c D A nL (cells) (slots) (Q) (ws) (lv) (pc) (st0) := by
  intro H ls locs hP hD hS hl
  refine va_calli (vv_runN X hP hD hl hM ok hrm d is hC hnd hn hst0 hroom hcs) hS (fun q _ h => js_in hC hD q h) (js_in hC hD) (fun r u t H1 locs1 ht hvm hp hB hz hk hS1 => ?_)
  rw [ht] at hB
  obtain ⟨hP2, hD2⟩ := js_join hP hD hC ((h1 u).trans h2.symm) hk hB
  exact k r u hp H1 ls locs1 hP2 hD2 hS1 hl
theorem vv_retv (X : CX p s m args c cc own nL D cB cI) {post : S → Prop} (hr : meth.sig.returnType = none) (hlk : meth.locks = false) (d : decode cc pc = .ok (.return_, 1)) (u : S) (hu : post u) (hw : ws = w1 u) : VV p l e R s m args below meth c D A nL (cells) (slots) (MQ below (va_Qv post (fun u t => va_P D js_cls (w1 u) t.heap) A) args s cells slots A) (ws) (lv) (pc) ([]) := fun H ls locs hP hD hS hl => by subst hw; exact W.vret X.1 X.2.1 hr (fun t ht hW => ⟨⟨u, rfl, hu, by show va_P D js_cls (w1 u) t.heap; rw [ht]; exact hP⟩, hS.F ht⟩) hS.2.2 d hlk
theorem vv_reti (X : CX p s m args c cc own nL D cB cI) {post : Int32 → S → Prop} (hr : meth.sig.returnType = some .int) (hlk : meth.locks = false) (d : decode cc pc = .ok (.ireturn, 1)) {v : Int32} (u : S) (hu : post v u) (hw : ws = w1 u) : VV p l e R s m args below meth c D A nL (cells) (slots) (MQ below (va_Qi post (fun u t => va_P D js_cls (w1 u) t.heap) A) args s cells slots A) (ws) (lv) (pc) ([.int v]) := fun H ls locs hP hD hS hl => by subst hw; exact W.iret X.1 X.2.1 hr (fun t ht hW => ⟨⟨v, u, rfl, hu, by show va_P D js_cls (w1 u) t.heap; rw [ht]; exact hP⟩, hS.F ht⟩) hS.2.2 d hlk
theorem vv_retz (X : CX p s m args c cc own nL D cB cI) {post : Int32 → S → Prop} (hr : meth.sig.returnType = some .boolean) (hlk : meth.locks = false) (d : decode cc pc = .ok (.ireturn, 1)) {v : Int32} (hv : v = 0 ∨ v = 1) (u : S) (hu : post v u) (hw : ws = w1 u) : VV p l e R s m args below meth c D A nL (cells) (slots) (MQ below (va_Qi post (fun u t => va_P D js_cls (w1 u) t.heap) A) args s cells slots A) (ws) (lv) (pc) ([.int v]) := fun H ls locs hP hD hS hl => by subst hw; exact W.zret X.1 X.2.1 hr (by rcases hv with rfl | rfl <;> rfl) (fun t ht hW => ⟨⟨v, u, rfl, hu, by show va_P D js_cls (w1 u) t.heap; rw [ht]; exact hP⟩, hS.F ht⟩) hS.2.2 d hlk
end VC
/-- a contract out of the walk of its body -/
theorem Met.ofV {l : Launch} {y : MethodName} {cc : ByteArray} {maxL : Nat} {ret : Option FieldType} {rm : Room} {D : va_G} {cB cI : ClassId} {wc : va_W} {av : List Value} {lv0 : List (Nat × Value)} {Qc : Array Value → State → Outcome → State → Prop} (hy : plainName y.cls = true) (hav : (lg_sl av).length ≤ maxL) (hlv : lv_args 0 av = lv0)
    (body : ∀ (p : Program) (e : Env) (s : State) (m : MethodId) (args : Array Value) (below : List Frame) (meth : Method) (c : Code), CX p s m args c cc y.cls maxL D cB cI → meth.sig.returnType = ret → meth.locks = false → VV p l e rm s m args below meth c D (js_A wc) maxL 0 0 (MQ below Qc args s 0 0 (js_A wc)) wc lv0 0 []) : Met l y (Cond.code y cc maxL ret :: js_all) rm (JP D cB cI wc av) Qc 0 0 (js_A wc) := by
  refine Met.ofW (cc := cc) (maxL := maxL) (ret := ret) hy rfl ?_
  intro p e s m args below meth c s₁ B hml hv
  obtain ⟨rfl, hP, hK, hD0, hN⟩ := hv
  have hts := atoms_spec (ws := Cond.code y cc maxL ret :: js_all) B.pre
  have hown : s.vm.findClass y.cls = some m.cls := findClass_of_methodNamed B.named
  have hl := lv_entry av (n := maxL) hav
  rw [hlv] at hl
  rw [lg_entry_eq]
  exact body p e s m _ below meth c ⟨B.exec, B.bytes, hml, hown, fun w hw => hts w (List.mem_cons_of_mem _ hw), hK, hN⟩ B.returns B.notSynchronized s.heap _ [] hP (js_A.self hD0) va_S.rf hl
section VG
variable {p : Program} {l : Launch} {e : Env} {R : Room} {s : State} {m : MethodId} {args : Array Value} {below : List Frame} {meth : Method} {c : Code} {Q : State → Prop}
variable {D : va_G} {A : Nat → Prop} {cc : ByteArray} {own : String} {nL cells slots pc : Nat} {cB cI : ClassId} {ws ws' : va_W} {lv lv' : List (Nat × Value)} {st : List Value}
theorem gf_JS_10 (X : CX p s m args c cc "JournalShelf" nL D cB cI) (q : Nat) {a : Nat} {fs : List Value} {v : Value} (d : decode cc pc = .ok (.getfield 10, 3)) (he : ws[q]? = some (a, .inr (0, fs))) (hv : fs[0]? = some v) (k : VV p l e R s m args below meth c D A nL (cells) (slots) (Q) (ws) (lv) (pc + 3) (v :: st)) : VV p l e R s m args below meth c D A nL (cells) (slots) (Q) (ws) (lv) (pc) (.ref a :: st) := vv_get X jl_JS rfl 0 (by decide) rfl jk_89 q d he hv k
theorem gf_JS_16 (X : CX p s m args c cc "JournalShelf" nL D cB cI) (q : Nat) {a : Nat} {fs : List Value} {v : Value} (d : decode cc pc = .ok (.getfield 16, 3)) (he : ws[q]? = some (a, .inr (0, fs))) (hv : fs[1]? = some v) (k : VV p l e R s m args below meth c D A nL (cells) (slots) (Q) (ws) (lv) (pc + 3) (v :: st)) : VV p l e R s m args below meth c D A nL (cells) (slots) (Q) (ws) (lv) (pc) (.ref a :: st) := vv_get X jl_JS rfl 1 (by decide) rfl jk_90 q d he hv k
theorem gf_JS_24 (X : CX p s m args c cc "JournalShelf" nL D cB cI) (q : Nat) {a : Nat} {fs : List Value} {v : Value} (d : decode cc pc = .ok (.getfield 24, 3)) (he : ws[q]? = some (a, .inr (0, fs))) (hv : fs[2]? = some v) (k : VV p l e R s m args below meth c D A nL (cells) (slots) (Q) (ws) (lv) (pc + 3) (v :: st)) : VV p l e R s m args below meth c D A nL (cells) (slots) (Q) (ws) (lv) (pc) (.ref a :: st) := vv_get X jl_JS rfl 2 (by decide) rfl jk_91 q d he hv k
theorem gf_JS_28 (X : CX p s m args c cc "JournalShelf" nL D cB cI) (q : Nat) {a : Nat} {fs : List Value} {v : Value} (d : decode cc pc = .ok (.getfield 28, 3)) (he : ws[q]? = some (a, .inr (1, fs))) (hv : fs[4]? = some v) (k : VV p l e R s m args below meth c D A nL (cells) (slots) (Q) (ws) (lv) (pc + 3) (v :: st)) : VV p l e R s m args below meth c D A nL (cells) (slots) (Q) (ws) (lv) (pc) (.ref a :: st) := vv_getN X jl_Sh rfl 4 (by decide) rfl jk_51 q d he hv k
theorem gf_JS_31 (X : CX p s m args c cc "JournalShelf" nL D cB cI) (q : Nat) {a : Nat} {fs : List Value} {v : Value} (d : decode cc pc = .ok (.getfield 31, 3)) (he : ws[q]? = some (a, .inr (0, fs))) (hv : fs[3]? = some v) (k : VV p l e R s m args below meth c D A nL (cells) (slots) (Q) (ws) (lv) (pc + 3) (v :: st)) : VV p l e R s m args below meth c D A nL (cells) (slots) (Q) (ws) (lv) (pc) (.ref a :: st) := vv_get X jl_JS rfl 3 (by decide) rfl jk_92 q d he hv k
theorem gf_JS_54 (X : CX p s m args c cc "JournalShelf" nL D cB cI) (q : Nat) {a : Nat} {fs : List Value} {v : Value} (d : decode cc pc = .ok (.getfield 54, 3)) (he : ws[q]? = some (a, .inr (1, fs))) (hv : fs[6]? = some v) (k : VV p l e R s m args below meth c D A nL (cells) (slots) (Q) (ws) (lv) (pc + 3) (v :: st)) : VV p l e R s m args below meth c D A nL (cells) (slots) (Q) (ws) (lv) (pc) (.ref a :: st) := vv_getN X jl_Sh rfl 6 (by decide) rfl jk_54 q d he hv k
theorem gf_JS_57 (X : CX p s m args c cc "JournalShelf" nL D cB cI) (q : Nat) {a : Nat} {fs : List Value} {v : Value} (d : decode cc pc = .ok (.getfield 57, 3)) (he : ws[q]? = some (a, .inr (1, fs))) (hv : fs[8]? = some v) (k : VV p l e R s m args below meth c D A nL (cells) (slots) (Q) (ws) (lv) (pc + 3) (v :: st)) : VV p l e R s m args below meth c D A nL (cells) (slots) (Q) (ws) (lv) (pc) (.ref a :: st) := vv_getN X jl_Sh rfl 8 (by decide) rfl jk_57 q d he hv k
theorem gf_JS_63 (X : CX p s m args c cc "JournalShelf" nL D cB cI) (q : Nat) {a : Nat} {fs : List Value} {v : Value} (d : decode cc pc = .ok (.getfield 63, 3)) (he : ws[q]? = some (a, .inr (1, fs))) (hv : fs[0]? = some v) (k : VV p l e R s m args below meth c D A nL (cells) (slots) (Q) (ws) (lv) (pc + 3) (v :: st)) : VV p l e R s m args below meth c D A nL (cells) (slots) (Q) (ws) (lv) (pc) (.ref a :: st) := vv_get X jl_Sh rfl 0 (by decide) rfl jk_46 q d he hv k
theorem gf_JS_76 (X : CX p s m args c cc "JournalShelf" nL D cB cI) (q : Nat) {a : Nat} {fs : List Value} {v : Value} (d : decode cc pc = .ok (.getfield 76, 3)) (he : ws[q]? = some (a, .inr (0, fs))) (hv : fs[4]? = some v) (k : VV p l e R s m args below meth c D A nL (cells) (slots) (Q) (ws) (lv) (pc + 3) (v :: st)) : VV p l e R s m args below meth c D A nL (cells) (slots) (Q) (ws) (lv) (pc) (.ref a :: st) := vv_get X jl_JS rfl 4 (by decide) rfl jk_93 q d he hv k
theorem gf_JS_86 (X : CX p s m args c cc "JournalShelf" nL D cB cI) (q : Nat) {a : Nat} {fs : List Value} {v : Value} (d : decode cc pc = .ok (.getfield 86, 3)) (he : ws[q]? = some (a, .inr (2, fs))) (hv : fs[3]? = some v) (k : VV p l e R s m args below meth c D A nL (cells) (slots) (Q) (ws) (lv) (pc + 3) (v :: st)) : VV p l e R s m args below meth c D A nL (cells) (slots) (Q) (ws) (lv) (pc) (.ref a :: st) := vv_getN X jl_Dk rfl 3 (by decide) rfl jk_33 q d he hv k
theorem gf_Dk_10 (X : CX p s m args c cc "JournalShelf$Disk" nL D cB cI) (q : Nat) {a : Nat} {fs : List Value} {v : Value} (d : decode cc pc = .ok (.getfield 10, 3)) (he : ws[q]? = some (a, .inr (2, fs))) (hv : fs[0]? = some v) (k : VV p l e R s m args below meth c D A nL (cells) (slots) (Q) (ws) (lv) (pc + 3) (v :: st)) : VV p l e R s m args below meth c D A nL (cells) (slots) (Q) (ws) (lv) (pc) (.ref a :: st) := vv_get X jl_Dk rfl 0 (by decide) rfl jk_29 q d he hv k
theorem gf_Dk_16 (X : CX p s m args c cc "JournalShelf$Disk" nL D cB cI) (q : Nat) {a : Nat} {fs : List Value} {v : Value} (d : decode cc pc = .ok (.getfield 16, 3)) (he : ws[q]? = some (a, .inr (2, fs))) (hv : fs[1]? = some v) (k : VV p l e R s m args below meth c D A nL (cells) (slots) (Q) (ws) (lv) (pc + 3) (v :: st)) : VV p l e R s m args below meth c D A nL (cells) (slots) (Q) (ws) (lv) (pc) (.ref a :: st) := vv_get X jl_Dk rfl 1 (by decide) rfl jk_30 q d he hv k
theorem gf_Dk_19 (X : CX p s m args c cc "JournalShelf$Disk" nL D cB cI) (q : Nat) {a : Nat} {fs : List Value} {v : Value} (d : decode cc pc = .ok (.getfield 19, 3)) (he : ws[q]? = some (a, .inr (2, fs))) (hv : fs[2]? = some v) (k : VV p l e R s m args below meth c D A nL (cells) (slots) (Q) (ws) (lv) (pc + 3) (v :: st)) : VV p l e R s m args below meth c D A nL (cells) (slots) (Q) (ws) (lv) (pc) (.ref a :: st) := vv_get X jl_Dk rfl 2 (by decide) rfl jk_31 q d he hv k
theorem gf_Dk_23 (X : CX p s m args c cc "JournalShelf$Disk" nL D cB cI) (q : Nat) {a : Nat} {fs : List Value} {v : Value} (d : decode cc pc = .ok (.getfield 23, 3)) (he : ws[q]? = some (a, .inr (2, fs))) (hv : fs[3]? = some v) (k : VV p l e R s m args below meth c D A nL (cells) (slots) (Q) (ws) (lv) (pc + 3) (v :: st)) : VV p l e R s m args below meth c D A nL (cells) (slots) (Q) (ws) (lv) (pc) (.ref a :: st) := vv_get X jl_Dk rfl 3 (by decide) rfl jk_32 q d he hv k
theorem gf_Sh_12 (X : CX p s m args c cc "JournalShelf$Shelf" nL D cB cI) (q : Nat) {a : Nat} {fs : List Value} {v : Value} (d : decode cc pc = .ok (.getfield 12, 3)) (he : ws[q]? = some (a, .inr (1, fs))) (hv : fs[0]? = some v) (k : VV p l e R s m args below meth c D A nL (cells) (slots) (Q) (ws) (lv) (pc + 3) (v :: st)) : VV p l e R s m args below meth c D A nL (cells) (slots) (Q) (ws) (lv) (pc) (.ref a :: st) := vv_get X jl_Sh rfl 0 (by decide) rfl jk_45 q d he hv k
theorem gf_Sh_18 (X : CX p s m args c cc "JournalShelf$Shelf" nL D cB cI) (q : Nat) {a : Nat} {fs : List Value} {v : Value} (d : decode cc pc = .ok (.getfield 18, 3)) (he : ws[q]? = some (a, .inr (1, fs))) (hv : fs[1]? = some v) (k : VV p l e R s m args below meth c D A nL (cells) (slots) (Q) (ws) (lv) (pc + 3) (v :: st)) : VV p l e R s m args below meth c D A nL (cells) (slots) (Q) (ws) (lv) (pc) (.ref a :: st) := vv_get X jl_Sh rfl 1 (by decide) rfl jk_47 q d he hv k
theorem gf_Sh_22 (X : CX p s m args c cc "JournalShelf$Shelf" nL D cB cI) (q : Nat) {a : Nat} {fs : List Value} {v : Value} (d : decode cc pc = .ok (.getfield 22, 3)) (he : ws[q]? = some (a, .inr (1, fs))) (hv : fs[2]? = some v) (k : VV p l e R s m args below meth c D A nL (cells) (slots) (Q) (ws) (lv) (pc + 3) (v :: st)) : VV p l e R s m args below meth c D A nL (cells) (slots) (Q) (ws) (lv) (pc) (.ref a :: st) := vv_get X jl_Sh rfl 2 (by decide) rfl jk_48 q d he hv k
theorem gf_Sh_25 (X : CX p s m args c cc "JournalShelf$Shelf" nL D cB cI) (q : Nat) {a : Nat} {fs : List Value} {v : Value} (d : decode cc pc = .ok (.getfield 25, 3)) (he : ws[q]? = some (a, .inr (1, fs))) (hv : fs[3]? = some v) (k : VV p l e R s m args below meth c D A nL (cells) (slots) (Q) (ws) (lv) (pc + 3) (v :: st)) : VV p l e R s m args below meth c D A nL (cells) (slots) (Q) (ws) (lv) (pc) (.ref a :: st) := vv_get X jl_Sh rfl 3 (by decide) rfl jk_49 q d he hv k
theorem gf_Sh_29 (X : CX p s m args c cc "JournalShelf$Shelf" nL D cB cI) (q : Nat) {a : Nat} {fs : List Value} {v : Value} (d : decode cc pc = .ok (.getfield 29, 3)) (he : ws[q]? = some (a, .inr (1, fs))) (hv : fs[6]? = some v) (k : VV p l e R s m args below meth c D A nL (cells) (slots) (Q) (ws) (lv) (pc + 3) (v :: st)) : VV p l e R s m args below meth c D A nL (cells) (slots) (Q) (ws) (lv) (pc) (.ref a :: st) := vv_get X jl_Sh rfl 6 (by decide) rfl jk_53 q d he hv k
theorem gf_Sh_33 (X : CX p s m args c cc "JournalShelf$Shelf" nL D cB cI) (q : Nat) {a : Nat} {fs : List Value} {v : Value} (d : decode cc pc = .ok (.getfield 33, 3)) (he : ws[q]? = some (a, .inr (1, fs))) (hv : fs[10]? = some v) (k : VV p l e R s m args below meth c D A nL (cells) (slots) (Q) (ws) (lv) (pc + 3) (v :: st)) : VV p l e R s m args below meth c D A nL (cells) (slots) (Q) (ws) (lv) (pc) (.ref a :: st) := vv_get X jl_Sh rfl 10 (by decide) rfl jk_59 q d he hv k
theorem gf_Sh_36 (X : CX p s m args c cc "JournalShelf$Shelf" nL D cB cI) (q : Nat) {a : Nat} {fs : List Value} {v : Value} (d : decode cc pc = .ok (.getfield 36, 3)) (he : ws[q]? = some (a, .inr (1, fs))) (hv : fs[11]? = some v) (k : VV p l e R s m args below meth c D A nL (cells) (slots) (Q) (ws) (lv) (pc + 3) (v :: st)) : VV p l e R s m args below meth c D A nL (cells) (slots) (Q) (ws) (lv) (pc) (.ref a :: st) := vv_get X jl_Sh rfl 11 (by decide) rfl jk_60 q d he hv k
theorem gf_Sh_39 (X : CX p s m args c cc "JournalShelf$Shelf" nL D cB cI) (q : Nat) {a : Nat} {fs : List Value} {v : Value} (d : decode cc pc = .ok (.getfield 39, 3)) (he : ws[q]? = some (a, .inr (1, fs))) (hv : fs[12]? = some v) (k : VV p l e R s m args below meth c D A nL (cells) (slots) (Q) (ws) (lv) (pc + 3) (v :: st)) : VV p l e R s m args below meth c D A nL (cells) (slots) (Q) (ws) (lv) (pc) (.ref a :: st) := vv_get X jl_Sh rfl 12 (by decide) rfl jk_61 q d he hv k
theorem gf_Sh_46 (X : CX p s m args c cc "JournalShelf$Shelf" nL D cB cI) (q : Nat) {a : Nat} {fs : List Value} {v : Value} (d : decode cc pc = .ok (.getfield 46, 3)) (he : ws[q]? = some (a, .inr (1, fs))) (hv : fs[4]? = some v) (k : VV p l e R s m args below meth c D A nL (cells) (slots) (Q) (ws) (lv) (pc + 3) (v :: st)) : VV p l e R s m args below meth c D A nL (cells) (slots) (Q) (ws) (lv) (pc) (.ref a :: st) := vv_get X jl_Sh rfl 4 (by decide) rfl jk_50 q d he hv k
theorem gf_Sh_52 (X : CX p s m args c cc "JournalShelf$Shelf" nL D cB cI) (q : Nat) {a : Nat} {fs : List Value} {v : Value} (d : decode cc pc = .ok (.getfield 52, 3)) (he : ws[q]? = some (a, .inr (1, fs))) (hv : fs[5]? = some v) (k : VV p l e R s m args below meth c D A nL (cells) (slots) (Q) (ws) (lv) (pc + 3) (v :: st)) : VV p l e R s m args below meth c D A nL (cells) (slots) (Q) (ws) (lv) (pc) (.ref a :: st) := vv_get X jl_Sh rfl 5 (by decide) rfl jk_52 q d he hv k
theorem gf_Sh_65 (X : CX p s m args c cc "JournalShelf$Shelf" nL D cB cI) (q : Nat) {a : Nat} {fs : List Value} {v : Value} (d : decode cc pc = .ok (.getfield 65, 3)) (he : ws[q]? = some (a, .inr (1, fs))) (hv : fs[8]? = some v) (k : VV p l e R s m args below meth c D A nL (cells) (slots) (Q) (ws) (lv) (pc + 3) (v :: st)) : VV p l e R s m args below meth c D A nL (cells) (slots) (Q) (ws) (lv) (pc) (.ref a :: st) := vv_get X jl_Sh rfl 8 (by decide) rfl jk_56 q d he hv k
theorem gf_Sh_68 (X : CX p s m args c cc "JournalShelf$Shelf" nL D cB cI) (q : Nat) {a : Nat} {fs : List Value} {v : Value} (d : decode cc pc = .ok (.getfield 68, 3)) (he : ws[q]? = some (a, .inr (1, fs))) (hv : fs[7]? = some v) (k : VV p l e R s m args below meth c D A nL (cells) (slots) (Q) (ws) (lv) (pc + 3) (v :: st)) : VV p l e R s m args below meth c D A nL (cells) (slots) (Q) (ws) (lv) (pc) (.ref a :: st) := vv_get X jl_Sh rfl 7 (by decide) rfl jk_55 q d he hv k
theorem gf_Md_9 (X : CX p s m args c cc "JournalShelfModel" nL D cB cI) (q : Nat) {a : Nat} {fs : List Value} {v : Value} (d : decode cc pc = .ok (.getfield 9, 3)) (he : ws[q]? = some (a, .inr (3, fs))) (hv : fs[0]? = some v) (k : VV p l e R s m args below meth c D A nL (cells) (slots) (Q) (ws) (lv) (pc + 3) (v :: st)) : VV p l e R s m args below meth c D A nL (cells) (slots) (Q) (ws) (lv) (pc) (.ref a :: st) := vv_get X jl_Md rfl 0 (by decide) rfl jk_231 q d he hv k
theorem gf_Md_13 (X : CX p s m args c cc "JournalShelfModel" nL D cB cI) (q : Nat) {a : Nat} {fs : List Value} {v : Value} (d : decode cc pc = .ok (.getfield 13, 3)) (he : ws[q]? = some (a, .inr (3, fs))) (hv : fs[1]? = some v) (k : VV p l e R s m args below meth c D A nL (cells) (slots) (Q) (ws) (lv) (pc + 3) (v :: st)) : VV p l e R s m args below meth c D A nL (cells) (slots) (Q) (ws) (lv) (pc) (.ref a :: st) := vv_get X jl_Md rfl 1 (by decide) rfl jk_232 q d he hv k
theorem gf_Md_16 (X : CX p s m args c cc "JournalShelfModel" nL D cB cI) (q : Nat) {a : Nat} {fs : List Value} {v : Value} (d : decode cc pc = .ok (.getfield 16, 3)) (he : ws[q]? = some (a, .inr (3, fs))) (hv : fs[2]? = some v) (k : VV p l e R s m args below meth c D A nL (cells) (slots) (Q) (ws) (lv) (pc + 3) (v :: st)) : VV p l e R s m args below meth c D A nL (cells) (slots) (Q) (ws) (lv) (pc) (.ref a :: st) := vv_get X jl_Md rfl 2 (by decide) rfl jk_233 q d he hv k
theorem gf_Md_19 (X : CX p s m args c cc "JournalShelfModel" nL D cB cI) (q : Nat) {a : Nat} {fs : List Value} {v : Value} (d : decode cc pc = .ok (.getfield 19, 3)) (he : ws[q]? = some (a, .inr (3, fs))) (hv : fs[3]? = some v) (k : VV p l e R s m args below meth c D A nL (cells) (slots) (Q) (ws) (lv) (pc + 3) (v :: st)) : VV p l e R s m args below meth c D A nL (cells) (slots) (Q) (ws) (lv) (pc) (.ref a :: st) := vv_get X jl_Md rfl 3 (by decide) rfl jk_234 q d he hv k
theorem gf_Md_22 (X : CX p s m args c cc "JournalShelfModel" nL D cB cI) (q : Nat) {a : Nat} {fs : List Value} {v : Value} (d : decode cc pc = .ok (.getfield 22, 3)) (he : ws[q]? = some (a, .inr (3, fs))) (hv : fs[4]? = some v) (k : VV p l e R s m args below meth c D A nL (cells) (slots) (Q) (ws) (lv) (pc + 3) (v :: st)) : VV p l e R s m args below meth c D A nL (cells) (slots) (Q) (ws) (lv) (pc) (.ref a :: st) := vv_get X jl_Md rfl 4 (by decide) rfl jk_235 q d he hv k
theorem gf_Md_25 (X : CX p s m args c cc "JournalShelfModel" nL D cB cI) (q : Nat) {a : Nat} {fs : List Value} {v : Value} (d : decode cc pc = .ok (.getfield 25, 3)) (he : ws[q]? = some (a, .inr (3, fs))) (hv : fs[7]? = some v) (k : VV p l e R s m args below meth c D A nL (cells) (slots) (Q) (ws) (lv) (pc + 3) (v :: st)) : VV p l e R s m args below meth c D A nL (cells) (slots) (Q) (ws) (lv) (pc) (.ref a :: st) := vv_get X jl_Md rfl 7 (by decide) rfl jk_238 q d he hv k
theorem gf_Md_28 (X : CX p s m args c cc "JournalShelfModel" nL D cB cI) (q : Nat) {a : Nat} {fs : List Value} {v : Value} (d : decode cc pc = .ok (.getfield 28, 3)) (he : ws[q]? = some (a, .inr (3, fs))) (hv : fs[8]? = some v) (k : VV p l e R s m args below meth c D A nL (cells) (slots) (Q) (ws) (lv) (pc + 3) (v :: st)) : VV p l e R s m args below meth c D A nL (cells) (slots) (Q) (ws) (lv) (pc) (.ref a :: st) := vv_get X jl_Md rfl 8 (by decide) rfl jk_239 q d he hv k
theorem gf_Md_31 (X : CX p s m args c cc "JournalShelfModel" nL D cB cI) (q : Nat) {a : Nat} {fs : List Value} {v : Value} (d : decode cc pc = .ok (.getfield 31, 3)) (he : ws[q]? = some (a, .inr (3, fs))) (hv : fs[5]? = some v) (k : VV p l e R s m args below meth c D A nL (cells) (slots) (Q) (ws) (lv) (pc + 3) (v :: st)) : VV p l e R s m args below meth c D A nL (cells) (slots) (Q) (ws) (lv) (pc) (.ref a :: st) := vv_get X jl_Md rfl 5 (by decide) rfl jk_236 q d he hv k
theorem gf_Md_35 (X : CX p s m args c cc "JournalShelfModel" nL D cB cI) (q : Nat) {a : Nat} {fs : List Value} {v : Value} (d : decode cc pc = .ok (.getfield 35, 3)) (he : ws[q]? = some (a, .inr (3, fs))) (hv : fs[11]? = some v) (k : VV p l e R s m args below meth c D A nL (cells) (slots) (Q) (ws) (lv) (pc + 3) (v :: st)) : VV p l e R s m args below meth c D A nL (cells) (slots) (Q) (ws) (lv) (pc) (.ref a :: st) := vv_get X jl_Md rfl 11 (by decide) rfl jk_242 q d he hv k
theorem gf_Md_38 (X : CX p s m args c cc "JournalShelfModel" nL D cB cI) (q : Nat) {a : Nat} {fs : List Value} {v : Value} (d : decode cc pc = .ok (.getfield 38, 3)) (he : ws[q]? = some (a, .inr (3, fs))) (hv : fs[9]? = some v) (k : VV p l e R s m args below meth c D A nL (cells) (slots) (Q) (ws) (lv) (pc + 3) (v :: st)) : VV p l e R s m args below meth c D A nL (cells) (slots) (Q) (ws) (lv) (pc) (.ref a :: st) := vv_get X jl_Md rfl 9 (by decide) rfl jk_240 q d he hv k
theorem gf_Md_45 (X : CX p s m args c cc "JournalShelfModel" nL D cB cI) (q : Nat) {a : Nat} {fs : List Value} {v : Value} (d : decode cc pc = .ok (.getfield 45, 3)) (he : ws[q]? = some (a, .inr (3, fs))) (hv : fs[10]? = some v) (k : VV p l e R s m args below meth c D A nL (cells) (slots) (Q) (ws) (lv) (pc + 3) (v :: st)) : VV p l e R s m args below meth c D A nL (cells) (slots) (Q) (ws) (lv) (pc) (.ref a :: st) := vv_get X jl_Md rfl 10 (by decide) rfl jk_241 q d he hv k
theorem gf_Md_51 (X : CX p s m args c cc "JournalShelfModel" nL D cB cI) (q : Nat) {a : Nat} {fs : List Value} {v : Value} (d : decode cc pc = .ok (.getfield 51, 3)) (he : ws[q]? = some (a, .inr (3, fs))) (hv : fs[6]? = some v) (k : VV p l e R s m args below meth c D A nL (cells) (slots) (Q) (ws) (lv) (pc + 3) (v :: st)) : VV p l e R s m args below meth c D A nL (cells) (slots) (Q) (ws) (lv) (pc) (.ref a :: st) := vv_get X jl_Md rfl 6 (by decide) rfl jk_237 q d he hv k
theorem gf_Md_57 (X : CX p s m args c cc "JournalShelfModel" nL D cB cI) (q : Nat) {a : Nat} {fs : List Value} {v : Value} (d : decode cc pc = .ok (.getfield 57, 3)) (he : ws[q]? = some (a, .inr (3, fs))) (hv : fs[12]? = some v) (k : VV p l e R s m args below meth c D A nL (cells) (slots) (Q) (ws) (lv) (pc + 3) (v :: st)) : VV p l e R s m args below meth c D A nL (cells) (slots) (Q) (ws) (lv) (pc) (.ref a :: st) := vv_get X jl_Md rfl 12 (by decide) rfl jk_243 q d he hv k
theorem gf_Md_60 (X : CX p s m args c cc "JournalShelfModel" nL D cB cI) (q : Nat) {a : Nat} {fs : List Value} {v : Value} (d : decode cc pc = .ok (.getfield 60, 3)) (he : ws[q]? = some (a, .inr (3, fs))) (hv : fs[13]? = some v) (k : VV p l e R s m args below meth c D A nL (cells) (slots) (Q) (ws) (lv) (pc + 3) (v :: st)) : VV p l e R s m args below meth c D A nL (cells) (slots) (Q) (ws) (lv) (pc) (.ref a :: st) := vv_get X jl_Md rfl 13 (by decide) rfl jk_244 q d he hv k
theorem pf_JS_10 (X : CX p s m args c cc "JournalShelf" nL D cB cI) (hini : meth.name = "<init>") (q : Nat) {a : Nat} {fs : List Value} {v : Nat} (d : decode cc pc = .ok (.putfield 10, 3)) (he : ws[q]? = some (a, .inr (0, fs))) (hl0 : 0 < fs.length) (hs : ws.set q (a, .inr (0, fs.set 0 (.ref v))) = ws') (k : VV p l e R s m args below meth c D A nL (cells) (slots) (Q) (ws') (lv) (pc + 3) (st)) : VV p l e R s m args below meth c D A nL (cells) (slots) (Q) (ws) (lv) (pc) (.ref v :: .ref a :: st) := vv_putF X jl_JS jt_JS jo_JS jn_JS rfl rfl hini 0 (by decide) rfl rfl (ty := (.object "JournalShelf$Shelf")) (by decide +kernel) jk_89 q d he hl0 rfl rfl hs k
theorem pf_JS_16 (X : CX p s m args c cc "JournalShelf" nL D cB cI) (hini : meth.name = "<init>") (q : Nat) {a : Nat} {fs : List Value} {v : Nat} (d : decode cc pc = .ok (.putfield 16, 3)) (he : ws[q]? = some (a, .inr (0, fs))) (hl0 : 1 < fs.length) (hs : ws.set q (a, .inr (0, fs.set 1 (.ref v))) = ws') (k : VV p l e R s m args below meth c D A nL (cells) (slots) (Q) (ws') (lv) (pc + 3) (st)) : VV p l e R s m args below meth c D A nL (cells) (slots) (Q) (ws) (lv) (pc) (.ref v :: .ref a :: st) := vv_putF X jl_JS jt_JS jo_JS jn_JS rfl rfl hini 1 (by decide) rfl rfl (ty := (.array .byte)) (by decide +kernel) jk_90 q d he hl0 rfl rfl hs k
theorem pf_JS_24 (X : CX p s m args c cc "JournalShelf" nL D cB cI) (q : Nat) {a : Nat} {fs : List Value} {v : Int32} (d : decode cc pc = .ok (.putfield 24, 3)) (he : ws[q]? = some (a, .inr (0, fs))) (hl0 : 2 < fs.length) (hs : ws.set q (a, .inr (0, fs.set 2 (.int v))) = ws') (k : VV p l e R s m args below meth c D A nL (cells) (slots) (Q) (ws') (lv) (pc + 3) (st)) : VV p l e R s m args below meth c D A nL (cells) (slots) (Q) (ws) (lv) (pc) (.int v :: .ref a :: st) := vv_put X jl_JS jt_JS jo_JS jn_JS rfl 2 (by decide) rfl rfl (ty := .int) (by decide +kernel) jk_91 q d he hl0 rfl rfl hs k
theorem pf_JS_31 (X : CX p s m args c cc "JournalShelf" nL D cB cI) (q : Nat) {a : Nat} {fs : List Value} {v : Int32} (d : decode cc pc = .ok (.putfield 31, 3)) (he : ws[q]? = some (a, .inr (0, fs))) (hl0 : 3 < fs.length) (hs : ws.set q (a, .inr (0, fs.set 3 (.int v))) = ws') (k : VV p l e R s m args below meth c D A nL (cells) (slots) (Q) (ws') (lv) (pc + 3) (st)) : VV p l e R s m args below meth c D A nL (cells) (slots) (Q) (ws) (lv) (pc) (.int v :: .ref a :: st) := vv_put X jl_JS jt_JS jo_JS jn_JS rfl 3 (by decide) rfl rfl (ty := .int) (by decide +kernel) jk_92 q d he hl0 rfl rfl hs k
theorem pf_JS_76 (X : CX p s m args c cc "JournalShelf" nL D cB cI) (q : Nat) {a : Nat} {fs : List Value} {v : Int32} (d : decode cc pc = .ok (.putfield 76, 3)) (he : ws[q]? = some (a, .inr (0, fs))) (hl0 : 4 < fs.length) (hs : ws.set q (a, .inr (0, fs.set 4 (.int v))) = ws') (k : VV p l e R s m args below meth c D A nL (cells) (slots) (Q) (ws') (lv) (pc + 3) (st)) : VV p l e R s m args below meth c D A nL (cells) (slots) (Q) (ws) (lv) (pc) (.int v :: .ref a :: st) := vv_put X jl_JS jt_JS jo_JS jn_JS rfl 4 (by decide) rfl rfl (ty := .int) (by decide +kernel) jk_93 q d he hl0 rfl rfl hs k
theorem pf_Dk_10 (X : CX p s m args c cc "JournalShelf$Disk" nL D cB cI) (hini : meth.name = "<init>") (q : Nat) {a : Nat} {fs : List Value} {v : Nat} (d : decode cc pc = .ok (.putfield 10, 3)) (he : ws[q]? = some (a, .inr (2, fs))) (hl0 : 0 < fs.length) (hs : ws.set q (a, .inr (2, fs.set 0 (.ref v))) = ws') (k : VV p l e R s m args below meth c D A nL (cells) (slots) (Q) (ws') (lv) (pc + 3) (st)) : VV p l e R s m args below meth c D A nL (cells) (slots) (Q) (ws) (lv) (pc) (.ref v :: .ref a :: st) := vv_putF X jl_Dk jt_Dk jo_Dk jn_Dk rfl rfl hini 0 (by decide) rfl rfl (ty := (.array .byte)) (by decide +kernel) jk_29 q d he hl0 rfl rfl hs k
theorem pf_Dk_16 (X : CX p s m args c cc "JournalShelf$Disk" nL D cB cI) (hini : meth.name = "<init>") (q : Nat) {a : Nat} {fs : List Value} {v : Nat} (d : decode cc pc = .ok (.putfield 16, 3)) (he : ws[q]? = some (a, .inr (2, fs))) (hl0 : 1 < fs.length) (hs : ws.set q (a, .inr (2, fs.set 1 (.ref v))) = ws') (k : VV p l e R s m args below meth c D A nL (cells) (slots) (Q) (ws') (lv) (pc + 3) (st)) : VV p l e R s m args below meth c D A nL (cells) (slots) (Q) (ws) (lv) (pc) (.ref v :: .ref a :: st) := vv_putF X jl_Dk jt_Dk jo_Dk jn_Dk rfl rfl hini 1 (by decide) rfl rfl (ty := (.array .byte)) (by decide +kernel) jk_30 q d he hl0 rfl rfl hs k
theorem pf_Dk_19 (X : CX p s m args c cc "JournalShelf$Disk" nL D cB cI) (hini : meth.name = "<init>") (q : Nat) {a : Nat} {fs : List Value} {v : Nat} (d : decode cc pc = .ok (.putfield 19, 3)) (he : ws[q]? = some (a, .inr (2, fs))) (hl0 : 2 < fs.length) (hs : ws.set q (a, .inr (2, fs.set 2 (.ref v))) = ws') (k : VV p l e R s m args below meth c D A nL (cells) (slots) (Q) (ws') (lv) (pc + 3) (st)) : VV p l e R s m args below meth c D A nL (cells) (slots) (Q) (ws) (lv) (pc) (.ref v :: .ref a :: st) := vv_putF X jl_Dk jt_Dk jo_Dk jn_Dk rfl rfl hini 2 (by decide) rfl rfl (ty := (.array .int)) (by decide +kernel) jk_31 q d he hl0 rfl rfl hs k
theorem pf_Dk_23 (X : CX p s m args c cc "JournalShelf$Disk" nL D cB cI) (q : Nat) {a : Nat} {fs : List Value} {v : Int32} (d : decode cc pc = .ok (.putfield 23, 3)) (he : ws[q]? = some (a, .inr (2, fs))) (hl0 : 3 < fs.length) (hs : ws.set q (a, .inr (2, fs.set 3 (.int v))) = ws') (k : VV p l e R s m args below meth c D A nL (cells) (slots) (Q) (ws') (lv) (pc + 3) (st)) : VV p l e R s m args below meth c D A nL (cells) (slots) (Q) (ws) (lv) (pc) (.int v :: .ref a :: st) := vv_put X jl_Dk jt_Dk jo_Dk jn_Dk rfl 3 (by decide) rfl rfl (ty := .int) (by decide +kernel) jk_32 q d he hl0 rfl rfl hs k
theorem pf_Sh_12 (X : CX p s m args c cc "JournalShelf$Shelf" nL D cB cI) (hini : meth.name = "<init>") (q : Nat) {a : Nat} {fs : List Value} {v : Nat} (d : decode cc pc = .ok (.putfield 12, 3)) (he : ws[q]? = some (a, .inr (1, fs))) (hl0 : 0 < fs.length) (hs : ws.set q (a, .inr (1, fs.set 0 (.ref v))) = ws') (k : VV p l e R s m args below meth c D A nL (cells) (slots) (Q) (ws') (lv) (pc + 3) (st)) : VV p l e R s m args below meth c D A nL (cells) (slots) (Q) (ws) (lv) (pc) (.ref v :: .ref a :: st) := vv_putF X jl_Sh jt_Sh jo_Sh jn_Sh rfl rfl hini 0 (by decide) rfl rfl (ty := (.object "JournalShelf$Disk")) (by decide +kernel) jk_45 q d he hl0 rfl rfl hs k
theorem pf_Sh_18 (X : CX p s m args c cc "JournalShelf$Shelf" nL D cB cI) (hini : meth.name = "<init>") (q : Nat) {a : Nat} {fs : List Value} {v : Nat} (d : decode cc pc = .ok (.putfield 18, 3)) (he : ws[q]? = some (a, .inr (1, fs))) (hl0 : 1 < fs.length) (hs : ws.set q (a, .inr (1, fs.set 1 (.ref v))) = ws') (k : VV p l e R s m args below meth c D A nL (cells) (slots) (Q) (ws') (lv) (pc + 3) (st)) : VV p l e R s m args below meth c D A nL (cells) (slots) (Q) (ws) (lv) (pc) (.ref v :: .ref a :: st) := vv_putF X jl_Sh jt_Sh jo_Sh jn_Sh rfl rfl hini 1 (by decide) rfl rfl (ty := (.array .byte)) (by decide +kernel) jk_47 q d he hl0 rfl rfl hs k
theorem pf_Sh_22 (X : CX p s m args c cc "JournalShelf$Shelf" nL D cB cI) (hini : meth.name = "<init>") (q : Nat) {a : Nat} {fs : List Value} {v : Nat} (d : decode cc pc = .ok (.putfield 22, 3)) (he : ws[q]? = some (a, .inr (1, fs))) (hl0 : 2 < fs.length) (hs : ws.set q (a, .inr (1, fs.set 2 (.ref v))) = ws') (k : VV p l e R s m args below meth c D A nL (cells) (slots) (Q) (ws') (lv) (pc + 3) (st)) : VV p l e R s m args below meth c D A nL (cells) (slots) (Q) (ws) (lv) (pc) (.ref v :: .ref a :: st) := vv_putF X jl_Sh jt_Sh jo_Sh jn_Sh rfl rfl hini 2 (by decide) rfl rfl (ty := (.array .byte)) (by decide +kernel) jk_48 q d he hl0 rfl rfl hs k
theorem pf_Sh_25 (X : CX p s m args c cc "JournalShelf$Shelf" nL D cB cI) (hini : meth.name = "<init>") (q : Nat) {a : Nat} {fs : List Value} {v : Nat} (d : decode cc pc = .ok (.putfield 25, 3)) (he : ws[q]? = some (a, .inr (1, fs))) (hl0 : 3 < fs.length) (hs : ws.set q (a, .inr (1, fs.set 3 (.ref v))) = ws') (k : VV p l e R s m args below meth c D A nL (cells) (slots) (Q) (ws') (lv) (pc + 3) (st)) : VV p l e R s m args below meth c D A nL (cells) (slots) (Q) (ws) (lv) (pc) (.ref v :: .ref a :: st) := vv_putF X jl_Sh jt_Sh jo_Sh jn_Sh rfl rfl hini 3 (by decide) rfl rfl (ty := (.array .int)) (by decide +kernel) jk_49 q d he hl0 rfl rfl hs k
theorem pf_Sh_29 (X : CX p s m args c cc "JournalShelf$Shelf" nL D cB cI) (q : Nat) {a : Nat} {fs : List Value} {v : Int32} (d : decode cc pc = .ok (.putfield 29, 3)) (he : ws[q]? = some (a, .inr (1, fs))) (hl0 : 6 < fs.length) (hs : ws.set q (a, .inr (1, fs.set 6 (.int v))) = ws') (k : VV p l e R s m args below meth c D A nL (cells) (slots) (Q) (ws') (lv) (pc + 3) (st)) : VV p l e R s m args below meth c D A nL (cells) (slots) (Q) (ws) (lv) (pc) (.int v :: .ref a :: st) := vv_put X jl_Sh jt_Sh jo_Sh jn_Sh rfl 6 (by decide) rfl rfl (ty := .int) (by decide +kernel) jk_53 q d he hl0 rfl rfl hs k
theorem pf_Sh_33 (X : CX p s m args c cc "JournalShelf$Shelf" nL D cB cI) (hini : meth.name = "<init>") (q : Nat) {a : Nat} {fs : List Value} {v : Nat} (d : decode cc pc = .ok (.putfield 33, 3)) (he : ws[q]? = some (a, .inr (1, fs))) (hl0 : 10 < fs.length) (hs : ws.set q (a, .inr (1, fs.set 10 (.ref v))) = ws') (k : VV p l e R s m args below meth c D A nL (cells) (slots) (Q) (ws') (lv) (pc + 3) (st)) : VV p l e R s m args below meth c D A nL (cells) (slots) (Q) (ws) (lv) (pc) (.ref v :: .ref a :: st) := vv_putF X jl_Sh jt_Sh jo_Sh jn_Sh rfl rfl hini 10 (by decide) rfl rfl (ty := (.array .int)) (by decide +kernel) jk_59 q d he hl0 rfl rfl hs k
theorem pf_Sh_36 (X : CX p s m args c cc "JournalShelf$Shelf" nL D cB cI) (hini : meth.name = "<init>") (q : Nat) {a : Nat} {fs : List Value} {v : Nat} (d : decode cc pc = .ok (.putfield 36, 3)) (he : ws[q]? = some (a, .inr (1, fs))) (hl0 : 11 < fs.length) (hs : ws.set q (a, .inr (1, fs.set 11 (.ref v))) = ws') (k : VV p l e R s m args below meth c D A nL (cells) (slots) (Q) (ws') (lv) (pc + 3) (st)) : VV p l e R s m args below meth c D A nL (cells) (slots) (Q) (ws) (lv) (pc) (.ref v :: .ref a :: st) := vv_putF X jl_Sh jt_Sh jo_Sh jn_Sh rfl rfl hini 11 (by decide) rfl rfl (ty := (.array .int)) (by decide +kernel) jk_60 q d he hl0 rfl rfl hs k
theorem pf_Sh_39 (X : CX p s m args c cc "JournalShelf$Shelf" nL D cB cI) (hini : meth.name = "<init>") (q : Nat) {a : Nat} {fs : List Value} {v : Nat} (d : decode cc pc = .ok (.putfield 39, 3)) (he : ws[q]? = some (a, .inr (1, fs))) (hl0 : 12 < fs.length) (hs : ws.set q (a, .inr (1, fs.set 12 (.ref v))) = ws') (k : VV p l e R s m args below meth c D A nL (cells) (slots) (Q) (ws') (lv) (pc + 3) (st)) : VV p l e R s m args below meth c D A nL (cells) (slots) (Q) (ws) (lv) (pc) (.ref v :: .ref a :: st) := vv_putF X jl_Sh jt_Sh jo_Sh jn_Sh rfl rfl hini 12 (by decide) rfl rfl (ty := (.array .int)) (by decide +kernel) jk_61 q d he hl0 rfl rfl hs k
theorem pf_Sh_42 (X : CX p s m args c cc "JournalShelf$Shelf" nL D cB cI) (q : Nat) {a : Nat} {fs : List Value} {v : Int32} (hb : v = 0 ∨ v = 1) (d : decode cc pc = .ok (.putfield 42, 3)) (he : ws[q]? = some (a, .inr (1, fs))) (hl0 : 9 < fs.length) (hs : ws.set q (a, .inr (1, fs.set 9 (.int v))) = ws') (k : VV p l e R s m args below meth c D A nL (cells) (slots) (Q) (ws') (lv) (pc + 3) (st)) : VV p l e R s m args below meth c D A nL (cells) (slots) (Q) (ws) (lv) (pc) (.int v :: .ref a :: st) := vv_put X jl_Sh jt_Sh jo_Sh jn_Sh rfl 9 (by decide) rfl rfl (ty := .boolean) (by decide +kernel) jk_58 q d he hl0 (by rcases hb with rfl | rfl <;> rfl) (by rcases hb with rfl | rfl <;> rfl) hs k
theorem pf_Sh_46 (X : CX p s m args c cc "JournalShelf$Shelf" nL D cB cI) (q : Nat) {a : Nat} {fs : List Value} {v : Int32} (d : decode cc pc = .ok (.putfield 46, 3)) (he : ws[q]? = some (a, .inr (1, fs))) (hl0 : 4 < fs.length) (hs : ws.set q (a, .inr (1, fs.set 4 (.int v))) = ws') (k : VV p l e R s m args below meth c D A nL (cells) (slots) (Q) (ws') (lv) (pc + 3) (st)) : VV p l e R s m args below meth c D A nL (cells) (slots) (Q) (ws) (lv) (pc) (.int v :: .ref a :: st) := vv_put X jl_Sh jt_Sh jo_Sh jn_Sh rfl 4 (by decide) rfl rfl (ty := .int) (by decide +kernel) jk_50 q d he hl0 rfl rfl hs k
theorem pf_Sh_52 (X : CX p s m args c cc "JournalShelf$Shelf" nL D cB cI) (q : Nat) {a : Nat} {fs : List Value} {v : Int32} (d : decode cc pc = .ok (.putfield 52, 3)) (he : ws[q]? = some (a, .inr (1, fs))) (hl0 : 5 < fs.length) (hs : ws.set q (a, .inr (1, fs.set 5 (.int v))) = ws') (k : VV p l e R s m args below meth c D A nL (cells) (slots) (Q) (ws') (lv) (pc + 3) (st)) : VV p l e R s m args below meth c D A nL (cells) (slots) (Q) (ws) (lv) (pc) (.int v :: .ref a :: st) := vv_put X jl_Sh jt_Sh jo_Sh jn_Sh rfl 5 (by decide) rfl rfl (ty := .int) (by decide +kernel) jk_52 q d he hl0 rfl rfl hs k
theorem pf_Sh_65 (X : CX p s m args c cc "JournalShelf$Shelf" nL D cB cI) (q : Nat) {a : Nat} {fs : List Value} {v : Int32} (d : decode cc pc = .ok (.putfield 65, 3)) (he : ws[q]? = some (a, .inr (1, fs))) (hl0 : 8 < fs.length) (hs : ws.set q (a, .inr (1, fs.set 8 (.int v))) = ws') (k : VV p l e R s m args below meth c D A nL (cells) (slots) (Q) (ws') (lv) (pc + 3) (st)) : VV p l e R s m args below meth c D A nL (cells) (slots) (Q) (ws) (lv) (pc) (.int v :: .ref a :: st) := vv_put X jl_Sh jt_Sh jo_Sh jn_Sh rfl 8 (by decide) rfl rfl (ty := .int) (by decide +kernel) jk_56 q d he hl0 rfl rfl hs k
theorem pf_Sh_68 (X : CX p s m args c cc "JournalShelf$Shelf" nL D cB cI) (q : Nat) {a : Nat} {fs : List Value} {v : Int32} (d : decode cc pc = .ok (.putfield 68, 3)) (he : ws[q]? = some (a, .inr (1, fs))) (hl0 : 7 < fs.length) (hs : ws.set q (a, .inr (1, fs.set 7 (.int v))) = ws') (k : VV p l e R s m args below meth c D A nL (cells) (slots) (Q) (ws') (lv) (pc + 3) (st)) : VV p l e R s m args below meth c D A nL (cells) (slots) (Q) (ws) (lv) (pc) (.int v :: .ref a :: st) := vv_put X jl_Sh jt_Sh jo_Sh jn_Sh rfl 7 (by decide) rfl rfl (ty := .int) (by decide +kernel) jk_55 q d he hl0 rfl rfl hs k
theorem pf_Md_9 (X : CX p s m args c cc "JournalShelfModel" nL D cB cI) (hini : meth.name = "<init>") (q : Nat) {a : Nat} {fs : List Value} {v : Nat} (d : decode cc pc = .ok (.putfield 9, 3)) (he : ws[q]? = some (a, .inr (3, fs))) (hl0 : 0 < fs.length) (hs : ws.set q (a, .inr (3, fs.set 0 (.ref v))) = ws') (k : VV p l e R s m args below meth c D A nL (cells) (slots) (Q) (ws') (lv) (pc + 3) (st)) : VV p l e R s m args below meth c D A nL (cells) (slots) (Q) (ws) (lv) (pc) (.ref v :: .ref a :: st) := vv_putF X jl_Md jt_Md jo_Md jn_Md rfl rfl hini 0 (by decide) rfl rfl (ty := (.array .int)) (by decide +kernel) jk_231 q d he hl0 rfl rfl hs k
theorem pf_Md_13 (X : CX p s m args c cc "JournalShelfModel" nL D cB cI) (hini : meth.name = "<init>") (q : Nat) {a : Nat} {fs : List Value} {v : Nat} (d : decode cc pc = .ok (.putfield 13, 3)) (he : ws[q]? = some (a, .inr (3, fs))) (hl0 : 1 < fs.length) (hs : ws.set q (a, .inr (3, fs.set 1 (.ref v))) = ws') (k : VV p l e R s m args below meth c D A nL (cells) (slots) (Q) (ws') (lv) (pc + 3) (st)) : VV p l e R s m args below meth c D A nL (cells) (slots) (Q) (ws) (lv) (pc) (.ref v :: .ref a :: st) := vv_putF X jl_Md jt_Md jo_Md jn_Md rfl rfl hini 1 (by decide) rfl rfl (ty := (.array .int)) (by decide +kernel) jk_232 q d he hl0 rfl rfl hs k
theorem pf_Md_16 (X : CX p s m args c cc "JournalShelfModel" nL D cB cI) (hini : meth.name = "<init>") (q : Nat) {a : Nat} {fs : List Value} {v : Nat} (d : decode cc pc = .ok (.putfield 16, 3)) (he : ws[q]? = some (a, .inr (3, fs))) (hl0 : 2 < fs.length) (hs : ws.set q (a, .inr (3, fs.set 2 (.ref v))) = ws') (k : VV p l e R s m args below meth c D A nL (cells) (slots) (Q) (ws') (lv) (pc + 3) (st)) : VV p l e R s m args below meth c D A nL (cells) (slots) (Q) (ws) (lv) (pc) (.ref v :: .ref a :: st) := vv_putF X jl_Md jt_Md jo_Md jn_Md rfl rfl hini 2 (by decide) rfl rfl (ty := (.array .int)) (by decide +kernel) jk_233 q d he hl0 rfl rfl hs k
theorem pf_Md_19 (X : CX p s m args c cc "JournalShelfModel" nL D cB cI) (hini : meth.name = "<init>") (q : Nat) {a : Nat} {fs : List Value} {v : Nat} (d : decode cc pc = .ok (.putfield 19, 3)) (he : ws[q]? = some (a, .inr (3, fs))) (hl0 : 3 < fs.length) (hs : ws.set q (a, .inr (3, fs.set 3 (.ref v))) = ws') (k : VV p l e R s m args below meth c D A nL (cells) (slots) (Q) (ws') (lv) (pc + 3) (st)) : VV p l e R s m args below meth c D A nL (cells) (slots) (Q) (ws) (lv) (pc) (.ref v :: .ref a :: st) := vv_putF X jl_Md jt_Md jo_Md jn_Md rfl rfl hini 3 (by decide) rfl rfl (ty := (.array .int)) (by decide +kernel) jk_234 q d he hl0 rfl rfl hs k
theorem pf_Md_22 (X : CX p s m args c cc "JournalShelfModel" nL D cB cI) (hini : meth.name = "<init>") (q : Nat) {a : Nat} {fs : List Value} {v : Nat} (d : decode cc pc = .ok (.putfield 22, 3)) (he : ws[q]? = some (a, .inr (3, fs))) (hl0 : 4 < fs.length) (hs : ws.set q (a, .inr (3, fs.set 4 (.ref v))) = ws') (k : VV p l e R s m args below meth c D A nL (cells) (slots) (Q) (ws') (lv) (pc + 3) (st)) : VV p l e R s m args below meth c D A nL (cells) (slots) (Q) (ws) (lv) (pc) (.ref v :: .ref a :: st) := vv_putF X jl_Md jt_Md jo_Md jn_Md rfl rfl hini 4 (by decide) rfl rfl (ty := (.array .int)) (by decide +kernel) jk_235 q d he hl0 rfl rfl hs k
theorem pf_Md_25 (X : CX p s m args c cc "JournalShelfModel" nL D cB cI) (hini : meth.name = "<init>") (q : Nat) {a : Nat} {fs : List Value} {v : Nat} (d : decode cc pc = .ok (.putfield 25, 3)) (he : ws[q]? = some (a, .inr (3, fs))) (hl0 : 7 < fs.length) (hs : ws.set q (a, .inr (3, fs.set 7 (.ref v))) = ws') (k : VV p l e R s m args below meth c D A nL (cells) (slots) (Q) (ws') (lv) (pc + 3) (st)) : VV p l e R s m args below meth c D A nL (cells) (slots) (Q) (ws) (lv) (pc) (.ref v :: .ref a :: st) := vv_putF X jl_Md jt_Md jo_Md jn_Md rfl rfl hini 7 (by decide) rfl rfl (ty := (.array .int)) (by decide +kernel) jk_238 q d he hl0 rfl rfl hs k
theorem pf_Md_28 (X : CX p s m args c cc "JournalShelfModel" nL D cB cI) (hini : meth.name = "<init>") (q : Nat) {a : Nat} {fs : List Value} {v : Nat} (d : decode cc pc = .ok (.putfield 28, 3)) (he : ws[q]? = some (a, .inr (3, fs))) (hl0 : 8 < fs.length) (hs : ws.set q (a, .inr (3, fs.set 8 (.ref v))) = ws') (k : VV p l e R s m args below meth c D A nL (cells) (slots) (Q) (ws') (lv) (pc + 3) (st)) : VV p l e R s m args below meth c D A nL (cells) (slots) (Q) (ws) (lv) (pc) (.ref v :: .ref a :: st) := vv_putF X jl_Md jt_Md jo_Md jn_Md rfl rfl hini 8 (by decide) rfl rfl (ty := (.array .int)) (by decide +kernel) jk_239 q d he hl0 rfl rfl hs k
theorem pf_Md_31 (X : CX p s m args c cc "JournalShelfModel" nL D cB cI) (q : Nat) {a : Nat} {fs : List Value} {v : Int32} (d : decode cc pc = .ok (.putfield 31, 3)) (he : ws[q]? = some (a, .inr (3, fs))) (hl0 : 5 < fs.length) (hs : ws.set q (a, .inr (3, fs.set 5 (.int v))) = ws') (k : VV p l e R s m args below meth c D A nL (cells) (slots) (Q) (ws') (lv) (pc + 3) (st)) : VV p l e R s m args below meth c D A nL (cells) (slots) (Q) (ws) (lv) (pc) (.int v :: .ref a :: st) := vv_put X jl_Md jt_Md jo_Md jn_Md rfl 5 (by decide) rfl rfl (ty := .int) (by decide +kernel) jk_236 q d he hl0 rfl rfl hs k
theorem pf_Md_35 (X : CX p s m args c cc "JournalShelfModel" nL D cB cI) (q : Nat) {a : Nat} {fs : List Value} {v : Int32} (d : decode cc pc = .ok (.putfield 35, 3)) (he : ws[q]? = some (a, .inr (3, fs))) (hl0 : 11 < fs.length) (hs : ws.set q (a, .inr (3, fs.set 11 (.int v))) = ws') (k : VV p l e R s m args below meth c D A nL (cells) (slots) (Q) (ws') (lv) (pc + 3) (st)) : VV p l e R s m args below meth c D A nL (cells) (slots) (Q) (ws) (lv) (pc) (.int v :: .ref a :: st) := vv_put X jl_Md jt_Md jo_Md jn_Md rfl 11 (by decide) rfl rfl (ty := .int) (by decide +kernel) jk_242 q d he hl0 rfl rfl hs k
theorem pf_Md_38 (X : CX p s m args c cc "JournalShelfModel" nL D cB cI) (q : Nat) {a : Nat} {fs : List Value} {v : Int32} (d : decode cc pc = .ok (.putfield 38, 3)) (he : ws[q]? = some (a, .inr (3, fs))) (hl0 : 9 < fs.length) (hs : ws.set q (a, .inr (3, fs.set 9 (.int v))) = ws') (k : VV p l e R s m args below meth c D A nL (cells) (slots) (Q) (ws') (lv) (pc + 3) (st)) : VV p l e R s m args below meth c D A nL (cells) (slots) (Q) (ws) (lv) (pc) (.int v :: .ref a :: st) := vv_put X jl_Md jt_Md jo_Md jn_Md rfl 9 (by decide) rfl rfl (ty := .int) (by decide +kernel) jk_240 q d he hl0 rfl rfl hs k
theorem pf_Md_45 (X : CX p s m args c cc "JournalShelfModel" nL D cB cI) (q : Nat) {a : Nat} {fs : List Value} {v : Int32} (d : decode cc pc = .ok (.putfield 45, 3)) (he : ws[q]? = some (a, .inr (3, fs))) (hl0 : 10 < fs.length) (hs : ws.set q (a, .inr (3, fs.set 10 (.int v))) = ws') (k : VV p l e R s m args below meth c D A nL (cells) (slots) (Q) (ws') (lv) (pc + 3) (st)) : VV p l e R s m args below meth c D A nL (cells) (slots) (Q) (ws) (lv) (pc) (.int v :: .ref a :: st) := vv_put X jl_Md jt_Md jo_Md jn_Md rfl 10 (by decide) rfl rfl (ty := .int) (by decide +kernel) jk_241 q d he hl0 rfl rfl hs k
theorem pf_Md_51 (X : CX p s m args c cc "JournalShelfModel" nL D cB cI) (q : Nat) {a : Nat} {fs : List Value} {v : Int32} (d : decode cc pc = .ok (.putfield 51, 3)) (he : ws[q]? = some (a, .inr (3, fs))) (hl0 : 6 < fs.length) (hs : ws.set q (a, .inr (3, fs.set 6 (.int v))) = ws') (k : VV p l e R s m args below meth c D A nL (cells) (slots) (Q) (ws') (lv) (pc + 3) (st)) : VV p l e R s m args below meth c D A nL (cells) (slots) (Q) (ws) (lv) (pc) (.int v :: .ref a :: st) := vv_put X jl_Md jt_Md jo_Md jn_Md rfl 6 (by decide) rfl rfl (ty := .int) (by decide +kernel) jk_237 q d he hl0 rfl rfl hs k
theorem pf_Md_57 (X : CX p s m args c cc "JournalShelfModel" nL D cB cI) (q : Nat) {a : Nat} {fs : List Value} {v : Int32} (d : decode cc pc = .ok (.putfield 57, 3)) (he : ws[q]? = some (a, .inr (3, fs))) (hl0 : 12 < fs.length) (hs : ws.set q (a, .inr (3, fs.set 12 (.int v))) = ws') (k : VV p l e R s m args below meth c D A nL (cells) (slots) (Q) (ws') (lv) (pc + 3) (st)) : VV p l e R s m args below meth c D A nL (cells) (slots) (Q) (ws) (lv) (pc) (.int v :: .ref a :: st) := vv_put X jl_Md jt_Md jo_Md jn_Md rfl 12 (by decide) rfl rfl (ty := .int) (by decide +kernel) jk_243 q d he hl0 rfl rfl hs k
theorem pf_Md_60 (X : CX p s m args c cc "JournalShelfModel" nL D cB cI) (q : Nat) {a : Nat} {fs : List Value} {v : Int32} (d : decode cc pc = .ok (.putfield 60, 3)) (he : ws[q]? = some (a, .inr (3, fs))) (hl0 : 13 < fs.length) (hs : ws.set q (a, .inr (3, fs.set 13 (.int v))) = ws') (k : VV p l e R s m args below meth c D A nL (cells) (slots) (Q) (ws') (lv) (pc + 3) (st)) : VV p l e R s m args below meth c D A nL (cells) (slots) (Q) (ws) (lv) (pc) (.int v :: .ref a :: st) := vv_put X jl_Md jt_Md jo_Md jn_Md rfl 13 (by decide) rfl rfl (ty := .int) (by decide +kernel) jk_244 q d he hl0 rfl rfl hs k
end VG
theorem ob_JS_in : js_okB jy_JS_in jb_JS_in 3 (some .boolean) 3 := ⟨jk_111, jk_1, by decide +kernel⟩
theorem ok_JS_20 : js_okS "JournalShelf" 20 jy_JS_in jb_JS_in 3 (some .boolean) 3 := ⟨ob_JS_in, jk_109, jk_110⟩
theorem ob_Sh_begin : js_okB jy_Sh_begin jb_Sh_begin 1 none 0 := ⟨jk_115, jk_2, by decide +kernel⟩
theorem ok_JS_34 : js_okV "JournalShelf" 34 "JournalShelf$Shelf" jy_Sh_begin jb_Sh_begin 1 none 0 := ⟨ob_Sh_begin, jk_112, jk_113, jk_114⟩
theorem ob_Ar_fill : js_okB jy_Ar_fill jb_Ar_fill 4 none 2 := ⟨jk_141, jk_6, by decide +kernel⟩
theorem ok_JS_37 : js_okS "JournalShelf" 37 jy_Ar_fill jb_Ar_fill 4 none 2 := ⟨ob_Ar_fill, jk_147, jk_140⟩
theorem ob_JS_put4 : js_okB jy_JS_put4 jb_JS_put4 3 none 3 := ⟨jk_150, jk_1, by decide +kernel⟩
theorem ok_JS_43 : js_okS "JournalShelf" 43 jy_JS_put4 jb_JS_put4 3 none 3 := ⟨ob_JS_put4, jk_148, jk_149⟩
theorem ob_Sh_stage : js_okB jy_Sh_stage jb_Sh_stage 3 none 2 := ⟨jk_154, jk_2, by decide +kernel⟩
theorem ok_JS_47 : js_okV "JournalShelf" 47 "JournalShelf$Shelf" jy_Sh_stage jb_Sh_stage 3 none 2 := ⟨ob_Sh_stage, jk_151, jk_152, jk_153⟩
theorem ob_Sh_commit : js_okB jy_Sh_commit jb_Sh_commit 2 none 0 := ⟨jk_162, jk_2, by decide +kernel⟩
theorem ok_JS_51 : js_okV "JournalShelf" 51 "JournalShelf$Shelf" jy_Sh_commit jb_Sh_commit 2 none 0 := ⟨ob_Sh_commit, jk_159, jk_160, jk_161⟩
theorem ob_Sh_flush : js_okB jy_Sh_flush jb_Sh_flush 4 none 0 := ⟨jk_119, jk_2, by decide +kernel⟩
theorem ok_JS_60 : js_okV "JournalShelf" 60 "JournalShelf$Shelf" jy_Sh_flush jb_Sh_flush 4 none 0 := ⟨ob_Sh_flush, jk_172, jk_117, jk_118⟩
theorem ob_Dk_crash : js_okB jy_Dk_crash jb_Dk_crash 5 none 2 := ⟨jk_180, jk_3, by decide +kernel⟩
theorem ok_JS_67 : js_okV "JournalShelf" 67 "JournalShelf$Disk" jy_Dk_crash jb_Dk_crash 5 none 2 := ⟨ob_Dk_crash, jk_177, jk_178, jk_179⟩
theorem ob_Sh_recover : js_okB jy_Sh_recover jb_Sh_recover 5 none 0 := ⟨jk_184, jk_2, by decide +kernel⟩
theorem ok_JS_73 : js_okV "JournalShelf" 73 "JournalShelf$Shelf" jy_Sh_recover jb_Sh_recover 5 none 0 := ⟨ob_Sh_recover, jk_181, jk_182, jk_183⟩
theorem ob_Sh_read : js_okB jy_Sh_read jb_Sh_read 4 none 2 := ⟨jk_215, jk_2, by decide +kernel⟩
theorem ok_JS_79 : js_okV "JournalShelf" 79 "JournalShelf$Shelf" jy_Sh_read jb_Sh_read 4 none 2 := ⟨ob_Sh_read, jk_212, jk_213, jk_214⟩
theorem ob_JS_get4 : js_okB jy_JS_get4 jb_JS_get4 2 (some .int) 2 := ⟨jk_191, jk_1, by decide +kernel⟩
theorem ok_JS_82 : js_okS "JournalShelf" 82 jy_JS_get4 jb_JS_get4 2 (some .int) 2 := ⟨ob_JS_get4, jk_216, jk_190⟩
theorem ob_Dk_land : js_okB jy_Dk_land jb_Dk_land 3 none 2 := ⟨jk_127, jk_3, by decide +kernel⟩
theorem ok_Dk_33 : js_okV "JournalShelf$Disk" 33 "JournalShelf$Disk" jy_Dk_land jb_Dk_land 3 none 2 := ⟨ob_Dk_land, jk_124, jk_126, jk_p0⟩
theorem ok_Sh_49 : js_okV "JournalShelf$Shelf" 49 "JournalShelf$Shelf" jy_Sh_flush jb_Sh_flush 4 none 0 := ⟨ob_Sh_flush, jk_116, jk_117, jk_118⟩
theorem ok_Sh_61 : js_okN "JournalShelf$Shelf" 61 jy_JS_put4 jb_JS_put4 3 none 3 "JournalShelf" := ⟨ob_JS_put4, jk_163, jk_149⟩
theorem ob_Dk_write : js_okB jy_Dk_write jb_Dk_write 3 none 2 := ⟨jk_146, jk_3, by decide +kernel⟩
theorem ok_Sh_71 : js_okV "JournalShelf$Shelf" 71 "JournalShelf$Disk" jy_Dk_write jb_Dk_write 3 none 2 := ⟨ob_Dk_write, jk_143, jk_144, jk_145⟩
theorem ob_Dk_flush : js_okB jy_Dk_flush jb_Dk_flush 2 none 0 := ⟨jk_123, jk_3, by decide +kernel⟩
theorem ok_Sh_75 : js_okV "JournalShelf$Shelf" 75 "JournalShelf$Disk" jy_Dk_flush jb_Dk_flush 2 none 0 := ⟨ob_Dk_flush, jk_120, jk_121, jk_122⟩
theorem ob_Sh_home : js_okB jy_Sh_home jb_Sh_home 4 none 3 := ⟨jk_134, jk_2, by decide +kernel⟩
theorem ok_Sh_76 : js_okV "JournalShelf$Shelf" 76 "JournalShelf$Shelf" jy_Sh_home jb_Sh_home 4 none 3 := ⟨ob_Sh_home, jk_131, jk_133, jk_p1⟩
theorem ob_Dk_hasRoom : js_okB jy_Dk_hasRoom jb_Dk_hasRoom 1 (some .boolean) 0 := ⟨jk_138, jk_3, by decide +kernel⟩
theorem ok_Sh_80 : js_okV "JournalShelf$Shelf" 80 "JournalShelf$Disk" jy_Dk_hasRoom jb_Dk_hasRoom 1 (some .boolean) 0 := ⟨ob_Dk_hasRoom, jk_135, jk_136, jk_137⟩
theorem ok_Sh_84 : js_okS "JournalShelf$Shelf" 84 jy_Ar_fill jb_Ar_fill 4 none 2 := ⟨ob_Ar_fill, jk_139, jk_140⟩
theorem ob_Dk_read : js_okB jy_Dk_read jb_Dk_read 4 none 2 := ⟨jk_188, jk_3, by decide +kernel⟩
theorem ok_Sh_90 : js_okV "JournalShelf$Shelf" 90 "JournalShelf$Disk" jy_Dk_read jb_Dk_read 4 none 2 := ⟨ob_Dk_read, jk_185, jk_186, jk_187⟩
theorem ok_Sh_93 : js_okN "JournalShelf$Shelf" 93 jy_JS_get4 jb_JS_get4 2 (some .int) 2 "JournalShelf" := ⟨ob_JS_get4, jk_189, jk_190⟩
theorem ok_Sh_97 : js_okN "JournalShelf$Shelf" 97 jy_JS_in jb_JS_in 3 (some .boolean) 3 "JournalShelf" := ⟨ob_JS_in, jk_192, jk_110⟩
theorem ob_Sh_isWhole : js_okB jy_Sh_isWhole jb_Sh_isWhole 5 (some .boolean) 1 := ⟨jk_199, jk_2, by decide +kernel⟩
theorem ok_Sh_107 : js_okV "JournalShelf$Shelf" 107 "JournalShelf$Shelf" jy_Sh_isWhole jb_Sh_isWhole 5 (some .boolean) 1 := ⟨ob_Sh_isWhole, jk_196, jk_198, jk_p2⟩
theorem ob_Sh_redo : js_okB jy_Sh_redo jb_Sh_redo 4 none 1 := ⟨jk_203, jk_2, by decide +kernel⟩
theorem ok_Sh_111 : js_okV "JournalShelf$Shelf" 111 "JournalShelf$Shelf" jy_Sh_redo jb_Sh_redo 4 none 1 := ⟨ob_Sh_redo, jk_200, jk_202, jk_p3⟩
theorem ob_Sh_forget : js_okB jy_Sh_forget jb_Sh_forget 3 none 1 := ⟨jk_207, jk_2, by decide +kernel⟩
theorem ok_Sh_115 : js_okV "JournalShelf$Shelf" 115 "JournalShelf$Shelf" jy_Sh_forget jb_Sh_forget 3 none 1 := ⟨ob_Sh_forget, jk_204, jk_206, jk_p4⟩
theorem ob_JS_change : js_okB jy_JS_change jb_JS_change 4 (some .int) 2 := ⟨jk_108, jk_1, by decide +kernel⟩
theorem ok_Lw_13 : js_okV "JournalShelfLaw" 13 "JournalShelf" jy_JS_change jb_JS_change 4 (some .int) 2 := ⟨ob_JS_change, jk_105, jk_106, jk_107⟩
theorem ob_Md_change : js_okB jy_Md_change jb_Md_change 3 (some .int) 2 := ⟨jk_277, jk_4, by decide +kernel⟩
theorem ok_Lw_17 : js_okV "JournalShelfLaw" 17 "JournalShelfModel" jy_Md_change jb_Md_change 3 (some .int) 2 := ⟨ob_Md_change, jk_274, jk_275, jk_276⟩
theorem ob_JS_commit : js_okB jy_JS_commit jb_JS_commit 2 (some .int) 0 := ⟨jk_158, jk_1, by decide +kernel⟩
theorem ok_Lw_18 : js_okV "JournalShelfLaw" 18 "JournalShelf" jy_JS_commit jb_JS_commit 2 (some .int) 0 := ⟨ob_JS_commit, jk_155, jk_156, jk_157⟩
theorem ob_Md_commit : js_okB jy_Md_commit jb_Md_commit 3 (some .int) 0 := ⟨jk_293, jk_4, by decide +kernel⟩
theorem ok_Lw_22 : js_okV "JournalShelfLaw" 22 "JournalShelfModel" jy_Md_commit jb_Md_commit 3 (some .int) 0 := ⟨ob_Md_commit, jk_290, jk_291, jk_292⟩
theorem ob_JS_forget : js_okB jy_JS_forget jb_JS_forget 2 (some .int) 0 := ⟨jk_167, jk_1, by decide +kernel⟩
theorem ok_Lw_23 : js_okV "JournalShelfLaw" 23 "JournalShelf" jy_JS_forget jb_JS_forget 2 (some .int) 0 := ⟨ob_JS_forget, jk_164, jk_165, jk_166⟩
theorem ob_Md_forget : js_okB jy_Md_forget jb_Md_forget 2 (some .int) 0 := ⟨jk_297, jk_4, by decide +kernel⟩
theorem ok_Lw_26 : js_okV "JournalShelfLaw" 26 "JournalShelfModel" jy_Md_forget jb_Md_forget 2 (some .int) 0 := ⟨ob_Md_forget, jk_294, jk_295, jk_296⟩
theorem ob_JS_flush : js_okB jy_JS_flush jb_JS_flush 2 (some .int) 0 := ⟨jk_171, jk_1, by decide +kernel⟩
theorem ok_Lw_27 : js_okV "JournalShelfLaw" 27 "JournalShelf" jy_JS_flush jb_JS_flush 2 (some .int) 0 := ⟨ob_JS_flush, jk_168, jk_169, jk_170⟩
theorem ob_Md_flush : js_okB jy_Md_flush jb_Md_flush 2 (some .int) 0 := ⟨jk_281, jk_4, by decide +kernel⟩
theorem ok_Lw_30 : js_okV "JournalShelfLaw" 30 "JournalShelfModel" jy_Md_flush jb_Md_flush 2 (some .int) 0 := ⟨ob_Md_flush, jk_298, jk_279, jk_280⟩
theorem ob_JS_crash : js_okB jy_JS_crash jb_JS_crash 4 (some .int) 2 := ⟨jk_176, jk_1, by decide +kernel⟩
theorem ok_Lw_31 : js_okV "JournalShelfLaw" 31 "JournalShelf" jy_JS_crash jb_JS_crash 4 (some .int) 2 := ⟨ob_JS_crash, jk_173, jk_174, jk_175⟩
theorem ob_Md_crash : js_okB jy_Md_crash jb_Md_crash 7 (some .int) 2 := ⟨jk_302, jk_4, by decide +kernel⟩
theorem ok_Lw_34 : js_okV "JournalShelfLaw" 34 "JournalShelfModel" jy_Md_crash jb_Md_crash 7 (some .int) 2 := ⟨ob_Md_crash, jk_299, jk_300, jk_301⟩
theorem ob_JS_get : js_okB jy_JS_get jb_JS_get 3 (some .int) 1 := ⟨jk_211, jk_1, by decide +kernel⟩
theorem ok_Lw_35 : js_okV "JournalShelfLaw" 35 "JournalShelf" jy_JS_get jb_JS_get 3 (some .int) 1 := ⟨ob_JS_get, jk_208, jk_209, jk_210⟩
theorem ob_Md_get : js_okB jy_Md_get jb_Md_get 2 (some .int) 1 := ⟨jk_306, jk_4, by decide +kernel⟩
theorem ok_Lw_39 : js_okV "JournalShelfLaw" 39 "JournalShelfModel" jy_Md_get jb_Md_get 2 (some .int) 1 := ⟨ob_Md_get, jk_303, jk_304, jk_305⟩
theorem ob_JS_torn : js_okB jy_JS_torn jb_JS_torn 7 (some .int) 0 := ⟨jk_220, jk_1, by decide +kernel⟩
theorem ok_Lw_40 : js_okV "JournalShelfLaw" 40 "JournalShelf" jy_JS_torn jb_JS_torn 7 (some .int) 0 := ⟨ob_JS_torn, jk_217, jk_218, jk_219⟩
theorem ob_Md_torn : js_okB jy_Md_torn jb_Md_torn 1 (some .int) 0 := ⟨jk_310, jk_4, by decide +kernel⟩
theorem ok_Lw_43 : js_okV "JournalShelfLaw" 43 "JournalShelfModel" jy_Md_torn jb_Md_torn 1 (some .int) 0 := ⟨ob_Md_torn, jk_307, jk_308, jk_309⟩
theorem ob_JS_count : js_okB jy_JS_count jb_JS_count 2 (some .int) 1 := ⟨jk_224, jk_1, by decide +kernel⟩
theorem ok_Lw_44 : js_okV "JournalShelfLaw" 44 "JournalShelf" jy_JS_count jb_JS_count 2 (some .int) 1 := ⟨ob_JS_count, jk_221, jk_222, jk_223⟩
theorem ob_Md_count : js_okB jy_Md_count jb_Md_count 2 (some .int) 1 := ⟨jk_314, jk_4, by decide +kernel⟩
theorem ok_Lw_47 : js_okV "JournalShelfLaw" 47 "JournalShelfModel" jy_Md_count jb_Md_count 2 (some .int) 1 := ⟨ob_Md_count, jk_311, jk_312, jk_313⟩
theorem ok_Md_41 : js_okV "JournalShelfModel" 41 "JournalShelfModel" jy_Md_flush jb_Md_flush 2 (some .int) 0 := ⟨ob_Md_flush, jk_278, jk_279, jk_280⟩
theorem ob_Md_distinct : js_okB jy_Md_distinct jb_Md_distinct 5 (some .int) 0 := ⟨jk_285, jk_4, by decide +kernel⟩
theorem ok_Md_48 : js_okV "JournalShelfModel" 48 "JournalShelfModel" jy_Md_distinct jb_Md_distinct 5 (some .int) 0 := ⟨ob_Md_distinct, jk_282, jk_284, jk_p5⟩
theorem ob_Md_settle : js_okB jy_Md_settle jb_Md_settle 2 none 0 := ⟨jk_289, jk_4, by decide +kernel⟩
theorem ok_Md_54 : js_okV "JournalShelfModel" 54 "JournalShelfModel" jy_Md_settle jb_Md_settle 2 none 0 := ⟨ob_Md_settle, jk_286, jk_288, jk_p6⟩
end
section
abbrev js_room (n : Nat) : Room := { frames := n, cells := 0, slots := 0, locals := 30 * n }
/-- contracts: a method of no answer, of an int (or boolean) answer -/
abbrev MetV (l : Launch) (y : MethodName) (b : ByteArray) (maxL lev : Nat) (D : va_G) (cB cI : ClassId) (wc : va_W) (av : List Value) {S : Type} (post : S → Prop) (w1 : S → va_W) : Prop := Met l y (Cond.code y b maxL none :: js_all) (js_room lev) (JP D cB cI wc av) (va_Qv post (fun u t => va_P D js_cls (w1 u) t.heap) (js_A wc)) 0 0 (js_A wc)
abbrev MetI (l : Launch) (y : MethodName) (b : ByteArray) (maxL lev : Nat) (rt : FieldType) (D : va_G) (cB cI : ClassId) (wc : va_W) (av : List Value) {S : Type} (post : Int32 → S → Prop) (w1 : S → va_W) : Prop := Met l y (Cond.code y b maxL (some rt) :: js_all) (js_room lev) (JP D cB cI wc av) (va_Qi post (fun u t => va_P D js_cls (w1 u) t.heap) (js_A wc)) 0 0 (js_A wc)
theorem MetV.of {l : Launch} {y : MethodName} {cc : ByteArray} {maxL lev : Nat} {D : va_G} {cB cI : ClassId} {wc : va_W} {av : List Value} {lv0 : List (Nat × Value)} {S : Type} {post : S → Prop} {w1 : S → va_W} (own : String) (hown : y.cls = own) (hy : plainName y.cls = true) (hav : (lg_sl av).length ≤ maxL) (hlv : lv_args 0 av = lv0)
    (body : ∀ (p : Program) (e : Env) (s : State) (m : MethodId) (args : Array Value) (below : List Frame) (meth : Method) (c : Code) (A : Nat → Prop) (Q : State → Prop), CX p s m args c cc own maxL D cB cI → (∀ (ws : va_W) (lv : List (Nat × Value)) (pc : Nat) (u : S), decode cc pc = .ok (.return_, 1) → post u → ws = w1 u → VV p l e (js_room lev) s m args below meth c D A maxL 0 0 Q ws lv pc []) → VV p l e (js_room lev) s m args below meth c D A maxL 0 0 Q wc lv0 0 []) : MetV l y cc maxL lev D cB cI wc av post w1 := by
  refine Met.ofV hy hav hlv ?_
  intro p e s m args below meth c X hr hlk
  subst hown
  exact body p e s m args below meth c _ _ X (fun ws lv pc u d hu hw => vv_retv X hr hlk d u hu hw)
theorem MetI.of {l : Launch} {y : MethodName} {cc : ByteArray} {maxL lev : Nat} {D : va_G} {cB cI : ClassId} {wc : va_W} {av : List Value} {lv0 : List (Nat × Value)} {S : Type} {post : Int32 → S → Prop} {w1 : S → va_W} (own : String) (hown : y.cls = own) (hy : plainName y.cls = true) (hav : (lg_sl av).length ≤ maxL) (hlv : lv_args 0 av = lv0)
    (body : ∀ (p : Program) (e : Env) (s : State) (m : MethodId) (args : Array Value) (below : List Frame) (meth : Method) (c : Code) (A : Nat → Prop) (Q : State → Prop), CX p s m args c cc own maxL D cB cI → (∀ (ws : va_W) (lv : List (Nat × Value)) (pc : Nat) (v : Int32) (u : S), decode cc pc = .ok (.ireturn, 1) → post v u → ws = w1 u → VV p l e (js_room lev) s m args below meth c D A maxL 0 0 Q ws lv pc [.int v]) → VV p l e (js_room lev) s m args below meth c D A maxL 0 0 Q wc lv0 0 []) : MetI l y cc maxL lev .int D cB cI wc av post w1 := by
  refine Met.ofV hy hav hlv ?_
  intro p e s m args below meth c X hr hlk
  subst hown
  exact body p e s m args below meth c _ _ X (fun ws lv pc v u d hu hw => vv_reti X hr hlk d u hu hw)
theorem MetZ.of {l : Launch} {y : MethodName} {cc : ByteArray} {maxL lev : Nat} {D : va_G} {cB cI : ClassId} {wc : va_W} {av : List Value} {lv0 : List (Nat × Value)} {S : Type} {post : Int32 → S → Prop} {w1 : S → va_W} (own : String) (hown : y.cls = own) (hy : plainName y.cls = true) (hav : (lg_sl av).length ≤ maxL) (hlv : lv_args 0 av = lv0)
    (body : ∀ (p : Program) (e : Env) (s : State) (m : MethodId) (args : Array Value) (below : List Frame) (meth : Method) (c : Code) (A : Nat → Prop) (Q : State → Prop), CX p s m args c cc own maxL D cB cI → (∀ (ws : va_W) (lv : List (Nat × Value)) (pc : Nat) (v : Int32) (u : S), decode cc pc = .ok (.ireturn, 1) → (v = 0 ∨ v = 1) → post v u → ws = w1 u → VV p l e (js_room lev) s m args below meth c D A maxL 0 0 Q ws lv pc [.int v]) → VV p l e (js_room lev) s m args below meth c D A maxL 0 0 Q wc lv0 0 []) : MetI l y cc maxL lev .boolean D cB cI wc av post w1 := by
  refine Met.ofV hy hav hlv ?_
  intro p e s m args below meth c X hr hlk
  subst hown
  exact body p e s m args below meth c _ _ X (fun ws lv pc v u d hv hu hw => vv_retz X hr hlk d hv u hu hw)
/-- a loop that counts up to n -/
theorem js_up {P : Nat → Prop} {n : Nat} (step : ∀ k, k ≤ n → (k < n → P (k + 1)) → P k) : ∀ k, k ≤ n → P k := by
  have go : ∀ d k, k + d = n → P k := by
    intro d
    induction d with
    | zero => intro k hk; exact step k (by omega) (fun h => absurd h (by omega))
    | succ d ih => intro k hk; exact step k (by omega) (fun _ => ih (k + 1) (by omega))
  exact fun k hk => go (n - k) k (by omega)
/-- a loop with a measure -/
theorem js_down {σ : Type} {P : σ → Prop} (μ : σ → Nat) (step : ∀ x, (∀ y, μ y < μ x → P y) → P x) : ∀ x, P x := by
  have go : ∀ n x, μ x < n → P x := by
    intro n
    induction n with
    | zero => intro x h; exact absurd h (by omega)
    | succ n ih => intro x h; exact step x (fun y hy => ih y (by omega))
  exact fun x => go (μ x + 1) x (by omega)
theorem ci_0 : Int32.ofInt 0 = nI 0 := by decide +kernel
theorem ci_1 : Int32.ofInt 1 = nI 1 := by decide +kernel
theorem ci_2 : Int32.ofInt 2 = nI 2 := by decide +kernel
theorem ci_3 : Int32.ofInt 3 = nI 3 := by decide +kernel
theorem ci_4 : Int32.ofInt 4 = nI 4 := by decide +kernel
theorem ci_5 : Int32.ofInt 5 = nI 5 := by decide +kernel
theorem cb_6 : (Int8.ofInt 6).toInt32 = nI 6 := by decide +kernel
theorem cb_7 : (Int8.ofInt 7).toInt32 = nI 7 := by decide +kernel
theorem cb_8 : (Int8.ofInt 8).toInt32 = nI 8 := by decide +kernel
theorem cb_12 : (Int8.ofInt 12).toInt32 = nI 12 := by decide +kernel
theorem cb_16 : (Int8.ofInt 16).toInt32 = nI 16 := by decide +kernel
theorem cb_17 : (Int8.ofInt 17).toInt32 = nI 17 := by decide +kernel
theorem cb_24 : (Int8.ofInt 24).toInt32 = nI 24 := by decide +kernel
theorem cb_31 : (Int8.ofInt 31).toInt32 = nI 31 := by decide +kernel
theorem cb_48 : (Int8.ofInt 48).toInt32 = nI 48 := by decide +kernel
theorem cb_52 : (Int8.ofInt 52).toInt32 = nI 52 := by decide +kernel
theorem cs_211 : (Int16.ofInt 211).toInt32 = nI 211 := by decide +kernel
theorem cs_212 : (Int16.ofInt 212).toInt32 = nI 212 := by decide +kernel
theorem cs_255 : (Int16.ofInt 255).toInt32 = nI 255 := by decide +kernel
theorem cs_496 : (Int16.ofInt 496).toInt32 = nI 496 := by decide +kernel
theorem cs_500 : (Int16.ofInt 500).toInt32 = nI 500 := by decide +kernel
theorem cs_508 : (Int16.ofInt 508).toInt32 = nI 508 := by decide +kernel
theorem cs_511 : (Int16.ofInt 511).toInt32 = nI 511 := by decide +kernel
theorem cs_512 : (Int16.ofInt 512).toInt32 = nI 512 := by decide +kernel
theorem cs_11904 : (Int16.ofInt 11904).toInt32 = nI 11904 := by decide +kernel
theorem cs_24576 : (Int16.ofInt 24576).toInt32 = nI 24576 := by decide +kernel
theorem nn_lt {a b : Nat} (ha : a < 2 ^ 31) (hb : b < 2 ^ 31) (h : ¬ nI a ≤ nI b) : b < a := Nat.lt_of_not_le (fun q => h ((nI_leI ha hb).mpr q))
theorem nn_le {a b : Nat} (ha : a < 2 ^ 31) (hb : b < 2 ^ 31) (h : nI a ≤ nI b) : a ≤ b := (nI_leI ha hb).mp h
theorem nn_ltt {a b : Nat} (ha : a < 2 ^ 31) (hb : b < 2 ^ 31) (h : nI a < nI b) : a < b := (nI_ltI ha hb).mp h
theorem nn_nlt {a b : Nat} (ha : a < 2 ^ 31) (hb : b < 2 ^ 31) (h : ¬ nI a < nI b) : b ≤ a := Nat.le_of_not_lt (fun q => h ((nI_ltI ha hb).mpr q))
theorem ci_m1 : Int32.ofInt (-1) = -1 := by decide +kernel
theorem cb_m2 : (Int8.ofInt (-2)).toInt32 = -2 := by decide +kernel
theorem cn_1 (k : Nat) : nI k + Int32.ofInt 1 = nI (k + 1) := nI_1 k
theorem cn_4 (k : Nat) : nI k + Int32.ofInt 4 = nI (k + 4) := nI_add k 4
theorem cn_3 (k : Nat) : nI k + Int32.ofInt 3 = nI (k + 3) := nI_add k 3
theorem cn_m1 (k : Nat) : nI (k + 1) + Int32.ofInt (-1) = nI k := pk_m1 k
theorem cn_dec (x : Int32) : x + Int32.ofInt (-1) = x - nI 1 := by rw [Int32.sub_eq_add_neg, show Int32.ofInt (-1) = -nI 1 by decide +kernel]
/-- arrays of small numbers -/
def nF (b : Nat → Nat) : Nat → Int32 := fun k => nI (b k)
def uN_ (b : Nat → Nat) (k v : Nat) : Nat → Nat := fun j => if j = k then v else b j
theorem upd_nF (b : Nat → Nat) (k v : Nat) : upd (nF b) k (nI v) = nF (uN_ b k v) := by
  funext j
  simp only [upd, nF, uN_]
  split <;> rfl
end
section
/-- one byte array in a world of its own -/
abbrev js_b (a n : Nat) (cB : ClassId) (f : Nat → Int32) : va_W := [(a, .inl (cB, n, .inl f))]
/-- a number at a place of an array of bytes -/
def b4_put (f : Nat → Int32) (k : Nat) (v : Int32) : Nat → Int32 := upd (upd (upd (upd f k (vp_nar .byte (v >>> (nI 24 &&& 31)).toInt8.toInt32)) (k + 1) (vp_nar .byte (v >>> (nI 16 &&& 31)).toInt8.toInt32)) (k + 2) (vp_nar .byte (v >>> (nI 8 &&& 31)).toInt8.toInt32)) (k + 3) (vp_nar .byte v.toInt8.toInt32)
def b4_get (f : Nat → Int32) (k : Nat) : Int32 := f k <<< (nI 24 &&& 31) ||| (f (k + 1) &&& nI 255) <<< (nI 16 &&& 31) ||| (f (k + 2) &&& nI 255) <<< (nI 8 &&& 31) ||| f (k + 3) &&& nI 255
def b4_fill (f : Nat → Int32) (v : Int32) (k : Nat) : Nat → Int32 := fun j => if j < k then vp_nar .byte v else f j
theorem b4_fill_0 (f : Nat → Int32) (v : Int32) : b4_fill f v 0 = f := by funext j; simp [b4_fill]
theorem b4_fill_s (f : Nat → Int32) (v : Int32) (k : Nat) : upd (b4_fill f v k) k (vp_nar .byte v) = b4_fill f v (k + 1) := by
  funext j
  simp only [upd, b4_fill]
  by_cases h : j = k
  · subst h; simp
  · by_cases h2 : j < k
    · simp [h, h2, Nat.lt_succ_of_lt h2]
    · have : ¬ j < k + 1 := by omega
      simp [h, h2, this]
set_option maxRecDepth 100000 in
/-- in(v, lo, hi) -/
theorem jc_in (l : Launch) (D : va_G) (cB cI : ClassId) (v lo hi : Int32) : MetI l jy_JS_in jb_JS_in 3 0 .boolean D cB cI ([]) ([.int v, .int lo, .int hi]) (fun (r : Int32) (_ : Unit) => r = if lo ≤ v ∧ v ≤ hi then 1 else 0) (fun _ => []) := by
  refine MetZ.of (lv0 := [(0, .int v), (1, .int lo), (2, .int hi)]) "JournalShelf" rfl (by decide +kernel) (Nat.le_of_ble_eq_true rfl) rfl ?_
  intro p e s m args below meth c A Q X ret
  refine vv_iload_n X jd_JS_in_0 0 rfl rfl ?_
  refine vv_iload_n X jd_JS_in_1 1 rfl rfl ?_
  refine vv_icmp_lt (tgt := 14) X jd_JS_in_2 rfl (fun h1 => ?_) (fun h1 => ?_)
  · refine vv_iconst (v := 0) X jd_JS_in_14 (by decide +kernel) ?_
    exact ret _ _ 15 0 () jd_JS_in_15 (Or.inl rfl) (by rw [if_neg (fun q => absurd h1 (Int32.not_lt.mpr q.1))]) rfl
  · refine vv_iload_n X jd_JS_in_5 0 rfl rfl ?_
    refine vv_iload_n X jd_JS_in_6 2 rfl rfl ?_
    refine vv_icmp_gt (tgt := 14) X jd_JS_in_7 rfl (fun h2 => ?_) (fun h2 => ?_)
    · refine vv_iconst (v := 0) X jd_JS_in_14 (by decide +kernel) ?_
      exact ret _ _ 15 0 () jd_JS_in_15 (Or.inl rfl) (by rw [if_neg (fun q => absurd h2 (Int32.not_lt.mpr q.2))]) rfl
    · refine vv_iconst (v := 1) X jd_JS_in_10 (by decide +kernel) ?_
      refine vv_goto (tgt := 15) X jd_JS_in_11 rfl ?_
      exact ret _ _ 15 1 () jd_JS_in_15 (Or.inr rfl) (by rw [if_pos ⟨Int32.not_lt.mp h1, Int32.not_lt.mp h2⟩]) rfl
set_option maxRecDepth 100000 in
/-- put4: four bytes -/
theorem jc_put4 (l : Launch) (D : va_G) (cB cI : ClassId) (a n : Nat) (f : Nat → Int32) (k : Nat) (v : Int32) (hk : k + 4 ≤ n) (hn : n < 2 ^ 31) : MetV l jy_JS_put4 jb_JS_put4 3 0 D cB cI (js_b a n cB f) ([.ref a, .int (nI k), .int v]) (fun (_ : Unit) => True) (fun _ => js_b a n cB (b4_put f k v)) := by
  refine MetV.of (lv0 := [(0, .ref a), (1, .int (nI k)), (2, .int v)]) "JournalShelf" rfl (by decide +kernel) (Nat.le_of_ble_eq_true rfl) rfl ?_
  intro p e s m args below meth c A Q X ret
  refine vv_aload_n X jd_JS_put4_0 0 rfl rfl ?_
  refine vv_iload_n X jd_JS_put4_1 1 rfl rfl ?_
  refine vv_iload_n X jd_JS_put4_2 2 rfl rfl ?_
  refine vv_bipush X jd_JS_put4_3 cb_24 ?_
  refine vv_ishr X jd_JS_put4_5 rfl ?_
  refine vv_i2b X jd_JS_put4_6 rfl ?_
  refine vv_bast (ws' := js_b a n cB (upd (f) (k) (vp_nar .byte (v >>> (nI 24 &&& 31)).toInt8.toInt32))) X 0 jd_JS_put4_7 rfl (k) rfl (by omega) hn rfl ?_
  refine vv_aload_n X jd_JS_put4_8 0 rfl rfl ?_
  refine vv_iload_n X jd_JS_put4_9 1 rfl rfl ?_
  refine vv_iconst X jd_JS_put4_10 ci_1 ?_
  refine vv_iadd X jd_JS_put4_11 (nI_add k 1) ?_
  refine vv_iload_n X jd_JS_put4_12 2 rfl rfl ?_
  refine vv_bipush X jd_JS_put4_13 cb_16 ?_
  refine vv_ishr X jd_JS_put4_15 rfl ?_
  refine vv_i2b X jd_JS_put4_16 rfl ?_
  refine vv_bast (ws' := js_b a n cB (upd (upd (f) (k) (vp_nar .byte (v >>> (nI 24 &&& 31)).toInt8.toInt32)) (k + 1) (vp_nar .byte (v >>> (nI 16 &&& 31)).toInt8.toInt32))) X 0 jd_JS_put4_17 rfl (k + 1) rfl (by omega) hn rfl ?_
  refine vv_aload_n X jd_JS_put4_18 0 rfl rfl ?_
  refine vv_iload_n X jd_JS_put4_19 1 rfl rfl ?_
  refine vv_iconst X jd_JS_put4_20 ci_2 ?_
  refine vv_iadd X jd_JS_put4_21 (nI_add k 2) ?_
  refine vv_iload_n X jd_JS_put4_22 2 rfl rfl ?_
  refine vv_bipush X jd_JS_put4_23 cb_8 ?_
  refine vv_ishr X jd_JS_put4_25 rfl ?_
  refine vv_i2b X jd_JS_put4_26 rfl ?_
  refine vv_bast (ws' := js_b a n cB (upd (upd (upd (f) (k) (vp_nar .byte (v >>> (nI 24 &&& 31)).toInt8.toInt32)) (k + 1) (vp_nar .byte (v >>> (nI 16 &&& 31)).toInt8.toInt32)) (k + 2) (vp_nar .byte (v >>> (nI 8 &&& 31)).toInt8.toInt32))) X 0 jd_JS_put4_27 rfl (k + 2) rfl (by omega) hn rfl ?_
  refine vv_aload_n X jd_JS_put4_28 0 rfl rfl ?_
  refine vv_iload_n X jd_JS_put4_29 1 rfl rfl ?_
  refine vv_iconst X jd_JS_put4_30 ci_3 ?_
  refine vv_iadd X jd_JS_put4_31 (nI_add k 3) ?_
  refine vv_iload_n X jd_JS_put4_32 2 rfl rfl ?_
  refine vv_i2b X jd_JS_put4_33 rfl ?_
  refine vv_bast (ws' := js_b a n cB (b4_put f k v)) X 0 jd_JS_put4_34 rfl (k + 3) rfl (by omega) hn rfl ?_
  exact ret _ _ 35 () jd_JS_put4_35 trivial rfl
set_option maxRecDepth 100000 in
/-- get4 -/
theorem jc_get4 (l : Launch) (D : va_G) (cB cI : ClassId) (a n : Nat) (f : Nat → Int32) (k : Nat) (hk : k + 4 ≤ n) (hn : n < 2 ^ 31) : MetI l jy_JS_get4 jb_JS_get4 2 0 .int D cB cI (js_b a n cB f) ([.ref a, .int (nI k)]) (fun (r : Int32) (_ : Unit) => r = b4_get f k) (fun _ => js_b a n cB f) := by
  refine MetI.of (lv0 := [(0, .ref a), (1, .int (nI k))]) "JournalShelf" rfl (by decide +kernel) (Nat.le_of_ble_eq_true rfl) rfl ?_
  intro p e s m args below meth c A Q X ret
  refine vv_aload_n X jd_JS_get4_0 0 rfl rfl ?_
  refine vv_iload_n X jd_JS_get4_1 1 rfl rfl ?_
  refine vv_bald X 0 jd_JS_get4_2 rfl (k) rfl (by omega) hn rfl ?_
  refine vv_bipush X jd_JS_get4_3 cb_24 ?_
  refine vv_ishl X jd_JS_get4_5 rfl ?_
  refine vv_aload_n X jd_JS_get4_6 0 rfl rfl ?_
  refine vv_iload_n X jd_JS_get4_7 1 rfl rfl ?_
  refine vv_iconst X jd_JS_get4_8 ci_1 ?_
  refine vv_iadd X jd_JS_get4_9 (nI_add k 1) ?_
  refine vv_bald X 0 jd_JS_get4_10 rfl (k + 1) rfl (by omega) hn rfl ?_
  refine vv_sipush X jd_JS_get4_11 cs_255 ?_
  refine vv_iand X jd_JS_get4_14 rfl ?_
  refine vv_bipush X jd_JS_get4_15 cb_16 ?_
  refine vv_ishl X jd_JS_get4_17 rfl ?_
  refine vv_ior X jd_JS_get4_18 rfl ?_
  refine vv_aload_n X jd_JS_get4_19 0 rfl rfl ?_
  refine vv_iload_n X jd_JS_get4_20 1 rfl rfl ?_
  refine vv_iconst X jd_JS_get4_21 ci_2 ?_
  refine vv_iadd X jd_JS_get4_22 (nI_add k 2) ?_
  refine vv_bald X 0 jd_JS_get4_23 rfl (k + 2) rfl (by omega) hn rfl ?_
  refine vv_sipush X jd_JS_get4_24 cs_255 ?_
  refine vv_iand X jd_JS_get4_27 rfl ?_
  refine vv_bipush X jd_JS_get4_28 cb_8 ?_
  refine vv_ishl X jd_JS_get4_30 rfl ?_
  refine vv_ior X jd_JS_get4_31 rfl ?_
  refine vv_aload_n X jd_JS_get4_32 0 rfl rfl ?_
  refine vv_iload_n X jd_JS_get4_33 1 rfl rfl ?_
  refine vv_iconst X jd_JS_get4_34 ci_3 ?_
  refine vv_iadd X jd_JS_get4_35 (nI_add k 3) ?_
  refine vv_bald X 0 jd_JS_get4_36 rfl (k + 3) rfl (by omega) hn rfl ?_
  refine vv_sipush X jd_JS_get4_37 cs_255 ?_
  refine vv_iand X jd_JS_get4_40 rfl ?_
  refine vv_ior X jd_JS_get4_41 rfl ?_
  exact ret _ _ 42 _ () jd_JS_get4_42 rfl rfl
set_option maxRecDepth 100000 in
/-- Arrays.fill -/
theorem jc_fill (l : Launch) (D : va_G) (cB cI : ClassId) (a n : Nat) (f : Nat → Int32) (v : Int32) (hn : n < 2 ^ 31) : MetV l jy_Ar_fill jb_Ar_fill 4 0 D cB cI (js_b a n cB f) ([.ref a, .int v]) (fun (_ : Unit) => True) (fun _ => js_b a n cB (b4_fill f v n)) := by
  refine MetV.of (lv0 := [(0, .ref a), (1, .int v)]) "java/util/Arrays" rfl (by decide +kernel) (Nat.le_of_ble_eq_true rfl) rfl ?_
  intro p e s m args below meth c A Q X ret
  refine vv_iconst X jd_Ar_fill_0 ci_0 ?_
  refine vv_istore_n X jd_Ar_fill_1 [1, 2, 0] rfl (Nat.le_of_ble_eq_true rfl) rfl ?_
  refine vv_aload_n X jd_Ar_fill_2 0 rfl rfl ?_
  refine vv_alenB X 0 jd_Ar_fill_3 rfl ?_
  refine vv_istore_n X jd_Ar_fill_4 [1, 2, 3, 0] rfl (Nat.le_of_ble_eq_true rfl) rfl ?_
  refine vv_ws (ws' := js_b a n cB (b4_fill f v 0)) (by rw [b4_fill_0]) ?_
  refine js_up (n := n) (P := fun k => VV p l e (js_room 0) s m args below meth c D A 4 0 0 Q (js_b a n cB (b4_fill f v k)) ([(0, .ref a), (1, .int v), (2, .int (nI k)), (3, .int (nI n))]) 5 ([])) ?_ 0 (Nat.zero_le _)
  intro k hk ih
  refine vv_iload_n X jd_Ar_fill_5 2 rfl rfl ?_
  refine vv_iload_n X jd_Ar_fill_6 3 rfl rfl ?_
  refine vv_icmp_ge (tgt := 20) X jd_Ar_fill_7 rfl (fun h => ?_) (fun h => ?_)
  · have e1 : k = n := Nat.le_antisymm hk (nn_le (by omega) (by omega) h)
    subst e1
    exact ret _ _ 20 () jd_Ar_fill_20 trivial rfl
  · have e1 : k < n := nn_lt (by omega) (by omega) h
    refine vv_aload_n X jd_Ar_fill_10 0 rfl rfl ?_
    refine vv_iload_n X jd_Ar_fill_11 2 rfl rfl ?_
    refine vv_iload_n X jd_Ar_fill_12 1 rfl rfl ?_
    refine vv_bast (ws' := js_b a n cB (b4_fill f v (k + 1))) X 0 jd_Ar_fill_13 rfl (k) rfl e1 hn (by rw [← b4_fill_s]; rfl) ?_
    refine vv_iinc X jd_Ar_fill_14 2 [1, 2, 0, 3] rfl (cn_1 k) (Nat.le_of_ble_eq_true rfl) rfl ?_
    refine vv_goto (tgt := 5) X jd_Ar_fill_17 rfl ?_
    exact ih e1
end
section
/-- the disk's cells: its object, platter, late, lateBlock (addresses ad 9 .. ad 12) -/
abbrev dk_w (ad : Nat → Nat) (cB cI : ClassId) (P L : Nat → Int32) (b : Nat → Nat) (n : Nat) : va_W := [(ad 9, .inr (2, [.ref (ad 10), .ref (ad 11), .ref (ad 12), .int (nI n)])), (ad 10, .inl (cB, 135168, .inl P)), (ad 11, .inl (cB, 24576, .inl L)), (ad 12, .inl (cI, 48, .inl (nF b)))]
/-- the disk's cells and a block -/
abbrev dk_wb (ad : Nat → Nat) (cB cI : ClassId) (P L : Nat → Int32) (b : Nat → Nat) (n : Nat) (K : Nat → Int32) : va_W := [(ad 9, .inr (2, [.ref (ad 10), .ref (ad 11), .ref (ad 12), .int (nI n)])), (ad 10, .inl (cB, 135168, .inl P)), (ad 11, .inl (cB, 24576, .inl L)), (ad 12, .inl (cI, 48, .inl (nF b))), (ad 3, .inl (cB, 512, .inl K))]
/-- late block k lands, its first z bytes -/
def dk_land (L : Nat → Int32) (b : Nat → Nat) (P : Nat → Int32) (k z : Nat) : Nat → Int32 := va_cpy L P (512 * k) (512 * b k) z
/-- the first k late blocks land -/
def dk_fl (L : Nat → Int32) (b : Nat → Nat) (P : Nat → Int32) : Nat → Nat → Int32
  | 0 => P
  | k + 1 => dk_land L b (dk_fl L b P k) k 512
/-- a bit of a mask -/
def dk_bit (mask : Int32) (k : Nat) : Bool := decide (mask >>> (nI (k % 31) &&& 31) &&& nI 1 = nI 1)
/-- some block of the first k does not land -/
def dk_miss (mask : Int32) : Nat → Bool
  | 0 => false
  | k + 1 => dk_miss mask k || !dk_bit mask k
/-- a crash, of the first k late blocks -/
def dk_cr (L : Nat → Int32) (b : Nat → Nat) (P : Nat → Int32) (mask : Int32) (z : Nat) : Nat → Nat → Int32
  | 0 => P
  | k + 1 => if dk_bit mask k = true then dk_land L b (dk_cr L b P mask z k) k 512 else if dk_miss mask k = true then dk_cr L b P mask z k else dk_land L b (dk_cr L b P mask z k) k z
/-- the last of the first k late blocks that is block x -/
def dk_last (b : Nat → Nat) (x : Nat) : Nat → Option Nat
  | 0 => none
  | k + 1 => if b k = x then some k else dk_last b x k
/-- what a block reads as, laid over K -/
def dk_rd (P L : Nat → Int32) (b : Nat → Nat) (n x : Nat) (K : Nat → Int32) : Nat → Int32 := match dk_last b x n with
  | some k => va_cpy L K (512 * k) 0 512
  | none => va_cpy P K (512 * x) 0 512
theorem dk_fl_fit {L P : Nat → Int32} {b : Nat → Nat} (hL : sb_Fit L) (hP : sb_Fit P) : ∀ k, sb_Fit (dk_fl L b P k)
  | 0 => hP
  | k + 1 => sb_fitC hL (dk_fl_fit hL hP k)
theorem dk_cr_fit {L P : Nat → Int32} {b : Nat → Nat} {mask : Int32} {z : Nat} (hL : sb_Fit L) (hP : sb_Fit P) : ∀ k, sb_Fit (dk_cr L b P mask z k)
  | 0 => hP
  | k + 1 => by
    have ih := dk_cr_fit (b := b) (mask := mask) (z := z) hL hP k
    simp only [dk_cr]
    split
    · exact sb_fitC hL ih
    · split
      · exact ih
      · exact sb_fitC hL ih
set_option maxRecDepth 100000 in
theorem jc_hasRoom (l : Launch) (D : va_G) (cB cI : ClassId) (ad : Nat → Nat) (P L : Nat → Int32) (b : Nat → Nat) (n : Nat) (hn : n ≤ 48) : MetI l jy_Dk_hasRoom jb_Dk_hasRoom 1 0 .boolean D cB cI (dk_w ad cB cI P L b n) ([.ref (ad 9)]) (fun (r : Int32) (_ : Unit) => r = if n < 48 then 1 else 0) (fun _ => dk_w ad cB cI P L b n) := by
  refine MetZ.of (lv0 := [(0, .ref (ad 9))]) "JournalShelf$Disk" rfl (by decide +kernel) (Nat.le_of_ble_eq_true rfl) rfl ?_
  intro p e s m args below meth c A Q X ret
  refine vv_aload_n X jd_Dk_hasRoom_0 0 rfl rfl ?_
  refine gf_Dk_23 X 0 jd_Dk_hasRoom_1 rfl rfl ?_
  refine vv_bipush X jd_Dk_hasRoom_4 cb_48 ?_
  refine vv_icmp_ge (tgt := 13) X jd_Dk_hasRoom_6 rfl (fun h => ?_) (fun h => ?_)
  · refine vv_iconst (v := 0) X jd_Dk_hasRoom_13 (by decide +kernel) ?_
    exact ret _ _ 14 0 () jd_Dk_hasRoom_14 (Or.inl rfl) (by have := nn_le (by omega) (by omega) h; rw [if_neg (by omega)]) rfl
  · refine vv_iconst (v := 1) X jd_Dk_hasRoom_9 (by decide +kernel) ?_
    refine vv_goto (tgt := 14) X jd_Dk_hasRoom_10 rfl ?_
    exact ret _ _ 14 1 () jd_Dk_hasRoom_14 (Or.inr rfl) (by have := nn_lt (by omega) (by omega) h; rw [if_pos (by omega)]) rfl
set_option maxRecDepth 100000 in
theorem jc_land (l : Launch) (D : va_G) (cB cI : ClassId) (ad : Nat → Nat) (P L : Nat → Int32) (b : Nat → Nat) (n k z : Nat) (hk : k < 48) (hb : b k < 264) (hz : z ≤ 512) (hL : sb_Fit L) : MetV l jy_Dk_land jb_Dk_land 3 1 D cB cI (dk_w ad cB cI P L b n) ([.ref (ad 9), .int (nI k), .int (nI z)]) (fun (_ : Unit) => True) (fun _ => dk_w ad cB cI (dk_land L b P k z) L b n) := by
  refine MetV.of (lv0 := [(0, .ref (ad 9)), (1, .int (nI k)), (2, .int (nI z))]) "JournalShelf$Disk" rfl (by decide +kernel) (Nat.le_of_ble_eq_true rfl) rfl ?_
  intro p e s m args below meth c A Q X ret
  refine vv_aload_n X jd_Dk_land_0 0 rfl rfl ?_
  refine gf_Dk_16 X 0 jd_Dk_land_1 rfl rfl ?_
  refine vv_sipush X jd_Dk_land_4 cs_512 ?_
  refine vv_iload_n X jd_Dk_land_7 1 rfl rfl ?_
  refine vv_imul X jd_Dk_land_8 (pk_mul 512 k) ?_
  refine vv_aload_n X jd_Dk_land_9 0 rfl rfl ?_
  refine gf_Dk_10 X 0 jd_Dk_land_10 rfl rfl ?_
  refine vv_sipush X jd_Dk_land_13 cs_512 ?_
  refine vv_aload_n X jd_Dk_land_16 0 rfl rfl ?_
  refine gf_Dk_19 X 0 jd_Dk_land_17 rfl rfl ?_
  refine vv_iload_n X jd_Dk_land_20 1 rfl rfl ?_
  refine vv_iald X 3 jd_Dk_land_21 rfl (k) rfl hk (by decide) rfl ?_
  refine vv_imul X jd_Dk_land_22 (pk_mul 512 (b k)) ?_
  refine vv_iload_n X jd_Dk_land_23 2 rfl rfl ?_
  refine vv_copy (ws' := dk_w ad cB cI (dk_land L b P k z) L b n) X jk_128 2 1 jd_Dk_land_24 rfl rfl (512 * k) (512 * b k) (z) rfl rfl rfl (by omega) (by omega) (by decide) (by decide) (fun i _ => hL _) (Nat.le_of_ble_eq_true rfl) (Nat.le_of_ble_eq_true rfl) (Nat.le_of_ble_eq_true rfl) rfl ?_
  exact ret _ _ 27 () jd_Dk_land_27 trivial rfl
set_option maxRecDepth 100000 in
theorem jc_dflush (l : Launch) (D : va_G) (cB cI : ClassId) (ad : Nat → Nat) (P L : Nat → Int32) (b : Nat → Nat) (n : Nat) (hn : n ≤ 48) (hb : ∀ k, k < n → b k < 264) (hL : sb_Fit L) : MetV l jy_Dk_flush jb_Dk_flush 2 2 D cB cI (dk_w ad cB cI P L b n) ([.ref (ad 9)]) (fun (_ : Unit) => True) (fun _ => dk_w ad cB cI (dk_fl L b P n) L b 0) := by
  refine MetV.of (lv0 := [(0, .ref (ad 9))]) "JournalShelf$Disk" rfl (by decide +kernel) (Nat.le_of_ble_eq_true rfl) rfl ?_
  intro p e s m args below meth c A Q X ret
  refine vv_iconst X jd_Dk_flush_0 ci_0 ?_
  refine vv_istore_n X jd_Dk_flush_1 [1, 0] rfl (Nat.le_of_ble_eq_true rfl) rfl ?_
  refine js_up (n := n) (P := fun k => VV p l e (js_room 2) s m args below meth c D A 2 0 0 Q (dk_w ad cB cI (dk_fl L b P k) L b n) ([(0, .ref (ad 9)), (1, .int (nI k))]) 2 ([])) ?_ 0 (Nat.zero_le _)
  intro k hk ih
  refine vv_iload_n X jd_Dk_flush_2 1 rfl rfl ?_
  refine vv_aload_n X jd_Dk_flush_3 0 rfl rfl ?_
  refine gf_Dk_23 X 0 jd_Dk_flush_4 rfl rfl ?_
  refine vv_icmp_ge (tgt := 24) X jd_Dk_flush_7 rfl (fun h => ?_) (fun h => ?_)
  · have e1 : k = n := Nat.le_antisymm hk (nn_le (by omega) (by omega) h)
    subst e1
    refine vv_aload_n X jd_Dk_flush_24 0 rfl rfl ?_
    refine vv_iconst X jd_Dk_flush_25 ci_0 ?_
    refine pf_Dk_23 (ws' := dk_w ad cB cI (dk_fl L b P k) L b 0) X 0 jd_Dk_flush_26 rfl (Nat.le_of_ble_eq_true rfl) rfl ?_
    exact ret _ _ 29 () jd_Dk_flush_29 trivial rfl
  · have e1 : k < n := nn_lt (by omega) (by omega) h
    refine vv_aload_n X jd_Dk_flush_10 0 rfl rfl ?_
    refine vv_iload_n X jd_Dk_flush_11 1 rfl rfl ?_
    refine vv_sipush X jd_Dk_flush_12 cs_512 ?_
    refine vv_cVv (As := [.int (nI k), .int (nI 512)]) X (jc_land l D cB cI ad (dk_fl L b P k) L b n k 512 (by omega) (hb k e1) (by omega) hL) ok_Dk_33 ⟨rfl, rfl, Nat.le_of_ble_eq_true rfl, Nat.le_of_ble_eq_true rfl⟩ jd_Dk_flush_15 0 2 rfl rfl rfl [0, 1, 2, 3] rfl rfl [ad 9, ad 10, ad 11, ad 12] (fun _ => rfl) rfl rfl rfl (Nat.le_of_ble_eq_true rfl) ⟨Nat.zero_le _, Nat.zero_le _⟩ (fun _ _ => ?_)
    refine vv_ws (ws' := dk_w ad cB cI (dk_fl L b P (k + 1)) L b n) rfl ?_
    refine vv_iinc X jd_Dk_flush_18 1 [1, 0] rfl (cn_1 k) (Nat.le_of_ble_eq_true rfl) rfl ?_
    refine vv_goto (tgt := 2) X jd_Dk_flush_21 rfl ?_
    exact ih e1
theorem dk_and1 (x : Int32) : x &&& nI 1 = nI 0 ∨ x &&& nI 1 = nI 1 := by
  obtain ⟨j, hj, e⟩ := pk_andE x (m := nI 1) 1 (by decide +kernel)
  rw [e]
  rcases (show j = 0 ∨ j = 1 by omega) with rfl | rfl
  · exact Or.inl rfl
  · exact Or.inr rfl
theorem dk_bit_t {mask : Int32} {k : Nat} (h : mask >>> (nI (k % 31) &&& 31) &&& nI 1 = nI 1) : dk_bit mask k = true := decide_eq_true h
theorem dk_bit_f {mask : Int32} {k : Nat} (h : ¬ mask >>> (nI (k % 31) &&& 31) &&& nI 1 = nI 1) : dk_bit mask k = false := decide_eq_false h
set_option maxRecDepth 100000 in
theorem jc_dcrash (l : Launch) (D : va_G) (cB cI : ClassId) (ad : Nat → Nat) (P L : Nat → Int32) (b : Nat → Nat) (n z : Nat) (mask : Int32) (hn : n ≤ 48) (hb : ∀ k, k < n → b k < 264) (hz : z ≤ 500) (hL : sb_Fit L) : MetV l jy_Dk_crash jb_Dk_crash 5 2 D cB cI (dk_w ad cB cI P L b n) ([.ref (ad 9), .int mask, .int (nI z)]) (fun (_ : Unit) => True) (fun _ => dk_w ad cB cI (dk_cr L b P mask z n) L b 0) := by
  refine MetV.of (lv0 := [(0, .ref (ad 9)), (1, .int mask), (2, .int (nI z))]) "JournalShelf$Disk" rfl (by decide +kernel) (Nat.le_of_ble_eq_true rfl) rfl ?_
  intro p e s m args below meth c A Q X ret
  refine vv_iconst X jd_Dk_crash_0 ci_0 ?_
  refine vv_istore_n X jd_Dk_crash_1 [1, 2, 3, 0] rfl (Nat.le_of_ble_eq_true rfl) rfl ?_
  refine vv_iconst X jd_Dk_crash_2 ci_0 ?_
  refine vv_istore X jd_Dk_crash_3 [1, 2, 3, 4, 0] (Nat.le_of_ble_eq_true rfl) rfl ?_
  refine js_up (n := n) (P := fun k => VV p l e (js_room 2) s m args below meth c D A 5 0 0 Q (dk_w ad cB cI (dk_cr L b P mask z k) L b n) ([(0, .ref (ad 9)), (1, .int mask), (2, .int (nI z)), (3, .int (if dk_miss mask k = true then nI 1 else nI 0)), (4, .int (nI k))]) 5 ([])) ?_ 0 (Nat.zero_le _)
  intro k hk ih
  refine vv_iload X jd_Dk_crash_5 4 rfl ?_
  refine vv_aload_n X jd_Dk_crash_7 0 rfl rfl ?_
  refine gf_Dk_23 X 0 jd_Dk_crash_8 rfl rfl ?_
  refine vv_icmp_ge (tgt := 62) X jd_Dk_crash_11 rfl (fun h => ?_) (fun h => ?_)
  · have e1 : k = n := Nat.le_antisymm hk (nn_le (by omega) (by omega) h)
    subst e1
    refine vv_aload_n X jd_Dk_crash_62 0 rfl rfl ?_
    refine vv_iconst X jd_Dk_crash_63 ci_0 ?_
    refine pf_Dk_23 (ws' := dk_w ad cB cI (dk_cr L b P mask z k) L b 0) X 0 jd_Dk_crash_64 rfl (Nat.le_of_ble_eq_true rfl) rfl ?_
    exact ret _ _ 67 () jd_Dk_crash_67 trivial rfl
  · have e1 : k < n := nn_lt (by omega) (by omega) h
    refine vv_iload_n X jd_Dk_crash_14 1 rfl rfl ?_
    refine vv_iload X jd_Dk_crash_15 4 rfl ?_
    refine vv_bipush X jd_Dk_crash_17 cb_31 ?_
    refine vv_irem X jd_Dk_crash_19 (nI_ne0 (by omega) (by omega)) (pk_rem (by omega) (by omega) (by omega)) ?_
    refine vv_ishr X jd_Dk_crash_20 rfl ?_
    refine vv_iconst X jd_Dk_crash_21 ci_1 ?_
    refine vv_iand X jd_Dk_crash_22 rfl ?_
    refine vv_iconst X jd_Dk_crash_23 ci_1 ?_
    refine vv_icmp_ne (tgt := 39) X jd_Dk_crash_24 rfl (fun g => ?_) (fun g => ?_)
    · have g0 := dk_bit_f g
      refine vv_iload_n X jd_Dk_crash_39 3 rfl rfl ?_
      refine vv_if_ne (tgt := 56) X jd_Dk_crash_40 rfl (fun t => ?_) (fun t => ?_)
      · have t0 : dk_miss mask k = true := by
          cases hm : dk_miss mask k with
          | true => rfl
          | false => rw [hm] at t; exact absurd rfl t
        refine vv_ws (ws' := dk_w ad cB cI (dk_cr L b P mask z (k + 1)) L b n) (by simp only [dk_cr, g0, t0]; rfl) ?_
        refine vv_iinc X jd_Dk_crash_56 4 [1, 2, 3, 4, 0] rfl (cn_1 k) (Nat.le_of_ble_eq_true rfl) rfl ?_
        refine vv_goto (tgt := 5) X jd_Dk_crash_59 rfl ?_
        have i1 := ih e1
        simp only [dk_miss, t0, Bool.true_or] at i1 ⊢
        exact i1
      · have t0 : dk_miss mask k = false := by
          cases hm : dk_miss mask k with
          | false => rfl
          | true => rw [hm] at t; exact absurd t (by decide +kernel)
        refine vv_aload_n X jd_Dk_crash_43 0 rfl rfl ?_
        refine vv_iload X jd_Dk_crash_44 4 rfl ?_
        refine vv_iload_n X jd_Dk_crash_46 2 rfl rfl ?_
        refine vv_sipush X jd_Dk_crash_47 cs_511 ?_
        refine vv_iand X jd_Dk_crash_50 (show nI z &&& nI 511 = nI z from (pk_andN (by omega) 9 (by decide +kernel)).trans (by rw [Nat.mod_eq_of_lt (show z < 2 ^ 9 by omega)])) ?_
        refine vv_cVv (As := [.int (nI k), .int (nI z)]) X (jc_land l D cB cI ad (dk_cr L b P mask z k) L b n k z (by omega) (hb k e1) (by omega) hL) ok_Dk_33 ⟨rfl, rfl, Nat.le_of_ble_eq_true rfl, Nat.le_of_ble_eq_true rfl⟩ jd_Dk_crash_51 0 2 rfl rfl rfl [0, 1, 2, 3] rfl rfl [ad 9, ad 10, ad 11, ad 12] (fun _ => rfl) rfl rfl rfl (Nat.le_of_ble_eq_true rfl) ⟨Nat.zero_le _, Nat.zero_le _⟩ (fun _ _ => ?_)
        refine vv_ws (ws' := dk_w ad cB cI (dk_cr L b P mask z (k + 1)) L b n) (by simp only [dk_cr, g0, t0]; rfl) ?_
        refine vv_iconst X jd_Dk_crash_54 ci_1 ?_
        refine vv_istore_n X jd_Dk_crash_55 [1, 2, 3, 0, 4] rfl (Nat.le_of_ble_eq_true rfl) rfl ?_
        refine vv_iinc X jd_Dk_crash_56 4 [1, 2, 3, 4, 0] rfl (cn_1 k) (Nat.le_of_ble_eq_true rfl) rfl ?_
        refine vv_goto (tgt := 5) X jd_Dk_crash_59 rfl ?_
        have i1 := ih e1
        simp only [dk_miss, t0, g0] at i1 ⊢
        exact i1
    · have g0 := dk_bit_t g
      refine vv_aload_n X jd_Dk_crash_27 0 rfl rfl ?_
      refine vv_iload X jd_Dk_crash_28 4 rfl ?_
      refine vv_sipush X jd_Dk_crash_30 cs_512 ?_
      refine vv_cVv (As := [.int (nI k), .int (nI 512)]) X (jc_land l D cB cI ad (dk_cr L b P mask z k) L b n k 512 (by omega) (hb k e1) (by omega) hL) ok_Dk_33 ⟨rfl, rfl, Nat.le_of_ble_eq_true rfl, Nat.le_of_ble_eq_true rfl⟩ jd_Dk_crash_33 0 2 rfl rfl rfl [0, 1, 2, 3] rfl rfl [ad 9, ad 10, ad 11, ad 12] (fun _ => rfl) rfl rfl rfl (Nat.le_of_ble_eq_true rfl) ⟨Nat.zero_le _, Nat.zero_le _⟩ (fun _ _ => ?_)
      refine vv_ws (ws' := dk_w ad cB cI (dk_cr L b P mask z (k + 1)) L b n) (by simp only [dk_cr, g0]; rfl) ?_
      refine vv_goto (tgt := 56) X jd_Dk_crash_36 rfl ?_
      refine vv_iinc X jd_Dk_crash_56 4 [1, 2, 3, 4, 0] rfl (cn_1 k) (Nat.le_of_ble_eq_true rfl) rfl ?_
      refine vv_goto (tgt := 5) X jd_Dk_crash_59 rfl ?_
      have i1 := ih e1
      simp only [dk_miss, g0, Bool.not_true, Bool.or_false] at i1
      exact i1
set_option maxRecDepth 100000 in
theorem jc_write (l : Launch) (D : va_G) (cB cI : ClassId) (ad : Nat → Nat) (P L : Nat → Int32) (b : Nat → Nat) (n : Nat) (K : Nat → Int32) (x : Nat) (hn : n < 48) (hK : sb_Fit K) : MetV l jy_Dk_write jb_Dk_write 3 1 D cB cI (dk_wb ad cB cI P L b n K) ([.ref (ad 9), .int (nI x), .ref (ad 3)]) (fun (_ : Unit) => True) (fun _ => dk_wb ad cB cI P (va_cpy K L 0 (512 * n) 512) (uN_ b n x) (n + 1) K) := by
  refine MetV.of (lv0 := [(0, .ref (ad 9)), (1, .int (nI x)), (2, .ref (ad 3))]) "JournalShelf$Disk" rfl (by decide +kernel) (Nat.le_of_ble_eq_true rfl) rfl ?_
  intro p e s m args below meth c A Q X ret
  refine vv_aload_n X jd_Dk_write_0 2 rfl rfl ?_
  refine vv_iconst X jd_Dk_write_1 ci_0 ?_
  refine vv_aload_n X jd_Dk_write_2 0 rfl rfl ?_
  refine gf_Dk_16 X 0 jd_Dk_write_3 rfl rfl ?_
  refine vv_sipush X jd_Dk_write_6 cs_512 ?_
  refine vv_aload_n X jd_Dk_write_9 0 rfl rfl ?_
  refine gf_Dk_23 X 0 jd_Dk_write_10 rfl rfl ?_
  refine vv_imul X jd_Dk_write_13 (pk_mul 512 n) ?_
  refine vv_sipush X jd_Dk_write_14 cs_512 ?_
  refine vv_copy (ws' := dk_wb ad cB cI P (va_cpy K L 0 (512 * n) 512) b n K) X jk_128 4 2 jd_Dk_write_17 rfl rfl (0) (512 * n) (512) rfl rfl rfl (by omega) (by omega) (by decide) (by decide) (fun i _ => hK _) (Nat.le_of_ble_eq_true rfl) (Nat.le_of_ble_eq_true rfl) (Nat.le_of_ble_eq_true rfl) rfl ?_
  refine vv_aload_n X jd_Dk_write_20 0 rfl rfl ?_
  refine gf_Dk_19 X 0 jd_Dk_write_21 rfl rfl ?_
  refine vv_aload_n X jd_Dk_write_24 0 rfl rfl ?_
  refine gf_Dk_23 X 0 jd_Dk_write_25 rfl rfl ?_
  refine vv_iload_n X jd_Dk_write_28 1 rfl rfl ?_
  refine vv_iast (ws' := dk_wb ad cB cI P (va_cpy K L 0 (512 * n) 512) (uN_ b n x) n K) X 3 jd_Dk_write_29 rfl (n) rfl hn (by decide) (by rw [upd_nF]; rfl) ?_
  refine vv_aload_n X jd_Dk_write_30 0 rfl rfl ?_
  refine vv_dup X jd_Dk_write_31 rfl ?_
  refine gf_Dk_23 X 0 jd_Dk_write_32 rfl rfl ?_
  refine vv_iconst X jd_Dk_write_35 ci_1 ?_
  refine vv_iadd X jd_Dk_write_36 (nI_add n 1) ?_
  refine pf_Dk_23 (ws' := dk_wb ad cB cI P (va_cpy K L 0 (512 * n) 512) (uN_ b n x) (n + 1) K) X 0 jd_Dk_write_37 rfl (Nat.le_of_ble_eq_true rfl) rfl ?_
  exact ret _ _ 40 () jd_Dk_write_40 trivial rfl
/-- going down: nothing from k on is block x -/
theorem dk_last_skip {b : Nat → Nat} {x n k : Nat} (hk : k ≤ n) (h : ∀ i, k ≤ i → i < n → b i ≠ x) : dk_last b x n = dk_last b x k := by
  induction n with
  | zero => have : k = 0 := by omega
            rw [this]
  | succ n ih =>
    by_cases e : k = n + 1
    · rw [e]
    · have h0 := h n (by omega) (by omega)
      simp only [dk_last, if_neg h0]
      exact ih (by omega) (fun i h1 h2 => h i h1 (by omega))
set_option maxRecDepth 100000 in
theorem jc_dread (l : Launch) (D : va_G) (cB cI : ClassId) (ad : Nat → Nat) (P L : Nat → Int32) (b : Nat → Nat) (n : Nat) (K : Nat → Int32) (x : Nat) (hn : n ≤ 48) (hb : ∀ k, k < n → b k < 2 ^ 31) (hx : x < 264) (hP : sb_Fit P) (hL : sb_Fit L) : MetV l jy_Dk_read jb_Dk_read 4 1 D cB cI (dk_wb ad cB cI P L b n K) ([.ref (ad 9), .int (nI x), .ref (ad 3)]) (fun (_ : Unit) => True) (fun _ => dk_wb ad cB cI P L b n (dk_rd P L b n x K)) := by
  refine MetV.of (lv0 := [(0, .ref (ad 9)), (1, .int (nI x)), (2, .ref (ad 3))]) "JournalShelf$Disk" rfl (by decide +kernel) (Nat.le_of_ble_eq_true rfl) rfl ?_
  intro p e s m args below meth c A Q X ret
  refine vv_aload_n X jd_Dk_read_0 0 rfl rfl ?_
  refine gf_Dk_23 X 0 jd_Dk_read_1 rfl rfl ?_
  refine vv_iconst X jd_Dk_read_4 ci_1 ?_
  refine vv_isub X jd_Dk_read_5 rfl ?_
  refine vv_istore_n X jd_Dk_read_6 [1, 2, 3, 0] rfl (Nat.le_of_ble_eq_true rfl) rfl ?_
  have loop : ∀ k, k ≤ n → (∀ i, k ≤ i → i < n → b i ≠ x) → VV p l e (js_room 1) s m args below meth c D A 4 0 0 Q (dk_wb ad cB cI P L b n K) ([(0, .ref (ad 9)), (1, .int (nI x)), (2, .ref (ad 3)), (3, .int (nI k - nI 1))]) 7 ([]) := by
    intro k
    induction k with
    | zero =>
      intro _ hs
      refine vv_iload_n X jd_Dk_read_7 3 rfl rfl ?_
      refine vv_if_lt (tgt := 27) X jd_Dk_read_8 rfl (fun h => ?_) (fun h => absurd (show nI 0 - nI 1 < 0 by decide +kernel) h)
      refine vv_iload_n X jd_Dk_read_27 3 rfl rfl ?_
      refine vv_if_lt (tgt := 51) X jd_Dk_read_28 rfl (fun h => ?_) (fun h => absurd (show nI 0 - nI 1 < 0 by decide +kernel) h)
      refine vv_aload_n X jd_Dk_read_51 0 rfl rfl ?_
      refine gf_Dk_10 X 0 jd_Dk_read_52 rfl rfl ?_
      refine vv_sipush X jd_Dk_read_55 cs_512 ?_
      refine vv_iload_n X jd_Dk_read_58 1 rfl rfl ?_
      refine vv_imul X jd_Dk_read_59 (pk_mul 512 x) ?_
      refine vv_aload_n X jd_Dk_read_60 2 rfl rfl ?_
      refine vv_iconst X jd_Dk_read_61 ci_0 ?_
      refine vv_sipush X jd_Dk_read_62 cs_512 ?_
      refine vv_copy (ws' := dk_wb ad cB cI P L b n (dk_rd P L b n x K)) X jk_128 1 4 jd_Dk_read_65 rfl rfl (512 * x) (0) (512) rfl rfl rfl (by omega) (by omega) (by decide) (by decide) (fun i _ => hP _) (Nat.le_of_ble_eq_true rfl) (Nat.le_of_ble_eq_true rfl) (Nat.le_of_ble_eq_true rfl) (by rw [dk_rd, dk_last_skip (Nat.zero_le n) hs]; rfl) ?_
      exact ret _ _ 68 () jd_Dk_read_68 trivial rfl
    | succ k ih =>
      intro hk hs
      rw [show nI (k + 1) - nI 1 = nI k from nI_pred k]
      refine vv_iload_n X jd_Dk_read_7 3 rfl rfl ?_
      refine vv_if_lt (tgt := 27) X jd_Dk_read_8 rfl (fun h => absurd h (nI_pos (by omega))) (fun h => ?_)
      refine vv_aload_n X jd_Dk_read_11 0 rfl rfl ?_
      refine gf_Dk_19 X 0 jd_Dk_read_12 rfl rfl ?_
      refine vv_iload_n X jd_Dk_read_15 3 rfl rfl ?_
      refine vv_iald X 3 jd_Dk_read_16 rfl (k) rfl (by omega) (by decide) rfl ?_
      refine vv_iload_n X jd_Dk_read_17 1 rfl rfl ?_
      refine vv_icmp_eq (tgt := 27) X jd_Dk_read_18 rfl (fun g => ?_) (fun g => ?_)
      · have g0 : b k = x := (nI_eq (hb k (by omega)) (by omega)).mp g
        refine vv_iload_n X jd_Dk_read_27 3 rfl rfl ?_
        refine vv_if_lt (tgt := 51) X jd_Dk_read_28 rfl (fun h => absurd h (nI_pos (by omega))) (fun h => ?_)
        refine vv_aload_n X jd_Dk_read_31 0 rfl rfl ?_
        refine gf_Dk_16 X 0 jd_Dk_read_32 rfl rfl ?_
        refine vv_sipush X jd_Dk_read_35 cs_512 ?_
        refine vv_iload_n X jd_Dk_read_38 3 rfl rfl ?_
        refine vv_imul X jd_Dk_read_39 (pk_mul 512 k) ?_
        refine vv_aload_n X jd_Dk_read_40 2 rfl rfl ?_
        refine vv_iconst X jd_Dk_read_41 ci_0 ?_
        refine vv_sipush X jd_Dk_read_42 cs_512 ?_
        refine vv_copy (ws' := dk_wb ad cB cI P L b n (dk_rd P L b n x K)) X jk_128 2 4 jd_Dk_read_45 rfl rfl (512 * k) (0) (512) rfl rfl rfl (by omega) (by omega) (by decide) (by decide) (fun i _ => hL _) (Nat.le_of_ble_eq_true rfl) (Nat.le_of_ble_eq_true rfl) (Nat.le_of_ble_eq_true rfl) (by rw [dk_rd, dk_last_skip (k := k + 1) hk hs]; simp only [dk_last, if_pos g0]; rfl) ?_
        refine vv_goto (tgt := 68) X jd_Dk_read_48 rfl ?_
        exact ret _ _ 68 () jd_Dk_read_68 trivial rfl
      · have g0 : b k ≠ x := fun q => g (by rw [show nF b k = nI (b k) from rfl, q])
        refine vv_iinc X jd_Dk_read_21 3 [1, 2, 3, 0] rfl (cn_dec _) (Nat.le_of_ble_eq_true rfl) rfl ?_
        refine vv_goto (tgt := 7) X jd_Dk_read_24 rfl ?_
        refine ih (by omega) (fun i h1 h2 => ?_)
        by_cases e : i = k
        · rw [e]; exact g0
        · exact hs i (by omega) h2
  exact loop n (Nat.le_refl n) (fun i h1 h2 => absurd h1 (by omega))
end
section
/-! what a disk reads as: pure -/
/-- a disk: platter, late blocks, their numbers, how many -/
abbrev DS : Type := (Nat → Int32) × (Nat → Int32) × (Nat → Nat) × Nat
def ds_flush (d : DS) : DS := (dk_fl d.2.1 d.2.2.1 d.1 d.2.2.2, d.2.1, d.2.2.1, 0)
def ds_write (d : DS) (x : Nat) (K : Nat → Int32) : DS := (d.1, va_cpy K d.2.1 0 (512 * d.2.2.2) 512, uN_ d.2.2.1 d.2.2.2 x, d.2.2.2 + 1)
def ds_room (d : DS) : DS := if d.2.2.2 < 48 then d else ds_flush d
def ds_crash (d : DS) (mask : Int32) (z : Nat) : DS := (dk_cr d.2.1 d.2.2.1 d.1 mask z d.2.2.2, d.2.1, d.2.2.1, 0)
def ds_ok (d : DS) : Prop := d.2.2.2 ≤ 48 ∧ (∀ k, k < d.2.2.2 → d.2.2.1 k < 264) ∧ sb_Fit d.1 ∧ sb_Fit d.2.1
/-- block x, byte j -/
def ds_view (d : DS) (x j : Nat) : Int32 := match dk_last d.2.2.1 x d.2.2.2 with
  | some k => d.2.1 (512 * k + j)
  | none => d.1 (512 * x + j)
/-- two views are one, as far as blocks go -/
def VEq (V W : Nat → Nat → Int32) : Prop := ∀ x, x < 264 → ∀ j, j < 512 → V x j = W x j
def vup (V : Nat → Nat → Int32) (x : Nat) (K : Nat → Int32) : Nat → Nat → Int32 := fun y => if y = x then K else V y
theorem VEq.rf (V : Nat → Nat → Int32) : VEq V V := fun _ _ _ _ => rfl
theorem VEq.tr {U V W : Nat → Nat → Int32} (h : VEq U V) (g : VEq V W) : VEq U W := fun x hx j hj => (h x hx j hj).trans (g x hx j hj)
theorem VEq.sy {V W : Nat → Nat → Int32} (h : VEq V W) : VEq W V := fun x hx j hj => (h x hx j hj).symm
theorem VEq.up {V W : Nat → Nat → Int32} {x : Nat} {K M : Nat → Int32} (h : VEq V W) (hk : ∀ j, j < 512 → K j = M j) : VEq (vup V x K) (vup W x M) := by
  intro y hy j hj
  simp only [vup]
  split
  · exact hk j hj
  · exact h y hy j hj
theorem dk_land_at {L P : Nat → Int32} {b : Nat → Nat} {k z x j : Nat} (hj : j < 512) (hz : z ≤ 512) : dk_land L b P k z (512 * x + j) = if x = b k ∧ j < z then L (512 * k + j) else P (512 * x + j) := by
  unfold dk_land
  by_cases h : x = b k ∧ j < z
  · obtain ⟨rfl, h2⟩ := h
    rw [if_pos ⟨rfl, h2⟩, pk_cpy_in (by omega) (by omega)]
    congr 1
    omega
  · rw [if_neg h]
    refine pk_cpy_out ?_
    by_cases hx : x = b k
    · have : ¬ j < z := fun q => h ⟨hx, q⟩
      rw [hx]
      right
      omega
    · rcases Nat.lt_or_gt_of_ne hx with h1 | h1
      · left; omega
      · right; omega
theorem dk_fl_at {L P : Nat → Int32} {b : Nat → Nat} {x j : Nat} (hj : j < 512) : ∀ n, dk_fl L b P n (512 * x + j) = match dk_last b x n with
    | some k => L (512 * k + j)
    | none => P (512 * x + j)
  | 0 => rfl
  | n + 1 => by
    simp only [dk_fl, dk_last]
    rw [dk_land_at hj (Nat.le_refl _)]
    by_cases h : x = b n
    · rw [if_pos ⟨h, hj⟩, if_pos h.symm]
    · rw [if_neg (fun q => h q.1), if_neg (fun q => h q.symm)]
      exact dk_fl_at hj n
theorem dk_last_lt {b : Nat → Nat} {x k : Nat} : ∀ {n}, dk_last b x n = some k → k < n ∧ b k = x
  | 0, h => by cases h
  | n + 1, h => by
    simp only [dk_last] at h
    split at h
    · rename_i e
      cases h
      exact ⟨Nat.lt_succ_self _, e⟩
    · have := dk_last_lt (n := n) h
      exact ⟨by omega, this.2⟩
theorem dk_last_none {b : Nat → Nat} {x : Nat} : ∀ {n}, dk_last b x n = none → ∀ k, k < n → b k ≠ x
  | 0, _, k, hk => absurd hk (Nat.not_lt_zero k)
  | n + 1, h, k, hk => by
    simp only [dk_last] at h
    split at h
    · cases h
    · rename_i e
      by_cases hkn : k = n
      · rw [hkn]; exact e
      · exact dk_last_none (n := n) h k (by omega)
theorem dk_last_congr {b b' : Nat → Nat} {x : Nat} : ∀ {n}, (∀ k, k < n → b k = b' k) → dk_last b x n = dk_last b' x n
  | 0, _ => rfl
  | n + 1, h => by
    simp only [dk_last, h n (Nat.lt_succ_self n), dk_last_congr (n := n) (fun k hk => h k (by omega))]
theorem dk_last_max {b : Nat → Nat} {x k : Nat} : ∀ {n}, dk_last b x n = some k → ∀ i, k < i → i < n → b i ≠ x
  | 0, h, _, _, hi => absurd hi (Nat.not_lt_zero _)
  | n + 1, h, i, hki, hi => by
    simp only [dk_last] at h
    split at h
    · cases h
      omega
    · rename_i e
      by_cases hin : i = n
      · rw [hin]; exact e
      · exact dk_last_max (n := n) h i hki (by omega)
/-- the platter itself, when nothing is late -/
theorem ds_view_0 {d : DS} (h : d.2.2.2 = 0) (x j : Nat) : ds_view d x j = d.1 (512 * x + j) := by
  simp only [ds_view, h, dk_last]
theorem ds_flush_view (d : DS) : VEq (ds_view (ds_flush d)) (ds_view d) := by
  intro x _ j hj
  rw [ds_view_0 rfl]
  exact dk_fl_at hj _
theorem ds_flush_ok {d : DS} (h : ds_ok d) : ds_ok (ds_flush d) := ⟨Nat.zero_le _, fun k hk => absurd hk (Nat.not_lt_zero k), dk_fl_fit h.2.2.2 h.2.2.1 _, h.2.2.2⟩
theorem ds_room_view (d : DS) : VEq (ds_view (ds_room d)) (ds_view d) := by
  unfold ds_room
  split
  · exact VEq.rf _
  · exact ds_flush_view d
theorem ds_room_ok {d : DS} (h : ds_ok d) : ds_ok (ds_room d) := by
  unfold ds_room
  split
  · exact h
  · exact ds_flush_ok h
theorem ds_room_lt (d : DS) : (ds_room d).2.2.2 < 48 := by
  unfold ds_room
  split
  · assumption
  · exact Nat.le_of_ble_eq_true rfl
theorem ds_room_id {d : DS} (h : d.2.2.2 < 48) : ds_room d = d := if_pos h
theorem ds_write_ok {d : DS} {x : Nat} {K : Nat → Int32} (h : ds_ok d) (hn : d.2.2.2 < 48) (hx : x < 264) (hK : sb_Fit K) : ds_ok (ds_write d x K) := by
  refine ⟨hn, fun k hk => ?_, h.2.2.1, sb_fitC hK h.2.2.2⟩
  simp only [ds_write, uN_] at hk ⊢
  split
  · exact hx
  · exact h.2.1 k (by omega)
theorem dk_last_write {b : Nat → Nat} {n x y : Nat} : dk_last (uN_ b n x) y (n + 1) = if x = y then some n else dk_last b y n := by
  simp only [dk_last]
  rw [show uN_ b n x n = x by simp [uN_]]
  split
  · rfl
  · exact dk_last_congr (fun k hk => by simp [uN_, Nat.ne_of_lt hk])
theorem ds_late_at {L K : Nat → Int32} {n k j : Nat} (hj : j < 512) : va_cpy K L 0 (512 * n) 512 (512 * k + j) = if k = n then K j else L (512 * k + j) := by
  by_cases h : k = n
  · subst h
    rw [if_pos rfl, pk_cpy_in (by omega) (by omega)]
    congr 1
    omega
  · rw [if_neg h]
    refine pk_cpy_out ?_
    rcases Nat.lt_or_gt_of_ne h with h1 | h1
    · left; omega
    · right; omega
theorem ds_write_view (d : DS) (x : Nat) (K : Nat → Int32) : VEq (ds_view (ds_write d x K)) (vup (ds_view d) x K) := by
  intro y _ j hj
  simp only [ds_view, ds_write, vup, dk_last_write]
  by_cases h : x = y
  · rw [if_pos h, if_pos h.symm]
    simp only [ds_late_at hj, if_pos]
  · rw [if_neg h, if_neg (fun q => h q.symm)]
    cases hl : dk_last d.2.2.1 y d.2.2.2 with
    | none => simp only [ds_view, hl]
    | some k =>
      have := (dk_last_lt hl).1
      simp only [ds_view, hl, ds_late_at hj, if_neg (Nat.ne_of_lt this)]
theorem ds_write_congr {d : DS} {x : Nat} {K M : Nat → Int32} (h : ∀ j, j < 512 → K j = M j) : ds_write d x K = ds_write d x M := by
  simp only [ds_write, Prod.mk.injEq, true_and, and_true]
  funext j
  simp only [va_cpy]
  split
  · rename_i hj
    exact h _ (by omega)
  · rfl
/-- behind a crash: block x, byte j -/
theorem dk_cr_at {L P : Nat → Int32} {b : Nat → Nat} {mask : Int32} {z x j : Nat} (hj : j < 512) (hz : z ≤ 512) (n : Nat) : dk_cr L b P mask z (n + 1) (512 * x + j) = if x = b n ∧ (dk_bit mask n = true ∨ (dk_miss mask n = false ∧ j < z)) then L (512 * n + j) else dk_cr L b P mask z n (512 * x + j) := by
  simp only [dk_cr]
  by_cases h1 : dk_bit mask n = true
  · rw [if_pos h1, dk_land_at hj (Nat.le_refl _)]
    simp [h1, hj]
  · rw [if_neg h1]
    by_cases h2 : dk_miss mask n = true
    · rw [if_pos h2]
      simp [h1, h2]
    · rw [if_neg h2, dk_land_at hj hz]
      simp [h1, h2]
end
section
/-- the shelf's cells: its object, block, fresh, freshSlot, number, count, part; then the disk's -/
abbrev sh_w (ad : Nat → Nat) (cB cI : ClassId) (fm op nx pl sf : Nat) (di : Int32) (K F : Nat → Int32) (fs : Nat → Nat) (Nb Ct Pt : Nat → Int32) (d : DS) : va_W := [(ad 2, .inr (1, [.ref (ad 9), .ref (ad 3), .ref (ad 4), .ref (ad 5), .int (nI fm), .int (nI op), .int (nI nx), .int (nI pl), .int (nI sf), .int di, .ref (ad 6), .ref (ad 7), .ref (ad 8)])), (ad 3, .inl (cB, 512, .inl K)), (ad 4, .inl (cB, 11904, .inl F)), (ad 5, .inl (cI, 24, .inl (nF fs))), (ad 6, .inl (cI, 52, .inl Nb)), (ad 7, .inl (cI, 52, .inl Ct)), (ad 8, .inl (cI, 52, .inl Pt)), (ad 9, .inr (2, [.ref (ad 10), .ref (ad 11), .ref (ad 12), .int (nI d.2.2.2)])), (ad 10, .inl (cB, 135168, .inl d.1)), (ad 11, .inl (cB, 24576, .inl d.2.1)), (ad 12, .inl (cI, 48, .inl (nF d.2.2.1)))]
/-- .. and an image -/
abbrev sh_wi (ad : Nat → Nat) (cB cI : ClassId) (fm op nx pl sf : Nat) (di : Int32) (K F : Nat → Int32) (fs : Nat → Nat) (Nb Ct Pt : Nat → Int32) (d : DS) (I : Nat → Int32) : va_W := [(ad 2, .inr (1, [.ref (ad 9), .ref (ad 3), .ref (ad 4), .ref (ad 5), .int (nI fm), .int (nI op), .int (nI nx), .int (nI pl), .int (nI sf), .int di, .ref (ad 6), .ref (ad 7), .ref (ad 8)])), (ad 3, .inl (cB, 512, .inl K)), (ad 4, .inl (cB, 11904, .inl F)), (ad 5, .inl (cI, 24, .inl (nF fs))), (ad 6, .inl (cI, 52, .inl Nb)), (ad 7, .inl (cI, 52, .inl Ct)), (ad 8, .inl (cI, 52, .inl Pt)), (ad 9, .inr (2, [.ref (ad 10), .ref (ad 11), .ref (ad 12), .int (nI d.2.2.2)])), (ad 10, .inl (cB, 135168, .inl d.1)), (ad 11, .inl (cB, 24576, .inl d.2.1)), (ad 12, .inl (cI, 48, .inl (nF d.2.2.1))), (ad 1, .inl (cB, 496, .inl I))]
/-- an image as a block -/
def hm_img (F : Nat → Int32) (a : Nat) : Nat → Int32 := fun j => if j < 496 then F (a + j) else 0
theorem js_fit0 : fits .byte (.int 0) = true := sb_fit0 0
theorem hm_img_fit {F : Nat → Int32} (hF : sb_Fit F) (a : Nat) : sb_Fit (hm_img F a) := fun j => by
  simp only [hm_img]
  split
  · exact hF _
  · exact js_fit0
theorem b4_nar0 : vp_nar .byte (nI 0) = 0 := by decide +kernel
theorem b4_fill_fit {K : Nat → Int32} (hK : sb_Fit K) (k : Nat) : sb_Fit (b4_fill K (nI 0) k) := fun j => by
  simp only [b4_fill, b4_nar0]
  split
  · exact js_fit0
  · exact hK _
theorem hm_img_at {F K : Nat → Int32} {a : Nat} : ∀ j, j < 512 → va_cpy F (b4_fill K (nI 0) 512) a 0 496 j = hm_img F a j := fun j hj => by
  simp only [va_cpy, hm_img, b4_fill, b4_nar0]
  by_cases h : j < 496
  · rw [if_pos ⟨Nat.zero_le _, by omega⟩, if_pos h, Nat.sub_zero]
  · rw [if_neg (by omega), if_neg h, if_pos hj]
set_option maxRecDepth 100000 in
/-- an image goes to its slot -/
theorem jc_home (l : Launch) (D : va_G) (cB cI : ClassId) (ad : Nat → Nat) (fm op nx pl sf : Nat) (di : Int32) (K F : Nat → Int32) (fs : Nat → Nat) (Nb Ct Pt : Nat → Int32) (d : DS) (x a : Nat) (hd : ds_ok d) (hx : x < 212) (ha : a + 496 ≤ 11904) (hF : sb_Fit F) (hK : sb_Fit K) : MetV l jy_Sh_home jb_Sh_home 4 3 D cB cI (sh_w ad cB cI (fm) (op) (nx) (pl) (sf) (di) (K) (F) (fs) (Nb) (Ct) (Pt) (d)) ([.ref (ad 2), .int (nI x), .ref (ad 4), .int (nI a)]) (fun (u : Nat → Int32) => sb_Fit u) (fun u => sh_w ad cB cI (fm) (op) (nx) (pl) (sf) (di) (u) (F) (fs) (Nb) (Ct) (Pt) (ds_write (ds_room d) (52 + x) (hm_img F a))) := by
  refine MetV.of (lv0 := [(0, .ref (ad 2)), (1, .int (nI x)), (2, .ref (ad 4)), (3, .int (nI a))]) "JournalShelf$Shelf" rfl (by decide +kernel) (Nat.le_of_ble_eq_true rfl) rfl ?_
  intro p e s m args below meth c A Q X ret
  have k17 : VV p l e (js_room 3) s m args below meth c D A 4 0 0 Q (sh_w ad cB cI (fm) (op) (nx) (pl) (sf) (di) (K) (F) (fs) (Nb) (Ct) (Pt) (ds_room d)) ([(0, .ref (ad 2)), (1, .int (nI x)), (2, .ref (ad 4)), (3, .int (nI a))]) 17 ([]) := by
    have hK2 : sb_Fit (va_cpy F (b4_fill K (nI 0) 512) a 0 496) := sb_fitC hF (b4_fill_fit hK 512)
    refine vv_aload_n X jd_Sh_home_17 0 rfl rfl ?_
    refine gf_Sh_18 X 0 jd_Sh_home_18 rfl rfl ?_
    refine vv_iconst X jd_Sh_home_21 ci_0 ?_
    refine vv_cSv (As := [.ref (ad 3), .int (nI 0)]) X (jc_fill l D cB cI (ad 3) 512 K (nI 0) (by decide)) ok_Sh_84 ⟨rfl, rfl, Nat.le_of_ble_eq_true rfl, Nat.le_of_ble_eq_true rfl⟩ jd_Sh_home_22 [1] rfl rfl [ad 3] (fun _ => rfl) rfl rfl rfl (Nat.le_of_ble_eq_true rfl) ⟨Nat.zero_le _, Nat.zero_le _⟩ (fun _ _ => ?_)
    refine vv_ws (ws' := sh_w ad cB cI (fm) (op) (nx) (pl) (sf) (di) (b4_fill K (nI 0) 512) (F) (fs) (Nb) (Ct) (Pt) (ds_room d)) rfl ?_
    refine vv_aload_n X jd_Sh_home_25 2 rfl rfl ?_
    refine vv_iload_n X jd_Sh_home_26 3 rfl rfl ?_
    refine vv_aload_n X jd_Sh_home_27 0 rfl rfl ?_
    refine gf_Sh_18 X 0 jd_Sh_home_28 rfl rfl ?_
    refine vv_iconst X jd_Sh_home_31 ci_0 ?_
    refine vv_sipush X jd_Sh_home_32 cs_496 ?_
    refine vv_copy (ws' := sh_w ad cB cI (fm) (op) (nx) (pl) (sf) (di) (va_cpy F (b4_fill K (nI 0) 512) a 0 496) (F) (fs) (Nb) (Ct) (Pt) (ds_room d)) X jk_142 2 1 jd_Sh_home_35 rfl rfl (a) (0) (496) rfl rfl rfl ha (by omega) (by decide) (by decide) (fun i _ => hF _) (Nat.le_of_ble_eq_true rfl) (Nat.le_of_ble_eq_true rfl) (Nat.le_of_ble_eq_true rfl) rfl ?_
    refine vv_aload_n X jd_Sh_home_38 0 rfl rfl ?_
    refine gf_Sh_12 X 0 jd_Sh_home_39 rfl rfl ?_
    refine vv_bipush X jd_Sh_home_42 cb_52 ?_
    refine vv_iload_n X jd_Sh_home_44 1 rfl rfl ?_
    refine vv_iadd X jd_Sh_home_45 (nI_add 52 x) ?_
    refine vv_aload_n X jd_Sh_home_46 0 rfl rfl ?_
    refine gf_Sh_18 X 0 jd_Sh_home_47 rfl rfl ?_
    refine vv_cVv (As := [.int (nI (52 + x)), .ref (ad 3)]) X (jc_write l D cB cI ad (ds_room d).1 (ds_room d).2.1 (ds_room d).2.2.1 (ds_room d).2.2.2 (va_cpy F (b4_fill K (nI 0) 512) a 0 496) (52 + x) (ds_room_lt d) hK2) ok_Sh_71 ⟨rfl, rfl, Nat.le_of_ble_eq_true rfl, Nat.le_of_ble_eq_true rfl⟩ jd_Sh_home_50 7 2 rfl rfl rfl [7, 8, 9, 10, 1] rfl rfl [ad 9, ad 10, ad 11, ad 12, ad 3] (fun _ => rfl) rfl rfl rfl (Nat.le_of_ble_eq_true rfl) ⟨Nat.zero_le _, Nat.zero_le _⟩ (fun _ _ => ?_)
    refine vv_ws (ws' := sh_w ad cB cI (fm) (op) (nx) (pl) (sf) (di) (va_cpy F (b4_fill K (nI 0) 512) a 0 496) (F) (fs) (Nb) (Ct) (Pt) (ds_write (ds_room d) (52 + x) (va_cpy F (b4_fill K (nI 0) 512) a 0 496))) rfl ?_
    exact ret _ _ 53 (va_cpy F (b4_fill K (nI 0) 512) a 0 496) jd_Sh_home_53 hK2 (by rw [ds_write_congr hm_img_at])
  refine vv_aload_n X jd_Sh_home_0 0 rfl rfl ?_
  refine gf_Sh_12 X 0 jd_Sh_home_1 rfl rfl ?_
  refine vv_cVi (As := []) X (jc_hasRoom l D cB cI ad d.1 d.2.1 d.2.2.1 d.2.2.2 hd.1) ok_Sh_80 ⟨rfl, rfl, Nat.le_of_ble_eq_true rfl, Nat.le_of_ble_eq_true rfl⟩ jd_Sh_home_4 7 2 rfl rfl rfl [7, 8, 9, 10] rfl rfl [ad 9, ad 10, ad 11, ad 12] (fun _ => rfl) rfl rfl rfl (Nat.le_of_ble_eq_true rfl) ⟨Nat.zero_le _, Nat.zero_le _⟩ (fun r _ hr => ?_)
  refine vv_ws (ws' := sh_w ad cB cI (fm) (op) (nx) (pl) (sf) (di) (K) (F) (fs) (Nb) (Ct) (Pt) (d)) rfl ?_
  subst hr
  refine vv_if_ne (tgt := 17) X jd_Sh_home_7 rfl (fun h => ?_) (fun h => ?_)
  · have h1 : d.2.2.2 < 48 := by
      by_cases q : d.2.2.2 < 48
      · exact q
      · rw [if_neg q] at h; exact absurd rfl h
    rw [ds_room_id h1] at k17
    exact k17
  · have h1 : ¬ d.2.2.2 < 48 := fun q => by rw [if_pos q] at h; exact absurd h (by decide)
    refine vv_aload_n X jd_Sh_home_10 0 rfl rfl ?_
    refine gf_Sh_12 X 0 jd_Sh_home_11 rfl rfl ?_
    refine vv_cVv (As := []) X (jc_dflush l D cB cI ad d.1 d.2.1 d.2.2.1 d.2.2.2 hd.1 hd.2.1 hd.2.2.2) ok_Sh_75 ⟨rfl, rfl, Nat.le_of_ble_eq_true rfl, Nat.le_of_ble_eq_true rfl⟩ jd_Sh_home_14 7 2 rfl rfl rfl [7, 8, 9, 10] rfl rfl [ad 9, ad 10, ad 11, ad 12] (fun _ => rfl) rfl rfl rfl (Nat.le_of_ble_eq_true rfl) ⟨Nat.zero_le _, Nat.zero_le _⟩ (fun _ _ => ?_)
    refine vv_ws (ws' := sh_w ad cB cI (fm) (op) (nx) (pl) (sf) (di) (K) (F) (fs) (Nb) (Ct) (Pt) (ds_flush d)) rfl ?_
    rw [show ds_room d = ds_flush d from if_neg h1] at k17
    exact k17
/-- from k + 1 to j - 1 no image is of the slot of image k -/
def fl_l (fs : Nat → Nat) (k : Nat) : Nat → Bool
  | 0 => true
  | j + 1 => fl_l fs k j && (decide (j ≤ k) || decide (fs j ≠ fs k))
theorem fl_l_lo {fs : Nat → Nat} {k : Nat} : ∀ {j}, j ≤ k + 1 → fl_l fs k j = true
  | 0, _ => rfl
  | j + 1, h => by
    have ih := fl_l_lo (fs := fs) (k := k) (j := j) (by omega)
    simp only [fl_l, ih, Bool.true_and, decide_eq_true (show j ≤ k by omega), Bool.true_or]
theorem fl_l_iff {fs : Nat → Nat} {k : Nat} : ∀ {j}, fl_l fs k j = true ↔ ∀ i, k < i → i < j → fs i ≠ fs k
  | 0 => ⟨fun _ i _ h => absurd h (Nat.not_lt_zero i), fun _ => rfl⟩
  | j + 1 => by
    simp only [fl_l, Bool.and_eq_true, Bool.or_eq_true, decide_eq_true_eq, fl_l_iff (j := j)]
    constructor
    · intro ⟨h1, h2⟩ i hk hi
      by_cases e : i = j
      · rw [e]; exact h2.resolve_left (by omega)
      · exact h1 i hk (by omega)
    · intro h
      refine ⟨fun i hk hi => h i hk (by omega), ?_⟩
      by_cases e : j ≤ k
      · exact Or.inl e
      · exact Or.inr (h j (by omega) (by omega))
/-- the homes of the first k images, of m -/
def fl_h (F : Nat → Int32) (fs : Nat → Nat) (m : Nat) (d : DS) : Nat → DS
  | 0 => d
  | k + 1 => if fl_l fs k m = true then ds_write (ds_room (fl_h F fs m d k)) (52 + fs k) (hm_img F (496 * k)) else fl_h F fs m d k
theorem fl_h_ok {F : Nat → Int32} {fs : Nat → Nat} {m : Nat} {d : DS} (hd : ds_ok d) (hF : sb_Fit F) (hs : ∀ k, k < m → fs k < 212) : ∀ {k}, k ≤ m → ds_ok (fl_h F fs m d k)
  | 0, _ => hd
  | k + 1, h => by
    have ih := fl_h_ok (k := k) hd hF hs (by omega)
    simp only [fl_h]
    split
    · exact ds_write_ok (ds_room_ok ih) (ds_room_lt _) (by have := hs k (by omega); omega) (hm_img_fit hF _)
    · exact ih
theorem fl_and0 (x : Int32) : x &&& nI 0 = nI 0 := by show x &&& 0 = 0; simp
theorem fl_and1 (c : Bool) : (if c = true then nI 1 else nI 0) &&& nI 1 = if c = true then nI 1 else nI 0 := by cases c <;> decide +kernel
set_option maxRecDepth 100000 in
/-- the journal stands, images go home -/
theorem jc_sflush (l : Launch) (D : va_G) (cB cI : ClassId) (ad : Nat → Nat) (fm op nx pl sf : Nat) (di : Int32) (K F : Nat → Int32) (fs : Nat → Nat) (Nb Ct Pt : Nat → Int32) (d : DS) (hd : ds_ok d) (hm : fm ≤ 24) (hs : ∀ k, k < fm → fs k < 212) (hnx : 1 ≤ nx) (hF : sb_Fit F) (hK : sb_Fit K) : MetV l jy_Sh_flush jb_Sh_flush 4 4 D cB cI (sh_w ad cB cI (fm) (op) (nx) (pl) (sf) (di) (K) (F) (fs) (Nb) (Ct) (Pt) (d)) ([.ref (ad 2)]) (fun (u : Nat → Int32) => sb_Fit u) (fun u => sh_w ad cB cI (0) (op) (nx) (pl) (nx - 1) (0) (u) (F) (fs) (Nb) (Ct) (Pt) (fl_h F fs fm (ds_flush d) fm)) := by
  refine MetV.of (lv0 := [(0, .ref (ad 2))]) "JournalShelf$Shelf" rfl (by decide +kernel) (Nat.le_of_ble_eq_true rfl) rfl ?_
  intro p e s m args below meth c A Q X ret
  refine vv_aload_n X jd_Sh_flush_0 0 rfl rfl ?_
  refine gf_Sh_12 X 0 jd_Sh_flush_1 rfl rfl ?_
  refine vv_cVv (As := []) X (jc_dflush l D cB cI ad d.1 d.2.1 d.2.2.1 d.2.2.2 hd.1 hd.2.1 hd.2.2.2) ok_Sh_75 ⟨rfl, rfl, Nat.le_of_ble_eq_true rfl, Nat.le_of_ble_eq_true rfl⟩ jd_Sh_flush_4 7 2 rfl rfl rfl [7, 8, 9, 10] rfl rfl [ad 9, ad 10, ad 11, ad 12] (fun _ => rfl) rfl rfl rfl (Nat.le_of_ble_eq_true rfl) ⟨Nat.zero_le _, Nat.zero_le _⟩ (fun _ _ => ?_)
  refine vv_ws (ws' := sh_w ad cB cI (fm) (op) (nx) (pl) (sf) (di) (K) (F) (fs) (Nb) (Ct) (Pt) (ds_flush d)) rfl ?_
  refine vv_aload_n X jd_Sh_flush_7 0 rfl rfl ?_
  refine vv_aload_n X jd_Sh_flush_8 0 rfl rfl ?_
  refine gf_Sh_29 X 0 jd_Sh_flush_9 rfl rfl ?_
  refine vv_iconst X jd_Sh_flush_12 ci_1 ?_
  refine vv_isub X jd_Sh_flush_13 (pk_sub hnx) ?_
  refine pf_Sh_65 (ws' := sh_w ad cB cI (fm) (op) (nx) (pl) (nx - 1) (di) (K) (F) (fs) (Nb) (Ct) (Pt) (ds_flush d)) X 0 jd_Sh_flush_14 rfl (Nat.le_of_ble_eq_true rfl) rfl ?_
  refine vv_iconst X jd_Sh_flush_17 ci_0 ?_
  refine vv_istore_n X jd_Sh_flush_18 [1, 0] rfl (Nat.le_of_ble_eq_true rfl) rfl ?_
  have loop : ∀ k, k ≤ fm → ∀ K, sb_Fit K → VV p l e (js_room 4) s m args below meth c D A 4 0 0 Q (sh_w ad cB cI (fm) (op) (nx) (pl) (nx - 1) (di) (K) (F) (fs) (Nb) (Ct) (Pt) (fl_h F fs fm (ds_flush d) k)) ([(0, .ref (ad 2)), (1, .int (nI k))]) 19 ([]) := by
    refine js_up ?_
    intro k hk ih K hK
    refine vv_iload_n X jd_Sh_flush_19 1 rfl rfl ?_
    refine vv_aload_n X jd_Sh_flush_20 0 rfl rfl ?_
    refine gf_Sh_46 X 0 jd_Sh_flush_21 rfl rfl ?_
    refine vv_icmp_ge (tgt := 99) X jd_Sh_flush_24 rfl (fun h => ?_) (fun h => ?_)
    · have e1 : k = fm := Nat.le_antisymm hk (nn_le (by omega) (by omega) h)
      subst e1
      refine vv_aload_n X jd_Sh_flush_99 0 rfl rfl ?_
      refine vv_iconst X jd_Sh_flush_100 ci_0 ?_
      refine pf_Sh_46 (ws' := sh_w ad cB cI (0) (op) (nx) (pl) (nx - 1) (di) (K) (F) (fs) (Nb) (Ct) (Pt) (fl_h F fs k (ds_flush d) k)) X 0 jd_Sh_flush_101 rfl (Nat.le_of_ble_eq_true rfl) rfl ?_
      refine vv_aload_n X jd_Sh_flush_104 0 rfl rfl ?_
      refine vv_iconst X jd_Sh_flush_105 ci_0 ?_
      refine pf_Sh_42 (ws' := sh_w ad cB cI (0) (op) (nx) (pl) (nx - 1) (0) (K) (F) (fs) (Nb) (Ct) (Pt) (fl_h F fs k (ds_flush d) k)) X 0 (Or.inl rfl) jd_Sh_flush_106 rfl (Nat.le_of_ble_eq_true rfl) rfl ?_
      exact ret _ _ 109 K jd_Sh_flush_109 hK rfl
    · have e1 : k < fm := nn_lt (by omega) (by omega) h
      refine vv_iconst X jd_Sh_flush_27 ci_1 ?_
      refine vv_istore_n X jd_Sh_flush_28 [1, 2, 0] rfl (Nat.le_of_ble_eq_true rfl) rfl ?_
      refine vv_iload_n X jd_Sh_flush_29 1 rfl rfl ?_
      refine vv_iconst X jd_Sh_flush_30 ci_1 ?_
      refine vv_iadd X jd_Sh_flush_31 (nI_add k 1) ?_
      refine vv_istore_n X jd_Sh_flush_32 [1, 2, 3, 0] rfl (Nat.le_of_ble_eq_true rfl) rfl ?_
      have inner : ∀ j, j ≤ fm → k + 1 ≤ j → VV p l e (js_room 4) s m args below meth c D A 4 0 0 Q (sh_w ad cB cI (fm) (op) (nx) (pl) (nx - 1) (di) (K) (F) (fs) (Nb) (Ct) (Pt) (fl_h F fs fm (ds_flush d) k)) ([(0, .ref (ad 2)), (1, .int (nI k)), (2, .int (if fl_l fs k j = true then nI 1 else nI 0)), (3, .int (nI j))]) 33 ([]) := by
        refine js_up ?_
        intro j hj ih2 hkj
        refine vv_iload_n X jd_Sh_flush_33 3 rfl rfl ?_
        refine vv_aload_n X jd_Sh_flush_34 0 rfl rfl ?_
        refine gf_Sh_46 X 0 jd_Sh_flush_35 rfl rfl ?_
        refine vv_icmp_ge (tgt := 70) X jd_Sh_flush_38 rfl (fun h2 => ?_) (fun h2 => ?_)
        · have e2 : j = fm := Nat.le_antisymm hj (nn_le (by omega) (by omega) h2)
          subst e2
          refine vv_iload_n X jd_Sh_flush_70 2 rfl rfl ?_
          refine vv_if_eq (tgt := 93) X jd_Sh_flush_71 rfl (fun h3 => ?_) (fun h3 => ?_)
          · have h4 : ¬ fl_l fs k j = true := fun q => by rw [if_pos q] at h3; exact absurd h3 (by decide)
            have i1 := ih e1 K hK
            rw [show fl_h F fs j (ds_flush d) (k + 1) = fl_h F fs j (ds_flush d) k from if_neg h4] at i1
            refine vv_iinc X jd_Sh_flush_93 1 [1, 0, 2, 3] rfl (cn_1 k) (Nat.le_of_ble_eq_true rfl) rfl ?_
            refine vv_goto (tgt := 19) X jd_Sh_flush_96 rfl ?_
            refine vv_lv [0, 1] rfl ?_
            exact i1
          · have h4 : fl_l fs k j = true := by
              by_cases q : fl_l fs k j = true
              · exact q
              · rw [if_neg q] at h3; exact absurd rfl h3
            refine vv_aload_n X jd_Sh_flush_74 0 rfl rfl ?_
            refine vv_aload_n X jd_Sh_flush_75 0 rfl rfl ?_
            refine gf_Sh_25 X 0 jd_Sh_flush_76 rfl rfl ?_
            refine vv_iload_n X jd_Sh_flush_79 1 rfl rfl ?_
            refine vv_iald X 3 jd_Sh_flush_80 rfl (k) rfl (by omega) (by decide) rfl ?_
            refine vv_aload_n X jd_Sh_flush_81 0 rfl rfl ?_
            refine gf_Sh_22 X 0 jd_Sh_flush_82 rfl rfl ?_
            refine vv_sipush X jd_Sh_flush_85 cs_496 ?_
            refine vv_iload_n X jd_Sh_flush_88 1 rfl rfl ?_
            refine vv_imul X jd_Sh_flush_89 (pk_mul 496 k) ?_
            refine vv_cVv (As := [.int (nI (fs k)), .ref (ad 4), .int (nI (496 * k))]) X (jc_home l D cB cI ad j op nx pl (nx - 1) di K F fs Nb Ct Pt (fl_h F fs j (ds_flush d) k) (fs k) (496 * k) (fl_h_ok (ds_flush_ok hd) hF hs hk) (hs k e1) (by omega) hF hK) ok_Sh_76 ⟨rfl, rfl, Nat.le_of_ble_eq_true rfl, Nat.le_of_ble_eq_true rfl⟩ jd_Sh_flush_90 0 1 rfl rfl rfl [0, 1, 2, 3, 4, 5, 6, 7, 8, 9, 10] rfl rfl [ad 2, ad 3, ad 4, ad 5, ad 6, ad 7, ad 8, ad 9, ad 10, ad 11, ad 12] (fun _ => rfl) rfl rfl rfl (Nat.le_of_ble_eq_true rfl) ⟨Nat.zero_le _, Nat.zero_le _⟩ (fun K2 hK2 => ?_)
            refine vv_ws (ws' := sh_w ad cB cI (j) (op) (nx) (pl) (nx - 1) (di) (K2) (F) (fs) (Nb) (Ct) (Pt) (fl_h F fs j (ds_flush d) (k + 1))) (by rw [show fl_h F fs j (ds_flush d) (k + 1) = ds_write (ds_room (fl_h F fs j (ds_flush d) k)) (52 + fs k) (hm_img F (496 * k)) from if_pos h4]; rfl) ?_
            refine vv_iinc X jd_Sh_flush_93 1 [1, 0, 2, 3] rfl (cn_1 k) (Nat.le_of_ble_eq_true rfl) rfl ?_
            refine vv_goto (tgt := 19) X jd_Sh_flush_96 rfl ?_
            refine vv_lv [0, 1] rfl ?_
            exact ih e1 K2 hK2
        · have e2 : j < fm := nn_lt (by omega) (by omega) h2
          refine vv_iload_n X jd_Sh_flush_41 2 rfl rfl ?_
          refine vv_aload_n X jd_Sh_flush_42 0 rfl rfl ?_
          refine gf_Sh_25 X 0 jd_Sh_flush_43 rfl rfl ?_
          refine vv_iload_n X jd_Sh_flush_46 3 rfl rfl ?_
          refine vv_iald X 3 jd_Sh_flush_47 rfl (j) rfl (by omega) (by decide) rfl ?_
          refine vv_aload_n X jd_Sh_flush_48 0 rfl rfl ?_
          refine gf_Sh_25 X 0 jd_Sh_flush_49 rfl rfl ?_
          refine vv_iload_n X jd_Sh_flush_52 1 rfl rfl ?_
          refine vv_iald X 3 jd_Sh_flush_53 rfl (k) rfl (by omega) (by decide) rfl ?_
          refine vv_icmp_eq (tgt := 61) X jd_Sh_flush_54 rfl (fun h3 => ?_) (fun h3 => ?_)
          · have h4 : fs j = fs k := (nI_eq (by have := hs j e2; omega) (by have := hs k e1; omega)).mp h3
            have i2 := ih2 e2 (by omega)
            rw [show fl_l fs k (j + 1) = false by simp only [fl_l, h4, decide_eq_false (show ¬ j ≤ k by omega)]; simp] at i2
            refine vv_iconst X jd_Sh_flush_61 ci_0 ?_
            refine vv_iand X jd_Sh_flush_62 (fl_and0 _) ?_
            refine vv_istore_n X jd_Sh_flush_63 [1, 2, 0, 3] rfl (Nat.le_of_ble_eq_true rfl) rfl ?_
            refine vv_iinc X jd_Sh_flush_64 3 [1, 2, 3, 0] rfl (cn_1 j) (Nat.le_of_ble_eq_true rfl) rfl ?_
            refine vv_goto (tgt := 33) X jd_Sh_flush_67 rfl ?_
            exact i2
          · have h4 : fs j ≠ fs k := fun q => h3 (by show nI (fs j) = nI (fs k); rw [q])
            have i2 := ih2 e2 (by omega)
            rw [show fl_l fs k (j + 1) = fl_l fs k j by simp only [fl_l, decide_eq_true h4, Bool.or_true, Bool.and_true]] at i2
            refine vv_iconst X jd_Sh_flush_57 ci_1 ?_
            refine vv_goto (tgt := 62) X jd_Sh_flush_58 rfl ?_
            refine vv_iand X jd_Sh_flush_62 (fl_and1 _) ?_
            refine vv_istore_n X jd_Sh_flush_63 [1, 2, 0, 3] rfl (Nat.le_of_ble_eq_true rfl) rfl ?_
            refine vv_iinc X jd_Sh_flush_64 3 [1, 2, 3, 0] rfl (cn_1 j) (Nat.le_of_ble_eq_true rfl) rfl ?_
            refine vv_goto (tgt := 33) X jd_Sh_flush_67 rfl ?_
            exact i2
      have i3 := inner (k + 1) e1 (Nat.le_refl _)
      rw [fl_l_lo (Nat.le_refl _)] at i3
      exact i3
  exact loop 0 (Nat.zero_le _) K hK
set_option maxRecDepth 100000 in
/-- begin, with room -/
theorem jc_begin_lo (l : Launch) (D : va_G) (cB cI : ClassId) (ad : Nat → Nat) (fm op nx pl sf : Nat) (di : Int32) (K F : Nat → Int32) (fs : Nat → Nat) (Nb Ct Pt : Nat → Int32) (d : DS) (h7 : fm ≤ 7) : MetV l jy_Sh_begin jb_Sh_begin 1 5 D cB cI (sh_w ad cB cI (fm) (op) (nx) (pl) (sf) (di) (K) (F) (fs) (Nb) (Ct) (Pt) (d)) ([.ref (ad 2)]) (fun (_ : Unit) => True) (fun _ => sh_w ad cB cI (fm) (0) (nx) (pl) (sf) (di) (K) (F) (fs) (Nb) (Ct) (Pt) (d)) := by
  refine MetV.of (lv0 := [(0, .ref (ad 2))]) "JournalShelf$Shelf" rfl (by decide +kernel) (Nat.le_of_ble_eq_true rfl) rfl ?_
  intro p e s m args below meth c A Q X ret
  refine vv_aload_n X jd_Sh_begin_0 0 rfl rfl ?_
  refine gf_Sh_46 X 0 jd_Sh_begin_1 rfl rfl ?_
  refine vv_bipush X jd_Sh_begin_4 cb_17 ?_
  refine vv_iadd X jd_Sh_begin_6 (nI_add fm 17) ?_
  refine vv_bipush X jd_Sh_begin_7 cb_24 ?_
  refine vv_icmp_le (tgt := 16) X jd_Sh_begin_9 rfl (fun h => ?_) (fun h => absurd (nI_le (by omega) (by omega)) h)
  refine vv_aload_n X jd_Sh_begin_16 0 rfl rfl ?_
  refine vv_iconst X jd_Sh_begin_17 ci_0 ?_
  refine pf_Sh_52 (ws' := sh_w ad cB cI (fm) (0) (nx) (pl) (sf) (di) (K) (F) (fs) (Nb) (Ct) (Pt) (d)) X 0 jd_Sh_begin_18 rfl (Nat.le_of_ble_eq_true rfl) rfl ?_
  exact ret _ _ 21 () jd_Sh_begin_21 trivial rfl
set_option maxRecDepth 100000 in
/-- begin, without room -/
theorem jc_begin_hi (l : Launch) (D : va_G) (cB cI : ClassId) (ad : Nat → Nat) (fm op nx pl sf : Nat) (di : Int32) (K F : Nat → Int32) (fs : Nat → Nat) (Nb Ct Pt : Nat → Int32) (d : DS) (hd : ds_ok d) (hm : fm ≤ 24) (hs : ∀ k, k < fm → fs k < 212) (hnx : 1 ≤ nx) (hF : sb_Fit F) (hK : sb_Fit K) (h7 : 7 < fm) : MetV l jy_Sh_begin jb_Sh_begin 1 5 D cB cI (sh_w ad cB cI (fm) (op) (nx) (pl) (sf) (di) (K) (F) (fs) (Nb) (Ct) (Pt) (d)) ([.ref (ad 2)]) (fun (u : Nat → Int32) => sb_Fit u) (fun u => sh_w ad cB cI (0) (0) (nx) (pl) (nx - 1) (0) (u) (F) (fs) (Nb) (Ct) (Pt) (fl_h F fs fm (ds_flush d) fm)) := by
  refine MetV.of (lv0 := [(0, .ref (ad 2))]) "JournalShelf$Shelf" rfl (by decide +kernel) (Nat.le_of_ble_eq_true rfl) rfl ?_
  intro p e s m args below meth c A Q X ret
  refine vv_aload_n X jd_Sh_begin_0 0 rfl rfl ?_
  refine gf_Sh_46 X 0 jd_Sh_begin_1 rfl rfl ?_
  refine vv_bipush X jd_Sh_begin_4 cb_17 ?_
  refine vv_iadd X jd_Sh_begin_6 (nI_add fm 17) ?_
  refine vv_bipush X jd_Sh_begin_7 cb_24 ?_
  refine vv_icmp_le (tgt := 16) X jd_Sh_begin_9 rfl (fun h => absurd h (nI_ge (by omega) (by omega))) (fun h => ?_)
  refine vv_aload_n X jd_Sh_begin_12 0 rfl rfl ?_
  refine vv_cVv (As := []) X (jc_sflush l D cB cI ad fm op nx pl sf di K F fs Nb Ct Pt d hd hm hs hnx hF hK) ok_Sh_49 ⟨rfl, rfl, Nat.le_of_ble_eq_true rfl, Nat.le_of_ble_eq_true rfl⟩ jd_Sh_begin_13 0 1 rfl rfl rfl [0, 1, 2, 3, 4, 5, 6, 7, 8, 9, 10] rfl rfl [ad 2, ad 3, ad 4, ad 5, ad 6, ad 7, ad 8, ad 9, ad 10, ad 11, ad 12] (fun _ => rfl) rfl rfl rfl (Nat.le_of_ble_eq_true rfl) ⟨Nat.zero_le _, Nat.zero_le _⟩ (fun K2 hK2 => ?_)
  refine vv_ws (ws' := sh_w ad cB cI (0) (op) (nx) (pl) (nx - 1) (0) (K2) (F) (fs) (Nb) (Ct) (Pt) (fl_h F fs fm (ds_flush d) fm)) rfl ?_
  refine vv_aload_n X jd_Sh_begin_16 0 rfl rfl ?_
  refine vv_iconst X jd_Sh_begin_17 ci_0 ?_
  refine pf_Sh_52 (ws' := sh_w ad cB cI (0) (0) (nx) (pl) (nx - 1) (0) (K2) (F) (fs) (Nb) (Ct) (Pt) (fl_h F fs fm (ds_flush d) fm)) X 0 jd_Sh_begin_18 rfl (Nat.le_of_ble_eq_true rfl) rfl ?_
  exact ret _ _ 21 K2 jd_Sh_begin_21 hK2 rfl
set_option maxRecDepth 100000 in
/-- another image of the deed -/
theorem jc_stage (l : Launch) (D : va_G) (cB cI : ClassId) (ad : Nat → Nat) (fm op nx pl sf : Nat) (di : Int32) (K F : Nat → Int32) (fs : Nat → Nat) (Nb Ct Pt : Nat → Int32) (d : DS) (I : Nat → Int32) (x : Nat) (h24 : fm + op < 24) (hI : sb_Fit I) : MetV l jy_Sh_stage jb_Sh_stage 3 1 D cB cI (sh_wi ad cB cI (fm) (op) (nx) (pl) (sf) (di) (K) (F) (fs) (Nb) (Ct) (Pt) (d) (I)) ([.ref (ad 2), .int (nI x), .ref (ad 1)]) (fun (_ : Unit) => True) (fun _ => sh_wi ad cB cI (fm) (op + 1) (nx) (pl) (sf) (di) (K) (va_cpy I F 0 (496 * (fm + op)) 496) (uN_ fs (fm + op) x) (Nb) (Ct) (Pt) (d) (I)) := by
  refine MetV.of (lv0 := [(0, .ref (ad 2)), (1, .int (nI x)), (2, .ref (ad 1))]) "JournalShelf$Shelf" rfl (by decide +kernel) (Nat.le_of_ble_eq_true rfl) rfl ?_
  intro p e s m args below meth c A Q X ret
  refine vv_aload_n X jd_Sh_stage_0 2 rfl rfl ?_
  refine vv_iconst X jd_Sh_stage_1 ci_0 ?_
  refine vv_aload_n X jd_Sh_stage_2 0 rfl rfl ?_
  refine gf_Sh_22 X 0 jd_Sh_stage_3 rfl rfl ?_
  refine vv_sipush X jd_Sh_stage_6 cs_496 ?_
  refine vv_aload_n X jd_Sh_stage_9 0 rfl rfl ?_
  refine gf_Sh_46 X 0 jd_Sh_stage_10 rfl rfl ?_
  refine vv_aload_n X jd_Sh_stage_13 0 rfl rfl ?_
  refine gf_Sh_52 X 0 jd_Sh_stage_14 rfl rfl ?_
  refine vv_iadd X jd_Sh_stage_17 (nI_add fm op) ?_
  refine vv_imul X jd_Sh_stage_18 (pk_mul 496 (fm + op)) ?_
  refine vv_sipush X jd_Sh_stage_19 cs_496 ?_
  refine vv_copy (ws' := sh_wi ad cB cI (fm) (op) (nx) (pl) (sf) (di) (K) (va_cpy I F 0 (496 * (fm + op)) 496) (fs) (Nb) (Ct) (Pt) (d) (I)) X jk_142 11 2 jd_Sh_stage_22 rfl rfl (0) (496 * (fm + op)) (496) rfl rfl rfl (by omega) (by omega) (by decide) (by decide) (fun i _ => hI _) (Nat.le_of_ble_eq_true rfl) (Nat.le_of_ble_eq_true rfl) (Nat.le_of_ble_eq_true rfl) rfl ?_
  refine vv_aload_n X jd_Sh_stage_25 0 rfl rfl ?_
  refine gf_Sh_25 X 0 jd_Sh_stage_26 rfl rfl ?_
  refine vv_aload_n X jd_Sh_stage_29 0 rfl rfl ?_
  refine gf_Sh_46 X 0 jd_Sh_stage_30 rfl rfl ?_
  refine vv_aload_n X jd_Sh_stage_33 0 rfl rfl ?_
  refine gf_Sh_52 X 0 jd_Sh_stage_34 rfl rfl ?_
  refine vv_iadd X jd_Sh_stage_37 (nI_add fm op) ?_
  refine vv_iload_n X jd_Sh_stage_38 1 rfl rfl ?_
  refine vv_iast (ws' := sh_wi ad cB cI (fm) (op) (nx) (pl) (sf) (di) (K) (va_cpy I F 0 (496 * (fm + op)) 496) (uN_ fs (fm + op) x) (Nb) (Ct) (Pt) (d) (I)) X 3 jd_Sh_stage_39 rfl (fm + op) rfl h24 (by decide) (by rw [upd_nF]; rfl) ?_
  refine vv_aload_n X jd_Sh_stage_40 0 rfl rfl ?_
  refine vv_dup X jd_Sh_stage_41 rfl ?_
  refine gf_Sh_52 X 0 jd_Sh_stage_42 rfl rfl ?_
  refine vv_iconst X jd_Sh_stage_45 ci_1 ?_
  refine vv_iadd X jd_Sh_stage_46 (nI_add op 1) ?_
  refine pf_Sh_52 (ws' := sh_wi ad cB cI (fm) (op + 1) (nx) (pl) (sf) (di) (K) (va_cpy I F 0 (496 * (fm + op)) 496) (uN_ fs (fm + op) x) (Nb) (Ct) (Pt) (d) (I)) X 0 jd_Sh_stage_47 rfl (Nat.le_of_ble_eq_true rfl) rfl ?_
  exact ret _ _ 50 () jd_Sh_stage_50 trivial rfl
end
section
/-- a block of the journal: over Z, deed nx, block k of op, slot x, safe sf, the image at a of F -/
def jblk (nx k op x sf : Nat) (F : Nat → Int32) (a : Nat) (Z : Nat → Int32) : Nat → Int32 := b4_put (va_cpy F (b4_put (upd (upd (upd (upd (b4_put Z 0 (nI nx)) 4 (vp_nar .byte (nI k).toInt8.toInt32)) 5 (vp_nar .byte (nI op).toInt8.toInt32)) 6 (vp_nar .byte (nI x).toInt8.toInt32)) 7 (vp_nar .byte (nI 0))) 8 (nI sf)) a 12 496) 508 (nI nx)
theorem b4_put_out {f : Nat → Int32} {k j : Nat} {v : Int32} (h : j < k ∨ k + 4 ≤ j) : b4_put f k v j = f j := by
  simp only [b4_put]
  rw [pk_un (by omega), pk_un (by omega), pk_un (by omega), pk_un (by omega)]
theorem b4_put_in {f g : Nat → Int32} {k j : Nat} {v : Int32} (h : k ≤ j) (h2 : j < k + 4) : b4_put f k v j = b4_put g k v j := by
  simp only [b4_put, upd]
  rcases (show j = k ∨ j = k + 1 ∨ j = k + 2 ∨ j = k + 3 by omega) with rfl | rfl | rfl | rfl <;> simp
theorem b4_put_fit {f : Nat → Int32} {k : Nat} {v : Int32} (h : sb_Fit f) : sb_Fit (b4_put f k v) := sb_fitU (sb_fitU (sb_fitU (sb_fitU h (pk_fb _)) (pk_fb _)) (pk_fb _)) (pk_fb _)
theorem jblk_fit {nx k op x sf : Nat} {F : Nat → Int32} {a : Nat} {Z : Nat → Int32} (hF : sb_Fit F) (hZ : sb_Fit Z) : sb_Fit (jblk nx k op x sf F a Z) :=
  b4_put_fit (sb_fitC hF (b4_put_fit (sb_fitU (sb_fitU (sb_fitU (sb_fitU (b4_put_fit hZ) (pk_fb _)) (pk_fb _)) (pk_fb _)) (pk_fb _))))
theorem jblk_mid {nx k op x sf : Nat} {F : Nat → Int32} {a : Nat} {Z : Nat → Int32} {j : Nat} (h : j < 496) : jblk nx k op x sf F a Z (12 + j) = F (a + j) := by
  unfold jblk
  rw [b4_put_out (by omega), pk_cpy_in (by omega) (by omega)]
  congr 1
  omega
theorem jblk_lo {nx k op x sf : Nat} {F : Nat → Int32} {a : Nat} {Z : Nat → Int32} {j : Nat} (h : j < 12) : jblk nx k op x sf F a Z j = b4_put (upd (upd (upd (upd (b4_put Z 0 (nI nx)) 4 (vp_nar .byte (nI k).toInt8.toInt32)) 5 (vp_nar .byte (nI op).toInt8.toInt32)) 6 (vp_nar .byte (nI x).toInt8.toInt32)) 7 (vp_nar .byte (nI 0))) 8 (nI sf) j := by
  unfold jblk
  rw [b4_put_out (by omega), pk_cpy_out (by omega)]
theorem jblk_congr {nx k op x sf : Nat} {F : Nat → Int32} {a : Nat} {Z Y : Nat → Int32} : ∀ j, j < 512 → jblk nx k op x sf F a Z j = jblk nx k op x sf F a Y j := by
  intro j hj
  by_cases h1 : j < 12
  · rw [jblk_lo h1, jblk_lo h1]
    by_cases h2 : 8 ≤ j
    · exact b4_put_in h2 (by omega)
    · rw [b4_put_out (by omega), b4_put_out (by omega)]
      by_cases h3 : j < 4
      · rw [pk_un (by omega), pk_un (by omega), pk_un (by omega), pk_un (by omega), pk_un (by omega), pk_un (by omega), pk_un (by omega), pk_un (by omega)]
        exact b4_put_in (by omega) (by omega)
      · simp only [upd]
        rcases (show j = 4 ∨ j = 5 ∨ j = 6 ∨ j = 7 by omega) with rfl | rfl | rfl | rfl <;> simp
  · by_cases h2 : j < 508
    · obtain ⟨i, rfl⟩ : ∃ i, j = 12 + i := ⟨j - 12, by omega⟩
      rw [jblk_mid (by omega), jblk_mid (by omega)]
    · exact b4_put_in (by omega) (by omega)
/-- the journal's blocks of a deed, the first k of op -/
def cm_d (nx op sf fm pl : Nat) (fs : Nat → Nat) (F : Nat → Int32) (d : DS) : Nat → DS
  | 0 => d
  | k + 1 => ds_write (cm_d nx op sf fm pl fs F d k) ((pl + k) % 52) (jblk nx k op (fs (fm + k)) sf F (496 * (fm + k)) (fun _ => 0))
theorem cm_d_n {nx op sf fm pl : Nat} {fs : Nat → Nat} {F : Nat → Int32} {d : DS} : ∀ k, (cm_d nx op sf fm pl fs F d k).2.2.2 = d.2.2.2 + k
  | 0 => rfl
  | k + 1 => by
    have ih := cm_d_n (nx := nx) (op := op) (sf := sf) (fm := fm) (pl := pl) (fs := fs) (F := F) (d := d) k
    show (cm_d nx op sf fm pl fs F d k).2.2.2 + 1 = _
    rw [ih]; omega
theorem cm_d_ok {nx op sf fm pl : Nat} {fs : Nat → Nat} {F : Nat → Int32} {d : DS} (hd : ds_ok d) (hF : sb_Fit F) : ∀ k, d.2.2.2 + k ≤ 48 → ds_ok (cm_d nx op sf fm pl fs F d k)
  | 0, _ => hd
  | k + 1, h => ds_write_ok (cm_d_ok hd hF k (by omega)) (by rw [cm_d_n]; omega) (by have := Nat.mod_lt (pl + k) (show 0 < 52 by omega); omega) (jblk_fit hF sb_fit0)
set_option maxRecDepth 100000 in
/-- the deed's blocks go to the journal -/
theorem jc_scommit (l : Launch) (D : va_G) (cB cI : ClassId) (ad : Nat → Nat) (fm op nx pl sf : Nat) (di : Int32) (K F : Nat → Int32) (fs : Nat → Nat) (Nb Ct Pt : Nat → Int32) (d : DS) (hd : ds_ok d) (hn : d.2.2.2 + op ≤ 48) (h17 : op ≤ 17) (h24 : fm + op ≤ 24) (hpl : pl < 52) (hF : sb_Fit F) (hK : sb_Fit K) : MetV l jy_Sh_commit jb_Sh_commit 2 2 D cB cI (sh_w ad cB cI (fm) (op) (nx) (pl) (sf) (di) (K) (F) (fs) (Nb) (Ct) (Pt) (d)) ([.ref (ad 2)]) (fun (u : Nat → Int32) => sb_Fit u) (fun u => sh_w ad cB cI (fm + op) (0) (nx + 1) ((pl + op) % 52) (sf) (1) (u) (F) (fs) (Nb) (Ct) (Pt) (cm_d nx op sf fm pl fs F d (op))) := by
  refine MetV.of (lv0 := [(0, .ref (ad 2))]) "JournalShelf$Shelf" rfl (by decide +kernel) (Nat.le_of_ble_eq_true rfl) rfl ?_
  intro p e s m args below meth c A Q X ret
  refine vv_iconst X jd_Sh_commit_0 ci_0 ?_
  refine vv_istore_n X jd_Sh_commit_1 [1, 0] rfl (Nat.le_of_ble_eq_true rfl) rfl ?_
  have loop : ∀ k, k ≤ op → ∀ K, sb_Fit K → VV p l e (js_room 2) s m args below meth c D A 2 0 0 Q (sh_w ad cB cI (fm) (op) (nx) ((pl + k) % 52) (sf) (di) (K) (F) (fs) (Nb) (Ct) (Pt) (cm_d nx op sf fm pl fs F d (k))) ([(0, .ref (ad 2)), (1, .int (nI k))]) 2 ([]) := by
    refine js_up ?_
    intro k hk ih K hK
    refine vv_iload_n X jd_Sh_commit_2 1 rfl rfl ?_
    refine vv_aload_n X jd_Sh_commit_3 0 rfl rfl ?_
    refine gf_Sh_52 X 0 jd_Sh_commit_4 rfl rfl ?_
    refine vv_icmp_ge (tgt := 155) X jd_Sh_commit_7 rfl (fun h => ?_) (fun h => ?_)
    · have e1 : k = op := Nat.le_antisymm hk (nn_le (by omega) (by omega) h)
      subst e1
      refine vv_aload_n X jd_Sh_commit_155 0 rfl rfl ?_
      refine vv_dup X jd_Sh_commit_156 rfl ?_
      refine gf_Sh_46 X 0 jd_Sh_commit_157 rfl rfl ?_
      refine vv_aload_n X jd_Sh_commit_160 0 rfl rfl ?_
      refine gf_Sh_52 X 0 jd_Sh_commit_161 rfl rfl ?_
      refine vv_iadd X jd_Sh_commit_164 (nI_add fm k) ?_
      refine pf_Sh_46 (ws' := sh_w ad cB cI (fm + k) (k) (nx) ((pl + k) % 52) (sf) (di) (K) (F) (fs) (Nb) (Ct) (Pt) (cm_d nx k sf fm pl fs F d k)) X 0 jd_Sh_commit_165 rfl (Nat.le_of_ble_eq_true rfl) rfl ?_
      refine vv_aload_n X jd_Sh_commit_168 0 rfl rfl ?_
      refine vv_iconst X jd_Sh_commit_169 ci_0 ?_
      refine pf_Sh_52 (ws' := sh_w ad cB cI (fm + k) (0) (nx) ((pl + k) % 52) (sf) (di) (K) (F) (fs) (Nb) (Ct) (Pt) (cm_d nx k sf fm pl fs F d k)) X 0 jd_Sh_commit_170 rfl (Nat.le_of_ble_eq_true rfl) rfl ?_
      refine vv_aload_n X jd_Sh_commit_173 0 rfl rfl ?_
      refine vv_dup X jd_Sh_commit_174 rfl ?_
      refine gf_Sh_29 X 0 jd_Sh_commit_175 rfl rfl ?_
      refine vv_iconst X jd_Sh_commit_178 ci_1 ?_
      refine vv_iadd X jd_Sh_commit_179 (nI_add nx 1) ?_
      refine pf_Sh_29 (ws' := sh_w ad cB cI (fm + k) (0) (nx + 1) ((pl + k) % 52) (sf) (di) (K) (F) (fs) (Nb) (Ct) (Pt) (cm_d nx k sf fm pl fs F d k)) X 0 jd_Sh_commit_180 rfl (Nat.le_of_ble_eq_true rfl) rfl ?_
      refine vv_aload_n X jd_Sh_commit_183 0 rfl rfl ?_
      refine vv_iconst X jd_Sh_commit_184 ci_1 ?_
      refine pf_Sh_42 (ws' := sh_w ad cB cI (fm + k) (0) (nx + 1) ((pl + k) % 52) (sf) (nI 1) (K) (F) (fs) (Nb) (Ct) (Pt) (cm_d nx k sf fm pl fs F d k)) X 0 (Or.inr rfl) jd_Sh_commit_185 rfl (Nat.le_of_ble_eq_true rfl) rfl ?_
      exact ret _ _ 188 K jd_Sh_commit_188 hK rfl
    · have e1 : k < op := nn_lt (by omega) (by omega) h
      have hK8 : sb_Fit (jblk nx k op (fs (fm + k)) sf F (496 * (fm + k)) K) := jblk_fit hF hK
      refine vv_aload_n X jd_Sh_commit_10 0 rfl rfl ?_
      refine gf_Sh_18 X 0 jd_Sh_commit_11 rfl rfl ?_
      refine vv_iconst X jd_Sh_commit_14 ci_0 ?_
      refine vv_aload_n X jd_Sh_commit_15 0 rfl rfl ?_
      refine gf_Sh_29 X 0 jd_Sh_commit_16 rfl rfl ?_
      refine vv_cNv (As := [.ref (ad 3), .int (nI 0), .int (nI nx)]) X (jc_put4 l D cB cI (ad 3) 512 K 0 (nI nx) (by omega) (by decide)) ok_Sh_61 ⟨rfl, rfl, Nat.le_of_ble_eq_true rfl, Nat.le_of_ble_eq_true rfl⟩ jd_Sh_commit_19 [1] rfl rfl [ad 3] (fun _ => rfl) rfl rfl rfl (Nat.le_of_ble_eq_true rfl) ⟨Nat.zero_le _, Nat.zero_le _⟩ (fun _ _ => ?_)
      refine vv_ws (ws' := sh_w ad cB cI (fm) (op) (nx) ((pl + k) % 52) (sf) (di) (b4_put K 0 (nI nx)) (F) (fs) (Nb) (Ct) (Pt) (cm_d nx op sf fm pl fs F d (k))) rfl ?_
      refine vv_aload_n X jd_Sh_commit_22 0 rfl rfl ?_
      refine gf_Sh_18 X 0 jd_Sh_commit_23 rfl rfl ?_
      refine vv_iconst X jd_Sh_commit_26 ci_4 ?_
      refine vv_iload_n X jd_Sh_commit_27 1 rfl rfl ?_
      refine vv_i2b X jd_Sh_commit_28 rfl ?_
      refine vv_bast (ws' := sh_w ad cB cI (fm) (op) (nx) ((pl + k) % 52) (sf) (di) (upd (b4_put K 0 (nI nx)) 4 (vp_nar .byte (nI k).toInt8.toInt32)) (F) (fs) (Nb) (Ct) (Pt) (cm_d nx op sf fm pl fs F d (k))) X 1 jd_Sh_commit_29 rfl (4) rfl (by omega) (by decide) rfl ?_
      refine vv_aload_n X jd_Sh_commit_30 0 rfl rfl ?_
      refine gf_Sh_18 X 0 jd_Sh_commit_31 rfl rfl ?_
      refine vv_iconst X jd_Sh_commit_34 ci_5 ?_
      refine vv_aload_n X jd_Sh_commit_35 0 rfl rfl ?_
      refine gf_Sh_52 X 0 jd_Sh_commit_36 rfl rfl ?_
      refine vv_i2b X jd_Sh_commit_39 rfl ?_
      refine vv_bast (ws' := sh_w ad cB cI (fm) (op) (nx) ((pl + k) % 52) (sf) (di) (upd (upd (b4_put K 0 (nI nx)) 4 (vp_nar .byte (nI k).toInt8.toInt32)) 5 (vp_nar .byte (nI op).toInt8.toInt32)) (F) (fs) (Nb) (Ct) (Pt) (cm_d nx op sf fm pl fs F d (k))) X 1 jd_Sh_commit_40 rfl (5) rfl (by omega) (by decide) rfl ?_
      refine vv_aload_n X jd_Sh_commit_41 0 rfl rfl ?_
      refine gf_Sh_18 X 0 jd_Sh_commit_42 rfl rfl ?_
      refine vv_bipush X jd_Sh_commit_45 cb_6 ?_
      refine vv_aload_n X jd_Sh_commit_47 0 rfl rfl ?_
      refine gf_Sh_25 X 0 jd_Sh_commit_48 rfl rfl ?_
      refine vv_aload_n X jd_Sh_commit_51 0 rfl rfl ?_
      refine gf_Sh_46 X 0 jd_Sh_commit_52 rfl rfl ?_
      refine vv_iload_n X jd_Sh_commit_55 1 rfl rfl ?_
      refine vv_iadd X jd_Sh_commit_56 (nI_add fm k) ?_
      refine vv_iald X 3 jd_Sh_commit_57 rfl (fm + k) rfl (by omega) (by decide) rfl ?_
      refine vv_i2b X jd_Sh_commit_58 rfl ?_
      refine vv_bast (ws' := sh_w ad cB cI (fm) (op) (nx) ((pl + k) % 52) (sf) (di) (upd (upd (upd (b4_put K 0 (nI nx)) 4 (vp_nar .byte (nI k).toInt8.toInt32)) 5 (vp_nar .byte (nI op).toInt8.toInt32)) 6 (vp_nar .byte (nI (fs (fm + k))).toInt8.toInt32)) (F) (fs) (Nb) (Ct) (Pt) (cm_d nx op sf fm pl fs F d (k))) X 1 jd_Sh_commit_59 rfl (6) rfl (by omega) (by decide) rfl ?_
      refine vv_aload_n X jd_Sh_commit_60 0 rfl rfl ?_
      refine gf_Sh_18 X 0 jd_Sh_commit_61 rfl rfl ?_
      refine vv_bipush X jd_Sh_commit_64 cb_7 ?_
      refine vv_iconst X jd_Sh_commit_66 ci_0 ?_
      refine vv_bast (ws' := sh_w ad cB cI (fm) (op) (nx) ((pl + k) % 52) (sf) (di) (upd (upd (upd (upd (b4_put K 0 (nI nx)) 4 (vp_nar .byte (nI k).toInt8.toInt32)) 5 (vp_nar .byte (nI op).toInt8.toInt32)) 6 (vp_nar .byte (nI (fs (fm + k))).toInt8.toInt32)) 7 (vp_nar .byte (nI 0))) (F) (fs) (Nb) (Ct) (Pt) (cm_d nx op sf fm pl fs F d (k))) X 1 jd_Sh_commit_67 rfl (7) rfl (by omega) (by decide) rfl ?_
      refine vv_aload_n X jd_Sh_commit_68 0 rfl rfl ?_
      refine gf_Sh_18 X 0 jd_Sh_commit_69 rfl rfl ?_
      refine vv_bipush X jd_Sh_commit_72 cb_8 ?_
      refine vv_aload_n X jd_Sh_commit_74 0 rfl rfl ?_
      refine gf_Sh_65 X 0 jd_Sh_commit_75 rfl rfl ?_
      refine vv_cNv (As := [.ref (ad 3), .int (nI 8), .int (nI sf)]) X (jc_put4 l D cB cI (ad 3) 512 (upd (upd (upd (upd (b4_put K 0 (nI nx)) 4 (vp_nar .byte (nI k).toInt8.toInt32)) 5 (vp_nar .byte (nI op).toInt8.toInt32)) 6 (vp_nar .byte (nI (fs (fm + k))).toInt8.toInt32)) 7 (vp_nar .byte (nI 0))) 8 (nI sf) (by omega) (by decide)) ok_Sh_61 ⟨rfl, rfl, Nat.le_of_ble_eq_true rfl, Nat.le_of_ble_eq_true rfl⟩ jd_Sh_commit_78 [1] rfl rfl [ad 3] (fun _ => rfl) rfl rfl rfl (Nat.le_of_ble_eq_true rfl) ⟨Nat.zero_le _, Nat.zero_le _⟩ (fun _ _ => ?_)
      refine vv_ws (ws' := sh_w ad cB cI (fm) (op) (nx) ((pl + k) % 52) (sf) (di) (b4_put (upd (upd (upd (upd (b4_put K 0 (nI nx)) 4 (vp_nar .byte (nI k).toInt8.toInt32)) 5 (vp_nar .byte (nI op).toInt8.toInt32)) 6 (vp_nar .byte (nI (fs (fm + k))).toInt8.toInt32)) 7 (vp_nar .byte (nI 0))) 8 (nI sf)) (F) (fs) (Nb) (Ct) (Pt) (cm_d nx op sf fm pl fs F d (k))) rfl ?_
      refine vv_aload_n X jd_Sh_commit_81 0 rfl rfl ?_
      refine gf_Sh_22 X 0 jd_Sh_commit_82 rfl rfl ?_
      refine vv_sipush X jd_Sh_commit_85 cs_496 ?_
      refine vv_aload_n X jd_Sh_commit_88 0 rfl rfl ?_
      refine gf_Sh_46 X 0 jd_Sh_commit_89 rfl rfl ?_
      refine vv_iload_n X jd_Sh_commit_92 1 rfl rfl ?_
      refine vv_iadd X jd_Sh_commit_93 (nI_add fm k) ?_
      refine vv_imul X jd_Sh_commit_94 (pk_mul 496 (fm + k)) ?_
      refine vv_aload_n X jd_Sh_commit_95 0 rfl rfl ?_
      refine gf_Sh_18 X 0 jd_Sh_commit_96 rfl rfl ?_
      refine vv_bipush X jd_Sh_commit_99 cb_12 ?_
      refine vv_sipush X jd_Sh_commit_101 cs_496 ?_
      refine vv_copy (ws' := sh_w ad cB cI (fm) (op) (nx) ((pl + k) % 52) (sf) (di) (va_cpy F (b4_put (upd (upd (upd (upd (b4_put K 0 (nI nx)) 4 (vp_nar .byte (nI k).toInt8.toInt32)) 5 (vp_nar .byte (nI op).toInt8.toInt32)) 6 (vp_nar .byte (nI (fs (fm + k))).toInt8.toInt32)) 7 (vp_nar .byte (nI 0))) 8 (nI sf)) (496 * (fm + k)) 12 496) (F) (fs) (Nb) (Ct) (Pt) (cm_d nx op sf fm pl fs F d (k))) X jk_142 2 1 jd_Sh_commit_104 rfl rfl (496 * (fm + k)) (12) (496) rfl rfl rfl (by omega) (by omega) (by decide) (by decide) (fun i _ => hF _) (Nat.le_of_ble_eq_true rfl) (Nat.le_of_ble_eq_true rfl) (Nat.le_of_ble_eq_true rfl) rfl ?_
      refine vv_aload_n X jd_Sh_commit_107 0 rfl rfl ?_
      refine gf_Sh_18 X 0 jd_Sh_commit_108 rfl rfl ?_
      refine vv_sipush X jd_Sh_commit_111 cs_508 ?_
      refine vv_aload_n X jd_Sh_commit_114 0 rfl rfl ?_
      refine gf_Sh_29 X 0 jd_Sh_commit_115 rfl rfl ?_
      refine vv_cNv (As := [.ref (ad 3), .int (nI 508), .int (nI nx)]) X (jc_put4 l D cB cI (ad 3) 512 (va_cpy F (b4_put (upd (upd (upd (upd (b4_put K 0 (nI nx)) 4 (vp_nar .byte (nI k).toInt8.toInt32)) 5 (vp_nar .byte (nI op).toInt8.toInt32)) 6 (vp_nar .byte (nI (fs (fm + k))).toInt8.toInt32)) 7 (vp_nar .byte (nI 0))) 8 (nI sf)) (496 * (fm + k)) 12 496) 508 (nI nx) (by omega) (by decide)) ok_Sh_61 ⟨rfl, rfl, Nat.le_of_ble_eq_true rfl, Nat.le_of_ble_eq_true rfl⟩ jd_Sh_commit_118 [1] rfl rfl [ad 3] (fun _ => rfl) rfl rfl rfl (Nat.le_of_ble_eq_true rfl) ⟨Nat.zero_le _, Nat.zero_le _⟩ (fun _ _ => ?_)
      refine vv_ws (ws' := sh_w ad cB cI (fm) (op) (nx) ((pl + k) % 52) (sf) (di) (jblk nx k op (fs (fm + k)) sf F (496 * (fm + k)) K) (F) (fs) (Nb) (Ct) (Pt) (cm_d nx op sf fm pl fs F d (k))) rfl ?_
      refine vv_aload_n X jd_Sh_commit_121 0 rfl rfl ?_
      refine gf_Sh_12 X 0 jd_Sh_commit_122 rfl rfl ?_
      refine vv_aload_n X jd_Sh_commit_125 0 rfl rfl ?_
      refine gf_Sh_68 X 0 jd_Sh_commit_126 rfl rfl ?_
      refine vv_aload_n X jd_Sh_commit_129 0 rfl rfl ?_
      refine gf_Sh_18 X 0 jd_Sh_commit_130 rfl rfl ?_
      refine vv_cVv (As := [.int (nI ((pl + k) % 52)), .ref (ad 3)]) X (jc_write l D cB cI ad (cm_d nx op sf fm pl fs F d (k)).1 (cm_d nx op sf fm pl fs F d (k)).2.1 (cm_d nx op sf fm pl fs F d (k)).2.2.1 (cm_d nx op sf fm pl fs F d (k)).2.2.2 (jblk nx k op (fs (fm + k)) sf F (496 * (fm + k)) K) ((pl + k) % 52) (by rw [cm_d_n]; omega) hK8) ok_Sh_71 ⟨rfl, rfl, Nat.le_of_ble_eq_true rfl, Nat.le_of_ble_eq_true rfl⟩ jd_Sh_commit_133 7 2 rfl rfl rfl [7, 8, 9, 10, 1] rfl rfl [ad 9, ad 10, ad 11, ad 12, ad 3] (fun _ => rfl) rfl rfl rfl (Nat.le_of_ble_eq_true rfl) ⟨Nat.zero_le _, Nat.zero_le _⟩ (fun _ _ => ?_)
      refine vv_ws (ws' := sh_w ad cB cI (fm) (op) (nx) ((pl + k) % 52) (sf) (di) (jblk nx k op (fs (fm + k)) sf F (496 * (fm + k)) K) (F) (fs) (Nb) (Ct) (Pt) (cm_d nx op sf fm pl fs F d (k + 1))) (by rw [show cm_d nx op sf fm pl fs F d (k + 1) = ds_write (cm_d nx op sf fm pl fs F d (k)) ((pl + k) % 52) (jblk nx k op (fs (fm + k)) sf F (496 * (fm + k)) K) from ds_write_congr jblk_congr]; rfl) ?_
      refine vv_aload_n X jd_Sh_commit_136 0 rfl rfl ?_
      refine vv_aload_n X jd_Sh_commit_137 0 rfl rfl ?_
      refine gf_Sh_68 X 0 jd_Sh_commit_138 rfl rfl ?_
      refine vv_iconst X jd_Sh_commit_141 ci_1 ?_
      refine vv_iadd X jd_Sh_commit_142 (nI_add ((pl + k) % 52) 1) ?_
      refine vv_bipush X jd_Sh_commit_143 cb_52 ?_
      refine vv_irem X jd_Sh_commit_145 (nI_ne0 (by omega) (by omega)) ((pk_rem (by omega) (by omega) (by omega)).trans (by rw [show ((pl + k) % 52 + 1) % 52 = (pl + (k + 1)) % 52 by omega])) ?_
      refine pf_Sh_68 (ws' := sh_w ad cB cI (fm) (op) (nx) ((pl + (k + 1)) % 52) (sf) (di) (jblk nx k op (fs (fm + k)) sf F (496 * (fm + k)) K) (F) (fs) (Nb) (Ct) (Pt) (cm_d nx op sf fm pl fs F d (k + 1))) X 0 jd_Sh_commit_146 rfl (Nat.le_of_ble_eq_true rfl) rfl ?_
      refine vv_iinc X jd_Sh_commit_149 1 [1, 0] rfl (cn_1 k) (Nat.le_of_ble_eq_true rfl) rfl ?_
      refine vv_goto (tgt := 2) X jd_Sh_commit_152 rfl ?_
      exact ih e1 _ hK8
  have l0 := loop 0 (Nat.zero_le _) K hK
  rw [show (pl + 0) % 52 = pl by omega] at l0
  exact l0
/-- what slot x reads as, byte j -/
def sh_rd (fm : Nat) (fs : Nat → Nat) (F : Nat → Int32) (d : DS) (x j : Nat) : Int32 := match dk_last fs x fm with
  | some k => F (496 * k + j)
  | none => ds_view d (52 + x) j
theorem dk_rd_at {P L K : Nat → Int32} {b : Nat → Nat} {n x j : Nat} (hj : j < 512) : dk_rd P L b n x K j = ds_view (P, L, b, n) x j := by
  simp only [dk_rd, ds_view]
  cases dk_last b x n with
  | none => exact (pk_cpy_in (Nat.zero_le _) (by omega)).trans (by rw [Nat.sub_zero])
  | some k => exact (pk_cpy_in (Nat.zero_le _) (by omega)).trans (by rw [Nat.sub_zero])
theorem dk_rd_fit {P L K : Nat → Int32} {b : Nat → Nat} {n x : Nat} (hP : sb_Fit P) (hL : sb_Fit L) (hK : sb_Fit K) : sb_Fit (dk_rd P L b n x K) := by
  simp only [dk_rd]
  cases dk_last b x n with
  | none => exact sb_fitC hP hK
  | some k => exact sb_fitC hL hK
set_option maxRecDepth 100000 in
/-- the image of a slot -/
theorem jc_sread (l : Launch) (D : va_G) (cB cI : ClassId) (ad : Nat → Nat) (fm op nx pl sf : Nat) (di : Int32) (K F : Nat → Int32) (fs : Nat → Nat) (Nb Ct Pt : Nat → Int32) (d : DS) (I : Nat → Int32) (x : Nat) (hd : ds_ok d) (hm : fm ≤ 24) (hs : ∀ k, k < fm → fs k < 212) (hx : x < 212) (hF : sb_Fit F) (hK : sb_Fit K) (hI : sb_Fit I) : MetV l jy_Sh_read jb_Sh_read 4 2 D cB cI (sh_wi ad cB cI (fm) (op) (nx) (pl) (sf) (di) (K) (F) (fs) (Nb) (Ct) (Pt) (d) (I)) ([.ref (ad 2), .int (nI x), .ref (ad 1)]) (fun (u : (Nat → Int32) × (Nat → Int32)) => sb_Fit u.1 ∧ sb_Fit u.2 ∧ ∀ j, j < 496 → u.1 j = sh_rd fm fs F d x j) (fun u => sh_wi ad cB cI (fm) (op) (nx) (pl) (sf) (di) (u.2) (F) (fs) (Nb) (Ct) (Pt) (d) (u.1)) := by
  refine MetV.of (lv0 := [(0, .ref (ad 2)), (1, .int (nI x)), (2, .ref (ad 1))]) "JournalShelf$Shelf" rfl (by decide +kernel) (Nat.le_of_ble_eq_true rfl) rfl ?_
  intro p e s m args below meth c A Q X ret
  refine vv_aload_n X jd_Sh_read_0 0 rfl rfl ?_
  refine gf_Sh_46 X 0 jd_Sh_read_1 rfl rfl ?_
  refine vv_iconst X jd_Sh_read_4 ci_1 ?_
  refine vv_isub X jd_Sh_read_5 rfl ?_
  refine vv_istore_n X jd_Sh_read_6 [1, 2, 3, 0] rfl (Nat.le_of_ble_eq_true rfl) rfl ?_
  have loop : ∀ k, k ≤ fm → (∀ i, k ≤ i → i < fm → fs i ≠ x) → VV p l e (js_room 2) s m args below meth c D A 4 0 0 Q (sh_wi ad cB cI (fm) (op) (nx) (pl) (sf) (di) (K) (F) (fs) (Nb) (Ct) (Pt) (d) (I)) ([(0, .ref (ad 2)), (1, .int (nI x)), (2, .ref (ad 1)), (3, .int (nI k - nI 1))]) 7 ([]) := by
    intro k
    induction k with
    | zero =>
      intro _ hn
      refine vv_iload_n X jd_Sh_read_7 3 rfl rfl ?_
      refine vv_if_lt (tgt := 27) X jd_Sh_read_8 rfl (fun h => ?_) (fun h => absurd (show nI 0 - nI 1 < 0 by decide +kernel) h)
      refine vv_iload_n X jd_Sh_read_27 3 rfl rfl ?_
      refine vv_if_lt (tgt := 49) X jd_Sh_read_28 rfl (fun h => ?_) (fun h => absurd (show nI 0 - nI 1 < 0 by decide +kernel) h)
      have hb1 : ∀ k, k < d.2.2.2 → d.2.2.1 k < 2 ^ 31 := fun k hk => Nat.lt_trans (hd.2.1 k hk) (by decide)
      have hK2 : sb_Fit (dk_rd d.1 d.2.1 d.2.2.1 d.2.2.2 (52 + x) K) := dk_rd_fit hd.2.2.1 hd.2.2.2 hK
      refine vv_aload_n X jd_Sh_read_49 0 rfl rfl ?_
      refine gf_Sh_12 X 0 jd_Sh_read_50 rfl rfl ?_
      refine vv_bipush X jd_Sh_read_53 cb_52 ?_
      refine vv_iload_n X jd_Sh_read_55 1 rfl rfl ?_
      refine vv_iadd X jd_Sh_read_56 (nI_add 52 x) ?_
      refine vv_aload_n X jd_Sh_read_57 0 rfl rfl ?_
      refine gf_Sh_18 X 0 jd_Sh_read_58 rfl rfl ?_
      refine vv_cVv (As := [.int (nI (52 + x)), .ref (ad 3)]) X (jc_dread l D cB cI ad d.1 d.2.1 d.2.2.1 d.2.2.2 K (52 + x) hd.1 hb1 (by omega) hd.2.2.1 hd.2.2.2) ok_Sh_90 ⟨rfl, rfl, Nat.le_of_ble_eq_true rfl, Nat.le_of_ble_eq_true rfl⟩ jd_Sh_read_61 7 2 rfl rfl rfl [7, 8, 9, 10, 1] rfl rfl [ad 9, ad 10, ad 11, ad 12, ad 3] (fun _ => rfl) rfl rfl rfl (Nat.le_of_ble_eq_true rfl) ⟨Nat.zero_le _, Nat.zero_le _⟩ (fun _ _ => ?_)
      refine vv_ws (ws' := sh_wi ad cB cI (fm) (op) (nx) (pl) (sf) (di) (dk_rd d.1 d.2.1 d.2.2.1 d.2.2.2 (52 + x) K) (F) (fs) (Nb) (Ct) (Pt) (d) (I)) rfl ?_
      refine vv_aload_n X jd_Sh_read_64 0 rfl rfl ?_
      refine gf_Sh_18 X 0 jd_Sh_read_65 rfl rfl ?_
      refine vv_iconst X jd_Sh_read_68 ci_0 ?_
      refine vv_aload_n X jd_Sh_read_69 2 rfl rfl ?_
      refine vv_iconst X jd_Sh_read_70 ci_0 ?_
      refine vv_sipush X jd_Sh_read_71 cs_496 ?_
      refine vv_copy (ws' := sh_wi ad cB cI (fm) (op) (nx) (pl) (sf) (di) (dk_rd d.1 d.2.1 d.2.2.1 d.2.2.2 (52 + x) K) (F) (fs) (Nb) (Ct) (Pt) (d) (va_cpy (dk_rd d.1 d.2.1 d.2.2.1 d.2.2.2 (52 + x) K) I 0 0 496)) X jk_142 1 11 jd_Sh_read_74 rfl rfl (0) (0) (496) rfl rfl rfl (by omega) (by omega) (by decide) (by decide) (fun i _ => hK2 _) (Nat.le_of_ble_eq_true rfl) (Nat.le_of_ble_eq_true rfl) (Nat.le_of_ble_eq_true rfl) rfl ?_
      refine ret _ _ 77 (va_cpy (dk_rd d.1 d.2.1 d.2.2.1 d.2.2.2 (52 + x) K) I 0 0 496, dk_rd d.1 d.2.1 d.2.2.1 d.2.2.2 (52 + x) K) jd_Sh_read_77 ⟨sb_fitC hK2 hI, hK2, fun j hj => ?_⟩ rfl
      show va_cpy _ I 0 0 496 j = _
      rw [sb_cpy0 hj, dk_rd_at (by omega)]
      simp only [sh_rd, dk_last_skip (Nat.zero_le fm) hn, dk_last]
    | succ k ih =>
      intro hk hn
      rw [show nI (k + 1) - nI 1 = nI k from nI_pred k]
      refine vv_iload_n X jd_Sh_read_7 3 rfl rfl ?_
      refine vv_if_lt (tgt := 27) X jd_Sh_read_8 rfl (fun h => absurd h (nI_pos (by omega))) (fun h => ?_)
      refine vv_aload_n X jd_Sh_read_11 0 rfl rfl ?_
      refine gf_Sh_25 X 0 jd_Sh_read_12 rfl rfl ?_
      refine vv_iload_n X jd_Sh_read_15 3 rfl rfl ?_
      refine vv_iald X 3 jd_Sh_read_16 rfl (k) rfl (by omega) (by decide) rfl ?_
      refine vv_iload_n X jd_Sh_read_17 1 rfl rfl ?_
      refine vv_icmp_eq (tgt := 27) X jd_Sh_read_18 rfl (fun g => ?_) (fun g => ?_)
      · have g0 : fs k = x := (nI_eq (by have := hs k (by omega); omega) (by omega)).mp g
        refine vv_iload_n X jd_Sh_read_27 3 rfl rfl ?_
        refine vv_if_lt (tgt := 49) X jd_Sh_read_28 rfl (fun h => absurd h (nI_pos (by omega))) (fun h => ?_)
        refine vv_aload_n X jd_Sh_read_31 0 rfl rfl ?_
        refine gf_Sh_22 X 0 jd_Sh_read_32 rfl rfl ?_
        refine vv_sipush X jd_Sh_read_35 cs_496 ?_
        refine vv_iload_n X jd_Sh_read_38 3 rfl rfl ?_
        refine vv_imul X jd_Sh_read_39 (pk_mul 496 k) ?_
        refine vv_aload_n X jd_Sh_read_40 2 rfl rfl ?_
        refine vv_iconst X jd_Sh_read_41 ci_0 ?_
        refine vv_sipush X jd_Sh_read_42 cs_496 ?_
        refine vv_copy (ws' := sh_wi ad cB cI (fm) (op) (nx) (pl) (sf) (di) (K) (F) (fs) (Nb) (Ct) (Pt) (d) (va_cpy F I (496 * k) 0 496)) X jk_142 2 11 jd_Sh_read_45 rfl rfl (496 * k) (0) (496) rfl rfl rfl (by omega) (by omega) (by decide) (by decide) (fun i _ => hF _) (Nat.le_of_ble_eq_true rfl) (Nat.le_of_ble_eq_true rfl) (Nat.le_of_ble_eq_true rfl) rfl ?_
        refine ret _ _ 48 (va_cpy F I (496 * k) 0 496, K) jd_Sh_read_48 ⟨sb_fitC hF hI, hK, fun j hj => ?_⟩ rfl
        simp only [sh_rd, dk_last_skip (k := k + 1) hk hn, dk_last, if_pos g0]
        exact (pk_cpy_in (Nat.zero_le _) (by omega)).trans (by rw [Nat.sub_zero])
      · have g0 : fs k ≠ x := fun q => g (by rw [show nF fs k = nI (fs k) from rfl, q])
        refine vv_iinc X jd_Sh_read_21 3 [1, 2, 3, 0] rfl (cn_dec _) (Nat.le_of_ble_eq_true rfl) rfl ?_
        refine vv_goto (tgt := 7) X jd_Sh_read_24 rfl ?_
        refine ih (by omega) (fun i h1 h2 => ?_)
        by_cases e : i = k
        · rw [e]; exact g0
        · exact hn i (by omega) h2
  exact loop fm (Nat.le_refl fm) (fun i h1 h2 => absurd h1 (by omega))
/-- of the first k blocks: how many are of deed x; how many it should have -/
def wh_n (Nb : Nat → Int32) (x : Int32) : Nat → Nat
  | 0 => 0
  | k + 1 => if Nb k = x then wh_n Nb x k + 1 else wh_n Nb x k
def wh_c (Nb Ct : Nat → Int32) (x : Int32) : Nat → Int32
  | 0 => 1
  | k + 1 => if Nb k = x then Ct k else wh_c Nb Ct x k
theorem wh_n_le (Nb : Nat → Int32) (x : Int32) : ∀ k, wh_n Nb x k ≤ k
  | 0 => Nat.le_refl _
  | k + 1 => by
    have ih := wh_n_le Nb x k
    simp only [wh_n]
    split <;> omega
def wh (Nb Ct : Nat → Int32) (x : Int32) : Prop := 0 < x ∧ nI (wh_n Nb x 52) = wh_c Nb Ct x 52
set_option maxRecDepth 100000 in
/-- is a deed whole -/
theorem jc_isWhole (l : Launch) (D : va_G) (cB cI : ClassId) (ad : Nat → Nat) (fm op nx pl sf : Nat) (di : Int32) (K F : Nat → Int32) (fs : Nat → Nat) (Nb Ct Pt : Nat → Int32) (d : DS) (x : Int32) : MetI l jy_Sh_isWhole jb_Sh_isWhole 5 0 .boolean D cB cI (sh_w ad cB cI (fm) (op) (nx) (pl) (sf) (di) (K) (F) (fs) (Nb) (Ct) (Pt) (d)) ([.ref (ad 2), .int x]) (fun (r : Int32) (_ : Unit) => (r = 1 ∧ wh Nb Ct x) ∨ (r = 0 ∧ ¬ wh Nb Ct x)) (fun _ => sh_w ad cB cI (fm) (op) (nx) (pl) (sf) (di) (K) (F) (fs) (Nb) (Ct) (Pt) (d)) := by
  refine MetZ.of (lv0 := [(0, .ref (ad 2)), (1, .int x)]) "JournalShelf$Shelf" rfl (by decide +kernel) (Nat.le_of_ble_eq_true rfl) rfl ?_
  intro p e s m args below meth c A Q X ret
  refine vv_iconst X jd_Sh_isWhole_0 ci_0 ?_
  refine vv_istore_n X jd_Sh_isWhole_1 [1, 2, 0] rfl (Nat.le_of_ble_eq_true rfl) rfl ?_
  refine vv_iconst X jd_Sh_isWhole_2 ci_1 ?_
  refine vv_istore_n X jd_Sh_isWhole_3 [1, 2, 3, 0] rfl (Nat.le_of_ble_eq_true rfl) rfl ?_
  refine vv_iconst X jd_Sh_isWhole_4 ci_0 ?_
  refine vv_istore X jd_Sh_isWhole_5 [1, 2, 3, 4, 0] (Nat.le_of_ble_eq_true rfl) rfl ?_
  have loop : ∀ k, k ≤ 52 → VV p l e (js_room 0) s m args below meth c D A 5 0 0 Q (sh_w ad cB cI (fm) (op) (nx) (pl) (sf) (di) (K) (F) (fs) (Nb) (Ct) (Pt) (d)) ([(0, .ref (ad 2)), (1, .int x), (2, .int (nI (wh_n Nb x k))), (3, .int (wh_c Nb Ct x k)), (4, .int (nI k))]) 7 ([]) := by
    refine js_up ?_
    intro k hk ih
    refine vv_iload X jd_Sh_isWhole_7 4 rfl ?_
    refine vv_bipush X jd_Sh_isWhole_9 cb_52 ?_
    refine vv_icmp_ge (tgt := 45) X jd_Sh_isWhole_11 rfl (fun h => ?_) (fun h => ?_)
    · have e1 : k = 52 := Nat.le_antisymm hk (nn_le (by omega) (by omega) h)
      subst e1
      refine vv_iload_n X jd_Sh_isWhole_45 1 rfl rfl ?_
      refine vv_if_le (tgt := 58) X jd_Sh_isWhole_46 rfl (fun h1 => ?_) (fun h1 => ?_)
      · refine vv_iconst (v := 0) X jd_Sh_isWhole_58 (by decide +kernel) ?_
        exact ret _ _ 59 0 () jd_Sh_isWhole_59 (Or.inl rfl) (Or.inr ⟨rfl, fun q => absurd q.1 (Int32.not_lt.mpr h1)⟩) rfl
      · refine vv_iload_n X jd_Sh_isWhole_49 2 rfl rfl ?_
        refine vv_iload_n X jd_Sh_isWhole_50 3 rfl rfl ?_
        refine vv_icmp_ne (tgt := 58) X jd_Sh_isWhole_51 rfl (fun h2 => ?_) (fun h2 => ?_)
        · refine vv_iconst (v := 0) X jd_Sh_isWhole_58 (by decide +kernel) ?_
          exact ret _ _ 59 0 () jd_Sh_isWhole_59 (Or.inl rfl) (Or.inr ⟨rfl, fun q => h2 q.2⟩) rfl
        · refine vv_iconst (v := 1) X jd_Sh_isWhole_54 (by decide +kernel) ?_
          refine vv_goto (tgt := 59) X jd_Sh_isWhole_55 rfl ?_
          exact ret _ _ 59 1 () jd_Sh_isWhole_59 (Or.inr rfl) (Or.inl ⟨rfl, Int32.not_le.mp h1, h2⟩) rfl
    · have e1 : k < 52 := nn_lt (by omega) (by omega) h
      refine vv_aload_n X jd_Sh_isWhole_14 0 rfl rfl ?_
      refine gf_Sh_33 X 0 jd_Sh_isWhole_15 rfl rfl ?_
      refine vv_iload X jd_Sh_isWhole_18 4 rfl ?_
      refine vv_iald X 4 jd_Sh_isWhole_20 rfl (k) rfl e1 (by decide) rfl ?_
      refine vv_iload_n X jd_Sh_isWhole_21 1 rfl rfl ?_
      refine vv_icmp_eq (tgt := 28) X jd_Sh_isWhole_22 rfl (fun g => ?_) (fun g => ?_)
      · have i1 := ih e1
        simp only [wh_n, wh_c, if_pos g] at i1
        refine vv_iinc X jd_Sh_isWhole_28 2 [1, 2, 0, 3, 4] rfl (cn_1 _) (Nat.le_of_ble_eq_true rfl) rfl ?_
        refine vv_aload_n X jd_Sh_isWhole_31 0 rfl rfl ?_
        refine gf_Sh_36 X 0 jd_Sh_isWhole_32 rfl rfl ?_
        refine vv_iload X jd_Sh_isWhole_35 4 rfl ?_
        refine vv_iald X 5 jd_Sh_isWhole_37 rfl (k) rfl e1 (by decide) rfl ?_
        refine vv_istore_n X jd_Sh_isWhole_38 [1, 2, 3, 0, 4] rfl (Nat.le_of_ble_eq_true rfl) rfl ?_
        refine vv_iinc X jd_Sh_isWhole_39 4 [1, 2, 3, 4, 0] rfl (cn_1 k) (Nat.le_of_ble_eq_true rfl) rfl ?_
        refine vv_goto (tgt := 7) X jd_Sh_isWhole_42 rfl ?_
        exact i1
      · have i1 := ih e1
        simp only [wh_n, wh_c, if_neg g] at i1
        refine vv_goto (tgt := 39) X jd_Sh_isWhole_25 rfl ?_
        refine vv_iinc X jd_Sh_isWhole_39 4 [1, 2, 3, 4, 0] rfl (cn_1 k) (Nat.le_of_ble_eq_true rfl) rfl ?_
        refine vv_goto (tgt := 7) X jd_Sh_isWhole_42 rfl ?_
        exact i1
  exact loop 0 (Nat.zero_le _)
end
section
theorem fg_zero {K : Nat → Int32} : ∀ j, j < 512 → b4_fill K (nI 0) 512 j = (fun _ => (0 : Int32)) j := fun j hj => by
  simp only [b4_fill, if_pos hj, b4_nar0]
/-- where the journal goes on behind deed h -/
def fg_c (Nb Ct : Nat → Int32) (h k : Nat) : Prop := Nb k = nI h ∧ 0 < h ∧ (Nb ((k + 1) % 52) ≠ nI h ∨ Ct k = nI 52)
noncomputable def fg_pl (Nb Ct : Nat → Int32) (h : Nat) : Nat → Nat
  | 0 => 0
  | k + 1 => @ite _ (fg_c Nb Ct h k) (Classical.propDecidable _) ((k + 1) % 52) (fg_pl Nb Ct h k)
theorem fg_pl_t {Nb Ct : Nat → Int32} {h k : Nat} (q : fg_c Nb Ct h k) : fg_pl Nb Ct h (k + 1) = (k + 1) % 52 := by simp only [fg_pl, if_pos q]
theorem fg_pl_f {Nb Ct : Nat → Int32} {h k : Nat} (q : ¬ fg_c Nb Ct h k) : fg_pl Nb Ct h (k + 1) = fg_pl Nb Ct h k := by simp only [fg_pl, if_neg q]
/-- blocks of later deeds are made empty -/
def fg_d (Nb : Nat → Int32) (h : Nat) (d : DS) : Nat → DS
  | 0 => d
  | k + 1 => if nI h < Nb k then ds_write (ds_room (fg_d Nb h d k)) k (fun _ => 0) else fg_d Nb h d k
theorem fg_d_ok {Nb : Nat → Int32} {h : Nat} {d : DS} (hd : ds_ok d) : ∀ {k}, k ≤ 52 → ds_ok (fg_d Nb h d k)
  | 0, _ => hd
  | k + 1, hk => by
    have ih := fg_d_ok (Nb := Nb) (h := h) (k := k) hd (by omega)
    simp only [fg_d]
    split
    · exact ds_write_ok (ds_room_ok ih) (ds_room_lt _) (by omega) sb_fit0
    · exact ih
set_option maxRecDepth 100000 in
/-- later deeds are forgotten -/
theorem jc_sforget (l : Launch) (D : va_G) (cB cI : ClassId) (ad : Nat → Nat) (fm op nx pl sf : Nat) (di : Int32) (K F : Nat → Int32) (fs : Nat → Nat) (Nb Ct Pt : Nat → Int32) (d : DS) (h : Nat) (hd : ds_ok d) (hh : h < 2 ^ 31) (hK : sb_Fit K) : MetV l jy_Sh_forget jb_Sh_forget 3 3 D cB cI (sh_w ad cB cI (fm) (op) (nx) (pl) (sf) (di) (K) (F) (fs) (Nb) (Ct) (Pt) (d)) ([.ref (ad 2), .int (nI h)]) (fun (_ : Unit) => True) (fun _ => sh_w ad cB cI (fm) (op) (nx) (fg_pl Nb Ct h 52) (sf) (di) (b4_fill K (nI 0) 512) (F) (fs) (Nb) (Ct) (Pt) (ds_flush (fg_d Nb h d 52))) := by
  refine MetV.of (lv0 := [(0, .ref (ad 2)), (1, .int (nI h))]) "JournalShelf$Shelf" rfl (by decide +kernel) (Nat.le_of_ble_eq_true rfl) rfl ?_
  intro p e s m args below meth c A Q X ret
  have hKZ : sb_Fit (b4_fill K (nI 0) 512) := b4_fill_fit hK 512
  refine vv_aload_n X jd_Sh_forget_0 0 rfl rfl ?_
  refine vv_iconst X jd_Sh_forget_1 ci_0 ?_
  refine pf_Sh_68 (ws' := sh_w ad cB cI (fm) (op) (nx) (0) (sf) (di) (K) (F) (fs) (Nb) (Ct) (Pt) (d)) X 0 jd_Sh_forget_2 rfl (Nat.le_of_ble_eq_true rfl) rfl ?_
  refine vv_aload_n X jd_Sh_forget_5 0 rfl rfl ?_
  refine gf_Sh_18 X 0 jd_Sh_forget_6 rfl rfl ?_
  refine vv_iconst X jd_Sh_forget_9 ci_0 ?_
  refine vv_cSv (As := [.ref (ad 3), .int (nI 0)]) X (jc_fill l D cB cI (ad 3) 512 K (nI 0) (by decide)) ok_Sh_84 ⟨rfl, rfl, Nat.le_of_ble_eq_true rfl, Nat.le_of_ble_eq_true rfl⟩ jd_Sh_forget_10 [1] rfl rfl [ad 3] (fun _ => rfl) rfl rfl rfl (Nat.le_of_ble_eq_true rfl) ⟨Nat.zero_le _, Nat.zero_le _⟩ (fun _ _ => ?_)
  refine vv_ws (ws' := sh_w ad cB cI (fm) (op) (nx) (0) (sf) (di) (b4_fill K (nI 0) 512) (F) (fs) (Nb) (Ct) (Pt) (d)) rfl ?_
  refine vv_iconst X jd_Sh_forget_13 ci_0 ?_
  refine vv_istore_n X jd_Sh_forget_14 [1, 2, 0] rfl (Nat.le_of_ble_eq_true rfl) rfl ?_
  have loop : ∀ k, k ≤ 52 → VV p l e (js_room 3) s m args below meth c D A 3 0 0 Q (sh_w ad cB cI (fm) (op) (nx) (fg_pl Nb Ct h k) (sf) (di) (b4_fill K (nI 0) 512) (F) (fs) (Nb) (Ct) (Pt) (fg_d Nb h d k)) ([(0, .ref (ad 2)), (1, .int (nI h)), (2, .int (nI k))]) 15 ([]) := by
    refine js_up ?_
    intro k hk ih
    refine vv_iload_n X jd_Sh_forget_15 2 rfl rfl ?_
    refine vv_bipush X jd_Sh_forget_16 cb_52 ?_
    refine vv_icmp_ge (tgt := 119) X jd_Sh_forget_18 rfl (fun q => ?_) (fun q => ?_)
    · have e1 : k = 52 := Nat.le_antisymm hk (nn_le (by omega) (by omega) q)
      subst e1
      have ok := fg_d_ok (Nb := Nb) (h := h) hd (Nat.le_refl 52)
      refine vv_aload_n X jd_Sh_forget_119 0 rfl rfl ?_
      refine gf_Sh_12 X 0 jd_Sh_forget_120 rfl rfl ?_
      refine vv_cVv (As := []) X (jc_dflush l D cB cI ad (fg_d Nb h d 52).1 (fg_d Nb h d 52).2.1 (fg_d Nb h d 52).2.2.1 (fg_d Nb h d 52).2.2.2 ok.1 ok.2.1 ok.2.2.2) ok_Sh_75 ⟨rfl, rfl, Nat.le_of_ble_eq_true rfl, Nat.le_of_ble_eq_true rfl⟩ jd_Sh_forget_123 7 2 rfl rfl rfl [7, 8, 9, 10] rfl rfl [ad 9, ad 10, ad 11, ad 12] (fun _ => rfl) rfl rfl rfl (Nat.le_of_ble_eq_true rfl) ⟨Nat.zero_le _, Nat.zero_le _⟩ (fun _ _ => ?_)
      refine vv_ws (ws' := sh_w ad cB cI (fm) (op) (nx) (fg_pl Nb Ct h 52) (sf) (di) (b4_fill K (nI 0) 512) (F) (fs) (Nb) (Ct) (Pt) (ds_flush (fg_d Nb h d 52))) rfl ?_
      exact ret _ _ 126 () jd_Sh_forget_126 trivial rfl
    · have e1 : k < 52 := nn_lt (by omega) (by omega) q
      have ok := fg_d_ok (Nb := Nb) (h := h) (k := k) hd hk
      have k71 : VV p l e (js_room 3) s m args below meth c D A 3 0 0 Q (sh_w ad cB cI (fm) (op) (nx) (fg_pl Nb Ct h (k + 1)) (sf) (di) (b4_fill K (nI 0) 512) (F) (fs) (Nb) (Ct) (Pt) (fg_d Nb h d k)) ([(0, .ref (ad 2)), (1, .int (nI h)), (2, .int (nI k))]) 71 ([]) := by
        refine vv_aload_n X jd_Sh_forget_71 0 rfl rfl ?_
        refine gf_Sh_33 X 0 jd_Sh_forget_72 rfl rfl ?_
        refine vv_iload_n X jd_Sh_forget_75 2 rfl rfl ?_
        refine vv_iald X 4 jd_Sh_forget_76 rfl (k) rfl e1 (by decide) rfl ?_
        refine vv_iload_n X jd_Sh_forget_77 1 rfl rfl ?_
        refine vv_icmp_gt (tgt := 84) X jd_Sh_forget_78 rfl (fun g => ?_) (fun g => ?_)
        · have i1 := ih e1
          rw [show fg_d Nb h d (k + 1) = ds_write (ds_room (fg_d Nb h d k)) k (fun _ => 0) from if_pos g, ← ds_write_congr (fg_zero (K := K))] at i1
          have k101 : VV p l e (js_room 3) s m args below meth c D A 3 0 0 Q (sh_w ad cB cI (fm) (op) (nx) (fg_pl Nb Ct h (k + 1)) (sf) (di) (b4_fill K (nI 0) 512) (F) (fs) (Nb) (Ct) (Pt) (ds_room (fg_d Nb h d k))) ([(0, .ref (ad 2)), (1, .int (nI h)), (2, .int (nI k))]) 101 ([]) := by
            refine vv_aload_n X jd_Sh_forget_101 0 rfl rfl ?_
            refine gf_Sh_12 X 0 jd_Sh_forget_102 rfl rfl ?_
            refine vv_iload_n X jd_Sh_forget_105 2 rfl rfl ?_
            refine vv_aload_n X jd_Sh_forget_106 0 rfl rfl ?_
            refine gf_Sh_18 X 0 jd_Sh_forget_107 rfl rfl ?_
            refine vv_cVv (As := [.int (nI k), .ref (ad 3)]) X (jc_write l D cB cI ad (ds_room (fg_d Nb h d k)).1 (ds_room (fg_d Nb h d k)).2.1 (ds_room (fg_d Nb h d k)).2.2.1 (ds_room (fg_d Nb h d k)).2.2.2 (b4_fill K (nI 0) 512) k (ds_room_lt _) hKZ) ok_Sh_71 ⟨rfl, rfl, Nat.le_of_ble_eq_true rfl, Nat.le_of_ble_eq_true rfl⟩ jd_Sh_forget_110 7 2 rfl rfl rfl [7, 8, 9, 10, 1] rfl rfl [ad 9, ad 10, ad 11, ad 12, ad 3] (fun _ => rfl) rfl rfl rfl (Nat.le_of_ble_eq_true rfl) ⟨Nat.zero_le _, Nat.zero_le _⟩ (fun _ _ => ?_)
            refine vv_ws (ws' := sh_w ad cB cI (fm) (op) (nx) (fg_pl Nb Ct h (k + 1)) (sf) (di) (b4_fill K (nI 0) 512) (F) (fs) (Nb) (Ct) (Pt) (ds_write (ds_room (fg_d Nb h d k)) k (b4_fill K (nI 0) 512))) rfl ?_
            refine vv_iinc X jd_Sh_forget_113 2 [1, 2, 0] rfl (cn_1 k) (Nat.le_of_ble_eq_true rfl) rfl ?_
            refine vv_goto (tgt := 15) X jd_Sh_forget_116 rfl ?_
            exact i1
          refine vv_aload_n X jd_Sh_forget_84 0 rfl rfl ?_
          refine gf_Sh_12 X 0 jd_Sh_forget_85 rfl rfl ?_
          refine vv_cVi (As := []) X (jc_hasRoom l D cB cI ad (fg_d Nb h d k).1 (fg_d Nb h d k).2.1 (fg_d Nb h d k).2.2.1 (fg_d Nb h d k).2.2.2 ok.1) ok_Sh_80 ⟨rfl, rfl, Nat.le_of_ble_eq_true rfl, Nat.le_of_ble_eq_true rfl⟩ jd_Sh_forget_88 7 2 rfl rfl rfl [7, 8, 9, 10] rfl rfl [ad 9, ad 10, ad 11, ad 12] (fun _ => rfl) rfl rfl rfl (Nat.le_of_ble_eq_true rfl) ⟨Nat.zero_le _, Nat.zero_le _⟩ (fun r _ hr => ?_)
          refine vv_ws (ws' := sh_w ad cB cI (fm) (op) (nx) (fg_pl Nb Ct h (k + 1)) (sf) (di) (b4_fill K (nI 0) 512) (F) (fs) (Nb) (Ct) (Pt) (fg_d Nb h d k)) rfl ?_
          subst hr
          refine vv_if_ne (tgt := 101) X jd_Sh_forget_91 rfl (fun y => ?_) (fun y => ?_)
          · have y1 : (fg_d Nb h d k).2.2.2 < 48 := by
              by_cases z : (fg_d Nb h d k).2.2.2 < 48
              · exact z
              · rw [if_neg z] at y; exact absurd rfl y
            rw [ds_room_id y1] at k101
            exact k101
          · have y1 : ¬ (fg_d Nb h d k).2.2.2 < 48 := fun z => by rw [if_pos z] at y; exact absurd y (by decide)
            refine vv_aload_n X jd_Sh_forget_94 0 rfl rfl ?_
            refine gf_Sh_12 X 0 jd_Sh_forget_95 rfl rfl ?_
            refine vv_cVv (As := []) X (jc_dflush l D cB cI ad (fg_d Nb h d k).1 (fg_d Nb h d k).2.1 (fg_d Nb h d k).2.2.1 (fg_d Nb h d k).2.2.2 ok.1 ok.2.1 ok.2.2.2) ok_Sh_75 ⟨rfl, rfl, Nat.le_of_ble_eq_true rfl, Nat.le_of_ble_eq_true rfl⟩ jd_Sh_forget_98 7 2 rfl rfl rfl [7, 8, 9, 10] rfl rfl [ad 9, ad 10, ad 11, ad 12] (fun _ => rfl) rfl rfl rfl (Nat.le_of_ble_eq_true rfl) ⟨Nat.zero_le _, Nat.zero_le _⟩ (fun _ _ => ?_)
            refine vv_ws (ws' := sh_w ad cB cI (fm) (op) (nx) (fg_pl Nb Ct h (k + 1)) (sf) (di) (b4_fill K (nI 0) 512) (F) (fs) (Nb) (Ct) (Pt) (ds_flush (fg_d Nb h d k))) rfl ?_
            rw [show ds_room (fg_d Nb h d k) = ds_flush (fg_d Nb h d k) from if_neg y1] at k101
            exact k101
        · have i1 := ih e1
          rw [show fg_d Nb h d (k + 1) = fg_d Nb h d k from if_neg g] at i1
          refine vv_goto (tgt := 113) X jd_Sh_forget_81 rfl ?_
          refine vv_iinc X jd_Sh_forget_113 2 [1, 2, 0] rfl (cn_1 k) (Nat.le_of_ble_eq_true rfl) rfl ?_
          refine vv_goto (tgt := 15) X jd_Sh_forget_116 rfl ?_
          exact i1
      refine vv_aload_n X jd_Sh_forget_21 0 rfl rfl ?_
      refine gf_Sh_33 X 0 jd_Sh_forget_22 rfl rfl ?_
      refine vv_iload_n X jd_Sh_forget_25 2 rfl rfl ?_
      refine vv_iald X 4 jd_Sh_forget_26 rfl (k) rfl e1 (by decide) rfl ?_
      refine vv_iload_n X jd_Sh_forget_27 1 rfl rfl ?_
      refine vv_icmp_ne (tgt := 71) X jd_Sh_forget_28 rfl (fun g1 => ?_) (fun g1 => ?_)
      · rw [fg_pl_f (fun z => g1 z.1)] at k71
        exact k71
      · refine vv_iload_n X jd_Sh_forget_31 1 rfl rfl ?_
        refine vv_if_le (tgt := 71) X jd_Sh_forget_32 rfl (fun g2 => ?_) (fun g2 => ?_)
        · rw [fg_pl_f (fun z => absurd g2 (nI_nle z.2.1 hh))] at k71
          exact k71
        · have h0 : 0 < h := Nat.pos_of_ne_zero (fun z => g2 (by rw [z]; decide))
          have k61 : fg_c Nb Ct h k → VV p l e (js_room 3) s m args below meth c D A 3 0 0 Q (sh_w ad cB cI (fm) (op) (nx) (fg_pl Nb Ct h k) (sf) (di) (b4_fill K (nI 0) 512) (F) (fs) (Nb) (Ct) (Pt) (fg_d Nb h d k)) ([(0, .ref (ad 2)), (1, .int (nI h)), (2, .int (nI k))]) 61 ([]) := by
            intro z
            rw [fg_pl_t z] at k71
            refine vv_aload_n X jd_Sh_forget_61 0 rfl rfl ?_
            refine vv_iload_n X jd_Sh_forget_62 2 rfl rfl ?_
            refine vv_iconst X jd_Sh_forget_63 ci_1 ?_
            refine vv_iadd X jd_Sh_forget_64 (nI_add k 1) ?_
            refine vv_bipush X jd_Sh_forget_65 cb_52 ?_
            refine vv_irem X jd_Sh_forget_67 (nI_ne0 (by omega) (by omega)) (pk_rem (by omega) (by omega) (by omega)) ?_
            refine pf_Sh_68 (ws' := sh_w ad cB cI (fm) (op) (nx) ((k + 1) % 52) (sf) (di) (b4_fill K (nI 0) 512) (F) (fs) (Nb) (Ct) (Pt) (fg_d Nb h d k)) X 0 jd_Sh_forget_68 rfl (Nat.le_of_ble_eq_true rfl) rfl ?_
            exact k71
          refine vv_aload_n X jd_Sh_forget_35 0 rfl rfl ?_
          refine gf_Sh_33 X 0 jd_Sh_forget_36 rfl rfl ?_
          refine vv_iload_n X jd_Sh_forget_39 2 rfl rfl ?_
          refine vv_iconst X jd_Sh_forget_40 ci_1 ?_
          refine vv_iadd X jd_Sh_forget_41 (nI_add k 1) ?_
          refine vv_bipush X jd_Sh_forget_42 cb_52 ?_
          refine vv_irem X jd_Sh_forget_44 (nI_ne0 (by omega) (by omega)) (pk_rem (by omega) (by omega) (by omega)) ?_
          refine vv_iald X 4 jd_Sh_forget_45 rfl ((k + 1) % 52) rfl (by omega) (by decide) rfl ?_
          refine vv_iload_n X jd_Sh_forget_46 1 rfl rfl ?_
          refine vv_icmp_ne (tgt := 61) X jd_Sh_forget_47 rfl (fun g3 => ?_) (fun g3 => ?_)
          · exact k61 ⟨g1, h0, Or.inl g3⟩
          · refine vv_aload_n X jd_Sh_forget_50 0 rfl rfl ?_
            refine gf_Sh_36 X 0 jd_Sh_forget_51 rfl rfl ?_
            refine vv_iload_n X jd_Sh_forget_54 2 rfl rfl ?_
            refine vv_iald X 5 jd_Sh_forget_55 rfl (k) rfl e1 (by decide) rfl ?_
            refine vv_bipush X jd_Sh_forget_56 cb_52 ?_
            refine vv_icmp_ne (tgt := 71) X jd_Sh_forget_58 rfl (fun g4 => ?_) (fun g4 => ?_)
            · rw [fg_pl_f (fun z => z.2.2.elim (fun y => y g3) g4)] at k71
              exact k71
            · exact k61 ⟨g1, h0, Or.inr g4⟩
  exact loop 0 (Nat.zero_le _)
/-- the image in a journal's block -/
def rimg (B : Nat → Int32) : Nat → Int32 := fun j => if j < 496 then B (12 + j) else 0
/-- the first i images of a deed go home -/
def rd_d (V : Nat → Nat → Int32) (k0 : Nat) (sl : Nat → Nat) (d : DS) : Nat → DS
  | 0 => d
  | i + 1 => ds_write (ds_room (rd_d V k0 sl d i)) (52 + sl i) (rimg (V ((k0 + i) % 52)))
def jV (V : Nat → Nat → Int32) (d : DS) : Prop := ∀ q, q < 52 → ∀ j, j < 512 → ds_view d q j = V q j
def jFit (V : Nat → Nat → Int32) : Prop := ∀ q, q < 52 → ∀ j, j < 512 → fits .byte (.int (V q j)) = true
theorem rimg_fit {V : Nat → Nat → Int32} {q : Nat} (hV : jFit V) (hq : q < 52) : sb_Fit (rimg (V q)) := fun j => by
  simp only [rimg]
  split
  · exact hV q hq _ (by omega)
  · exact js_fit0
theorem rd_d_ok {V : Nat → Nat → Int32} {k0 : Nat} {sl : Nat → Nat} {d : DS} (hd : ds_ok d) (hV : jFit V) : ∀ {i}, (∀ k, k < i → sl k < 212) → ds_ok (rd_d V k0 sl d i)
  | 0, _ => hd
  | i + 1, h => by
    have ih := rd_d_ok (V := V) (k0 := k0) (sl := sl) (i := i) hd hV (fun k hk => h k (by omega))
    exact ds_write_ok (ds_room_ok ih) (ds_room_lt _) (by have := h i (by omega); omega) (rimg_fit hV (Nat.mod_lt _ (by omega)))
theorem rd_d_j {V : Nat → Nat → Int32} {k0 : Nat} {sl : Nat → Nat} {d : DS} (h : jV V d) : ∀ i, jV V (rd_d V k0 sl d i)
  | 0 => h
  | i + 1 => fun q hq j hj => by
    have ih := rd_d_j (k0 := k0) (sl := sl) h i
    refine (ds_write_view _ _ _ q (by omega) j hj).trans ?_
    simp only [vup]
    rw [if_neg (by omega)]
    exact (ds_room_view _ q (by omega) j hj).trans (ih q hq j hj)
theorem rimg_at {B K F : Nat → Int32} (h : ∀ j, j < 512 → K j = B j) : ∀ j, j < 512 → hm_img (va_cpy K F 12 0 496) 0 j = rimg B j := fun j hj => by
  simp only [hm_img, rimg]
  by_cases h1 : j < 496
  · rw [if_pos h1, if_pos h1, pk_cpy_in (Nat.zero_le _) (by omega)]
    rw [show 12 + (0 + j - 0) = 12 + j by omega]
    exact h _ (by omega)
  · rw [if_neg h1, if_neg h1]
set_option maxRecDepth 100000 in
/-- a deed's images go home again -/
theorem jc_redo (l : Launch) (D : va_G) (cB cI : ClassId) (ad : Nat → Nat) (fm op nx pl sf : Nat) (di : Int32) (K F : Nat → Int32) (fs : Nat → Nat) (Nb Ct Pt : Nat → Int32) (d : DS) (V : Nat → Nat → Int32) (x : Int32) (k0 cn : Nat) (sl : Nat → Nat) (hd : ds_ok d) (hV : jFit V) (hj : jV V d) (hk0 : k0 < 52) (r1 : ∀ k, k < k0 → Nb k ≠ x ∨ 0 < Pt k) (r2 : Nb k0 = x ∧ Pt k0 ≤ 0) (r3 : ∀ i, i < cn → Nb ((k0 + i) % 52) = x) (r4 : Nb ((k0 + cn) % 52) ≠ x) (r5 : ∀ i, i < cn → V ((k0 + i) % 52) 6 &&& nI 255 = nI (sl i) ∧ sl i < 212) (hF : sb_Fit F) (hK : sb_Fit K) : MetV l jy_Sh_redo jb_Sh_redo 4 4 D cB cI (sh_w ad cB cI (fm) (op) (nx) (pl) (sf) (di) (K) (F) (fs) (Nb) (Ct) (Pt) (d)) ([.ref (ad 2), .int x]) (fun (u : (Nat → Int32) × (Nat → Int32)) => sb_Fit u.1 ∧ sb_Fit u.2) (fun u => sh_w ad cB cI (fm) (op) (nx) (pl) (sf) (di) (u.1) (u.2) (fs) (Nb) (Ct) (Pt) (rd_d V k0 sl d cn)) := by
  refine MetV.of (lv0 := [(0, .ref (ad 2)), (1, .int x)]) "JournalShelf$Shelf" rfl (by decide +kernel) (Nat.le_of_ble_eq_true rfl) rfl ?_
  intro p e s m args below meth c A Q X ret
  refine vv_iconst X jd_Sh_redo_0 ci_0 ?_
  refine vv_istore_n X jd_Sh_redo_1 [1, 2, 0] rfl (Nat.le_of_ble_eq_true rfl) rfl ?_
  have k27 : VV p l e (js_room 4) s m args below meth c D A 4 0 0 Q (sh_w ad cB cI (fm) (op) (nx) (pl) (sf) (di) (K) (F) (fs) (Nb) (Ct) (Pt) (d)) ([(0, .ref (ad 2)), (1, .int x), (2, .int (nI k0))]) 27 ([]) := by
    have loop : ∀ i, i ≤ cn → ∀ K F, sb_Fit K → sb_Fit F → VV p l e (js_room 4) s m args below meth c D A 4 0 0 Q (sh_w ad cB cI (fm) (op) (nx) (pl) (sf) (di) (K) (F) (fs) (Nb) (Ct) (Pt) (rd_d V k0 sl d i)) ([(0, .ref (ad 2)), (1, .int x), (2, .int (nI ((k0 + i) % 52)))]) 27 ([]) := by
      refine js_up ?_
      intro i hi ih K F hK hF
      have hp : (k0 + i) % 52 < 52 := Nat.mod_lt _ (by omega)
      refine vv_aload_n X jd_Sh_redo_27 0 rfl rfl ?_
      refine gf_Sh_33 X 0 jd_Sh_redo_28 rfl rfl ?_
      refine vv_iload_n X jd_Sh_redo_31 2 rfl rfl ?_
      refine vv_iald X 4 jd_Sh_redo_32 rfl ((k0 + i) % 52) rfl hp (by decide) rfl ?_
      refine vv_iload_n X jd_Sh_redo_33 1 rfl rfl ?_
      refine vv_icmp_ne (tgt := 98) X jd_Sh_redo_34 rfl (fun h => ?_) (fun h => ?_)
      · have e1 : i = cn := Nat.le_antisymm hi (Nat.le_of_not_lt (fun z => h (r3 i z)))
        subst e1
        exact ret _ _ 98 (K, F) jd_Sh_redo_98 ⟨hK, hF⟩ rfl
      · have e1 : i < cn := Nat.lt_of_le_of_ne hi (fun z => r4 (by rw [← z]; exact h))
        have ok := rd_d_ok (k0 := k0) (sl := sl) (i := i) hd hV (fun k hk => (r5 k (by omega)).2)
        have hb1 : ∀ k, k < (rd_d V k0 sl d i).2.2.2 → (rd_d V k0 sl d i).2.2.1 k < 2 ^ 31 := fun k hk => Nat.lt_trans (ok.2.1 k hk) (by decide)
        have hKR : ∀ j, j < 512 → dk_rd (rd_d V k0 sl d i).1 (rd_d V k0 sl d i).2.1 (rd_d V k0 sl d i).2.2.1 (rd_d V k0 sl d i).2.2.2 ((k0 + i) % 52) K j = V ((k0 + i) % 52) j := fun j hj2 => (dk_rd_at hj2).trans (rd_d_j hj i _ hp j hj2)
        have hKf : sb_Fit (dk_rd (rd_d V k0 sl d i).1 (rd_d V k0 sl d i).2.1 (rd_d V k0 sl d i).2.2.1 (rd_d V k0 sl d i).2.2.2 ((k0 + i) % 52) K) := dk_rd_fit ok.2.2.1 ok.2.2.2 hK
        obtain ⟨s1, s2⟩ := r5 i e1
        refine vv_aload_n X jd_Sh_redo_37 0 rfl rfl ?_
        refine gf_Sh_12 X 0 jd_Sh_redo_38 rfl rfl ?_
        refine vv_iload_n X jd_Sh_redo_41 2 rfl rfl ?_
        refine vv_aload_n X jd_Sh_redo_42 0 rfl rfl ?_
        refine gf_Sh_18 X 0 jd_Sh_redo_43 rfl rfl ?_
        refine vv_cVv (As := [.int (nI ((k0 + i) % 52)), .ref (ad 3)]) X (jc_dread l D cB cI ad (rd_d V k0 sl d i).1 (rd_d V k0 sl d i).2.1 (rd_d V k0 sl d i).2.2.1 (rd_d V k0 sl d i).2.2.2 K ((k0 + i) % 52) ok.1 hb1 (by omega) ok.2.2.1 ok.2.2.2) ok_Sh_90 ⟨rfl, rfl, Nat.le_of_ble_eq_true rfl, Nat.le_of_ble_eq_true rfl⟩ jd_Sh_redo_46 7 2 rfl rfl rfl [7, 8, 9, 10, 1] rfl rfl [ad 9, ad 10, ad 11, ad 12, ad 3] (fun _ => rfl) rfl rfl rfl (Nat.le_of_ble_eq_true rfl) ⟨Nat.zero_le _, Nat.zero_le _⟩ (fun _ _ => ?_)
        refine vv_ws (ws' := sh_w ad cB cI (fm) (op) (nx) (pl) (sf) (di) (dk_rd (rd_d V k0 sl d i).1 (rd_d V k0 sl d i).2.1 (rd_d V k0 sl d i).2.2.1 (rd_d V k0 sl d i).2.2.2 ((k0 + i) % 52) K) (F) (fs) (Nb) (Ct) (Pt) (rd_d V k0 sl d i)) rfl ?_
        generalize hKe : dk_rd (rd_d V k0 sl d i).1 (rd_d V k0 sl d i).2.1 (rd_d V k0 sl d i).2.2.1 (rd_d V k0 sl d i).2.2.2 ((k0 + i) % 52) K = KR at hKR hKf ⊢
        have s3 : KR 6 &&& nI 255 = nI (sl i) := by rw [hKR 6 (by omega)]; exact s1
        refine vv_aload_n X jd_Sh_redo_49 0 rfl rfl ?_
        refine gf_Sh_18 X 0 jd_Sh_redo_50 rfl rfl ?_
        refine vv_bipush X jd_Sh_redo_53 cb_6 ?_
        refine vv_bald X 1 jd_Sh_redo_55 rfl (6) rfl (by omega) (by decide) rfl ?_
        refine vv_sipush X jd_Sh_redo_56 cs_255 ?_
        refine vv_iand X jd_Sh_redo_59 s3 ?_
        refine vv_istore_n X jd_Sh_redo_60 [1, 2, 3, 0] rfl (Nat.le_of_ble_eq_true rfl) rfl ?_
        refine vv_aload_n X jd_Sh_redo_61 0 rfl rfl ?_
        refine gf_Sh_18 X 0 jd_Sh_redo_62 rfl rfl ?_
        refine vv_bipush X jd_Sh_redo_65 cb_12 ?_
        refine vv_aload_n X jd_Sh_redo_67 0 rfl rfl ?_
        refine gf_Sh_22 X 0 jd_Sh_redo_68 rfl rfl ?_
        refine vv_iconst X jd_Sh_redo_71 ci_0 ?_
        refine vv_sipush X jd_Sh_redo_72 cs_496 ?_
        refine vv_copy (ws' := sh_w ad cB cI (fm) (op) (nx) (pl) (sf) (di) (KR) (va_cpy KR F 12 0 496) (fs) (Nb) (Ct) (Pt) (rd_d V k0 sl d i)) X jk_142 1 2 jd_Sh_redo_75 rfl rfl (12) (0) (496) rfl rfl rfl (by omega) (by omega) (by decide) (by decide) (fun i _ => hKf _) (Nat.le_of_ble_eq_true rfl) (Nat.le_of_ble_eq_true rfl) (Nat.le_of_ble_eq_true rfl) rfl ?_
        refine vv_aload_n X jd_Sh_redo_78 0 rfl rfl ?_
        refine vv_iload_n X jd_Sh_redo_79 3 rfl rfl ?_
        refine vv_aload_n X jd_Sh_redo_80 0 rfl rfl ?_
        refine gf_Sh_22 X 0 jd_Sh_redo_81 rfl rfl ?_
        refine vv_iconst X jd_Sh_redo_84 ci_0 ?_
        refine vv_cVv (As := [.int (nI (sl i)), .ref (ad 4), .int (nI 0)]) X (jc_home l D cB cI ad fm op nx pl sf di KR (va_cpy KR F 12 0 496) fs Nb Ct Pt (rd_d V k0 sl d i) (sl i) 0 ok s2 (by omega) (sb_fitC hKf hF) hKf) ok_Sh_76 ⟨rfl, rfl, Nat.le_of_ble_eq_true rfl, Nat.le_of_ble_eq_true rfl⟩ jd_Sh_redo_85 0 1 rfl rfl rfl [0, 1, 2, 3, 4, 5, 6, 7, 8, 9, 10] rfl rfl [ad 2, ad 3, ad 4, ad 5, ad 6, ad 7, ad 8, ad 9, ad 10, ad 11, ad 12] (fun _ => rfl) rfl rfl rfl (Nat.le_of_ble_eq_true rfl) ⟨Nat.zero_le _, Nat.zero_le _⟩ (fun K2 hK2 => ?_)
        refine vv_ws (ws' := sh_w ad cB cI (fm) (op) (nx) (pl) (sf) (di) (K2) (va_cpy KR F 12 0 496) (fs) (Nb) (Ct) (Pt) (rd_d V k0 sl d (i + 1))) (by rw [show rd_d V k0 sl d (i + 1) = ds_write (ds_room (rd_d V k0 sl d i)) (52 + sl i) (hm_img (va_cpy KR F 12 0 496) 0) from (ds_write_congr (rimg_at hKR)).symm]; rfl) ?_
        refine vv_iload_n X jd_Sh_redo_88 2 rfl rfl ?_
        refine vv_iconst X jd_Sh_redo_89 ci_1 ?_
        refine vv_iadd X jd_Sh_redo_90 (nI_add ((k0 + i) % 52) 1) ?_
        refine vv_bipush X jd_Sh_redo_91 cb_52 ?_
        refine vv_irem X jd_Sh_redo_93 (nI_ne0 (by omega) (by omega)) ((pk_rem (by omega) (by omega) (by omega)).trans (by rw [show ((k0 + i) % 52 + 1) % 52 = (k0 + (i + 1)) % 52 by omega])) ?_
        refine vv_istore_n X jd_Sh_redo_94 [1, 2, 0, 3] rfl (Nat.le_of_ble_eq_true rfl) rfl ?_
        refine vv_goto (tgt := 27) X jd_Sh_redo_95 rfl ?_
        refine vv_lv [0, 1, 2] rfl ?_
        exact ih e1 K2 _ hK2 (sb_fitC hKf hF)
    have l0 := loop 0 (Nat.zero_le _) K F hK hF
    rw [show (k0 + 0) % 52 = k0 by omega] at l0
    exact l0
  have find : ∀ k, k ≤ k0 → VV p l e (js_room 4) s m args below meth c D A 4 0 0 Q (sh_w ad cB cI (fm) (op) (nx) (pl) (sf) (di) (K) (F) (fs) (Nb) (Ct) (Pt) (d)) ([(0, .ref (ad 2)), (1, .int x), (2, .int (nI k))]) 2 ([]) := by
    refine js_up ?_
    intro k hk ih
    refine vv_aload_n X jd_Sh_redo_2 0 rfl rfl ?_
    refine gf_Sh_33 X 0 jd_Sh_redo_3 rfl rfl ?_
    refine vv_iload_n X jd_Sh_redo_6 2 rfl rfl ?_
    refine vv_iald X 4 jd_Sh_redo_7 rfl (k) rfl (by omega) (by decide) rfl ?_
    refine vv_iload_n X jd_Sh_redo_8 1 rfl rfl ?_
    refine vv_icmp_ne (tgt := 21) X jd_Sh_redo_9 rfl (fun h => ?_) (fun h => ?_)
    · have e1 : k < k0 := Nat.lt_of_le_of_ne hk (fun z => h (by rw [z]; exact r2.1))
      refine vv_iinc X jd_Sh_redo_21 2 [1, 2, 0] rfl (cn_1 k) (Nat.le_of_ble_eq_true rfl) rfl ?_
      refine vv_goto (tgt := 2) X jd_Sh_redo_24 rfl ?_
      exact ih e1
    · refine vv_aload_n X jd_Sh_redo_12 0 rfl rfl ?_
      refine gf_Sh_39 X 0 jd_Sh_redo_13 rfl rfl ?_
      refine vv_iload_n X jd_Sh_redo_16 2 rfl rfl ?_
      refine vv_iald X 6 jd_Sh_redo_17 rfl (k) rfl (by omega) (by decide) rfl ?_
      refine vv_if_le (tgt := 27) X jd_Sh_redo_18 rfl (fun g => ?_) (fun g => ?_)
      · have e1 : k = k0 := Nat.le_antisymm hk (Nat.le_of_not_lt (fun z => (r1 k z).elim (fun y => y h) (fun y => absurd g (Int32.not_le.mpr y))))
        subst e1
        exact k27
      · have e1 : k < k0 := Nat.lt_of_le_of_ne hk (fun z => g (by rw [z]; exact r2.2))
        refine vv_iinc X jd_Sh_redo_21 2 [1, 2, 0] rfl (cn_1 k) (Nat.le_of_ble_eq_true rfl) rfl ?_
        refine vv_goto (tgt := 2) X jd_Sh_redo_24 rfl ?_
        exact ih e1
  exact find 0 (Nat.zero_le _)
end
section
/-- the first k places of f, behind them g -/
def prf (f g : Nat → Int32) (k : Nat) : Nat → Int32 := fun j => if j < k then f j else g j
theorem prf_0 (f g : Nat → Int32) : prf f g 0 = g := by funext j; simp [prf]
theorem prf_s (f g : Nat → Int32) (k : Nat) : upd (prf f g k) k (f k) = prf f g (k + 1) := by
  funext j
  simp only [upd, prf]
  by_cases h : j = k
  · subst h; simp
  · by_cases h2 : j < k
    · simp [h, h2, Nat.lt_succ_of_lt h2]
    · have : ¬ j < k + 1 := by omega
      simp [h, h2, this]
theorem prf_at {f g : Nat → Int32} {k j : Nat} (h : j < k) : prf f g k j = f j := if_pos h
/-- a block stands -/
def rc_s (B : Nat → Int32) : Prop := 0 < b4_get B 0 ∧ b4_get B 0 = b4_get B 508 ∧ (nI 1 ≤ B 5 ∧ B 5 ≤ nI 17) ∧ (nI 0 ≤ B 4 ∧ B 4 ≤ B 5 - nI 1)
noncomputable def rc_nb (V : Nat → Nat → Int32) : Nat → Int32 := fun k => @ite _ (rc_s (V k)) (Classical.propDecidable _) (b4_get (V k) 0) 0
def rc_ct (V : Nat → Nat → Int32) : Nat → Int32 := fun k => V k 5
def rc_pt (V : Nat → Nat → Int32) : Nat → Int32 := fun k => V k 4
theorem rc_nb_t {V : Nat → Nat → Int32} {k : Nat} (h : rc_s (V k)) : rc_nb V k = b4_get (V k) 0 := by simp only [rc_nb, if_pos h]
theorem rc_nb_f {V : Nat → Nat → Int32} {k : Nat} (h : ¬ rc_s (V k)) : rc_nb V k = 0 := by simp only [rc_nb, if_neg h]
noncomputable def rc_kn (V : Nat → Nat → Int32) : Nat → Int32
  | 0 => 0
  | k + 1 => @ite _ (rc_s (V k)) (Classical.propDecidable _) (if rc_kn V k < b4_get (V k) 8 then b4_get (V k) 8 else rc_kn V k) (rc_kn V k)
theorem rc_kn_t {V : Nat → Nat → Int32} {k : Nat} (h : rc_s (V k)) : rc_kn V (k + 1) = if rc_kn V k < b4_get (V k) 8 then b4_get (V k) 8 else rc_kn V k := by simp only [rc_kn, if_pos h]
theorem rc_kn_f {V : Nat → Nat → Int32} {k : Nat} (h : ¬ rc_s (V k)) : rc_kn V (k + 1) = rc_kn V k := by simp only [rc_kn, if_neg h]
theorem b4_get_congr {f g : Nat → Int32} {k : Nat} (h0 : f k = g k) (h1 : f (k + 1) = g (k + 1)) (h2 : f (k + 2) = g (k + 2)) (h3 : f (k + 3) = g (k + 3)) : b4_get f k = b4_get g k := by
  simp only [b4_get, h0, h1, h2, h3]
theorem wh_n_congr {Nb Mb : Nat → Int32} {x : Int32} : ∀ {k}, (∀ j, j < k → Nb j = Mb j) → wh_n Nb x k = wh_n Mb x k
  | 0, _ => rfl
  | k + 1, h => by simp only [wh_n, h k (by omega), wh_n_congr (k := k) (fun j hj => h j (by omega))]
theorem wh_c_congr {Nb Mb Ct Dt : Nat → Int32} {x : Int32} : ∀ {k}, (∀ j, j < k → Nb j = Mb j) → (∀ j, j < k → Ct j = Dt j) → wh_c Nb Ct x k = wh_c Mb Dt x k
  | 0, _, _ => rfl
  | k + 1, h, g => by simp only [wh_c, h k (by omega), g k (by omega), wh_c_congr (k := k) (fun j hj => h j (by omega)) (fun j hj => g j (by omega))]
theorem wh_congr {Nb Mb Ct Dt : Nat → Int32} {x : Int32} (h : ∀ j, j < 52 → Nb j = Mb j) (g : ∀ j, j < 52 → Ct j = Dt j) : wh Nb Ct x ↔ wh Mb Dt x := by
  simp only [wh, wh_n_congr h, wh_c_congr h g]
/-- the first n deeds from lo on are done again -/
def rv_d (V : Nat → Nat → Int32) (k0 cn : Nat → Nat) (sl : Nat → Nat → Nat) (lo : Nat) (d : DS) : Nat → DS
  | 0 => d
  | n + 1 => rd_d V (k0 (lo + n)) (sl (lo + n)) (rv_d V k0 cn sl lo d n) (cn (lo + n))
/-- what the journal says, and what is to be done with it -/
def RecOk (V : Nat → Nat → Int32) (kn lo hi : Nat) (k0 cn : Nat → Nat) (sl : Nat → Nat → Nat) : Prop :=
  rc_kn V 52 = nI kn ∧ (1 ≤ lo ∧ lo ≤ kn + 1 ∧ kn ≤ hi ∧ hi < 2 ^ 30) ∧ (∀ x, lo ≤ x → x ≤ hi → wh (rc_nb V) (rc_ct V) (nI x)) ∧ ¬ wh (rc_nb V) (rc_ct V) (nI (lo - 1)) ∧ ¬ wh (rc_nb V) (rc_ct V) (nI (hi + 1)) ∧
  ∀ x, lo ≤ x → x ≤ hi → (k0 x < 52 ∧ (∀ k, k < k0 x → rc_nb V k ≠ nI x ∨ 0 < rc_pt V k) ∧ (rc_nb V (k0 x) = nI x ∧ rc_pt V (k0 x) ≤ 0) ∧ (∀ i, i < cn x → rc_nb V ((k0 x + i) % 52) = nI x) ∧ rc_nb V ((k0 x + cn x) % 52) ≠ nI x ∧ ∀ i, i < cn x → V ((k0 x + i) % 52) 6 &&& nI 255 = nI (sl x i) ∧ sl x i < 212)
theorem rv_d_ok {V : Nat → Nat → Int32} {k0 cn : Nat → Nat} {sl : Nat → Nat → Nat} {lo : Nat} {d : DS} (hd : ds_ok d) (hV : jFit V) : ∀ {n}, (∀ x, lo ≤ x → x < lo + n → ∀ i, i < cn x → sl x i < 212) → ds_ok (rv_d V k0 cn sl lo d n)
  | 0, _ => hd
  | n + 1, h => rd_d_ok (rv_d_ok (n := n) hd hV (fun x h1 h2 => h x h1 (by omega))) hV (fun k hk => h (lo + n) (by omega) (by omega) k hk)
theorem rv_d_j {V : Nat → Nat → Int32} {k0 cn : Nat → Nat} {sl : Nat → Nat → Nat} {lo : Nat} {d : DS} (h : jV V d) : ∀ n, jV V (rv_d V k0 cn sl lo d n)
  | 0 => h
  | n + 1 => rd_d_j (rv_d_j h n) _
set_option maxRecDepth 100000 in
/-- what the disk says behind a crash -/
theorem jc_recover (l : Launch) (D : va_G) (cB cI : ClassId) (ad : Nat → Nat) (fm op nx pl sf : Nat) (di : Int32) (K F : Nat → Int32) (fs : Nat → Nat) (Nb Ct Pt : Nat → Int32) (d : DS) (kn lo hi : Nat) (k0 cn : Nat → Nat) (sl : Nat → Nat → Nat) (hd : ds_ok d) (hR : RecOk (ds_view d) kn lo hi k0 cn sl) (hF : sb_Fit F) (hK : sb_Fit K) : MetV l jy_Sh_recover jb_Sh_recover 5 5 D cB cI (sh_w ad cB cI (fm) (op) (nx) (pl) (sf) (di) (K) (F) (fs) (Nb) (Ct) (Pt) (d)) ([.ref (ad 2)]) (fun (u : (Nat → Int32) × (Nat → Int32)) => sb_Fit u.1 ∧ sb_Fit u.2) (fun u => sh_w ad cB cI (0) (0) (hi + 1) (fg_pl (prf (rc_nb (ds_view d)) Nb 52) (prf (rc_ct (ds_view d)) Ct 52) hi 52) (hi) (0) (u.1) (u.2) (fs) (prf (rc_nb (ds_view d)) Nb 52) (prf (rc_ct (ds_view d)) Ct 52) (prf (rc_pt (ds_view d)) Pt 52) (ds_flush (fg_d (prf (rc_nb (ds_view d)) Nb 52) hi (rv_d (ds_view d) k0 cn sl lo d (hi + 1 - lo)) 52))) := by
  refine MetV.of (lv0 := [(0, .ref (ad 2))]) "JournalShelf$Shelf" rfl (by decide +kernel) (Nat.le_of_ble_eq_true rfl) rfl ?_
  intro p e s m args below meth c A Q X ret
  obtain ⟨hkn, ⟨hl1, hl2, hh1, hh2⟩, hw, hwl, hwh, hdeed⟩ := hR
  have hVf : jFit (ds_view d) := fun q _ j _ => by
    simp only [ds_view]
    cases dk_last d.2.2.1 q d.2.2.2 with
    | none => exact hd.2.2.1 _
    | some k => exact hd.2.2.2 _
  have hb1 : ∀ k, k < d.2.2.2 → d.2.2.1 k < 2 ^ 31 := fun k hk => Nat.lt_trans (hd.2.1 k hk) (by decide)
  have whe : ∀ x, wh (prf (rc_nb (ds_view d)) Nb 52) (prf (rc_ct (ds_view d)) Ct 52) x ↔ wh (rc_nb (ds_view d)) (rc_ct (ds_view d)) x := fun x => wh_congr (fun j hj => prf_at hj) (fun j hj => prf_at hj)
  have k198 : ∀ K, sb_Fit K → VV p l e (js_room 5) s m args below meth c D A 5 0 0 Q (sh_w ad cB cI (fm) (op) (nx) (pl) (sf) (di) (K) (F) (fs) (prf (rc_nb (ds_view d)) Nb 52) (prf (rc_ct (ds_view d)) Ct 52) (prf (rc_pt (ds_view d)) Pt 52) (d)) ([(0, .ref (ad 2)), (1, .int (nI kn)), (2, .int (nI lo)), (3, .int (nI hi))]) 198 ([]) := by
    intro K hK
    refine vv_iload_n X jd_Sh_recover_198 2 rfl rfl ?_
    refine vv_istore X jd_Sh_recover_199 [1, 2, 3, 4, 0] (Nat.le_of_ble_eq_true rfl) rfl ?_
    have loop : ∀ n, n ≤ hi + 1 - lo → ∀ K F, sb_Fit K → sb_Fit F → VV p l e (js_room 5) s m args below meth c D A 5 0 0 Q (sh_w ad cB cI (fm) (op) (nx) (pl) (sf) (di) (K) (F) (fs) (prf (rc_nb (ds_view d)) Nb 52) (prf (rc_ct (ds_view d)) Ct 52) (prf (rc_pt (ds_view d)) Pt 52) (rv_d (ds_view d) k0 cn sl lo d n)) ([(0, .ref (ad 2)), (1, .int (nI kn)), (2, .int (nI lo)), (3, .int (nI hi)), (4, .int (nI (lo + n)))]) 201 ([]) := by
      refine js_up ?_
      intro n hn ih K F hK hF
      have ok : ds_ok (rv_d (ds_view d) k0 cn sl lo d n) := rv_d_ok hd hVf (fun x h1 h2 i hi2 => ((hdeed x h1 (by omega)).2.2.2.2.2 i hi2).2)
      refine vv_iload X jd_Sh_recover_201 4 rfl ?_
      refine vv_iload_n X jd_Sh_recover_203 3 rfl rfl ?_
      refine vv_icmp_gt (tgt := 219) X jd_Sh_recover_204 rfl (fun h => ?_) (fun h => ?_)
      · have e1 : n = hi + 1 - lo := by have := nn_ltt (by omega) (by omega) h; omega
        subst e1
        refine vv_aload_n X jd_Sh_recover_219 0 rfl rfl ?_
        refine vv_iload_n X jd_Sh_recover_220 3 rfl rfl ?_
        refine vv_cVv (As := [.int (nI hi)]) X (jc_sforget l D cB cI ad fm op nx pl sf di K F fs (prf (rc_nb (ds_view d)) Nb 52) (prf (rc_ct (ds_view d)) Ct 52) (prf (rc_pt (ds_view d)) Pt 52) (rv_d (ds_view d) k0 cn sl lo d (hi + 1 - lo)) hi ok (by omega) hK) ok_Sh_115 ⟨rfl, rfl, Nat.le_of_ble_eq_true rfl, Nat.le_of_ble_eq_true rfl⟩ jd_Sh_recover_221 0 1 rfl rfl rfl [0, 1, 2, 3, 4, 5, 6, 7, 8, 9, 10] rfl rfl [ad 2, ad 3, ad 4, ad 5, ad 6, ad 7, ad 8, ad 9, ad 10, ad 11, ad 12] (fun _ => rfl) rfl rfl rfl (Nat.le_of_ble_eq_true rfl) ⟨Nat.zero_le _, Nat.zero_le _⟩ (fun _ _ => ?_)
        refine vv_ws (ws' := sh_w ad cB cI (fm) (op) (nx) (fg_pl (prf (rc_nb (ds_view d)) Nb 52) (prf (rc_ct (ds_view d)) Ct 52) hi 52) (sf) (di) (b4_fill K (nI 0) 512) (F) (fs) (prf (rc_nb (ds_view d)) Nb 52) (prf (rc_ct (ds_view d)) Ct 52) (prf (rc_pt (ds_view d)) Pt 52) (ds_flush (fg_d (prf (rc_nb (ds_view d)) Nb 52) hi (rv_d (ds_view d) k0 cn sl lo d (hi + 1 - lo)) 52))) rfl ?_
        refine vv_aload_n X jd_Sh_recover_224 0 rfl rfl ?_
        refine vv_iconst X jd_Sh_recover_225 ci_0 ?_
        refine pf_Sh_46 (ws' := sh_w ad cB cI (0) (op) (nx) (fg_pl (prf (rc_nb (ds_view d)) Nb 52) (prf (rc_ct (ds_view d)) Ct 52) hi 52) (sf) (di) (b4_fill K (nI 0) 512) (F) (fs) (prf (rc_nb (ds_view d)) Nb 52) (prf (rc_ct (ds_view d)) Ct 52) (prf (rc_pt (ds_view d)) Pt 52) (ds_flush (fg_d (prf (rc_nb (ds_view d)) Nb 52) hi (rv_d (ds_view d) k0 cn sl lo d (hi + 1 - lo)) 52))) X 0 jd_Sh_recover_226 rfl (Nat.le_of_ble_eq_true rfl) rfl ?_
        refine vv_aload_n X jd_Sh_recover_229 0 rfl rfl ?_
        refine vv_iconst X jd_Sh_recover_230 ci_0 ?_
        refine pf_Sh_52 (ws' := sh_w ad cB cI (0) (0) (nx) (fg_pl (prf (rc_nb (ds_view d)) Nb 52) (prf (rc_ct (ds_view d)) Ct 52) hi 52) (sf) (di) (b4_fill K (nI 0) 512) (F) (fs) (prf (rc_nb (ds_view d)) Nb 52) (prf (rc_ct (ds_view d)) Ct 52) (prf (rc_pt (ds_view d)) Pt 52) (ds_flush (fg_d (prf (rc_nb (ds_view d)) Nb 52) hi (rv_d (ds_view d) k0 cn sl lo d (hi + 1 - lo)) 52))) X 0 jd_Sh_recover_231 rfl (Nat.le_of_ble_eq_true rfl) rfl ?_
        refine vv_aload_n X jd_Sh_recover_234 0 rfl rfl ?_
        refine vv_iload_n X jd_Sh_recover_235 3 rfl rfl ?_
        refine vv_iconst X jd_Sh_recover_236 ci_1 ?_
        refine vv_iadd X jd_Sh_recover_237 (nI_add hi 1) ?_
        refine pf_Sh_29 (ws' := sh_w ad cB cI (0) (0) (hi + 1) (fg_pl (prf (rc_nb (ds_view d)) Nb 52) (prf (rc_ct (ds_view d)) Ct 52) hi 52) (sf) (di) (b4_fill K (nI 0) 512) (F) (fs) (prf (rc_nb (ds_view d)) Nb 52) (prf (rc_ct (ds_view d)) Ct 52) (prf (rc_pt (ds_view d)) Pt 52) (ds_flush (fg_d (prf (rc_nb (ds_view d)) Nb 52) hi (rv_d (ds_view d) k0 cn sl lo d (hi + 1 - lo)) 52))) X 0 jd_Sh_recover_238 rfl (Nat.le_of_ble_eq_true rfl) rfl ?_
        refine vv_aload_n X jd_Sh_recover_241 0 rfl rfl ?_
        refine vv_iload_n X jd_Sh_recover_242 3 rfl rfl ?_
        refine pf_Sh_65 (ws' := sh_w ad cB cI (0) (0) (hi + 1) (fg_pl (prf (rc_nb (ds_view d)) Nb 52) (prf (rc_ct (ds_view d)) Ct 52) hi 52) (hi) (di) (b4_fill K (nI 0) 512) (F) (fs) (prf (rc_nb (ds_view d)) Nb 52) (prf (rc_ct (ds_view d)) Ct 52) (prf (rc_pt (ds_view d)) Pt 52) (ds_flush (fg_d (prf (rc_nb (ds_view d)) Nb 52) hi (rv_d (ds_view d) k0 cn sl lo d (hi + 1 - lo)) 52))) X 0 jd_Sh_recover_243 rfl (Nat.le_of_ble_eq_true rfl) rfl ?_
        refine vv_aload_n X jd_Sh_recover_246 0 rfl rfl ?_
        refine vv_iconst X jd_Sh_recover_247 ci_0 ?_
        refine pf_Sh_42 (ws' := sh_w ad cB cI (0) (0) (hi + 1) (fg_pl (prf (rc_nb (ds_view d)) Nb 52) (prf (rc_ct (ds_view d)) Ct 52) hi 52) (hi) (nI 0) (b4_fill K (nI 0) 512) (F) (fs) (prf (rc_nb (ds_view d)) Nb 52) (prf (rc_ct (ds_view d)) Ct 52) (prf (rc_pt (ds_view d)) Pt 52) (ds_flush (fg_d (prf (rc_nb (ds_view d)) Nb 52) hi (rv_d (ds_view d) k0 cn sl lo d (hi + 1 - lo)) 52))) X 0 (Or.inl rfl) jd_Sh_recover_248 rfl (Nat.le_of_ble_eq_true rfl) rfl ?_
        exact ret _ _ 251 (b4_fill K (nI 0) 512, F) jd_Sh_recover_251 ⟨b4_fill_fit hK _, hF⟩ rfl
      · have e1 : lo + n ≤ hi := nn_nlt (by omega) (by omega) h
        obtain ⟨a1, a2, a3, a4, a5, a6⟩ := hdeed (lo + n) (by omega) e1
        refine vv_aload_n X jd_Sh_recover_207 0 rfl rfl ?_
        refine vv_iload X jd_Sh_recover_208 4 rfl ?_
        refine vv_cVv (As := [.int (nI (lo + n))]) X (jc_redo l D cB cI ad fm op nx pl sf di K F fs (prf (rc_nb (ds_view d)) Nb 52) (prf (rc_ct (ds_view d)) Ct 52) (prf (rc_pt (ds_view d)) Pt 52) (rv_d (ds_view d) k0 cn sl lo d n) (ds_view d) (nI (lo + n)) (k0 (lo + n)) (cn (lo + n)) (sl (lo + n)) ok hVf (rv_d_j (fun q _ j _ => rfl) n) a1 (fun k hk => by rw [prf_at (show k < 52 by omega), prf_at (show k < 52 by omega)]; exact a2 k hk) (by rw [prf_at a1, prf_at a1]; exact a3) (fun i hi2 => by rw [prf_at (Nat.mod_lt _ (by omega))]; exact a4 i hi2) (by rw [prf_at (Nat.mod_lt _ (by omega))]; exact a5) a6 hF hK) ok_Sh_111 ⟨rfl, rfl, Nat.le_of_ble_eq_true rfl, Nat.le_of_ble_eq_true rfl⟩ jd_Sh_recover_210 0 1 rfl rfl rfl [0, 1, 2, 3, 4, 5, 6, 7, 8, 9, 10] rfl rfl [ad 2, ad 3, ad 4, ad 5, ad 6, ad 7, ad 8, ad 9, ad 10, ad 11, ad 12] (fun _ => rfl) rfl rfl rfl (Nat.le_of_ble_eq_true rfl) ⟨Nat.zero_le _, Nat.zero_le _⟩ (fun u hu => ?_)
        refine vv_ws (ws' := sh_w ad cB cI (fm) (op) (nx) (pl) (sf) (di) (u.1) (u.2) (fs) (prf (rc_nb (ds_view d)) Nb 52) (prf (rc_ct (ds_view d)) Ct 52) (prf (rc_pt (ds_view d)) Pt 52) (rv_d (ds_view d) k0 cn sl lo d (n + 1))) rfl ?_
        refine vv_iinc X jd_Sh_recover_213 4 [1, 2, 3, 4, 0] rfl (cn_1 _) (Nat.le_of_ble_eq_true rfl) rfl ?_
        refine vv_goto (tgt := 201) X jd_Sh_recover_216 rfl ?_
        exact ih (by omega) u.1 u.2 hu.1 hu.2
    exact loop 0 (Nat.zero_le _) K F hK hF
  have k182 : ∀ K, sb_Fit K → VV p l e (js_room 5) s m args below meth c D A 5 0 0 Q (sh_w ad cB cI (fm) (op) (nx) (pl) (sf) (di) (K) (F) (fs) (prf (rc_nb (ds_view d)) Nb 52) (prf (rc_ct (ds_view d)) Ct 52) (prf (rc_pt (ds_view d)) Pt 52) (d)) ([(0, .ref (ad 2)), (1, .int (nI kn)), (2, .int (nI lo)), (3, .int (nI kn))]) 182 ([]) := by
    intro K hK
    have loop : ∀ n, n ≤ hi - kn → VV p l e (js_room 5) s m args below meth c D A 5 0 0 Q (sh_w ad cB cI (fm) (op) (nx) (pl) (sf) (di) (K) (F) (fs) (prf (rc_nb (ds_view d)) Nb 52) (prf (rc_ct (ds_view d)) Ct 52) (prf (rc_pt (ds_view d)) Pt 52) (d)) ([(0, .ref (ad 2)), (1, .int (nI kn)), (2, .int (nI lo)), (3, .int (nI (kn + n)))]) 182 ([]) := by
      refine js_up ?_
      intro n hn ih
      refine vv_aload_n X jd_Sh_recover_182 0 rfl rfl ?_
      refine vv_iload_n X jd_Sh_recover_183 3 rfl rfl ?_
      refine vv_iconst X jd_Sh_recover_184 ci_1 ?_
      refine vv_iadd X jd_Sh_recover_185 (nI_add (kn + n) 1) ?_
      refine vv_cVi (As := [.int (nI (kn + n + 1))]) X (jc_isWhole l D cB cI ad fm op nx pl sf di K F fs (prf (rc_nb (ds_view d)) Nb 52) (prf (rc_ct (ds_view d)) Ct 52) (prf (rc_pt (ds_view d)) Pt 52) d (nI (kn + n + 1))) ok_Sh_107 ⟨rfl, rfl, Nat.le_of_ble_eq_true rfl, Nat.le_of_ble_eq_true rfl⟩ jd_Sh_recover_186 0 1 rfl rfl rfl [0, 1, 2, 3, 4, 5, 6, 7, 8, 9, 10] rfl rfl [ad 2, ad 3, ad 4, ad 5, ad 6, ad 7, ad 8, ad 9, ad 10, ad 11, ad 12] (fun _ => rfl) rfl rfl rfl (Nat.le_of_ble_eq_true rfl) ⟨Nat.zero_le _, Nat.zero_le _⟩ (fun r _ hr => ?_)
      refine vv_ws (ws' := sh_w ad cB cI (fm) (op) (nx) (pl) (sf) (di) (K) (F) (fs) (prf (rc_nb (ds_view d)) Nb 52) (prf (rc_ct (ds_view d)) Ct 52) (prf (rc_pt (ds_view d)) Pt 52) (d)) rfl ?_
      rw [whe] at hr
      refine vv_if_eq (tgt := 198) X jd_Sh_recover_189 rfl (fun h => ?_) (fun h => ?_)
      · have e1 : n = hi - kn := Nat.le_antisymm hn (Nat.le_of_not_lt (fun z => hr.elim (fun y => absurd (y.1.symm.trans h) (by decide)) (fun y => y.2 (hw _ (by omega) (by omega)))))
        have k1 := k198 K hK
        rw [show kn + n = hi by omega]
        exact k1
      · have e1 : n < hi - kn := Nat.lt_of_le_of_ne hn (fun z => hr.elim (fun y => hwh (by rw [← show kn + n = hi by omega]; exact y.2)) (fun y => h y.1))
        refine vv_iinc X jd_Sh_recover_192 3 [1, 2, 3, 0] rfl (cn_1 _) (Nat.le_of_ble_eq_true rfl) rfl ?_
        refine vv_goto (tgt := 182) X jd_Sh_recover_195 rfl ?_
        exact ih e1
    exact loop 0 (Nat.zero_le _)
  have k166 : ∀ K, sb_Fit K → VV p l e (js_room 5) s m args below meth c D A 5 0 0 Q (sh_w ad cB cI (fm) (op) (nx) (pl) (sf) (di) (K) (F) (fs) (prf (rc_nb (ds_view d)) Nb 52) (prf (rc_ct (ds_view d)) Ct 52) (prf (rc_pt (ds_view d)) Pt 52) (d)) ([(0, .ref (ad 2)), (1, .int (nI kn)), (2, .int (nI (kn + 1))), (3, .int (nI kn))]) 166 ([]) := by
    intro K hK
    have loop : ∀ n, n ≤ kn + 1 - lo → VV p l e (js_room 5) s m args below meth c D A 5 0 0 Q (sh_w ad cB cI (fm) (op) (nx) (pl) (sf) (di) (K) (F) (fs) (prf (rc_nb (ds_view d)) Nb 52) (prf (rc_ct (ds_view d)) Ct 52) (prf (rc_pt (ds_view d)) Pt 52) (d)) ([(0, .ref (ad 2)), (1, .int (nI kn)), (2, .int (nI (kn + 1 - n))), (3, .int (nI kn))]) 166 ([]) := by
      refine js_up ?_
      intro n hn ih
      refine vv_aload_n X jd_Sh_recover_166 0 rfl rfl ?_
      refine vv_iload_n X jd_Sh_recover_167 2 rfl rfl ?_
      refine vv_iconst X jd_Sh_recover_168 ci_1 ?_
      refine vv_isub X jd_Sh_recover_169 (pk_sub (show 1 ≤ kn + 1 - n by omega)) ?_
      refine vv_cVi (As := [.int (nI (kn + 1 - n - 1))]) X (jc_isWhole l D cB cI ad fm op nx pl sf di K F fs (prf (rc_nb (ds_view d)) Nb 52) (prf (rc_ct (ds_view d)) Ct 52) (prf (rc_pt (ds_view d)) Pt 52) d (nI (kn + 1 - n - 1))) ok_Sh_107 ⟨rfl, rfl, Nat.le_of_ble_eq_true rfl, Nat.le_of_ble_eq_true rfl⟩ jd_Sh_recover_170 0 1 rfl rfl rfl [0, 1, 2, 3, 4, 5, 6, 7, 8, 9, 10] rfl rfl [ad 2, ad 3, ad 4, ad 5, ad 6, ad 7, ad 8, ad 9, ad 10, ad 11, ad 12] (fun _ => rfl) rfl rfl rfl (Nat.le_of_ble_eq_true rfl) ⟨Nat.zero_le _, Nat.zero_le _⟩ (fun r _ hr => ?_)
      refine vv_ws (ws' := sh_w ad cB cI (fm) (op) (nx) (pl) (sf) (di) (K) (F) (fs) (prf (rc_nb (ds_view d)) Nb 52) (prf (rc_ct (ds_view d)) Ct 52) (prf (rc_pt (ds_view d)) Pt 52) (d)) rfl ?_
      rw [whe] at hr
      refine vv_if_eq (tgt := 182) X jd_Sh_recover_173 rfl (fun h => ?_) (fun h => ?_)
      · have e1 : n = kn + 1 - lo := Nat.le_antisymm hn (Nat.le_of_not_lt (fun z => hr.elim (fun y => absurd (y.1.symm.trans h) (by decide)) (fun y => y.2 (hw _ (by omega) (by omega)))))
        have k1 := k182 K hK
        rw [show kn + 1 - n = lo by omega]
        exact k1
      · have e1 : n < kn + 1 - lo := Nat.lt_of_le_of_ne hn (fun z => hr.elim (fun y => hwl (by rw [← show kn + 1 - n = lo by omega]; exact y.2)) (fun y => h y.1))
        refine vv_iinc X jd_Sh_recover_176 2 [1, 2, 0, 3] rfl (show nI (kn + 1 - n) + Int32.ofInt (-1) = nI (kn + 1 - (n + 1)) by rw [show kn + 1 - n = kn + 1 - (n + 1) + 1 by omega]; exact cn_m1 _) (Nat.le_of_ble_eq_true rfl) rfl ?_
        refine vv_goto (tgt := 166) X jd_Sh_recover_179 rfl ?_
        exact ih e1
    exact loop 0 (Nat.zero_le _)
  refine vv_iconst X jd_Sh_recover_0 ci_0 ?_
  refine vv_istore_n X jd_Sh_recover_1 [1, 0] rfl (Nat.le_of_ble_eq_true rfl) rfl ?_
  refine vv_iconst X jd_Sh_recover_2 ci_0 ?_
  refine vv_istore_n X jd_Sh_recover_3 [1, 2, 0] rfl (Nat.le_of_ble_eq_true rfl) rfl ?_
  have loop : ∀ k, k ≤ 52 → ∀ K, sb_Fit K → VV p l e (js_room 5) s m args below meth c D A 5 0 0 Q (sh_w ad cB cI (fm) (op) (nx) (pl) (sf) (di) (K) (F) (fs) (prf (rc_nb (ds_view d)) Nb k) (prf (rc_ct (ds_view d)) Ct k) (prf (rc_pt (ds_view d)) Pt k) (d)) ([(0, .ref (ad 2)), (1, .int (rc_kn (ds_view d) k)), (2, .int (nI k))]) 4 ([]) := by
    refine js_up ?_
    intro k hk ih K hK
    refine vv_iload_n X jd_Sh_recover_4 2 rfl rfl ?_
    refine vv_bipush X jd_Sh_recover_5 cb_52 ?_
    refine vv_icmp_ge (tgt := 160) X jd_Sh_recover_7 rfl (fun h => ?_) (fun h => ?_)
    · have e1 : k = 52 := Nat.le_antisymm hk (nn_le (by omega) (by omega) h)
      subst e1
      rw [hkn]
      refine vv_iload_n X jd_Sh_recover_160 1 rfl rfl ?_
      refine vv_iconst X jd_Sh_recover_161 ci_1 ?_
      refine vv_iadd X jd_Sh_recover_162 (nI_add kn 1) ?_
      refine vv_istore_n X jd_Sh_recover_163 [1, 2, 0] rfl (Nat.le_of_ble_eq_true rfl) rfl ?_
      refine vv_iload_n X jd_Sh_recover_164 1 rfl rfl ?_
      refine vv_istore_n X jd_Sh_recover_165 [1, 2, 3, 0] rfl (Nat.le_of_ble_eq_true rfl) rfl ?_
      exact k166 K hK
    · have e1 : k < 52 := nn_lt (by omega) (by omega) h
      have hKR : ∀ j, j < 512 → dk_rd d.1 d.2.1 d.2.2.1 d.2.2.2 k K j = ds_view d k j := fun j hj2 => dk_rd_at hj2
      have hKf : sb_Fit (dk_rd d.1 d.2.1 d.2.2.1 d.2.2.2 k K) := dk_rd_fit hd.2.2.1 hd.2.2.2 hK
      refine vv_aload_n X jd_Sh_recover_10 0 rfl rfl ?_
      refine gf_Sh_12 X 0 jd_Sh_recover_11 rfl rfl ?_
      refine vv_iload_n X jd_Sh_recover_14 2 rfl rfl ?_
      refine vv_aload_n X jd_Sh_recover_15 0 rfl rfl ?_
      refine gf_Sh_18 X 0 jd_Sh_recover_16 rfl rfl ?_
      refine vv_cVv (As := [.int (nI k), .ref (ad 3)]) X (jc_dread l D cB cI ad d.1 d.2.1 d.2.2.1 d.2.2.2 K k hd.1 hb1 (by omega) hd.2.2.1 hd.2.2.2) ok_Sh_90 ⟨rfl, rfl, Nat.le_of_ble_eq_true rfl, Nat.le_of_ble_eq_true rfl⟩ jd_Sh_recover_19 7 2 rfl rfl rfl [7, 8, 9, 10, 1] rfl rfl [ad 9, ad 10, ad 11, ad 12, ad 3] (fun _ => rfl) rfl rfl rfl (Nat.le_of_ble_eq_true rfl) ⟨Nat.zero_le _, Nat.zero_le _⟩ (fun _ _ => ?_)
      refine vv_ws (ws' := sh_w ad cB cI (fm) (op) (nx) (pl) (sf) (di) (dk_rd d.1 d.2.1 d.2.2.1 d.2.2.2 k K) (F) (fs) (prf (rc_nb (ds_view d)) Nb k) (prf (rc_ct (ds_view d)) Ct k) (prf (rc_pt (ds_view d)) Pt k) (d)) rfl ?_
      generalize hKe : dk_rd d.1 d.2.1 d.2.2.1 d.2.2.2 k K = KR at hKR hKf ⊢
      have g0 : b4_get KR 0 = b4_get (ds_view d k) 0 := b4_get_congr (hKR _ (by omega)) (hKR _ (by omega)) (hKR _ (by omega)) (hKR _ (by omega))
      have g8 : b4_get KR 8 = b4_get (ds_view d k) 8 := b4_get_congr (hKR _ (by omega)) (hKR _ (by omega)) (hKR _ (by omega)) (hKR _ (by omega))
      have g508 : b4_get KR 508 = b4_get (ds_view d k) 508 := b4_get_congr (hKR _ (by omega)) (hKR _ (by omega)) (hKR _ (by omega)) (hKR _ (by omega))
      have h5 : KR 5 = ds_view d k 5 := hKR 5 (by omega)
      have h4 : KR 4 = ds_view d k 4 := hKR 4 (by omega)
      refine vv_aload_n X jd_Sh_recover_22 0 rfl rfl ?_
      refine gf_Sh_18 X 0 jd_Sh_recover_23 rfl rfl ?_
      refine vv_iconst X jd_Sh_recover_26 ci_0 ?_
      refine vv_cNi (As := [.ref (ad 3), .int (nI 0)]) X (jc_get4 l D cB cI (ad 3) 512 KR 0 (by omega) (by decide)) ok_Sh_93 ⟨rfl, rfl, Nat.le_of_ble_eq_true rfl, Nat.le_of_ble_eq_true rfl⟩ jd_Sh_recover_27 [1] rfl rfl [ad 3] (fun _ => rfl) rfl rfl rfl (Nat.le_of_ble_eq_true rfl) ⟨Nat.zero_le _, Nat.zero_le _⟩ (fun r0 _ e0 => ?_)
      refine vv_ws (ws' := sh_w ad cB cI (fm) (op) (nx) (pl) (sf) (di) (KR) (F) (fs) (prf (rc_nb (ds_view d)) Nb k) (prf (rc_ct (ds_view d)) Ct k) (prf (rc_pt (ds_view d)) Pt k) (d)) rfl ?_
      subst e0
      refine vv_istore_n X jd_Sh_recover_30 [1, 2, 3, 0] rfl (Nat.le_of_ble_eq_true rfl) rfl ?_
      have k132 : ∀ z, z = 0 ∨ z = 1 → (z = 1 ↔ rc_s (ds_view d k)) → VV p l e (js_room 5) s m args below meth c D A 5 0 0 Q (sh_w ad cB cI (fm) (op) (nx) (pl) (sf) (di) (KR) (F) (fs) (prf (rc_nb (ds_view d)) Nb (k + 1)) (prf (rc_ct (ds_view d)) Ct (k + 1)) (prf (rc_pt (ds_view d)) Pt (k + 1)) (d)) ([(0, .ref (ad 2)), (1, .int (rc_kn (ds_view d) k)), (2, .int (nI k)), (3, .int (b4_get KR 0)), (4, .int z)]) 132 ([]) := by
        intro z hz hzs
        have i1 := ih e1 KR hKf
        refine vv_iload X jd_Sh_recover_132 4 rfl ?_
        refine vv_if_ne (tgt := 140) X jd_Sh_recover_134 rfl (fun y => ?_) (fun y => ?_)
        · have z1 : rc_s (ds_view d k) := hzs.mp (hz.resolve_left y)
          rw [rc_kn_t z1] at i1
          refine vv_iload_n X jd_Sh_recover_140 1 rfl rfl ?_
          refine vv_aload_n X jd_Sh_recover_141 0 rfl rfl ?_
          refine gf_Sh_18 X 0 jd_Sh_recover_142 rfl rfl ?_
          refine vv_bipush X jd_Sh_recover_145 cb_8 ?_
          refine vv_cNi (As := [.ref (ad 3), .int (nI 8)]) X (jc_get4 l D cB cI (ad 3) 512 KR 8 (by omega) (by decide)) ok_Sh_93 ⟨rfl, rfl, Nat.le_of_ble_eq_true rfl, Nat.le_of_ble_eq_true rfl⟩ jd_Sh_recover_147 [1] rfl rfl [ad 3] (fun _ => rfl) rfl rfl rfl (Nat.le_of_ble_eq_true rfl) ⟨Nat.zero_le _, Nat.zero_le _⟩ (fun r8 _ e8 => ?_)
          refine vv_ws (ws' := sh_w ad cB cI (fm) (op) (nx) (pl) (sf) (di) (KR) (F) (fs) (prf (rc_nb (ds_view d)) Nb (k + 1)) (prf (rc_ct (ds_view d)) Ct (k + 1)) (prf (rc_pt (ds_view d)) Pt (k + 1)) (d)) rfl ?_
          subst e8
          rw [g8]
          refine vv_max X jk_193 jd_Sh_recover_150 rfl (Nat.le_of_ble_eq_true rfl) (Nat.le_of_ble_eq_true rfl) (Nat.le_of_ble_eq_true rfl) (Nat.zero_le _) (Nat.zero_le _) ?_
          refine vv_istore_n X jd_Sh_recover_153 [1, 0, 2, 3, 4] rfl (Nat.le_of_ble_eq_true rfl) rfl ?_
          refine vv_iinc X jd_Sh_recover_154 2 [1, 2, 0, 3, 4] rfl (cn_1 k) (Nat.le_of_ble_eq_true rfl) rfl ?_
          refine vv_goto (tgt := 4) X jd_Sh_recover_157 rfl ?_
          refine vv_lv [0, 1, 2] rfl ?_
          exact i1
        · have z1 : ¬ rc_s (ds_view d k) := fun q => absurd (y.symm.trans (hzs.mpr q)) (by decide)
          rw [rc_kn_f z1] at i1
          refine vv_goto (tgt := 154) X jd_Sh_recover_137 rfl ?_
          refine vv_iinc X jd_Sh_recover_154 2 [1, 2, 0, 3, 4] rfl (cn_1 k) (Nat.le_of_ble_eq_true rfl) rfl ?_
          refine vv_goto (tgt := 4) X jd_Sh_recover_157 rfl ?_
          refine vv_lv [0, 1, 2] rfl ?_
          exact i1
      have k90 : ∀ z, z = nI 0 ∨ z = nI 1 → (z = nI 1 ↔ rc_s (ds_view d k)) → VV p l e (js_room 5) s m args below meth c D A 5 0 0 Q (sh_w ad cB cI (fm) (op) (nx) (pl) (sf) (di) (KR) (F) (fs) (prf (rc_nb (ds_view d)) Nb k) (prf (rc_ct (ds_view d)) Ct k) (prf (rc_pt (ds_view d)) Pt k) (d)) ([(0, .ref (ad 2)), (1, .int (rc_kn (ds_view d) k)), (2, .int (nI k)), (3, .int (b4_get KR 0))]) 90 ([.int z]) := by
        intro z hz hzs
        refine vv_istore X jd_Sh_recover_90 [1, 2, 3, 4, 0] (Nat.le_of_ble_eq_true rfl) rfl ?_
        refine vv_aload_n X jd_Sh_recover_92 0 rfl rfl ?_
        refine gf_Sh_33 X 0 jd_Sh_recover_93 rfl rfl ?_
        refine vv_iload_n X jd_Sh_recover_96 2 rfl rfl ?_
        refine vv_iload X jd_Sh_recover_97 4 rfl ?_
        refine vv_if_eq (tgt := 106) X jd_Sh_recover_99 rfl (fun y => ?_) (fun y => ?_)
        · have z1 : ¬ rc_s (ds_view d k) := fun q => absurd (y.symm.trans (hzs.mpr q)) (by decide)
          refine vv_iconst (v := 0) X jd_Sh_recover_106 (by decide +kernel) ?_
          refine vv_iast (ws' := sh_w ad cB cI (fm) (op) (nx) (pl) (sf) (di) (KR) (F) (fs) (prf (rc_nb (ds_view d)) Nb (k + 1)) (prf (rc_ct (ds_view d)) Ct k) (prf (rc_pt (ds_view d)) Pt k) (d)) X 4 jd_Sh_recover_107 rfl (k) rfl e1 (by decide) (by rw [← prf_s, rc_nb_f z1]; rfl) ?_
          refine vv_aload_n X jd_Sh_recover_108 0 rfl rfl ?_
          refine gf_Sh_36 X 0 jd_Sh_recover_109 rfl rfl ?_
          refine vv_iload_n X jd_Sh_recover_112 2 rfl rfl ?_
          refine vv_aload_n X jd_Sh_recover_113 0 rfl rfl ?_
          refine gf_Sh_18 X 0 jd_Sh_recover_114 rfl rfl ?_
          refine vv_iconst X jd_Sh_recover_117 ci_5 ?_
          refine vv_bald X 1 jd_Sh_recover_118 rfl (5) rfl (by omega) (by decide) h5 ?_
          refine vv_iast (ws' := sh_w ad cB cI (fm) (op) (nx) (pl) (sf) (di) (KR) (F) (fs) (prf (rc_nb (ds_view d)) Nb (k + 1)) (prf (rc_ct (ds_view d)) Ct (k + 1)) (prf (rc_pt (ds_view d)) Pt k) (d)) X 5 jd_Sh_recover_119 rfl (k) rfl e1 (by decide) (by rw [← prf_s (rc_ct (ds_view d))]; rfl) ?_
          refine vv_aload_n X jd_Sh_recover_120 0 rfl rfl ?_
          refine gf_Sh_39 X 0 jd_Sh_recover_121 rfl rfl ?_
          refine vv_iload_n X jd_Sh_recover_124 2 rfl rfl ?_
          refine vv_aload_n X jd_Sh_recover_125 0 rfl rfl ?_
          refine gf_Sh_18 X 0 jd_Sh_recover_126 rfl rfl ?_
          refine vv_iconst X jd_Sh_recover_129 ci_4 ?_
          refine vv_bald X 1 jd_Sh_recover_130 rfl (4) rfl (by omega) (by decide) h4 ?_
          refine vv_iast (ws' := sh_w ad cB cI (fm) (op) (nx) (pl) (sf) (di) (KR) (F) (fs) (prf (rc_nb (ds_view d)) Nb (k + 1)) (prf (rc_ct (ds_view d)) Ct (k + 1)) (prf (rc_pt (ds_view d)) Pt (k + 1)) (d)) X 6 jd_Sh_recover_131 rfl (k) rfl e1 (by decide) (by rw [← prf_s (rc_pt (ds_view d))]; rfl) ?_
          exact k132 z hz hzs
        · have z1 : rc_s (ds_view d k) := hzs.mp (hz.resolve_left y)
          refine vv_iload_n X jd_Sh_recover_102 3 rfl rfl ?_
          refine vv_goto (tgt := 107) X jd_Sh_recover_103 rfl ?_
          refine vv_iast (ws' := sh_w ad cB cI (fm) (op) (nx) (pl) (sf) (di) (KR) (F) (fs) (prf (rc_nb (ds_view d)) Nb (k + 1)) (prf (rc_ct (ds_view d)) Ct k) (prf (rc_pt (ds_view d)) Pt k) (d)) X 4 jd_Sh_recover_107 rfl (k) rfl e1 (by decide) (by rw [← prf_s, rc_nb_t z1, ← g0]; rfl) ?_
          refine vv_aload_n X jd_Sh_recover_108 0 rfl rfl ?_
          refine gf_Sh_36 X 0 jd_Sh_recover_109 rfl rfl ?_
          refine vv_iload_n X jd_Sh_recover_112 2 rfl rfl ?_
          refine vv_aload_n X jd_Sh_recover_113 0 rfl rfl ?_
          refine gf_Sh_18 X 0 jd_Sh_recover_114 rfl rfl ?_
          refine vv_iconst X jd_Sh_recover_117 ci_5 ?_
          refine vv_bald X 1 jd_Sh_recover_118 rfl (5) rfl (by omega) (by decide) h5 ?_
          refine vv_iast (ws' := sh_w ad cB cI (fm) (op) (nx) (pl) (sf) (di) (KR) (F) (fs) (prf (rc_nb (ds_view d)) Nb (k + 1)) (prf (rc_ct (ds_view d)) Ct (k + 1)) (prf (rc_pt (ds_view d)) Pt k) (d)) X 5 jd_Sh_recover_119 rfl (k) rfl e1 (by decide) (by rw [← prf_s (rc_ct (ds_view d))]; rfl) ?_
          refine vv_aload_n X jd_Sh_recover_120 0 rfl rfl ?_
          refine gf_Sh_39 X 0 jd_Sh_recover_121 rfl rfl ?_
          refine vv_iload_n X jd_Sh_recover_124 2 rfl rfl ?_
          refine vv_aload_n X jd_Sh_recover_125 0 rfl rfl ?_
          refine gf_Sh_18 X 0 jd_Sh_recover_126 rfl rfl ?_
          refine vv_iconst X jd_Sh_recover_129 ci_4 ?_
          refine vv_bald X 1 jd_Sh_recover_130 rfl (4) rfl (by omega) (by decide) h4 ?_
          refine vv_iast (ws' := sh_w ad cB cI (fm) (op) (nx) (pl) (sf) (di) (KR) (F) (fs) (prf (rc_nb (ds_view d)) Nb (k + 1)) (prf (rc_ct (ds_view d)) Ct (k + 1)) (prf (rc_pt (ds_view d)) Pt (k + 1)) (d)) X 6 jd_Sh_recover_131 rfl (k) rfl e1 (by decide) (by rw [← prf_s (rc_pt (ds_view d))]; rfl) ?_
          exact k132 z hz hzs
      have k89 : ¬ rc_s (ds_view d k) → VV p l e (js_room 5) s m args below meth c D A 5 0 0 Q (sh_w ad cB cI (fm) (op) (nx) (pl) (sf) (di) (KR) (F) (fs) (prf (rc_nb (ds_view d)) Nb k) (prf (rc_ct (ds_view d)) Ct k) (prf (rc_pt (ds_view d)) Pt k) (d)) ([(0, .ref (ad 2)), (1, .int (rc_kn (ds_view d) k)), (2, .int (nI k)), (3, .int (b4_get KR 0))]) 89 ([]) := by
        intro z1
        refine vv_iconst X jd_Sh_recover_89 ci_0 ?_
        exact k90 (nI 0) (Or.inl rfl) ⟨fun q => absurd q (by decide +kernel), fun q => absurd q z1⟩
      refine vv_iload_n X jd_Sh_recover_31 3 rfl rfl ?_
      refine vv_if_le (tgt := 89) X jd_Sh_recover_32 rfl (fun q1 => ?_) (fun q1 => ?_)
      · exact k89 (fun z => absurd z.1 (by rw [← g0]; exact Int32.not_lt.mpr q1))
      · refine vv_iload_n X jd_Sh_recover_35 3 rfl rfl ?_
        refine vv_aload_n X jd_Sh_recover_36 0 rfl rfl ?_
        refine gf_Sh_18 X 0 jd_Sh_recover_37 rfl rfl ?_
        refine vv_sipush X jd_Sh_recover_40 cs_508 ?_
        refine vv_cNi (As := [.ref (ad 3), .int (nI 508)]) X (jc_get4 l D cB cI (ad 3) 512 KR 508 (by omega) (by decide)) ok_Sh_93 ⟨rfl, rfl, Nat.le_of_ble_eq_true rfl, Nat.le_of_ble_eq_true rfl⟩ jd_Sh_recover_43 [1] rfl rfl [ad 3] (fun _ => rfl) rfl rfl rfl (Nat.le_of_ble_eq_true rfl) ⟨Nat.zero_le _, Nat.zero_le _⟩ (fun r508 _ e508 => ?_)
        refine vv_ws (ws' := sh_w ad cB cI (fm) (op) (nx) (pl) (sf) (di) (KR) (F) (fs) (prf (rc_nb (ds_view d)) Nb k) (prf (rc_ct (ds_view d)) Ct k) (prf (rc_pt (ds_view d)) Pt k) (d)) rfl ?_
        subst e508
        refine vv_icmp_ne (tgt := 89) X jd_Sh_recover_46 rfl (fun q2 => ?_) (fun q2 => ?_)
        · exact k89 (fun z => q2 (by rw [g0, g508]; exact z.2.1))
        · refine vv_aload_n X jd_Sh_recover_49 0 rfl rfl ?_
          refine gf_Sh_18 X 0 jd_Sh_recover_50 rfl rfl ?_
          refine vv_iconst X jd_Sh_recover_53 ci_5 ?_
          refine vv_bald X 1 jd_Sh_recover_54 rfl (5) rfl (by omega) (by decide) h5 ?_
          refine vv_iconst X jd_Sh_recover_55 ci_1 ?_
          refine vv_bipush X jd_Sh_recover_56 cb_17 ?_
          refine vv_cNi (As := [.int (ds_view d k 5), .int (nI 1), .int (nI 17)]) X (jc_in l D cB cI (ds_view d k 5) (nI 1) (nI 17)) ok_Sh_97 ⟨rfl, rfl, Nat.le_of_ble_eq_true rfl, Nat.le_of_ble_eq_true rfl⟩ jd_Sh_recover_58 [] rfl rfl [] (fun _ => rfl) rfl rfl rfl (Nat.le_of_ble_eq_true rfl) ⟨Nat.zero_le _, Nat.zero_le _⟩ (fun ra _ era => ?_)
          refine vv_ws (ws' := sh_w ad cB cI (fm) (op) (nx) (pl) (sf) (di) (KR) (F) (fs) (prf (rc_nb (ds_view d)) Nb k) (prf (rc_ct (ds_view d)) Ct k) (prf (rc_pt (ds_view d)) Pt k) (d)) rfl ?_
          subst era
          refine vv_if_eq (tgt := 89) X jd_Sh_recover_61 rfl (fun q3 => ?_) (fun q3 => ?_)
          · exact k89 (fun z => by rw [if_pos z.2.2.1] at q3; exact absurd q3 (by decide))
          · have q4 : nI 1 ≤ ds_view d k 5 ∧ ds_view d k 5 ≤ nI 17 := by
              by_cases z : nI 1 ≤ ds_view d k 5 ∧ ds_view d k 5 ≤ nI 17
              · exact z
              · rw [if_neg z] at q3; exact absurd rfl q3
            refine vv_aload_n X jd_Sh_recover_64 0 rfl rfl ?_
            refine gf_Sh_18 X 0 jd_Sh_recover_65 rfl rfl ?_
            refine vv_iconst X jd_Sh_recover_68 ci_4 ?_
            refine vv_bald X 1 jd_Sh_recover_69 rfl (4) rfl (by omega) (by decide) h4 ?_
            refine vv_iconst X jd_Sh_recover_70 ci_0 ?_
            refine vv_aload_n X jd_Sh_recover_71 0 rfl rfl ?_
            refine gf_Sh_18 X 0 jd_Sh_recover_72 rfl rfl ?_
            refine vv_iconst X jd_Sh_recover_75 ci_5 ?_
            refine vv_bald X 1 jd_Sh_recover_76 rfl (5) rfl (by omega) (by decide) h5 ?_
            refine vv_iconst X jd_Sh_recover_77 ci_1 ?_
            refine vv_isub X jd_Sh_recover_78 rfl ?_
            refine vv_cNi (As := [.int (ds_view d k 4), .int (nI 0), .int (ds_view d k 5 - nI 1)]) X (jc_in l D cB cI (ds_view d k 4) (nI 0) (ds_view d k 5 - nI 1)) ok_Sh_97 ⟨rfl, rfl, Nat.le_of_ble_eq_true rfl, Nat.le_of_ble_eq_true rfl⟩ jd_Sh_recover_79 [] rfl rfl [] (fun _ => rfl) rfl rfl rfl (Nat.le_of_ble_eq_true rfl) ⟨Nat.zero_le _, Nat.zero_le _⟩ (fun rb _ erb => ?_)
            refine vv_ws (ws' := sh_w ad cB cI (fm) (op) (nx) (pl) (sf) (di) (KR) (F) (fs) (prf (rc_nb (ds_view d)) Nb k) (prf (rc_ct (ds_view d)) Ct k) (prf (rc_pt (ds_view d)) Pt k) (d)) rfl ?_
            subst erb
            refine vv_if_eq (tgt := 89) X jd_Sh_recover_82 rfl (fun q5 => ?_) (fun q5 => ?_)
            · exact k89 (fun z => by rw [if_pos z.2.2.2] at q5; exact absurd q5 (by decide))
            · have q6 : nI 0 ≤ ds_view d k 4 ∧ ds_view d k 4 ≤ ds_view d k 5 - nI 1 := by
                by_cases z : nI 0 ≤ ds_view d k 4 ∧ ds_view d k 4 ≤ ds_view d k 5 - nI 1
                · exact z
                · rw [if_neg z] at q5; exact absurd rfl q5
              refine vv_iconst X jd_Sh_recover_85 ci_1 ?_
              refine vv_goto (tgt := 90) X jd_Sh_recover_86 rfl ?_
              refine k90 (nI 1) (Or.inr rfl) ⟨fun _ => ⟨?_, ?_, q4, q6⟩, fun _ => rfl⟩
              · rw [← g0]; exact Int32.not_le.mp q1
              · rw [← g0, ← g508]; exact q2
  have l0 := loop 0 (Nat.zero_le _) K hK
  rw [prf_0, prf_0, prf_0] at l0
  exact l0
end
section
/-- all cells of a JournalShelf: its object, image; the shelf's; the disk's -/
abbrev js_w (ad : Nat → Nat) (cB cI : ClassId) (ch fl cr : Nat) (I : Nat → Int32) (fm op nx pl sf : Nat) (di : Int32) (K F : Nat → Int32) (fs : Nat → Nat) (Nb Ct Pt : Nat → Int32) (d : DS) : va_W := [(ad 0, .inr (0, [.ref (ad 2), .ref (ad 1), .int (nI ch), .int (nI fl), .int (nI cr)])), (ad 1, .inl (cB, 496, .inl I)), (ad 2, .inr (1, [.ref (ad 9), .ref (ad 3), .ref (ad 4), .ref (ad 5), .int (nI fm), .int (nI op), .int (nI nx), .int (nI pl), .int (nI sf), .int di, .ref (ad 6), .ref (ad 7), .ref (ad 8)])), (ad 3, .inl (cB, 512, .inl K)), (ad 4, .inl (cB, 11904, .inl F)), (ad 5, .inl (cI, 24, .inl (nF fs))), (ad 6, .inl (cI, 52, .inl Nb)), (ad 7, .inl (cI, 52, .inl Ct)), (ad 8, .inl (cI, 52, .inl Pt)), (ad 9, .inr (2, [.ref (ad 10), .ref (ad 11), .ref (ad 12), .int (nI d.2.2.2)])), (ad 10, .inl (cB, 135168, .inl d.1)), (ad 11, .inl (cB, 24576, .inl d.2.1)), (ad 12, .inl (cI, 48, .inl (nF d.2.2.1)))]
/-- an image made of v: its first n numbers, over Z -/
def igv (v : Int32) (Z : Nat → Int32) : Nat → Nat → Int32
  | 0 => b4_fill Z (nI 0) 496
  | n + 1 => b4_put (igv v Z n) (4 * n) (v + nI (4 * n))
def imgv (v : Int32) : Nat → Int32 := igv v (fun _ => 0) 124
theorem igv_fit {v : Int32} {Z : Nat → Int32} (h : sb_Fit Z) : ∀ n, sb_Fit (igv v Z n)
  | 0 => b4_fill_fit h _
  | n + 1 => b4_put_fit (igv_fit h n)
theorem imgv_fit (v : Int32) : sb_Fit (imgv v) := igv_fit sb_fit0 124
theorem igv_congr {v : Int32} {Z Y : Nat → Int32} : ∀ n, ∀ j, j < 496 → igv v Z n j = igv v Y n j
  | 0, j, hj => by simp only [igv, b4_fill, if_pos hj]
  | n + 1, j, hj => by
    simp only [igv]
    by_cases h : 4 * n ≤ j ∧ j < 4 * n + 4
    · exact b4_put_in h.1 h.2
    · rw [b4_put_out (by omega), b4_put_out (by omega)]
      exact igv_congr n j hj
theorem cpy_congr {f g h : Nat → Int32} {k n : Nat} (hh : ∀ j, j < n → f j = g j) : va_cpy f h 0 k n = va_cpy g h 0 k n := by
  funext j
  simp only [va_cpy]
  split
  · exact hh _ (by omega)
  · rfl
theorem igv_cpy {v : Int32} {Z h : Nat → Int32} {k : Nat} : va_cpy (imgv v) h 0 k 496 = va_cpy (igv v Z 124) h 0 k 496 := cpy_congr (igv_congr 124)
set_option maxRecDepth 100000 in
theorem jc_change_ref (l : Launch) (D : va_G) (cB cI : ClassId) (ad : Nat → Nat) (ch fl cr : Nat) (I : Nat → Int32) (fm op nx pl sf : Nat) (di : Int32) (K F : Nat → Int32) (fs : Nat → Nat) (Nb Ct Pt : Nat → Int32) (d : DS) (a v : Int32) (ha : ¬ (nI 0 ≤ a ∧ a ≤ nI 211)) : MetI l jy_JS_change jb_JS_change 4 6 .int D cB cI (js_w ad cB cI (ch) (fl) (cr) (I) (fm) (op) (nx) (pl) (sf) (di) (K) (F) (fs) (Nb) (Ct) (Pt) (d)) ([.ref (ad 0), .int a, .int v]) (fun (r : Int32) (_ : Unit) => r = -1) (fun _ => js_w ad cB cI (ch) (fl) (cr) (I) (fm) (op) (nx) (pl) (sf) (di) (K) (F) (fs) (Nb) (Ct) (Pt) (d)) := by
  refine MetI.of (lv0 := [(0, .ref (ad 0)), (1, .int a), (2, .int v)]) "JournalShelf" rfl (by decide +kernel) (Nat.le_of_ble_eq_true rfl) rfl ?_
  intro p e s m args below meth c A Q X ret
  refine vv_iload_n X jd_JS_change_0 1 rfl rfl ?_
  refine vv_iconst X jd_JS_change_1 ci_0 ?_
  refine vv_sipush X jd_JS_change_2 cs_211 ?_
  refine vv_cSi (As := [.int (a), .int (nI 0), .int (nI 211)]) X (jc_in l D cB cI (a) (nI 0) (nI 211)) ok_JS_20 ⟨rfl, rfl, Nat.le_of_ble_eq_true rfl, Nat.le_of_ble_eq_true rfl⟩ jd_JS_change_5 [] rfl rfl [] (fun _ => rfl) rfl rfl rfl (Nat.le_of_ble_eq_true rfl) ⟨Nat.zero_le _, Nat.zero_le _⟩ (fun ra _ era => ?_)
  refine vv_ws (ws' := js_w ad cB cI (ch) (fl) (cr) (I) (fm) (op) (nx) (pl) (sf) (di) (K) (F) (fs) (Nb) (Ct) (Pt) (d)) rfl ?_
  rw [if_neg ha] at era
  subst era
  refine vv_if_ne (tgt := 13) X jd_JS_change_8 rfl (fun h => absurd rfl h) (fun h => ?_)
  refine vv_iconst X jd_JS_change_11 ci_m1 ?_
  exact ret _ _ 12 _ () jd_JS_change_12 rfl rfl
set_option maxRecDepth 100000 in
theorem jc_change_full (l : Launch) (D : va_G) (cB cI : ClassId) (ad : Nat → Nat) (ch fl cr : Nat) (I : Nat → Int32) (fm op nx pl sf : Nat) (di : Int32) (K F : Nat → Int32) (fs : Nat → Nat) (Nb Ct Pt : Nat → Int32) (d : DS) (x : Nat) (v : Int32) (hx : x < 212) (h17 : ch = 17) : MetI l jy_JS_change jb_JS_change 4 6 .int D cB cI (js_w ad cB cI (ch) (fl) (cr) (I) (fm) (op) (nx) (pl) (sf) (di) (K) (F) (fs) (Nb) (Ct) (Pt) (d)) ([.ref (ad 0), .int (nI x), .int v]) (fun (r : Int32) (_ : Unit) => r = -2) (fun _ => js_w ad cB cI (ch) (fl) (cr) (I) (fm) (op) (nx) (pl) (sf) (di) (K) (F) (fs) (Nb) (Ct) (Pt) (d)) := by
  refine MetI.of (lv0 := [(0, .ref (ad 0)), (1, .int (nI x)), (2, .int v)]) "JournalShelf" rfl (by decide +kernel) (Nat.le_of_ble_eq_true rfl) rfl ?_
  intro p e s m args below meth c A Q X ret
  refine vv_iload_n X jd_JS_change_0 1 rfl rfl ?_
  refine vv_iconst X jd_JS_change_1 ci_0 ?_
  refine vv_sipush X jd_JS_change_2 cs_211 ?_
  refine vv_cSi (As := [.int (nI x), .int (nI 0), .int (nI 211)]) X (jc_in l D cB cI (nI x) (nI 0) (nI 211)) ok_JS_20 ⟨rfl, rfl, Nat.le_of_ble_eq_true rfl, Nat.le_of_ble_eq_true rfl⟩ jd_JS_change_5 [] rfl rfl [] (fun _ => rfl) rfl rfl rfl (Nat.le_of_ble_eq_true rfl) ⟨Nat.zero_le _, Nat.zero_le _⟩ (fun ra _ era => ?_)
  refine vv_ws (ws' := js_w ad cB cI (ch) (fl) (cr) (I) (fm) (op) (nx) (pl) (sf) (di) (K) (F) (fs) (Nb) (Ct) (Pt) (d)) rfl ?_
  rw [if_pos ⟨nI_le (Nat.zero_le _) (by omega), nI_le (by omega) (by omega)⟩] at era
  subst era
  refine vv_if_ne (tgt := 13) X jd_JS_change_8 rfl (fun h => ?_) (fun h => absurd h (show ¬ (1 : Int32) = 0 by decide))
  refine vv_aload_n X jd_JS_change_13 0 rfl rfl ?_
  refine gf_JS_24 X 0 jd_JS_change_14 rfl rfl ?_
  refine vv_bipush X jd_JS_change_17 cb_17 ?_
  refine vv_icmp_ne (tgt := 25) X jd_JS_change_19 rfl (fun h => absurd (congrArg nI h17) h) (fun h => ?_)
  refine vv_bipush X jd_JS_change_22 cb_m2 ?_
  exact ret _ _ 24 _ () jd_JS_change_24 rfl rfl
set_option maxRecDepth 100000 in
/-- another change of a deed -/
theorem jc_change_more (l : Launch) (D : va_G) (cB cI : ClassId) (ad : Nat → Nat) (ch fl cr : Nat) (I : Nat → Int32) (fm op nx pl sf : Nat) (di : Int32) (K F : Nat → Int32) (fs : Nat → Nat) (Nb Ct Pt : Nat → Int32) (d : DS) (x : Nat) (v : Int32) (hx : x < 212) (h0 : 0 < ch) (h17 : ch < 17) (h24 : fm + op < 24) (hI : sb_Fit I) : MetI l jy_JS_change jb_JS_change 4 6 .int D cB cI (js_w ad cB cI (ch) (fl) (cr) (I) (fm) (op) (nx) (pl) (sf) (di) (K) (F) (fs) (Nb) (Ct) (Pt) (d)) ([.ref (ad 0), .int (nI x), .int v]) (fun (r : Int32) (u : Nat → Int32) => r = nI (ch + 1) ∧ sb_Fit u) (fun u => js_w ad cB cI (ch + 1) (fl) (cr) (u) (fm) (op + 1) (nx) (pl) (sf) (di) (K) (va_cpy (imgv v) (F) 0 (496 * (fm + op)) 496) (uN_ (fs) (fm + op) x) (Nb) (Ct) (Pt) (d)) := by
  refine MetI.of (lv0 := [(0, .ref (ad 0)), (1, .int (nI x)), (2, .int v)]) "JournalShelf" rfl (by decide +kernel) (Nat.le_of_ble_eq_true rfl) rfl ?_
  intro p e s m args below meth c A Q X ret
  refine vv_iload_n X jd_JS_change_0 1 rfl rfl ?_
  refine vv_iconst X jd_JS_change_1 ci_0 ?_
  refine vv_sipush X jd_JS_change_2 cs_211 ?_
  refine vv_cSi (As := [.int (nI x), .int (nI 0), .int (nI 211)]) X (jc_in l D cB cI (nI x) (nI 0) (nI 211)) ok_JS_20 ⟨rfl, rfl, Nat.le_of_ble_eq_true rfl, Nat.le_of_ble_eq_true rfl⟩ jd_JS_change_5 [] rfl rfl [] (fun _ => rfl) rfl rfl rfl (Nat.le_of_ble_eq_true rfl) ⟨Nat.zero_le _, Nat.zero_le _⟩ (fun ra _ era => ?_)
  refine vv_ws (ws' := js_w ad cB cI (ch) (fl) (cr) (I) (fm) (op) (nx) (pl) (sf) (di) (K) (F) (fs) (Nb) (Ct) (Pt) (d)) rfl ?_
  rw [if_pos ⟨nI_le (Nat.zero_le _) (by omega), nI_le (by omega) (by omega)⟩] at era
  subst era
  refine vv_if_ne (tgt := 13) X jd_JS_change_8 rfl (fun h => ?_) (fun h => absurd h (show ¬ (1 : Int32) = 0 by decide))
  refine vv_aload_n X jd_JS_change_13 0 rfl rfl ?_
  refine gf_JS_24 X 0 jd_JS_change_14 rfl rfl ?_
  refine vv_bipush X jd_JS_change_17 cb_17 ?_
  refine vv_icmp_ne (tgt := 25) X jd_JS_change_19 rfl (fun h => ?_) (fun h => absurd h (show ¬ nI ch = nI 17 from fun z => absurd ((nI_eq (by omega) (by omega)).mp z) (by omega)))
  refine vv_aload_n X jd_JS_change_25 0 rfl rfl ?_
  refine gf_JS_24 X 0 jd_JS_change_26 rfl rfl ?_
  refine vv_if_ne (tgt := 64) X jd_JS_change_29 rfl (fun h => ?_) (fun h => absurd h (nI_ne0 h0 (by omega)))
  refine vv_aload_n X jd_JS_change_64 0 rfl rfl ?_
  refine gf_JS_16 X 0 jd_JS_change_65 rfl rfl ?_
  refine vv_iconst X jd_JS_change_68 ci_0 ?_
  refine vv_cSv (As := [.ref (ad 1), .int (nI 0)]) X (jc_fill l D cB cI (ad 1) 496 I (nI 0) (by decide)) ok_JS_37 ⟨rfl, rfl, Nat.le_of_ble_eq_true rfl, Nat.le_of_ble_eq_true rfl⟩ jd_JS_change_69 [1] rfl rfl [ad 1] (fun _ => rfl) rfl rfl rfl (Nat.le_of_ble_eq_true rfl) ⟨Nat.zero_le _, Nat.zero_le _⟩ (fun _ _ => ?_)
  refine vv_ws (ws' := js_w ad cB cI (ch) (fl) (cr) (igv v I 0) (fm) (op) (nx) (pl) (sf) (di) (K) (F) (fs) (Nb) (Ct) (Pt) (d)) rfl ?_
  refine vv_iconst X jd_JS_change_72 ci_0 ?_
  refine vv_istore_n X jd_JS_change_73 [1, 2, 3, 0] rfl (Nat.le_of_ble_eq_true rfl) rfl ?_
  have loop : ∀ n, n ≤ 124 → VV p l e (js_room 6) s m args below meth c D A 4 0 0 Q (js_w ad cB cI (ch) (fl) (cr) (igv v I n) (fm) (op) (nx) (pl) (sf) (di) (K) (F) (fs) (Nb) (Ct) (Pt) (d)) ([(0, .ref (ad 0)), (1, .int (nI x)), (2, .int v), (3, .int (nI (4 * n)))]) 74 ([]) := by
    refine js_up ?_
    intro n hn ih
    have hIf : sb_Fit (igv v I n) := igv_fit hI n
    refine vv_iload_n X jd_JS_change_74 3 rfl rfl ?_
    refine vv_sipush X jd_JS_change_75 cs_496 ?_
    refine vv_icmp_ge (tgt := 98) X jd_JS_change_78 rfl (fun h9 => ?_) (fun h9 => ?_)
    · have e9 : n = 124 := by have := nn_le (by omega) (by omega) h9; omega
      subst e9
      refine vv_aload_n X jd_JS_change_98 0 rfl rfl ?_
      refine gf_JS_10 X 0 jd_JS_change_99 rfl rfl ?_
      refine vv_iload_n X jd_JS_change_102 1 rfl rfl ?_
      refine vv_aload_n X jd_JS_change_103 0 rfl rfl ?_
      refine gf_JS_16 X 0 jd_JS_change_104 rfl rfl ?_
      refine vv_cVv (As := [.int (nI x), .ref (ad 1)]) X (jc_stage l D cB cI ad (fm) (op) (nx) (pl) (sf) (di) (K) (F) (fs) (Nb) (Ct) (Pt) (d) (igv v I 124) x h24 hIf) ok_JS_47 ⟨rfl, rfl, Nat.le_of_ble_eq_true rfl, Nat.le_of_ble_eq_true rfl⟩ jd_JS_change_107 2 1 rfl rfl rfl [2, 3, 4, 5, 6, 7, 8, 9, 10, 11, 12, 1] rfl rfl [ad 2, ad 3, ad 4, ad 5, ad 6, ad 7, ad 8, ad 9, ad 10, ad 11, ad 12, ad 1] (fun _ => rfl) rfl rfl rfl (Nat.le_of_ble_eq_true rfl) ⟨Nat.zero_le _, Nat.zero_le _⟩ (fun _ _ => ?_)
      refine vv_ws (ws' := js_w ad cB cI (ch) (fl) (cr) (igv v I 124) (fm) (op + 1) (nx) (pl) (sf) (di) (K) (va_cpy (imgv v) (F) 0 (496 * (fm + op)) 496) (uN_ (fs) (fm + op) x) (Nb) (Ct) (Pt) (d)) (by rw [igv_cpy (Z := I)]; rfl) ?_
      refine vv_aload_n X jd_JS_change_110 0 rfl rfl ?_
      refine vv_dup X jd_JS_change_111 rfl ?_
      refine gf_JS_24 X 0 jd_JS_change_112 rfl rfl ?_
      refine vv_iconst X jd_JS_change_115 ci_1 ?_
      refine vv_iadd X jd_JS_change_116 (nI_add (ch) 1) ?_
      refine pf_JS_24 (ws' := js_w ad cB cI (ch + 1) (fl) (cr) (igv v I 124) (fm) (op + 1) (nx) (pl) (sf) (di) (K) (va_cpy (imgv v) (F) 0 (496 * (fm + op)) 496) (uN_ (fs) (fm + op) x) (Nb) (Ct) (Pt) (d)) X 0 jd_JS_change_117 rfl (Nat.le_of_ble_eq_true rfl) rfl ?_
      refine vv_aload_n X jd_JS_change_120 0 rfl rfl ?_
      refine gf_JS_24 X 0 jd_JS_change_121 rfl rfl ?_
      exact ret _ _ 124 _ _ jd_JS_change_124 ⟨rfl, hIf⟩ rfl
    · have e9 : n < 124 := by have := nn_lt (by omega) (by omega) h9; omega
      refine vv_aload_n X jd_JS_change_81 0 rfl rfl ?_
      refine gf_JS_16 X 0 jd_JS_change_82 rfl rfl ?_
      refine vv_iload_n X jd_JS_change_85 3 rfl rfl ?_
      refine vv_iload_n X jd_JS_change_86 2 rfl rfl ?_
      refine vv_iload_n X jd_JS_change_87 3 rfl rfl ?_
      refine vv_iadd X jd_JS_change_88 rfl ?_
      refine vv_cSv (As := [.ref (ad 1), .int (nI (4 * n)), .int (v + nI (4 * n))]) X (jc_put4 l D cB cI (ad 1) 496 (igv v I n) (4 * n) (v + nI (4 * n)) (by omega) (by decide)) ok_JS_43 ⟨rfl, rfl, Nat.le_of_ble_eq_true rfl, Nat.le_of_ble_eq_true rfl⟩ jd_JS_change_89 [1] rfl rfl [ad 1] (fun _ => rfl) rfl rfl rfl (Nat.le_of_ble_eq_true rfl) ⟨Nat.zero_le _, Nat.zero_le _⟩ (fun _ _ => ?_)
      refine vv_ws (ws' := js_w ad cB cI (ch) (fl) (cr) (igv v I (n + 1)) (fm) (op) (nx) (pl) (sf) (di) (K) (F) (fs) (Nb) (Ct) (Pt) (d)) rfl ?_
      refine vv_iinc X jd_JS_change_92 3 [1, 2, 3, 0] rfl (cn_4 (4 * n)) (Nat.le_of_ble_eq_true rfl) rfl ?_
      refine vv_goto (tgt := 74) X jd_JS_change_95 rfl ?_
      exact ih e9
  exact loop 0 (Nat.zero_le _)
set_option maxRecDepth 100000 in
/-- a deed's first change, with room -/
theorem jc_change_lo (l : Launch) (D : va_G) (cB cI : ClassId) (ad : Nat → Nat) (ch fl cr : Nat) (I : Nat → Int32) (fm op nx pl sf : Nat) (di : Int32) (K F : Nat → Int32) (fs : Nat → Nat) (Nb Ct Pt : Nat → Int32) (d : DS) (x : Nat) (v : Int32) (hx : x < 212) (h0 : ch = 0) (h7 : fm ≤ 7) (hI : sb_Fit I) : MetI l jy_JS_change jb_JS_change 4 6 .int D cB cI (js_w ad cB cI (ch) (fl) (cr) (I) (fm) (op) (nx) (pl) (sf) (di) (K) (F) (fs) (Nb) (Ct) (Pt) (d)) ([.ref (ad 0), .int (nI x), .int v]) (fun (r : Int32) (u : Nat → Int32) => r = nI (ch + 1) ∧ sb_Fit u) (fun u => js_w ad cB cI (ch + 1) (fl) (cr) (u) (fm) (0 + 1) (nx) (pl) (sf) (di) (K) (va_cpy (imgv v) (F) 0 (496 * (fm + 0)) 496) (uN_ (fs) (fm + 0) x) (Nb) (Ct) (Pt) (d)) := by
  refine MetI.of (lv0 := [(0, .ref (ad 0)), (1, .int (nI x)), (2, .int v)]) "JournalShelf" rfl (by decide +kernel) (Nat.le_of_ble_eq_true rfl) rfl ?_
  intro p e s m args below meth c A Q X ret
  refine vv_iload_n X jd_JS_change_0 1 rfl rfl ?_
  refine vv_iconst X jd_JS_change_1 ci_0 ?_
  refine vv_sipush X jd_JS_change_2 cs_211 ?_
  refine vv_cSi (As := [.int (nI x), .int (nI 0), .int (nI 211)]) X (jc_in l D cB cI (nI x) (nI 0) (nI 211)) ok_JS_20 ⟨rfl, rfl, Nat.le_of_ble_eq_true rfl, Nat.le_of_ble_eq_true rfl⟩ jd_JS_change_5 [] rfl rfl [] (fun _ => rfl) rfl rfl rfl (Nat.le_of_ble_eq_true rfl) ⟨Nat.zero_le _, Nat.zero_le _⟩ (fun ra _ era => ?_)
  refine vv_ws (ws' := js_w ad cB cI (ch) (fl) (cr) (I) (fm) (op) (nx) (pl) (sf) (di) (K) (F) (fs) (Nb) (Ct) (Pt) (d)) rfl ?_
  rw [if_pos ⟨nI_le (Nat.zero_le _) (by omega), nI_le (by omega) (by omega)⟩] at era
  subst era
  refine vv_if_ne (tgt := 13) X jd_JS_change_8 rfl (fun h => ?_) (fun h => absurd h (show ¬ (1 : Int32) = 0 by decide))
  refine vv_aload_n X jd_JS_change_13 0 rfl rfl ?_
  refine gf_JS_24 X 0 jd_JS_change_14 rfl rfl ?_
  refine vv_bipush X jd_JS_change_17 cb_17 ?_
  refine vv_icmp_ne (tgt := 25) X jd_JS_change_19 rfl (fun h => ?_) (fun h => absurd h (show ¬ nI ch = nI 17 from fun z => absurd ((nI_eq (by omega) (by omega)).mp z) (by omega)))
  refine vv_aload_n X jd_JS_change_25 0 rfl rfl ?_
  refine gf_JS_24 X 0 jd_JS_change_26 rfl rfl ?_
  refine vv_if_ne (tgt := 64) X jd_JS_change_29 rfl (fun h => absurd (congrArg nI h0) h) (fun h => ?_)
  refine vv_aload_n X jd_JS_change_32 0 rfl rfl ?_
  refine gf_JS_10 X 0 jd_JS_change_33 rfl rfl ?_
  refine gf_JS_28 X 2 jd_JS_change_36 rfl rfl ?_
  refine vv_bipush X jd_JS_change_39 cb_17 ?_
  refine vv_iadd X jd_JS_change_41 (nI_add fm 17) ?_
  refine vv_bipush X jd_JS_change_42 cb_24 ?_
  refine vv_icmp_le (tgt := 57) X jd_JS_change_44 rfl (fun h => ?_) (fun h => absurd (nI_le (by omega) (by omega)) h)
  refine vv_aload_n X jd_JS_change_57 0 rfl rfl ?_
  refine gf_JS_10 X 0 jd_JS_change_58 rfl rfl ?_
  refine vv_cVv (As := []) X (jc_begin_lo l D cB cI ad fm op nx pl sf di K F fs Nb Ct Pt d h7) ok_JS_34 ⟨rfl, rfl, Nat.le_of_ble_eq_true rfl, Nat.le_of_ble_eq_true rfl⟩ jd_JS_change_61 2 1 rfl rfl rfl [2, 3, 4, 5, 6, 7, 8, 9, 10, 11, 12] rfl rfl [ad 2, ad 3, ad 4, ad 5, ad 6, ad 7, ad 8, ad 9, ad 10, ad 11, ad 12] (fun _ => rfl) rfl rfl rfl (Nat.le_of_ble_eq_true rfl) ⟨Nat.zero_le _, Nat.zero_le _⟩ (fun _ _ => ?_)
  refine vv_ws (ws' := js_w ad cB cI (ch) (fl) (cr) (I) (fm) (0) (nx) (pl) (sf) (di) (K) (F) (fs) (Nb) (Ct) (Pt) (d)) rfl ?_
  refine vv_aload_n X jd_JS_change_64 0 rfl rfl ?_
  refine gf_JS_16 X 0 jd_JS_change_65 rfl rfl ?_
  refine vv_iconst X jd_JS_change_68 ci_0 ?_
  refine vv_cSv (As := [.ref (ad 1), .int (nI 0)]) X (jc_fill l D cB cI (ad 1) 496 I (nI 0) (by decide)) ok_JS_37 ⟨rfl, rfl, Nat.le_of_ble_eq_true rfl, Nat.le_of_ble_eq_true rfl⟩ jd_JS_change_69 [1] rfl rfl [ad 1] (fun _ => rfl) rfl rfl rfl (Nat.le_of_ble_eq_true rfl) ⟨Nat.zero_le _, Nat.zero_le _⟩ (fun _ _ => ?_)
  refine vv_ws (ws' := js_w ad cB cI (ch) (fl) (cr) (igv v I 0) (fm) (0) (nx) (pl) (sf) (di) (K) (F) (fs) (Nb) (Ct) (Pt) (d)) rfl ?_
  refine vv_iconst X jd_JS_change_72 ci_0 ?_
  refine vv_istore_n X jd_JS_change_73 [1, 2, 3, 0] rfl (Nat.le_of_ble_eq_true rfl) rfl ?_
  have loop : ∀ n, n ≤ 124 → VV p l e (js_room 6) s m args below meth c D A 4 0 0 Q (js_w ad cB cI (ch) (fl) (cr) (igv v I n) (fm) (0) (nx) (pl) (sf) (di) (K) (F) (fs) (Nb) (Ct) (Pt) (d)) ([(0, .ref (ad 0)), (1, .int (nI x)), (2, .int v), (3, .int (nI (4 * n)))]) 74 ([]) := by
    refine js_up ?_
    intro n hn ih
    have hIf : sb_Fit (igv v I n) := igv_fit hI n
    refine vv_iload_n X jd_JS_change_74 3 rfl rfl ?_
    refine vv_sipush X jd_JS_change_75 cs_496 ?_
    refine vv_icmp_ge (tgt := 98) X jd_JS_change_78 rfl (fun h9 => ?_) (fun h9 => ?_)
    · have e9 : n = 124 := by have := nn_le (by omega) (by omega) h9; omega
      subst e9
      refine vv_aload_n X jd_JS_change_98 0 rfl rfl ?_
      refine gf_JS_10 X 0 jd_JS_change_99 rfl rfl ?_
      refine vv_iload_n X jd_JS_change_102 1 rfl rfl ?_
      refine vv_aload_n X jd_JS_change_103 0 rfl rfl ?_
      refine gf_JS_16 X 0 jd_JS_change_104 rfl rfl ?_
      refine vv_cVv (As := [.int (nI x), .ref (ad 1)]) X (jc_stage l D cB cI ad (fm) (0) (nx) (pl) (sf) (di) (K) (F) (fs) (Nb) (Ct) (Pt) (d) (igv v I 124) x (by omega) hIf) ok_JS_47 ⟨rfl, rfl, Nat.le_of_ble_eq_true rfl, Nat.le_of_ble_eq_true rfl⟩ jd_JS_change_107 2 1 rfl rfl rfl [2, 3, 4, 5, 6, 7, 8, 9, 10, 11, 12, 1] rfl rfl [ad 2, ad 3, ad 4, ad 5, ad 6, ad 7, ad 8, ad 9, ad 10, ad 11, ad 12, ad 1] (fun _ => rfl) rfl rfl rfl (Nat.le_of_ble_eq_true rfl) ⟨Nat.zero_le _, Nat.zero_le _⟩ (fun _ _ => ?_)
      refine vv_ws (ws' := js_w ad cB cI (ch) (fl) (cr) (igv v I 124) (fm) (0 + 1) (nx) (pl) (sf) (di) (K) (va_cpy (imgv v) (F) 0 (496 * (fm + 0)) 496) (uN_ (fs) (fm + 0) x) (Nb) (Ct) (Pt) (d)) (by rw [igv_cpy (Z := I)]; rfl) ?_
      refine vv_aload_n X jd_JS_change_110 0 rfl rfl ?_
      refine vv_dup X jd_JS_change_111 rfl ?_
      refine gf_JS_24 X 0 jd_JS_change_112 rfl rfl ?_
      refine vv_iconst X jd_JS_change_115 ci_1 ?_
      refine vv_iadd X jd_JS_change_116 (nI_add (ch) 1) ?_
      refine pf_JS_24 (ws' := js_w ad cB cI (ch + 1) (fl) (cr) (igv v I 124) (fm) (0 + 1) (nx) (pl) (sf) (di) (K) (va_cpy (imgv v) (F) 0 (496 * (fm + 0)) 496) (uN_ (fs) (fm + 0) x) (Nb) (Ct) (Pt) (d)) X 0 jd_JS_change_117 rfl (Nat.le_of_ble_eq_true rfl) rfl ?_
      refine vv_aload_n X jd_JS_change_120 0 rfl rfl ?_
      refine gf_JS_24 X 0 jd_JS_change_121 rfl rfl ?_
      exact ret _ _ 124 _ _ jd_JS_change_124 ⟨rfl, hIf⟩ rfl
    · have e9 : n < 124 := by have := nn_lt (by omega) (by omega) h9; omega
      refine vv_aload_n X jd_JS_change_81 0 rfl rfl ?_
      refine gf_JS_16 X 0 jd_JS_change_82 rfl rfl ?_
      refine vv_iload_n X jd_JS_change_85 3 rfl rfl ?_
      refine vv_iload_n X jd_JS_change_86 2 rfl rfl ?_
      refine vv_iload_n X jd_JS_change_87 3 rfl rfl ?_
      refine vv_iadd X jd_JS_change_88 rfl ?_
      refine vv_cSv (As := [.ref (ad 1), .int (nI (4 * n)), .int (v + nI (4 * n))]) X (jc_put4 l D cB cI (ad 1) 496 (igv v I n) (4 * n) (v + nI (4 * n)) (by omega) (by decide)) ok_JS_43 ⟨rfl, rfl, Nat.le_of_ble_eq_true rfl, Nat.le_of_ble_eq_true rfl⟩ jd_JS_change_89 [1] rfl rfl [ad 1] (fun _ => rfl) rfl rfl rfl (Nat.le_of_ble_eq_true rfl) ⟨Nat.zero_le _, Nat.zero_le _⟩ (fun _ _ => ?_)
      refine vv_ws (ws' := js_w ad cB cI (ch) (fl) (cr) (igv v I (n + 1)) (fm) (0) (nx) (pl) (sf) (di) (K) (F) (fs) (Nb) (Ct) (Pt) (d)) rfl ?_
      refine vv_iinc X jd_JS_change_92 3 [1, 2, 3, 0] rfl (cn_4 (4 * n)) (Nat.le_of_ble_eq_true rfl) rfl ?_
      refine vv_goto (tgt := 74) X jd_JS_change_95 rfl ?_
      exact ih e9
  exact loop 0 (Nat.zero_le _)
set_option maxRecDepth 100000 in
/-- a deed's first change, without room -/
theorem jc_change_hi (l : Launch) (D : va_G) (cB cI : ClassId) (ad : Nat → Nat) (ch fl cr : Nat) (I : Nat → Int32) (fm op nx pl sf : Nat) (di : Int32) (K F : Nat → Int32) (fs : Nat → Nat) (Nb Ct Pt : Nat → Int32) (d : DS) (x : Nat) (v : Int32) (hx : x < 212) (h0 : ch = 0) (h7 : 7 < fm) (hd : ds_ok d) (hm : fm ≤ 24) (hs : ∀ k, k < fm → fs k < 212) (hnx : 1 ≤ nx) (hF : sb_Fit F) (hK : sb_Fit K) (hI : sb_Fit I) : MetI l jy_JS_change jb_JS_change 4 6 .int D cB cI (js_w ad cB cI (ch) (fl) (cr) (I) (fm) (op) (nx) (pl) (sf) (di) (K) (F) (fs) (Nb) (Ct) (Pt) (d)) ([.ref (ad 0), .int (nI x), .int v]) (fun (r : Int32) (u : (Nat → Int32) × (Nat → Int32)) => r = nI (ch + 1) ∧ sb_Fit u.1 ∧ sb_Fit u.2) (fun u => js_w ad cB cI (ch + 1) (fl + 1) (cr) (u.1) (0) (0 + 1) (nx) (pl) (nx - 1) (0) (u.2) (va_cpy (imgv v) (F) 0 (496 * (0 + 0)) 496) (uN_ (fs) (0 + 0) x) (Nb) (Ct) (Pt) (fl_h F fs fm (ds_flush d) fm)) := by
  refine MetI.of (lv0 := [(0, .ref (ad 0)), (1, .int (nI x)), (2, .int v)]) "JournalShelf" rfl (by decide +kernel) (Nat.le_of_ble_eq_true rfl) rfl ?_
  intro p e s m args below meth c A Q X ret
  refine vv_iload_n X jd_JS_change_0 1 rfl rfl ?_
  refine vv_iconst X jd_JS_change_1 ci_0 ?_
  refine vv_sipush X jd_JS_change_2 cs_211 ?_
  refine vv_cSi (As := [.int (nI x), .int (nI 0), .int (nI 211)]) X (jc_in l D cB cI (nI x) (nI 0) (nI 211)) ok_JS_20 ⟨rfl, rfl, Nat.le_of_ble_eq_true rfl, Nat.le_of_ble_eq_true rfl⟩ jd_JS_change_5 [] rfl rfl [] (fun _ => rfl) rfl rfl rfl (Nat.le_of_ble_eq_true rfl) ⟨Nat.zero_le _, Nat.zero_le _⟩ (fun ra _ era => ?_)
  refine vv_ws (ws' := js_w ad cB cI (ch) (fl) (cr) (I) (fm) (op) (nx) (pl) (sf) (di) (K) (F) (fs) (Nb) (Ct) (Pt) (d)) rfl ?_
  rw [if_pos ⟨nI_le (Nat.zero_le _) (by omega), nI_le (by omega) (by omega)⟩] at era
  subst era
  refine vv_if_ne (tgt := 13) X jd_JS_change_8 rfl (fun h => ?_) (fun h => absurd h (show ¬ (1 : Int32) = 0 by decide))
  refine vv_aload_n X jd_JS_change_13 0 rfl rfl ?_
  refine gf_JS_24 X 0 jd_JS_change_14 rfl rfl ?_
  refine vv_bipush X jd_JS_change_17 cb_17 ?_
  refine vv_icmp_ne (tgt := 25) X jd_JS_change_19 rfl (fun h => ?_) (fun h => absurd h (show ¬ nI ch = nI 17 from fun z => absurd ((nI_eq (by omega) (by omega)).mp z) (by omega)))
  refine vv_aload_n X jd_JS_change_25 0 rfl rfl ?_
  refine gf_JS_24 X 0 jd_JS_change_26 rfl rfl ?_
  refine vv_if_ne (tgt := 64) X jd_JS_change_29 rfl (fun h => absurd (congrArg nI h0) h) (fun h => ?_)
  refine vv_aload_n X jd_JS_change_32 0 rfl rfl ?_
  refine gf_JS_10 X 0 jd_JS_change_33 rfl rfl ?_
  refine gf_JS_28 X 2 jd_JS_change_36 rfl rfl ?_
  refine vv_bipush X jd_JS_change_39 cb_17 ?_
  refine vv_iadd X jd_JS_change_41 (nI_add fm 17) ?_
  refine vv_bipush X jd_JS_change_42 cb_24 ?_
  refine vv_icmp_le (tgt := 57) X jd_JS_change_44 rfl (fun h => absurd h (nI_ge (by omega) (by omega))) (fun h => ?_)
  refine vv_aload_n X jd_JS_change_47 0 rfl rfl ?_
  refine vv_dup X jd_JS_change_48 rfl ?_
  refine gf_JS_31 X 0 jd_JS_change_49 rfl rfl ?_
  refine vv_iconst X jd_JS_change_52 ci_1 ?_
  refine vv_iadd X jd_JS_change_53 (nI_add fl 1) ?_
  refine pf_JS_31 (ws' := js_w ad cB cI (ch) (fl + 1) (cr) (I) (fm) (op) (nx) (pl) (sf) (di) (K) (F) (fs) (Nb) (Ct) (Pt) (d)) X 0 jd_JS_change_54 rfl (Nat.le_of_ble_eq_true rfl) rfl ?_
  refine vv_aload_n X jd_JS_change_57 0 rfl rfl ?_
  refine gf_JS_10 X 0 jd_JS_change_58 rfl rfl ?_
  refine vv_cVv (As := []) X (jc_begin_hi l D cB cI ad fm op nx pl sf di K F fs Nb Ct Pt d hd hm hs hnx hF hK h7) ok_JS_34 ⟨rfl, rfl, Nat.le_of_ble_eq_true rfl, Nat.le_of_ble_eq_true rfl⟩ jd_JS_change_61 2 1 rfl rfl rfl [2, 3, 4, 5, 6, 7, 8, 9, 10, 11, 12] rfl rfl [ad 2, ad 3, ad 4, ad 5, ad 6, ad 7, ad 8, ad 9, ad 10, ad 11, ad 12] (fun _ => rfl) rfl rfl rfl (Nat.le_of_ble_eq_true rfl) ⟨Nat.zero_le _, Nat.zero_le _⟩ (fun K2 hK2 => ?_)
  refine vv_ws (ws' := js_w ad cB cI (ch) (fl + 1) (cr) (I) (0) (0) (nx) (pl) (nx - 1) (0) (K2) (F) (fs) (Nb) (Ct) (Pt) (fl_h F fs fm (ds_flush d) fm)) rfl ?_
  refine vv_aload_n X jd_JS_change_64 0 rfl rfl ?_
  refine gf_JS_16 X 0 jd_JS_change_65 rfl rfl ?_
  refine vv_iconst X jd_JS_change_68 ci_0 ?_
  refine vv_cSv (As := [.ref (ad 1), .int (nI 0)]) X (jc_fill l D cB cI (ad 1) 496 I (nI 0) (by decide)) ok_JS_37 ⟨rfl, rfl, Nat.le_of_ble_eq_true rfl, Nat.le_of_ble_eq_true rfl⟩ jd_JS_change_69 [1] rfl rfl [ad 1] (fun _ => rfl) rfl rfl rfl (Nat.le_of_ble_eq_true rfl) ⟨Nat.zero_le _, Nat.zero_le _⟩ (fun _ _ => ?_)
  refine vv_ws (ws' := js_w ad cB cI (ch) (fl + 1) (cr) (igv v I 0) (0) (0) (nx) (pl) (nx - 1) (0) (K2) (F) (fs) (Nb) (Ct) (Pt) (fl_h F fs fm (ds_flush d) fm)) rfl ?_
  refine vv_iconst X jd_JS_change_72 ci_0 ?_
  refine vv_istore_n X jd_JS_change_73 [1, 2, 3, 0] rfl (Nat.le_of_ble_eq_true rfl) rfl ?_
  have loop : ∀ n, n ≤ 124 → VV p l e (js_room 6) s m args below meth c D A 4 0 0 Q (js_w ad cB cI (ch) (fl + 1) (cr) (igv v I n) (0) (0) (nx) (pl) (nx - 1) (0) (K2) (F) (fs) (Nb) (Ct) (Pt) (fl_h F fs fm (ds_flush d) fm)) ([(0, .ref (ad 0)), (1, .int (nI x)), (2, .int v), (3, .int (nI (4 * n)))]) 74 ([]) := by
    refine js_up ?_
    intro n hn ih
    have hIf : sb_Fit (igv v I n) := igv_fit hI n
    refine vv_iload_n X jd_JS_change_74 3 rfl rfl ?_
    refine vv_sipush X jd_JS_change_75 cs_496 ?_
    refine vv_icmp_ge (tgt := 98) X jd_JS_change_78 rfl (fun h9 => ?_) (fun h9 => ?_)
    · have e9 : n = 124 := by have := nn_le (by omega) (by omega) h9; omega
      subst e9
      refine vv_aload_n X jd_JS_change_98 0 rfl rfl ?_
      refine gf_JS_10 X 0 jd_JS_change_99 rfl rfl ?_
      refine vv_iload_n X jd_JS_change_102 1 rfl rfl ?_
      refine vv_aload_n X jd_JS_change_103 0 rfl rfl ?_
      refine gf_JS_16 X 0 jd_JS_change_104 rfl rfl ?_
      refine vv_cVv (As := [.int (nI x), .ref (ad 1)]) X (jc_stage l D cB cI ad (0) (0) (nx) (pl) (nx - 1) (0) (K2) (F) (fs) (Nb) (Ct) (Pt) (fl_h F fs fm (ds_flush d) fm) (igv v I 124) x (by omega) hIf) ok_JS_47 ⟨rfl, rfl, Nat.le_of_ble_eq_true rfl, Nat.le_of_ble_eq_true rfl⟩ jd_JS_change_107 2 1 rfl rfl rfl [2, 3, 4, 5, 6, 7, 8, 9, 10, 11, 12, 1] rfl rfl [ad 2, ad 3, ad 4, ad 5, ad 6, ad 7, ad 8, ad 9, ad 10, ad 11, ad 12, ad 1] (fun _ => rfl) rfl rfl rfl (Nat.le_of_ble_eq_true rfl) ⟨Nat.zero_le _, Nat.zero_le _⟩ (fun _ _ => ?_)
      refine vv_ws (ws' := js_w ad cB cI (ch) (fl + 1) (cr) (igv v I 124) (0) (0 + 1) (nx) (pl) (nx - 1) (0) (K2) (va_cpy (imgv v) (F) 0 (496 * (0 + 0)) 496) (uN_ (fs) (0 + 0) x) (Nb) (Ct) (Pt) (fl_h F fs fm (ds_flush d) fm)) (by rw [igv_cpy (Z := I)]; rfl) ?_
      refine vv_aload_n X jd_JS_change_110 0 rfl rfl ?_
      refine vv_dup X jd_JS_change_111 rfl ?_
      refine gf_JS_24 X 0 jd_JS_change_112 rfl rfl ?_
      refine vv_iconst X jd_JS_change_115 ci_1 ?_
      refine vv_iadd X jd_JS_change_116 (nI_add (ch) 1) ?_
      refine pf_JS_24 (ws' := js_w ad cB cI (ch + 1) (fl + 1) (cr) (igv v I 124) (0) (0 + 1) (nx) (pl) (nx - 1) (0) (K2) (va_cpy (imgv v) (F) 0 (496 * (0 + 0)) 496) (uN_ (fs) (0 + 0) x) (Nb) (Ct) (Pt) (fl_h F fs fm (ds_flush d) fm)) X 0 jd_JS_change_117 rfl (Nat.le_of_ble_eq_true rfl) rfl ?_
      refine vv_aload_n X jd_JS_change_120 0 rfl rfl ?_
      refine gf_JS_24 X 0 jd_JS_change_121 rfl rfl ?_
      exact ret _ _ 124 _ (_, K2) jd_JS_change_124 ⟨rfl, hIf, hK2⟩ rfl
    · have e9 : n < 124 := by have := nn_lt (by omega) (by omega) h9; omega
      refine vv_aload_n X jd_JS_change_81 0 rfl rfl ?_
      refine gf_JS_16 X 0 jd_JS_change_82 rfl rfl ?_
      refine vv_iload_n X jd_JS_change_85 3 rfl rfl ?_
      refine vv_iload_n X jd_JS_change_86 2 rfl rfl ?_
      refine vv_iload_n X jd_JS_change_87 3 rfl rfl ?_
      refine vv_iadd X jd_JS_change_88 rfl ?_
      refine vv_cSv (As := [.ref (ad 1), .int (nI (4 * n)), .int (v + nI (4 * n))]) X (jc_put4 l D cB cI (ad 1) 496 (igv v I n) (4 * n) (v + nI (4 * n)) (by omega) (by decide)) ok_JS_43 ⟨rfl, rfl, Nat.le_of_ble_eq_true rfl, Nat.le_of_ble_eq_true rfl⟩ jd_JS_change_89 [1] rfl rfl [ad 1] (fun _ => rfl) rfl rfl rfl (Nat.le_of_ble_eq_true rfl) ⟨Nat.zero_le _, Nat.zero_le _⟩ (fun _ _ => ?_)
      refine vv_ws (ws' := js_w ad cB cI (ch) (fl + 1) (cr) (igv v I (n + 1)) (0) (0) (nx) (pl) (nx - 1) (0) (K2) (F) (fs) (Nb) (Ct) (Pt) (fl_h F fs fm (ds_flush d) fm)) rfl ?_
      refine vv_iinc X jd_JS_change_92 3 [1, 2, 3, 0] rfl (cn_4 (4 * n)) (Nat.le_of_ble_eq_true rfl) rfl ?_
      refine vv_goto (tgt := 74) X jd_JS_change_95 rfl ?_
      exact ih e9
  exact loop 0 (Nat.zero_le _)
set_option maxRecDepth 100000 in
theorem jc_commit_no (l : Launch) (D : va_G) (cB cI : ClassId) (ad : Nat → Nat) (ch fl cr : Nat) (I : Nat → Int32) (fm op nx pl sf : Nat) (di : Int32) (K F : Nat → Int32) (fs : Nat → Nat) (Nb Ct Pt : Nat → Int32) (d : DS) (h0 : ch = 0) : MetI l jy_JS_commit jb_JS_commit 2 3 .int D cB cI (js_w ad cB cI (ch) (fl) (cr) (I) (fm) (op) (nx) (pl) (sf) (di) (K) (F) (fs) (Nb) (Ct) (Pt) (d)) ([.ref (ad 0)]) (fun (r : Int32) (_ : Unit) => r = -1) (fun _ => js_w ad cB cI (ch) (fl) (cr) (I) (fm) (op) (nx) (pl) (sf) (di) (K) (F) (fs) (Nb) (Ct) (Pt) (d)) := by
  refine MetI.of (lv0 := [(0, .ref (ad 0))]) "JournalShelf" rfl (by decide +kernel) (Nat.le_of_ble_eq_true rfl) rfl ?_
  intro p e s m args below meth c A Q X ret
  refine vv_aload_n X jd_JS_commit_0 0 rfl rfl ?_
  refine gf_JS_24 X 0 jd_JS_commit_1 rfl rfl ?_
  refine vv_if_ne (tgt := 9) X jd_JS_commit_4 rfl (fun h => absurd (congrArg nI h0) h) (fun h => ?_)
  refine vv_iconst X jd_JS_commit_7 ci_m1 ?_
  exact ret _ _ 8 _ () jd_JS_commit_8 rfl rfl
set_option maxRecDepth 100000 in
theorem jc_commit_yes (l : Launch) (D : va_G) (cB cI : ClassId) (ad : Nat → Nat) (ch fl cr : Nat) (I : Nat → Int32) (fm op nx pl sf : Nat) (di : Int32) (K F : Nat → Int32) (fs : Nat → Nat) (Nb Ct Pt : Nat → Int32) (d : DS) (h0 : 0 < ch) (hc : ch ≤ 17) (hd : ds_ok d) (hn : d.2.2.2 + op ≤ 48) (h17 : op ≤ 17) (h24 : fm + op ≤ 24) (hpl : pl < 52) (hF : sb_Fit F) (hK : sb_Fit K) : MetI l jy_JS_commit jb_JS_commit 2 3 .int D cB cI (js_w ad cB cI (ch) (fl) (cr) (I) (fm) (op) (nx) (pl) (sf) (di) (K) (F) (fs) (Nb) (Ct) (Pt) (d)) ([.ref (ad 0)]) (fun (r : Int32) (u : Nat → Int32) => r = nI ch ∧ sb_Fit u) (fun u => js_w ad cB cI (0) (fl) (cr) (I) (fm + op) (0) (nx + 1) ((pl + op) % 52) (sf) (1) (u) (F) (fs) (Nb) (Ct) (Pt) (cm_d nx op sf fm pl fs F d op)) := by
  refine MetI.of (lv0 := [(0, .ref (ad 0))]) "JournalShelf" rfl (by decide +kernel) (Nat.le_of_ble_eq_true rfl) rfl ?_
  intro p e s m args below meth c A Q X ret
  refine vv_aload_n X jd_JS_commit_0 0 rfl rfl ?_
  refine gf_JS_24 X 0 jd_JS_commit_1 rfl rfl ?_
  refine vv_if_ne (tgt := 9) X jd_JS_commit_4 rfl (fun h => ?_) (fun h => absurd h (nI_ne0 h0 (by omega)))
  refine vv_aload_n X jd_JS_commit_9 0 rfl rfl ?_
  refine gf_JS_24 X 0 jd_JS_commit_10 rfl rfl ?_
  refine vv_istore_n X jd_JS_commit_13 [1, 0] rfl (Nat.le_of_ble_eq_true rfl) rfl ?_
  refine vv_aload_n X jd_JS_commit_14 0 rfl rfl ?_
  refine gf_JS_10 X 0 jd_JS_commit_15 rfl rfl ?_
  refine vv_cVv (As := []) X (jc_scommit l D cB cI ad fm op nx pl sf di K F fs Nb Ct Pt d hd hn h17 h24 hpl hF hK) ok_JS_51 ⟨rfl, rfl, Nat.le_of_ble_eq_true rfl, Nat.le_of_ble_eq_true rfl⟩ jd_JS_commit_18 2 1 rfl rfl rfl [2, 3, 4, 5, 6, 7, 8, 9, 10, 11, 12] rfl rfl [ad 2, ad 3, ad 4, ad 5, ad 6, ad 7, ad 8, ad 9, ad 10, ad 11, ad 12] (fun _ => rfl) rfl rfl rfl (Nat.le_of_ble_eq_true rfl) ⟨Nat.zero_le _, Nat.zero_le _⟩ (fun K2 hK2 => ?_)
  refine vv_ws (ws' := js_w ad cB cI (ch) (fl) (cr) (I) (fm + op) (0) (nx + 1) ((pl + op) % 52) (sf) (1) (K2) (F) (fs) (Nb) (Ct) (Pt) (cm_d nx op sf fm pl fs F d op)) rfl ?_
  refine vv_aload_n X jd_JS_commit_21 0 rfl rfl ?_
  refine vv_iconst X jd_JS_commit_22 ci_0 ?_
  refine pf_JS_24 (ws' := js_w ad cB cI (0) (fl) (cr) (I) (fm + op) (0) (nx + 1) ((pl + op) % 52) (sf) (1) (K2) (F) (fs) (Nb) (Ct) (Pt) (cm_d nx op sf fm pl fs F d op)) X 0 jd_JS_commit_23 rfl (Nat.le_of_ble_eq_true rfl) rfl ?_
  refine vv_iload_n X jd_JS_commit_26 1 rfl rfl ?_
  exact ret _ _ 27 _ K2 jd_JS_commit_27 ⟨rfl, hK2⟩ rfl
set_option maxRecDepth 100000 in
theorem jc_forget (l : Launch) (D : va_G) (cB cI : ClassId) (ad : Nat → Nat) (ch fl cr : Nat) (I : Nat → Int32) (fm op nx pl sf : Nat) (di : Int32) (K F : Nat → Int32) (fs : Nat → Nat) (Nb Ct Pt : Nat → Int32) (d : DS) : MetI l jy_JS_forget jb_JS_forget 2 0 .int D cB cI (js_w ad cB cI (ch) (fl) (cr) (I) (fm) (op) (nx) (pl) (sf) (di) (K) (F) (fs) (Nb) (Ct) (Pt) (d)) ([.ref (ad 0)]) (fun (r : Int32) (_ : Unit) => r = nI ch) (fun _ => js_w ad cB cI (0) (fl) (cr) (I) (fm) (op) (nx) (pl) (sf) (di) (K) (F) (fs) (Nb) (Ct) (Pt) (d)) := by
  refine MetI.of (lv0 := [(0, .ref (ad 0))]) "JournalShelf" rfl (by decide +kernel) (Nat.le_of_ble_eq_true rfl) rfl ?_
  intro p e s m args below meth c A Q X ret
  refine vv_aload_n X jd_JS_forget_0 0 rfl rfl ?_
  refine gf_JS_24 X 0 jd_JS_forget_1 rfl rfl ?_
  refine vv_istore_n X jd_JS_forget_4 [1, 0] rfl (Nat.le_of_ble_eq_true rfl) rfl ?_
  refine vv_aload_n X jd_JS_forget_5 0 rfl rfl ?_
  refine vv_iconst X jd_JS_forget_6 ci_0 ?_
  refine pf_JS_24 (ws' := js_w ad cB cI (0) (fl) (cr) (I) (fm) (op) (nx) (pl) (sf) (di) (K) (F) (fs) (Nb) (Ct) (Pt) (d)) X 0 jd_JS_forget_7 rfl (Nat.le_of_ble_eq_true rfl) rfl ?_
  refine vv_iload_n X jd_JS_forget_10 1 rfl rfl ?_
  exact ret _ _ 11 _ () jd_JS_forget_11 rfl rfl
set_option maxRecDepth 100000 in
theorem jc_flush (l : Launch) (D : va_G) (cB cI : ClassId) (ad : Nat → Nat) (ch fl cr : Nat) (I : Nat → Int32) (fm op nx pl sf : Nat) (di : Int32) (K F : Nat → Int32) (fs : Nat → Nat) (Nb Ct Pt : Nat → Int32) (d : DS) (hd : ds_ok d) (hm : fm ≤ 24) (hs : ∀ k, k < fm → fs k < 212) (hnx : 1 ≤ nx) (hsf : sf ≤ nx - 1) (hF : sb_Fit F) (hK : sb_Fit K) : MetI l jy_JS_flush jb_JS_flush 2 5 .int D cB cI (js_w ad cB cI (ch) (fl) (cr) (I) (fm) (op) (nx) (pl) (sf) (di) (K) (F) (fs) (Nb) (Ct) (Pt) (d)) ([.ref (ad 0)]) (fun (r : Int32) (u : Nat → Int32) => r = nI (nx - 1 - sf) ∧ sb_Fit u) (fun u => js_w ad cB cI (0) (fl + 1) (cr) (I) (0) (op) (nx) (pl) (nx - 1) (0) (u) (F) (fs) (Nb) (Ct) (Pt) (fl_h F fs fm (ds_flush d) fm)) := by
  refine MetI.of (lv0 := [(0, .ref (ad 0))]) "JournalShelf" rfl (by decide +kernel) (Nat.le_of_ble_eq_true rfl) rfl ?_
  intro p e s m args below meth c A Q X ret
  refine vv_aload_n X jd_JS_flush_0 0 rfl rfl ?_
  refine gf_JS_10 X 0 jd_JS_flush_1 rfl rfl ?_
  refine gf_JS_54 X 2 jd_JS_flush_4 rfl rfl ?_
  refine vv_iconst X jd_JS_flush_7 ci_1 ?_
  refine vv_isub X jd_JS_flush_8 (pk_sub hnx) ?_
  refine vv_aload_n X jd_JS_flush_9 0 rfl rfl ?_
  refine gf_JS_10 X 0 jd_JS_flush_10 rfl rfl ?_
  refine gf_JS_57 X 2 jd_JS_flush_13 rfl rfl ?_
  refine vv_isub X jd_JS_flush_16 (pk_sub hsf) ?_
  refine vv_istore_n X jd_JS_flush_17 [1, 0] rfl (Nat.le_of_ble_eq_true rfl) rfl ?_
  refine vv_aload_n X jd_JS_flush_18 0 rfl rfl ?_
  refine gf_JS_10 X 0 jd_JS_flush_19 rfl rfl ?_
  refine vv_cVv (As := []) X (jc_sflush l D cB cI ad fm op nx pl sf di K F fs Nb Ct Pt d hd hm hs hnx hF hK) ok_JS_60 ⟨rfl, rfl, Nat.le_of_ble_eq_true rfl, Nat.le_of_ble_eq_true rfl⟩ jd_JS_flush_22 2 1 rfl rfl rfl [2, 3, 4, 5, 6, 7, 8, 9, 10, 11, 12] rfl rfl [ad 2, ad 3, ad 4, ad 5, ad 6, ad 7, ad 8, ad 9, ad 10, ad 11, ad 12] (fun _ => rfl) rfl rfl rfl (Nat.le_of_ble_eq_true rfl) ⟨Nat.zero_le _, Nat.zero_le _⟩ (fun K2 hK2 => ?_)
  refine vv_ws (ws' := js_w ad cB cI (ch) (fl) (cr) (I) (0) (op) (nx) (pl) (nx - 1) (0) (K2) (F) (fs) (Nb) (Ct) (Pt) (fl_h F fs fm (ds_flush d) fm)) rfl ?_
  refine vv_aload_n X jd_JS_flush_25 0 rfl rfl ?_
  refine vv_iconst X jd_JS_flush_26 ci_0 ?_
  refine pf_JS_24 (ws' := js_w ad cB cI (0) (fl) (cr) (I) (0) (op) (nx) (pl) (nx - 1) (0) (K2) (F) (fs) (Nb) (Ct) (Pt) (fl_h F fs fm (ds_flush d) fm)) X 0 jd_JS_flush_27 rfl (Nat.le_of_ble_eq_true rfl) rfl ?_
  refine vv_aload_n X jd_JS_flush_30 0 rfl rfl ?_
  refine vv_dup X jd_JS_flush_31 rfl ?_
  refine gf_JS_31 X 0 jd_JS_flush_32 rfl rfl ?_
  refine vv_iconst X jd_JS_flush_35 ci_1 ?_
  refine vv_iadd X jd_JS_flush_36 (nI_add fl 1) ?_
  refine pf_JS_31 (ws' := js_w ad cB cI (0) (fl + 1) (cr) (I) (0) (op) (nx) (pl) (nx - 1) (0) (K2) (F) (fs) (Nb) (Ct) (Pt) (fl_h F fs fm (ds_flush d) fm)) X 0 jd_JS_flush_37 rfl (Nat.le_of_ble_eq_true rfl) rfl ?_
  refine vv_iload_n X jd_JS_flush_40 1 rfl rfl ?_
  exact ret _ _ 41 _ K2 jd_JS_flush_41 ⟨rfl, hK2⟩ rfl
set_option maxRecDepth 100000 in
theorem jc_crash_ref (l : Launch) (D : va_G) (cB cI : ClassId) (ad : Nat → Nat) (ch fl cr : Nat) (I : Nat → Int32) (fm op nx pl sf : Nat) (di : Int32) (K F : Nat → Int32) (fs : Nat → Nat) (Nb Ct Pt : Nat → Int32) (d : DS) (a v : Int32) (ha : ¬ (nI 0 ≤ v ∧ v ≤ nI 500)) : MetI l jy_JS_crash jb_JS_crash 4 6 .int D cB cI (js_w ad cB cI (ch) (fl) (cr) (I) (fm) (op) (nx) (pl) (sf) (di) (K) (F) (fs) (Nb) (Ct) (Pt) (d)) ([.ref (ad 0), .int a, .int v]) (fun (r : Int32) (_ : Unit) => r = -1) (fun _ => js_w ad cB cI (ch) (fl) (cr) (I) (fm) (op) (nx) (pl) (sf) (di) (K) (F) (fs) (Nb) (Ct) (Pt) (d)) := by
  refine MetI.of (lv0 := [(0, .ref (ad 0)), (1, .int a), (2, .int v)]) "JournalShelf" rfl (by decide +kernel) (Nat.le_of_ble_eq_true rfl) rfl ?_
  intro p e s m args below meth c A Q X ret
  refine vv_iload_n X jd_JS_crash_0 2 rfl rfl ?_
  refine vv_iconst X jd_JS_crash_1 ci_0 ?_
  refine vv_sipush X jd_JS_crash_2 cs_500 ?_
  refine vv_cSi (As := [.int (v), .int (nI 0), .int (nI 500)]) X (jc_in l D cB cI (v) (nI 0) (nI 500)) ok_JS_20 ⟨rfl, rfl, Nat.le_of_ble_eq_true rfl, Nat.le_of_ble_eq_true rfl⟩ jd_JS_crash_5 [] rfl rfl [] (fun _ => rfl) rfl rfl rfl (Nat.le_of_ble_eq_true rfl) ⟨Nat.zero_le _, Nat.zero_le _⟩ (fun ra _ era => ?_)
  refine vv_ws (ws' := js_w ad cB cI (ch) (fl) (cr) (I) (fm) (op) (nx) (pl) (sf) (di) (K) (F) (fs) (Nb) (Ct) (Pt) (d)) rfl ?_
  rw [if_neg ha] at era
  subst era
  refine vv_if_ne (tgt := 13) X jd_JS_crash_8 rfl (fun h => absurd rfl h) (fun h => ?_)
  refine vv_iconst X jd_JS_crash_11 ci_m1 ?_
  exact ret _ _ 12 _ () jd_JS_crash_12 rfl rfl
set_option maxRecDepth 100000 in
/-- a crash, and what is found behind it -/
theorem jc_crash_yes (l : Launch) (D : va_G) (cB cI : ClassId) (ad : Nat → Nat) (ch fl cr : Nat) (I : Nat → Int32) (fm op nx pl sf : Nat) (di : Int32) (K F : Nat → Int32) (fs : Nat → Nat) (Nb Ct Pt : Nat → Int32) (d : DS) (mask : Int32) (z : Nat) (kn lo hi : Nat) (k0 cn : Nat → Nat) (sl : Nat → Nat → Nat) (hz : z ≤ 500) (hd : ds_ok d) (hR : RecOk (ds_view (ds_crash d mask z)) kn lo hi k0 cn sl) (hhi : hi + 1 ≤ nx) (hF : sb_Fit F) (hK : sb_Fit K) : MetI l jy_JS_crash jb_JS_crash 4 6 .int D cB cI (js_w ad cB cI (ch) (fl) (cr) (I) (fm) (op) (nx) (pl) (sf) (di) (K) (F) (fs) (Nb) (Ct) (Pt) (d)) ([.ref (ad 0), .int mask, .int (nI z)]) (fun (r : Int32) (u : (Nat → Int32) × (Nat → Int32)) => r = nI (nx - (hi + 1)) ∧ sb_Fit u.1 ∧ sb_Fit u.2) (fun u => js_w ad cB cI (0) (fl) (cr + 1) (I) (0) (0) (hi + 1) (fg_pl (prf (rc_nb (ds_view (ds_crash d mask z))) Nb 52) (prf (rc_ct (ds_view (ds_crash d mask z))) Ct 52) hi 52) (hi) (0) (u.1) (u.2) (fs) (prf (rc_nb (ds_view (ds_crash d mask z))) Nb 52) (prf (rc_ct (ds_view (ds_crash d mask z))) Ct 52) (prf (rc_pt (ds_view (ds_crash d mask z))) Pt 52) (ds_flush (fg_d (prf (rc_nb (ds_view (ds_crash d mask z))) Nb 52) hi (rv_d (ds_view (ds_crash d mask z)) k0 cn sl lo (ds_crash d mask z) (hi + 1 - lo)) 52))) := by
  refine MetI.of (lv0 := [(0, .ref (ad 0)), (1, .int mask), (2, .int (nI z))]) "JournalShelf" rfl (by decide +kernel) (Nat.le_of_ble_eq_true rfl) rfl ?_
  intro p e s m args below meth c A Q X ret
  have hd2 : ds_ok (ds_crash d mask z) := ⟨Nat.zero_le _, fun k hk => absurd hk (Nat.not_lt_zero k), dk_cr_fit hd.2.2.2 hd.2.2.1 _, hd.2.2.2⟩
  refine vv_iload_n X jd_JS_crash_0 2 rfl rfl ?_
  refine vv_iconst X jd_JS_crash_1 ci_0 ?_
  refine vv_sipush X jd_JS_crash_2 cs_500 ?_
  refine vv_cSi (As := [.int (nI z), .int (nI 0), .int (nI 500)]) X (jc_in l D cB cI (nI z) (nI 0) (nI 500)) ok_JS_20 ⟨rfl, rfl, Nat.le_of_ble_eq_true rfl, Nat.le_of_ble_eq_true rfl⟩ jd_JS_crash_5 [] rfl rfl [] (fun _ => rfl) rfl rfl rfl (Nat.le_of_ble_eq_true rfl) ⟨Nat.zero_le _, Nat.zero_le _⟩ (fun ra _ era => ?_)
  refine vv_ws (ws' := js_w ad cB cI (ch) (fl) (cr) (I) (fm) (op) (nx) (pl) (sf) (di) (K) (F) (fs) (Nb) (Ct) (Pt) (d)) rfl ?_
  rw [if_pos ⟨nI_le (Nat.zero_le _) (by omega), nI_le (by omega) (by omega)⟩] at era
  subst era
  refine vv_if_ne (tgt := 13) X jd_JS_crash_8 rfl (fun h => ?_) (fun h => absurd h (show ¬ (1 : Int32) = 0 by decide))
  refine vv_aload_n X jd_JS_crash_13 0 rfl rfl ?_
  refine gf_JS_10 X 0 jd_JS_crash_14 rfl rfl ?_
  refine gf_JS_54 X 2 jd_JS_crash_17 rfl rfl ?_
  refine vv_istore_n X jd_JS_crash_20 [1, 2, 3, 0] rfl (Nat.le_of_ble_eq_true rfl) rfl ?_
  refine vv_aload_n X jd_JS_crash_21 0 rfl rfl ?_
  refine gf_JS_10 X 0 jd_JS_crash_22 rfl rfl ?_
  refine gf_JS_63 X 2 jd_JS_crash_25 rfl rfl ?_
  refine vv_iload_n X jd_JS_crash_28 1 rfl rfl ?_
  refine vv_iload_n X jd_JS_crash_29 2 rfl rfl ?_
  refine vv_cVv (As := [.int mask, .int (nI z)]) X (jc_dcrash l D cB cI ad d.1 d.2.1 d.2.2.1 d.2.2.2 z mask hd.1 hd.2.1 hz hd.2.2.2) ok_JS_67 ⟨rfl, rfl, Nat.le_of_ble_eq_true rfl, Nat.le_of_ble_eq_true rfl⟩ jd_JS_crash_30 9 2 rfl rfl rfl [9, 10, 11, 12] rfl rfl [ad 9, ad 10, ad 11, ad 12] (fun _ => rfl) rfl rfl rfl (Nat.le_of_ble_eq_true rfl) ⟨Nat.zero_le _, Nat.zero_le _⟩ (fun _ _ => ?_)
  refine vv_ws (ws' := js_w ad cB cI (ch) (fl) (cr) (I) (fm) (op) (nx) (pl) (sf) (di) (K) (F) (fs) (Nb) (Ct) (Pt) (ds_crash d mask z)) rfl ?_
  refine vv_aload_n X jd_JS_crash_33 0 rfl rfl ?_
  refine gf_JS_10 X 0 jd_JS_crash_34 rfl rfl ?_
  refine vv_cVv (As := []) X (jc_recover l D cB cI ad fm op nx pl sf di K F fs Nb Ct Pt (ds_crash d mask z) kn lo hi k0 cn sl hd2 hR hF hK) ok_JS_73 ⟨rfl, rfl, Nat.le_of_ble_eq_true rfl, Nat.le_of_ble_eq_true rfl⟩ jd_JS_crash_37 2 1 rfl rfl rfl [2, 3, 4, 5, 6, 7, 8, 9, 10, 11, 12] rfl rfl [ad 2, ad 3, ad 4, ad 5, ad 6, ad 7, ad 8, ad 9, ad 10, ad 11, ad 12] (fun _ => rfl) rfl rfl rfl (Nat.le_of_ble_eq_true rfl) ⟨Nat.zero_le _, Nat.zero_le _⟩ (fun u hu => ?_)
  refine vv_ws (ws' := js_w ad cB cI (ch) (fl) (cr) (I) (0) (0) (hi + 1) (fg_pl (prf (rc_nb (ds_view (ds_crash d mask z))) Nb 52) (prf (rc_ct (ds_view (ds_crash d mask z))) Ct 52) hi 52) (hi) (0) (u.1) (u.2) (fs) (prf (rc_nb (ds_view (ds_crash d mask z))) Nb 52) (prf (rc_ct (ds_view (ds_crash d mask z))) Ct 52) (prf (rc_pt (ds_view (ds_crash d mask z))) Pt 52) (ds_flush (fg_d (prf (rc_nb (ds_view (ds_crash d mask z))) Nb 52) hi (rv_d (ds_view (ds_crash d mask z)) k0 cn sl lo (ds_crash d mask z) (hi + 1 - lo)) 52))) rfl ?_
  refine vv_aload_n X jd_JS_crash_40 0 rfl rfl ?_
  refine vv_iconst X jd_JS_crash_41 ci_0 ?_
  refine pf_JS_24 (ws' := js_w ad cB cI (0) (fl) (cr) (I) (0) (0) (hi + 1) (fg_pl (prf (rc_nb (ds_view (ds_crash d mask z))) Nb 52) (prf (rc_ct (ds_view (ds_crash d mask z))) Ct 52) hi 52) (hi) (0) (u.1) (u.2) (fs) (prf (rc_nb (ds_view (ds_crash d mask z))) Nb 52) (prf (rc_ct (ds_view (ds_crash d mask z))) Ct 52) (prf (rc_pt (ds_view (ds_crash d mask z))) Pt 52) (ds_flush (fg_d (prf (rc_nb (ds_view (ds_crash d mask z))) Nb 52) hi (rv_d (ds_view (ds_crash d mask z)) k0 cn sl lo (ds_crash d mask z) (hi + 1 - lo)) 52))) X 0 jd_JS_crash_42 rfl (Nat.le_of_ble_eq_true rfl) rfl ?_
  refine vv_aload_n X jd_JS_crash_45 0 rfl rfl ?_
  refine vv_dup X jd_JS_crash_46 rfl ?_
  refine gf_JS_76 X 0 jd_JS_crash_47 rfl rfl ?_
  refine vv_iconst X jd_JS_crash_50 ci_1 ?_
  refine vv_iadd X jd_JS_crash_51 (nI_add cr 1) ?_
  refine pf_JS_76 (ws' := js_w ad cB cI (0) (fl) (cr + 1) (I) (0) (0) (hi + 1) (fg_pl (prf (rc_nb (ds_view (ds_crash d mask z))) Nb 52) (prf (rc_ct (ds_view (ds_crash d mask z))) Ct 52) hi 52) (hi) (0) (u.1) (u.2) (fs) (prf (rc_nb (ds_view (ds_crash d mask z))) Nb 52) (prf (rc_ct (ds_view (ds_crash d mask z))) Ct 52) (prf (rc_pt (ds_view (ds_crash d mask z))) Pt 52) (ds_flush (fg_d (prf (rc_nb (ds_view (ds_crash d mask z))) Nb 52) hi (rv_d (ds_view (ds_crash d mask z)) k0 cn sl lo (ds_crash d mask z) (hi + 1 - lo)) 52))) X 0 jd_JS_crash_52 rfl (Nat.le_of_ble_eq_true rfl) rfl ?_
  refine vv_iload_n X jd_JS_crash_55 3 rfl rfl ?_
  refine vv_aload_n X jd_JS_crash_56 0 rfl rfl ?_
  refine gf_JS_10 X 0 jd_JS_crash_57 rfl rfl ?_
  refine gf_JS_54 X 2 jd_JS_crash_60 rfl rfl ?_
  refine vv_isub X jd_JS_crash_63 (pk_sub hhi) ?_
  exact ret _ _ 64 _ u jd_JS_crash_64 ⟨rfl, hu⟩ rfl
set_option maxRecDepth 100000 in
theorem jc_get_ref (l : Launch) (D : va_G) (cB cI : ClassId) (ad : Nat → Nat) (ch fl cr : Nat) (I : Nat → Int32) (fm op nx pl sf : Nat) (di : Int32) (K F : Nat → Int32) (fs : Nat → Nat) (Nb Ct Pt : Nat → Int32) (d : DS) (a : Int32) (ha : ¬ (nI 0 ≤ a ∧ a ≤ nI 211)) : MetI l jy_JS_get jb_JS_get 3 3 .int D cB cI (js_w ad cB cI (ch) (fl) (cr) (I) (fm) (op) (nx) (pl) (sf) (di) (K) (F) (fs) (Nb) (Ct) (Pt) (d)) ([.ref (ad 0), .int a]) (fun (r : Int32) (_ : Unit) => r = 0) (fun _ => js_w ad cB cI (ch) (fl) (cr) (I) (fm) (op) (nx) (pl) (sf) (di) (K) (F) (fs) (Nb) (Ct) (Pt) (d)) := by
  refine MetI.of (lv0 := [(0, .ref (ad 0)), (1, .int a)]) "JournalShelf" rfl (by decide +kernel) (Nat.le_of_ble_eq_true rfl) rfl ?_
  intro p e s m args below meth c A Q X ret
  refine vv_iload_n X jd_JS_get_0 1 rfl rfl ?_
  refine vv_iconst X jd_JS_get_1 ci_0 ?_
  refine vv_sipush X jd_JS_get_2 cs_211 ?_
  refine vv_cSi (As := [.int (a), .int (nI 0), .int (nI 211)]) X (jc_in l D cB cI (a) (nI 0) (nI 211)) ok_JS_20 ⟨rfl, rfl, Nat.le_of_ble_eq_true rfl, Nat.le_of_ble_eq_true rfl⟩ jd_JS_get_5 [] rfl rfl [] (fun _ => rfl) rfl rfl rfl (Nat.le_of_ble_eq_true rfl) ⟨Nat.zero_le _, Nat.zero_le _⟩ (fun ra _ era => ?_)
  refine vv_ws (ws' := js_w ad cB cI (ch) (fl) (cr) (I) (fm) (op) (nx) (pl) (sf) (di) (K) (F) (fs) (Nb) (Ct) (Pt) (d)) rfl ?_
  rw [if_neg ha] at era
  subst era
  refine vv_if_ne (tgt := 13) X jd_JS_get_8 rfl (fun h => absurd rfl h) (fun h => ?_)
  refine vv_iconst (v := 0) X jd_JS_get_11 (by decide +kernel) ?_
  exact ret _ _ 12 _ () jd_JS_get_12 rfl rfl
set_option maxRecDepth 100000 in
theorem jc_get_yes (l : Launch) (D : va_G) (cB cI : ClassId) (ad : Nat → Nat) (ch fl cr : Nat) (I : Nat → Int32) (fm op nx pl sf : Nat) (di : Int32) (K F : Nat → Int32) (fs : Nat → Nat) (Nb Ct Pt : Nat → Int32) (d : DS) (x : Nat) (hx : x < 212) (hd : ds_ok d) (hm : fm ≤ 24) (hs : ∀ k, k < fm → fs k < 212) (hF : sb_Fit F) (hK : sb_Fit K) (hI : sb_Fit I) : MetI l jy_JS_get jb_JS_get 3 3 .int D cB cI (js_w ad cB cI (ch) (fl) (cr) (I) (fm) (op) (nx) (pl) (sf) (di) (K) (F) (fs) (Nb) (Ct) (Pt) (d)) ([.ref (ad 0), .int (nI x)]) (fun (r : Int32) (u : (Nat → Int32) × (Nat → Int32)) => r = b4_get (sh_rd fm fs F d x) 0 ∧ sb_Fit u.1 ∧ sb_Fit u.2) (fun u => js_w ad cB cI (ch) (fl) (cr) (u.1) (fm) (op) (nx) (pl) (sf) (di) (u.2) (F) (fs) (Nb) (Ct) (Pt) (d)) := by
  refine MetI.of (lv0 := [(0, .ref (ad 0)), (1, .int (nI x))]) "JournalShelf" rfl (by decide +kernel) (Nat.le_of_ble_eq_true rfl) rfl ?_
  intro p e s m args below meth c A Q X ret
  refine vv_iload_n X jd_JS_get_0 1 rfl rfl ?_
  refine vv_iconst X jd_JS_get_1 ci_0 ?_
  refine vv_sipush X jd_JS_get_2 cs_211 ?_
  refine vv_cSi (As := [.int (nI x), .int (nI 0), .int (nI 211)]) X (jc_in l D cB cI (nI x) (nI 0) (nI 211)) ok_JS_20 ⟨rfl, rfl, Nat.le_of_ble_eq_true rfl, Nat.le_of_ble_eq_true rfl⟩ jd_JS_get_5 [] rfl rfl [] (fun _ => rfl) rfl rfl rfl (Nat.le_of_ble_eq_true rfl) ⟨Nat.zero_le _, Nat.zero_le _⟩ (fun ra _ era => ?_)
  refine vv_ws (ws' := js_w ad cB cI (ch) (fl) (cr) (I) (fm) (op) (nx) (pl) (sf) (di) (K) (F) (fs) (Nb) (Ct) (Pt) (d)) rfl ?_
  rw [if_pos ⟨nI_le (Nat.zero_le _) (by omega), nI_le (by omega) (by omega)⟩] at era
  subst era
  refine vv_if_ne (tgt := 13) X jd_JS_get_8 rfl (fun h => ?_) (fun h => absurd h (show ¬ (1 : Int32) = 0 by decide))
  refine vv_aload_n X jd_JS_get_13 0 rfl rfl ?_
  refine gf_JS_10 X 0 jd_JS_get_14 rfl rfl ?_
  refine vv_iload_n X jd_JS_get_17 1 rfl rfl ?_
  refine vv_aload_n X jd_JS_get_18 0 rfl rfl ?_
  refine gf_JS_16 X 0 jd_JS_get_19 rfl rfl ?_
  refine vv_cVv (As := [.int (nI x), .ref (ad 1)]) X (jc_sread l D cB cI ad fm op nx pl sf di K F fs Nb Ct Pt d I x hd hm hs (by omega) hF hK hI) ok_JS_79 ⟨rfl, rfl, Nat.le_of_ble_eq_true rfl, Nat.le_of_ble_eq_true rfl⟩ jd_JS_get_22 2 1 rfl rfl rfl [2, 3, 4, 5, 6, 7, 8, 9, 10, 11, 12, 1] rfl rfl [ad 2, ad 3, ad 4, ad 5, ad 6, ad 7, ad 8, ad 9, ad 10, ad 11, ad 12, ad 1] (fun _ => rfl) rfl rfl rfl (Nat.le_of_ble_eq_true rfl) ⟨Nat.zero_le _, Nat.zero_le _⟩ (fun u hu => ?_)
  refine vv_ws (ws' := js_w ad cB cI (ch) (fl) (cr) (u.1) (fm) (op) (nx) (pl) (sf) (di) (u.2) (F) (fs) (Nb) (Ct) (Pt) (d)) rfl ?_
  have g0 : b4_get u.1 0 = b4_get (sh_rd fm fs F d x) 0 := b4_get_congr (hu.2.2 _ (by omega)) (hu.2.2 _ (by omega)) (hu.2.2 _ (by omega)) (hu.2.2 _ (by omega))
  refine vv_aload_n X jd_JS_get_25 0 rfl rfl ?_
  refine gf_JS_16 X 0 jd_JS_get_26 rfl rfl ?_
  refine vv_iconst X jd_JS_get_29 ci_0 ?_
  refine vv_cSi (As := [.ref (ad 1), .int (nI (0))]) X (jc_get4 l D cB cI (ad 1) 496 u.1 (0) (by omega) (by decide)) ok_JS_82 ⟨rfl, rfl, Nat.le_of_ble_eq_true rfl, Nat.le_of_ble_eq_true rfl⟩ jd_JS_get_30 [1] rfl rfl [ad 1] (fun _ => rfl) rfl rfl rfl (Nat.le_of_ble_eq_true rfl) ⟨Nat.zero_le _, Nat.zero_le _⟩ (fun ra _ era => ?_)
  refine vv_ws (ws' := js_w ad cB cI (ch) (fl) (cr) (u.1) (fm) (op) (nx) (pl) (sf) (di) (u.2) (F) (fs) (Nb) (Ct) (Pt) (d)) rfl ?_
  subst era
  rw [g0]
  refine vv_istore_n X jd_JS_get_33 [1, 2, 0] rfl (Nat.le_of_ble_eq_true rfl) rfl ?_
  refine vv_aload_n X jd_JS_get_34 0 rfl rfl ?_
  refine gf_JS_16 X 0 jd_JS_get_35 rfl rfl ?_
  refine vv_iconst X jd_JS_get_38 ci_4 ?_
  refine vv_cSi (As := [.ref (ad 1), .int (nI (4))]) X (jc_get4 l D cB cI (ad 1) 496 u.1 (4) (by omega) (by decide)) ok_JS_82 ⟨rfl, rfl, Nat.le_of_ble_eq_true rfl, Nat.le_of_ble_eq_true rfl⟩ jd_JS_get_39 [1] rfl rfl [ad 1] (fun _ => rfl) rfl rfl rfl (Nat.le_of_ble_eq_true rfl) ⟨Nat.zero_le _, Nat.zero_le _⟩ (fun rb _ erb => ?_)
  refine vv_ws (ws' := js_w ad cB cI (ch) (fl) (cr) (u.1) (fm) (op) (nx) (pl) (sf) (di) (u.2) (F) (fs) (Nb) (Ct) (Pt) (d)) rfl ?_
  refine vv_if_ne (tgt := 53) X jd_JS_get_42 rfl (fun h1 => ?_) (fun h1 => ?_)
  · refine vv_iload_n X jd_JS_get_53 2 rfl rfl ?_
    exact ret _ _ 54 _ u jd_JS_get_54 ⟨rfl, hu.1, hu.2.1⟩ rfl
  · refine vv_iload_n X jd_JS_get_45 2 rfl rfl ?_
    refine vv_if_ne (tgt := 53) X jd_JS_get_46 rfl (fun h2 => ?_) (fun h2 => ?_)
    · refine vv_iload_n X jd_JS_get_53 2 rfl rfl ?_
      exact ret _ _ 54 _ u jd_JS_get_54 ⟨rfl, hu.1, hu.2.1⟩ rfl
    · refine vv_iconst (v := 0) X jd_JS_get_49 (by decide +kernel) ?_
      refine vv_goto (tgt := 54) X jd_JS_get_50 rfl ?_
      exact ret _ _ 54 _ u jd_JS_get_54 ⟨h2.symm, hu.1, hu.2.1⟩ rfl
/-- a good image -/
def tgood (G : Nat → Int32) : Prop := ∀ n, n < 124 → b4_get G (4 * n) = if b4_get G 0 = 0 ∧ b4_get G 4 = 0 then 0 else b4_get G 0 + nI (4 * n)
set_option maxRecDepth 100000 in
theorem jc_torn (l : Launch) (D : va_G) (cB cI : ClassId) (ad : Nat → Nat) (ch fl cr : Nat) (I : Nat → Int32) (fm op nx pl sf : Nat) (di : Int32) (K F : Nat → Int32) (fs : Nat → Nat) (Nb Ct Pt : Nat → Int32) (d : DS) (hd : ds_ok d) (hm : fm ≤ 24) (hs : ∀ k, k < fm → fs k < 212) (hF : sb_Fit F) (hK : sb_Fit K) (hI : sb_Fit I) (hg : ∀ x, x < 212 → tgood (sh_rd fm fs F d x)) : MetI l jy_JS_torn jb_JS_torn 7 3 .int D cB cI (js_w ad cB cI (ch) (fl) (cr) (I) (fm) (op) (nx) (pl) (sf) (di) (K) (F) (fs) (Nb) (Ct) (Pt) (d)) ([.ref (ad 0)]) (fun (r : Int32) (u : (Nat → Int32) × (Nat → Int32)) => r = nI 0 ∧ sb_Fit u.1 ∧ sb_Fit u.2) (fun u => js_w ad cB cI (ch) (fl) (cr) (u.1) (fm) (op) (nx) (pl) (sf) (di) (u.2) (F) (fs) (Nb) (Ct) (Pt) (d)) := by
  refine MetI.of (lv0 := [(0, .ref (ad 0))]) "JournalShelf" rfl (by decide +kernel) (Nat.le_of_ble_eq_true rfl) rfl ?_
  intro p e s m args below meth c A Q X ret
  refine vv_iconst X jd_JS_torn_0 ci_0 ?_
  refine vv_istore_n X jd_JS_torn_1 [1, 0] rfl (Nat.le_of_ble_eq_true rfl) rfl ?_
  refine vv_iconst X jd_JS_torn_2 ci_0 ?_
  refine vv_istore_n X jd_JS_torn_3 [1, 2, 0] rfl (Nat.le_of_ble_eq_true rfl) rfl ?_
  have loop : ∀ x, x ≤ 212 → ∀ I K, sb_Fit I → sb_Fit K → VV p l e (js_room 3) s m args below meth c D A 7 0 0 Q (js_w ad cB cI (ch) (fl) (cr) (I) (fm) (op) (nx) (pl) (sf) (di) (K) (F) (fs) (Nb) (Ct) (Pt) (d)) ([(0, .ref (ad 0)), (1, .int (nI 0)), (2, .int (nI x))]) 4 ([]) := by
    refine js_up ?_
    intro x hx0 ih I K hI hK
    refine vv_iload_n X jd_JS_torn_4 2 rfl rfl ?_
    refine vv_sipush X jd_JS_torn_5 cs_212 ?_
    refine vv_icmp_ge (tgt := 123) X jd_JS_torn_8 rfl (fun h => ?_) (fun h => ?_)
    · refine vv_iload_n X jd_JS_torn_123 1 rfl rfl ?_
      exact ret _ _ 124 _ (I, K) jd_JS_torn_124 ⟨rfl, hI, hK⟩ rfl
    · have hx : x < 212 := nn_lt (by omega) (by omega) h
      refine vv_aload_n X jd_JS_torn_11 0 rfl rfl ?_
      refine gf_JS_10 X 0 jd_JS_torn_12 rfl rfl ?_
      refine vv_iload_n X jd_JS_torn_15 2 rfl rfl ?_
      refine vv_aload_n X jd_JS_torn_16 0 rfl rfl ?_
      refine gf_JS_16 X 0 jd_JS_torn_17 rfl rfl ?_
      refine vv_cVv (As := [.int (nI x), .ref (ad 1)]) X (jc_sread l D cB cI ad fm op nx pl sf di K F fs Nb Ct Pt d I x hd hm hs (by omega) hF hK hI) ok_JS_79 ⟨rfl, rfl, Nat.le_of_ble_eq_true rfl, Nat.le_of_ble_eq_true rfl⟩ jd_JS_torn_20 2 1 rfl rfl rfl [2, 3, 4, 5, 6, 7, 8, 9, 10, 11, 12, 1] rfl rfl [ad 2, ad 3, ad 4, ad 5, ad 6, ad 7, ad 8, ad 9, ad 10, ad 11, ad 12, ad 1] (fun _ => rfl) rfl rfl rfl (Nat.le_of_ble_eq_true rfl) ⟨Nat.zero_le _, Nat.zero_le _⟩ (fun u hu => ?_)
      refine vv_ws (ws' := js_w ad cB cI (ch) (fl) (cr) (u.1) (fm) (op) (nx) (pl) (sf) (di) (u.2) (F) (fs) (Nb) (Ct) (Pt) (d)) rfl ?_
      have gg : ∀ k, k + 4 ≤ 496 → b4_get u.1 k = b4_get (sh_rd fm fs F d x) k := fun k hk => b4_get_congr (hu.2.2 _ (by omega)) (hu.2.2 _ (by omega)) (hu.2.2 _ (by omega)) (hu.2.2 _ (by omega))
      have hgx := hg x hx
      generalize sh_rd fm fs F d x = G at gg hgx
      refine vv_aload_n X jd_JS_torn_23 0 rfl rfl ?_
      refine gf_JS_16 X 0 jd_JS_torn_24 rfl rfl ?_
      refine vv_iconst X jd_JS_torn_27 ci_0 ?_
      refine vv_cSi (As := [.ref (ad 1), .int (nI (0))]) X (jc_get4 l D cB cI (ad 1) 496 u.1 (0) (by omega) (by decide)) ok_JS_82 ⟨rfl, rfl, Nat.le_of_ble_eq_true rfl, Nat.le_of_ble_eq_true rfl⟩ jd_JS_torn_28 [1] rfl rfl [ad 1] (fun _ => rfl) rfl rfl rfl (Nat.le_of_ble_eq_true rfl) ⟨Nat.zero_le _, Nat.zero_le _⟩ (fun ra _ era => ?_)
      refine vv_ws (ws' := js_w ad cB cI (ch) (fl) (cr) (u.1) (fm) (op) (nx) (pl) (sf) (di) (u.2) (F) (fs) (Nb) (Ct) (Pt) (d)) rfl ?_
      subst era
      rw [gg 0 (by omega)]
      refine vv_istore_n X jd_JS_torn_31 [1, 2, 3, 0] rfl (Nat.le_of_ble_eq_true rfl) rfl ?_
      have inner : ∀ n, n ≤ 124 → VV p l e (js_room 3) s m args below meth c D A 7 0 0 Q (js_w ad cB cI (ch) (fl) (cr) (u.1) (fm) (op) (nx) (pl) (sf) (di) (u.2) (F) (fs) (Nb) (Ct) (Pt) (d)) ([(0, .ref (ad 0)), (1, .int (nI 0)), (2, .int (nI x)), (3, .int (b4_get G 0)), (4, .int (if b4_get G 0 = 0 ∧ b4_get G 4 = 0 then nI 1 else nI 0)), (5, .int (nI 0)), (6, .int (nI (4 * n)))]) 60 ([]) := by
        refine js_up ?_
        intro n hn ih2
        refine vv_iload X jd_JS_torn_60 6 rfl ?_
        refine vv_sipush X jd_JS_torn_62 cs_496 ?_
        refine vv_icmp_ge (tgt := 109) X jd_JS_torn_65 rfl (fun h1 => ?_) (fun h1 => ?_)
        · refine vv_iload X jd_JS_torn_109 5 rfl ?_
          refine vv_if_eq (tgt := 117) X jd_JS_torn_111 rfl (fun h => ?_) (fun h => absurd rfl h)
          refine vv_iinc X jd_JS_torn_117 2 [1, 2, 0, 3, 4, 5, 6] rfl (cn_1 x) (Nat.le_of_ble_eq_true rfl) rfl ?_
          refine vv_goto (tgt := 4) X jd_JS_torn_120 rfl ?_
          refine vv_lv [0, 1, 2] rfl ?_
          exact ih hx _ _ hu.1 hu.2.1
        · have e9 : n < 124 := by have := nn_lt (by omega) (by omega) h1; omega
          refine vv_iload X jd_JS_torn_68 5 rfl ?_
          refine vv_aload_n X jd_JS_torn_70 0 rfl rfl ?_
          refine gf_JS_16 X 0 jd_JS_torn_71 rfl rfl ?_
          refine vv_iload X jd_JS_torn_74 6 rfl ?_
          refine vv_cSi (As := [.ref (ad 1), .int (nI (4 * n))]) X (jc_get4 l D cB cI (ad 1) 496 u.1 (4 * n) (by omega) (by decide)) ok_JS_82 ⟨rfl, rfl, Nat.le_of_ble_eq_true rfl, Nat.le_of_ble_eq_true rfl⟩ jd_JS_torn_76 [1] rfl rfl [ad 1] (fun _ => rfl) rfl rfl rfl (Nat.le_of_ble_eq_true rfl) ⟨Nat.zero_le _, Nat.zero_le _⟩ (fun rc _ erc => ?_)
          refine vv_ws (ws' := js_w ad cB cI (ch) (fl) (cr) (u.1) (fm) (op) (nx) (pl) (sf) (di) (u.2) (F) (fs) (Nb) (Ct) (Pt) (d)) rfl ?_
          rw [gg (4 * n) (by omega), hgx n e9] at erc
          subst erc
          refine vv_iload X jd_JS_torn_79 4 rfl ?_
          refine vv_if_eq (tgt := 88) X jd_JS_torn_81 rfl (fun y => ?_) (fun y => ?_)
          · have y1 : ¬ (b4_get G 0 = 0 ∧ b4_get G 4 = 0) := fun z => by rw [if_pos z] at y; exact absurd y (by decide)
            rw [if_neg y1] at ih2 ⊢
            rw [if_neg y1]
            refine vv_iload_n X jd_JS_torn_88 3 rfl rfl ?_
            refine vv_iload X jd_JS_torn_89 6 rfl ?_
            refine vv_iadd X jd_JS_torn_91 rfl ?_
            refine vv_icmp_eq (tgt := 99) X jd_JS_torn_92 rfl (fun h => ?_) (fun h => absurd rfl h)
            refine vv_iconst X jd_JS_torn_99 ci_0 ?_
            refine vv_ior X jd_JS_torn_100 (show nI 0 ||| nI 0 = nI 0 by decide) ?_
            refine vv_istore X jd_JS_torn_101 [1, 2, 3, 4, 5, 0, 6] (Nat.le_of_ble_eq_true rfl) rfl ?_
            refine vv_iinc X jd_JS_torn_103 6 [1, 2, 3, 4, 5, 6, 0] rfl (cn_4 (4 * n)) (Nat.le_of_ble_eq_true rfl) rfl ?_
            refine vv_goto (tgt := 60) X jd_JS_torn_106 rfl ?_
            have i2 := ih2 e9
            exact ih2 e9
          · have y1 : b4_get G 0 = 0 ∧ b4_get G 4 = 0 := by
              by_cases z : b4_get G 0 = 0 ∧ b4_get G 4 = 0
              · exact z
              · rw [if_neg z] at y; exact absurd rfl y
            rw [if_pos y1] at ih2 ⊢
            rw [if_pos y1]
            refine vv_iconst X jd_JS_torn_84 ci_0 ?_
            refine vv_goto (tgt := 92) X jd_JS_torn_85 rfl ?_
            refine vv_icmp_eq (tgt := 99) X jd_JS_torn_92 rfl (fun h => ?_) (fun h => absurd rfl h)
            refine vv_iconst X jd_JS_torn_99 ci_0 ?_
            refine vv_ior X jd_JS_torn_100 (show nI 0 ||| nI 0 = nI 0 by decide) ?_
            refine vv_istore X jd_JS_torn_101 [1, 2, 3, 4, 5, 0, 6] (Nat.le_of_ble_eq_true rfl) rfl ?_
            refine vv_iinc X jd_JS_torn_103 6 [1, 2, 3, 4, 5, 6, 0] rfl (cn_4 (4 * n)) (Nat.le_of_ble_eq_true rfl) rfl ?_
            refine vv_goto (tgt := 60) X jd_JS_torn_106 rfl ?_
            exact ih2 e9
      have k52 : ∀ z, z = (if b4_get G 0 = 0 ∧ b4_get G 4 = 0 then nI 1 else nI 0) → VV p l e (js_room 3) s m args below meth c D A 7 0 0 Q (js_w ad cB cI (ch) (fl) (cr) (u.1) (fm) (op) (nx) (pl) (sf) (di) (u.2) (F) (fs) (Nb) (Ct) (Pt) (d)) ([(0, .ref (ad 0)), (1, .int (nI 0)), (2, .int (nI x)), (3, .int (b4_get G 0))]) 52 ([.int z]) := by
        intro z hz
        subst hz
        refine vv_istore X jd_JS_torn_52 [1, 2, 3, 4, 0] (Nat.le_of_ble_eq_true rfl) rfl ?_
        refine vv_iconst X jd_JS_torn_54 ci_0 ?_
        refine vv_istore X jd_JS_torn_55 [1, 2, 3, 4, 5, 0] (Nat.le_of_ble_eq_true rfl) rfl ?_
        refine vv_iconst X jd_JS_torn_57 ci_0 ?_
        refine vv_istore X jd_JS_torn_58 [1, 2, 3, 4, 5, 6, 0] (Nat.le_of_ble_eq_true rfl) rfl ?_
        exact inner 0 (Nat.zero_le _)
      refine vv_iload_n X jd_JS_torn_32 3 rfl rfl ?_
      refine vv_if_ne (tgt := 51) X jd_JS_torn_33 rfl (fun y => ?_) (fun y => ?_)
      · refine vv_iconst X jd_JS_torn_51 ci_0 ?_
        exact k52 _ (by rw [if_neg (fun z => y z.1)])
      · refine vv_aload_n X jd_JS_torn_36 0 rfl rfl ?_
        refine gf_JS_16 X 0 jd_JS_torn_37 rfl rfl ?_
        refine vv_iconst X jd_JS_torn_40 ci_4 ?_
        refine vv_cSi (As := [.ref (ad 1), .int (nI (4))]) X (jc_get4 l D cB cI (ad 1) 496 u.1 (4) (by omega) (by decide)) ok_JS_82 ⟨rfl, rfl, Nat.le_of_ble_eq_true rfl, Nat.le_of_ble_eq_true rfl⟩ jd_JS_torn_41 [1] rfl rfl [ad 1] (fun _ => rfl) rfl rfl rfl (Nat.le_of_ble_eq_true rfl) ⟨Nat.zero_le _, Nat.zero_le _⟩ (fun rb _ erb => ?_)
        refine vv_ws (ws' := js_w ad cB cI (ch) (fl) (cr) (u.1) (fm) (op) (nx) (pl) (sf) (di) (u.2) (F) (fs) (Nb) (Ct) (Pt) (d)) rfl ?_
        rw [gg 4 (by omega)] at erb
        subst erb
        refine vv_if_ne (tgt := 51) X jd_JS_torn_44 rfl (fun y2 => ?_) (fun y2 => ?_)
        · refine vv_iconst X jd_JS_torn_51 ci_0 ?_
          exact k52 _ (by rw [if_neg (fun z => y2 z.2)])
        · refine vv_iconst X jd_JS_torn_47 ci_1 ?_
          refine vv_goto (tgt := 52) X jd_JS_torn_48 rfl ?_
          exact k52 _ (by rw [if_pos ⟨y, y2⟩])
  exact loop 0 (Nat.zero_le _) I K hI hK
set_option maxRecDepth 100000 in
theorem jc_count_0 (l : Launch) (D : va_G) (cB cI : ClassId) (ad : Nat → Nat) (ch fl cr : Nat) (I : Nat → Int32) (fm op nx pl sf : Nat) (di : Int32) (K F : Nat → Int32) (fs : Nat → Nat) (Nb Ct Pt : Nat → Int32) (d : DS) (hnx : 1 ≤ nx) (hsf : sf ≤ nx - 1) : MetI l jy_JS_count jb_JS_count 2 0 .int D cB cI (js_w ad cB cI (ch) (fl) (cr) (I) (fm) (op) (nx) (pl) (sf) (di) (K) (F) (fs) (Nb) (Ct) (Pt) (d)) ([.ref (ad 0), .int (nI 0)]) (fun (r : Int32) (_ : Unit) => r = nI (nx - 1)) (fun _ => js_w ad cB cI (ch) (fl) (cr) (I) (fm) (op) (nx) (pl) (sf) (di) (K) (F) (fs) (Nb) (Ct) (Pt) (d)) := by
  refine MetI.of (lv0 := [(0, .ref (ad 0)), (1, .int (nI 0))]) "JournalShelf" rfl (by decide +kernel) (Nat.le_of_ble_eq_true rfl) rfl ?_
  intro p e s m args below meth c A Q X ret
  refine vv_iload_n X jd_JS_count_0 1 rfl rfl ?_
  refine vv_swIn (tgt := 40) X jd_JS_count_1 (by decide +kernel) (by decide +kernel) (off := 39) (by decide +kernel) rfl ?_
  refine vv_aload_n X jd_JS_count_40 0 rfl rfl ?_
  refine gf_JS_10 X 0 jd_JS_count_41 rfl rfl ?_
  refine gf_JS_54 X 2 jd_JS_count_44 rfl rfl ?_
  refine vv_iconst X jd_JS_count_47 ci_1 ?_
  refine vv_isub X jd_JS_count_48 (pk_sub hnx) ?_
  exact ret _ _ 49 _ () jd_JS_count_49 rfl rfl
set_option maxRecDepth 100000 in
theorem jc_count_1 (l : Launch) (D : va_G) (cB cI : ClassId) (ad : Nat → Nat) (ch fl cr : Nat) (I : Nat → Int32) (fm op nx pl sf : Nat) (di : Int32) (K F : Nat → Int32) (fs : Nat → Nat) (Nb Ct Pt : Nat → Int32) (d : DS) (hnx : 1 ≤ nx) (hsf : sf ≤ nx - 1) : MetI l jy_JS_count jb_JS_count 2 0 .int D cB cI (js_w ad cB cI (ch) (fl) (cr) (I) (fm) (op) (nx) (pl) (sf) (di) (K) (F) (fs) (Nb) (Ct) (Pt) (d)) ([.ref (ad 0), .int (nI 1)]) (fun (r : Int32) (_ : Unit) => r = nI (nx - 1 - sf)) (fun _ => js_w ad cB cI (ch) (fl) (cr) (I) (fm) (op) (nx) (pl) (sf) (di) (K) (F) (fs) (Nb) (Ct) (Pt) (d)) := by
  refine MetI.of (lv0 := [(0, .ref (ad 0)), (1, .int (nI 1))]) "JournalShelf" rfl (by decide +kernel) (Nat.le_of_ble_eq_true rfl) rfl ?_
  intro p e s m args below meth c A Q X ret
  refine vv_iload_n X jd_JS_count_0 1 rfl rfl ?_
  refine vv_swIn (tgt := 50) X jd_JS_count_1 (by decide +kernel) (by decide +kernel) (off := 49) (by decide +kernel) rfl ?_
  refine vv_aload_n X jd_JS_count_50 0 rfl rfl ?_
  refine gf_JS_10 X 0 jd_JS_count_51 rfl rfl ?_
  refine gf_JS_54 X 2 jd_JS_count_54 rfl rfl ?_
  refine vv_iconst X jd_JS_count_57 ci_1 ?_
  refine vv_isub X jd_JS_count_58 (pk_sub hnx) ?_
  refine vv_aload_n X jd_JS_count_59 0 rfl rfl ?_
  refine gf_JS_10 X 0 jd_JS_count_60 rfl rfl ?_
  refine gf_JS_57 X 2 jd_JS_count_63 rfl rfl ?_
  refine vv_isub X jd_JS_count_66 (pk_sub hsf) ?_
  exact ret _ _ 67 _ () jd_JS_count_67 rfl rfl
set_option maxRecDepth 100000 in
theorem jc_count_2 (l : Launch) (D : va_G) (cB cI : ClassId) (ad : Nat → Nat) (ch fl cr : Nat) (I : Nat → Int32) (fm op nx pl sf : Nat) (di : Int32) (K F : Nat → Int32) (fs : Nat → Nat) (Nb Ct Pt : Nat → Int32) (d : DS) (hnx : 1 ≤ nx) (hsf : sf ≤ nx - 1) : MetI l jy_JS_count jb_JS_count 2 0 .int D cB cI (js_w ad cB cI (ch) (fl) (cr) (I) (fm) (op) (nx) (pl) (sf) (di) (K) (F) (fs) (Nb) (Ct) (Pt) (d)) ([.ref (ad 0), .int (nI 2)]) (fun (r : Int32) (_ : Unit) => r = nI d.2.2.2) (fun _ => js_w ad cB cI (ch) (fl) (cr) (I) (fm) (op) (nx) (pl) (sf) (di) (K) (F) (fs) (Nb) (Ct) (Pt) (d)) := by
  refine MetI.of (lv0 := [(0, .ref (ad 0)), (1, .int (nI 2))]) "JournalShelf" rfl (by decide +kernel) (Nat.le_of_ble_eq_true rfl) rfl ?_
  intro p e s m args below meth c A Q X ret
  refine vv_iload_n X jd_JS_count_0 1 rfl rfl ?_
  refine vv_swIn (tgt := 68) X jd_JS_count_1 (by decide +kernel) (by decide +kernel) (off := 67) (by decide +kernel) rfl ?_
  refine vv_aload_n X jd_JS_count_68 0 rfl rfl ?_
  refine gf_JS_10 X 0 jd_JS_count_69 rfl rfl ?_
  refine gf_JS_63 X 2 jd_JS_count_72 rfl rfl ?_
  refine gf_JS_86 X 9 jd_JS_count_75 rfl rfl ?_
  exact ret _ _ 78 _ () jd_JS_count_78 rfl rfl
set_option maxRecDepth 100000 in
theorem jc_count_3 (l : Launch) (D : va_G) (cB cI : ClassId) (ad : Nat → Nat) (ch fl cr : Nat) (I : Nat → Int32) (fm op nx pl sf : Nat) (di : Int32) (K F : Nat → Int32) (fs : Nat → Nat) (Nb Ct Pt : Nat → Int32) (d : DS) (hnx : 1 ≤ nx) (hsf : sf ≤ nx - 1) : MetI l jy_JS_count jb_JS_count 2 0 .int D cB cI (js_w ad cB cI (ch) (fl) (cr) (I) (fm) (op) (nx) (pl) (sf) (di) (K) (F) (fs) (Nb) (Ct) (Pt) (d)) ([.ref (ad 0), .int (nI 3)]) (fun (r : Int32) (_ : Unit) => r = nI ch) (fun _ => js_w ad cB cI (ch) (fl) (cr) (I) (fm) (op) (nx) (pl) (sf) (di) (K) (F) (fs) (Nb) (Ct) (Pt) (d)) := by
  refine MetI.of (lv0 := [(0, .ref (ad 0)), (1, .int (nI 3))]) "JournalShelf" rfl (by decide +kernel) (Nat.le_of_ble_eq_true rfl) rfl ?_
  intro p e s m args below meth c A Q X ret
  refine vv_iload_n X jd_JS_count_0 1 rfl rfl ?_
  refine vv_swIn (tgt := 79) X jd_JS_count_1 (by decide +kernel) (by decide +kernel) (off := 78) (by decide +kernel) rfl ?_
  refine vv_aload_n X jd_JS_count_79 0 rfl rfl ?_
  refine gf_JS_24 X 0 jd_JS_count_80 rfl rfl ?_
  exact ret _ _ 83 _ () jd_JS_count_83 rfl rfl
set_option maxRecDepth 100000 in
theorem jc_count_4 (l : Launch) (D : va_G) (cB cI : ClassId) (ad : Nat → Nat) (ch fl cr : Nat) (I : Nat → Int32) (fm op nx pl sf : Nat) (di : Int32) (K F : Nat → Int32) (fs : Nat → Nat) (Nb Ct Pt : Nat → Int32) (d : DS) (hnx : 1 ≤ nx) (hsf : sf ≤ nx - 1) : MetI l jy_JS_count jb_JS_count 2 0 .int D cB cI (js_w ad cB cI (ch) (fl) (cr) (I) (fm) (op) (nx) (pl) (sf) (di) (K) (F) (fs) (Nb) (Ct) (Pt) (d)) ([.ref (ad 0), .int (nI 4)]) (fun (r : Int32) (_ : Unit) => r = nI fl) (fun _ => js_w ad cB cI (ch) (fl) (cr) (I) (fm) (op) (nx) (pl) (sf) (di) (K) (F) (fs) (Nb) (Ct) (Pt) (d)) := by
  refine MetI.of (lv0 := [(0, .ref (ad 0)), (1, .int (nI 4))]) "JournalShelf" rfl (by decide +kernel) (Nat.le_of_ble_eq_true rfl) rfl ?_
  intro p e s m args below meth c A Q X ret
  refine vv_iload_n X jd_JS_count_0 1 rfl rfl ?_
  refine vv_swIn (tgt := 84) X jd_JS_count_1 (by decide +kernel) (by decide +kernel) (off := 83) (by decide +kernel) rfl ?_
  refine vv_aload_n X jd_JS_count_84 0 rfl rfl ?_
  refine gf_JS_31 X 0 jd_JS_count_85 rfl rfl ?_
  exact ret _ _ 88 _ () jd_JS_count_88 rfl rfl
set_option maxRecDepth 100000 in
theorem jc_count_5 (l : Launch) (D : va_G) (cB cI : ClassId) (ad : Nat → Nat) (ch fl cr : Nat) (I : Nat → Int32) (fm op nx pl sf : Nat) (di : Int32) (K F : Nat → Int32) (fs : Nat → Nat) (Nb Ct Pt : Nat → Int32) (d : DS) (hnx : 1 ≤ nx) (hsf : sf ≤ nx - 1) : MetI l jy_JS_count jb_JS_count 2 0 .int D cB cI (js_w ad cB cI (ch) (fl) (cr) (I) (fm) (op) (nx) (pl) (sf) (di) (K) (F) (fs) (Nb) (Ct) (Pt) (d)) ([.ref (ad 0), .int (nI 5)]) (fun (r : Int32) (_ : Unit) => r = nI cr) (fun _ => js_w ad cB cI (ch) (fl) (cr) (I) (fm) (op) (nx) (pl) (sf) (di) (K) (F) (fs) (Nb) (Ct) (Pt) (d)) := by
  refine MetI.of (lv0 := [(0, .ref (ad 0)), (1, .int (nI 5))]) "JournalShelf" rfl (by decide +kernel) (Nat.le_of_ble_eq_true rfl) rfl ?_
  intro p e s m args below meth c A Q X ret
  refine vv_iload_n X jd_JS_count_0 1 rfl rfl ?_
  refine vv_swIn (tgt := 89) X jd_JS_count_1 (by decide +kernel) (by decide +kernel) (off := 88) (by decide +kernel) rfl ?_
  refine vv_aload_n X jd_JS_count_89 0 rfl rfl ?_
  refine gf_JS_76 X 0 jd_JS_count_90 rfl rfl ?_
  exact ret _ _ 93 _ () jd_JS_count_93 rfl rfl
set_option maxRecDepth 100000 in
theorem jc_count_out (l : Launch) (D : va_G) (cB cI : ClassId) (ad : Nat → Nat) (ch fl cr : Nat) (I : Nat → Int32) (fm op nx pl sf : Nat) (di : Int32) (K F : Nat → Int32) (fs : Nat → Nat) (Nb Ct Pt : Nat → Int32) (d : DS) (a : Int32) (ha : a.toInt < 0 ∨ 5 < a.toInt) : MetI l jy_JS_count jb_JS_count 2 0 .int D cB cI (js_w ad cB cI (ch) (fl) (cr) (I) (fm) (op) (nx) (pl) (sf) (di) (K) (F) (fs) (Nb) (Ct) (Pt) (d)) ([.ref (ad 0), .int a]) (fun (r : Int32) (_ : Unit) => r = -1) (fun _ => js_w ad cB cI (ch) (fl) (cr) (I) (fm) (op) (nx) (pl) (sf) (di) (K) (F) (fs) (Nb) (Ct) (Pt) (d)) := by
  refine MetI.of (lv0 := [(0, .ref (ad 0)), (1, .int a)]) "JournalShelf" rfl (by decide +kernel) (Nat.le_of_ble_eq_true rfl) rfl ?_
  intro p e s m args below meth c A Q X ret
  refine vv_iload_n X jd_JS_count_0 1 rfl rfl ?_
  refine vv_swOut (tgt := 94) X jd_JS_count_1 ha rfl ?_
  refine vv_iconst X jd_JS_count_94 ci_m1 ?_
  exact ret _ _ 95 _ () jd_JS_count_95 rfl rfl
end
section
/-- the reference's cells -/
abbrev md_w (ad : Nat → Nat) (cB cI : ClassId) (fd nw : Nat → Int32) (ms : Nat → Nat) (mv : Nat → Int32) (ml os : Nat → Nat) (ov : Nat → Int32) (mc mh mo md mi mf mr : Nat) : va_W := [(ad 13, .inr (3, [.ref (ad 14), .ref (ad 15), .ref (ad 16), .ref (ad 17), .ref (ad 18), .int (nI mc), .int (nI mh), .ref (ad 19), .ref (ad 20), .int (nI mo), .int (nI md), .int (nI mi), .int (nI mf), .int (nI mr)])), (ad 14, .inl (cI, 212, .inl fd)), (ad 15, .inl (cI, 212, .inl nw)), (ad 16, .inl (cI, 24, .inl (nF ms))), (ad 17, .inl (cI, 24, .inl mv)), (ad 18, .inl (cI, 24, .inl (nF ml))), (ad 19, .inl (cI, 17, .inl (nF os))), (ad 20, .inl (cI, 17, .inl ov))]
/-- no change before i is of the slot of change k -/
def di_f (ms : Nat → Nat) (k : Nat) : Nat → Bool
  | 0 => true
  | i + 1 => di_f ms k i && decide (ms i ≠ ms k)
def di_n (ms : Nat → Nat) : Nat → Nat
  | 0 => 0
  | k + 1 => if di_f ms k k = true then di_n ms k + 1 else di_n ms k
theorem di_n_le (ms : Nat → Nat) : ∀ k, di_n ms k ≤ k
  | 0 => Nat.le_refl _
  | k + 1 => by
    have ih := di_n_le ms k
    simp only [di_n]
    split <;> omega
/-- a deed's changes go to the list, the first k -/
def cmS (ms os : Nat → Nat) (mc : Nat) : Nat → Nat → Nat
  | 0 => ms
  | k + 1 => uN_ (cmS ms os mc k) (mc + k) (os k)
def cmV (mv ov : Nat → Int32) (mc : Nat) : Nat → Nat → Int32
  | 0 => mv
  | k + 1 => upd (cmV mv ov mc k) (mc + k) (ov k)
def cmL (ml : Nat → Nat) (mc n : Nat) : Nat → Nat → Nat
  | 0 => ml
  | k + 1 => uN_ (cmL ml mc n k) (mc + k) (if k + 1 = n then 1 else 0)
def cmN (nw : Nat → Int32) (os : Nat → Nat) (ov : Nat → Int32) : Nat → Nat → Int32
  | 0 => nw
  | k + 1 => upd (cmN nw os ov k) (os k) (ov k)
/-- a crash goes over the list -/
def cr_st (mask : Int32) (mh : Nat) : Nat → Bool
  | 0 => true
  | k + 1 => cr_st mask mh k && dk_bit mask (mh + k)
def cr_w (mask : Int32) (mh : Nat) (ml : Nat → Nat) : Nat → Nat
  | 0 => 0
  | k + 1 => if cr_st mask mh (k + 1) = true ∧ ml k = 1 then k + 1 else cr_w mask mh ml k
def cr_k (mask : Int32) (mh : Nat) (ml : Nat → Nat) : Nat → Nat
  | 0 => 0
  | k + 1 => if cr_st mask mh (k + 1) = true ∧ ml k = 1 then cr_k mask mh ml k + 1 else cr_k mask mh ml k
theorem cr_w_le (mask : Int32) (mh : Nat) (ml : Nat → Nat) : ∀ k, cr_w mask mh ml k ≤ k
  | 0 => Nat.le_refl _
  | k + 1 => by
    have ih := cr_w_le mask mh ml k
    simp only [cr_w]
    split <;> omega
theorem cr_k_le (mask : Int32) (mh : Nat) (ml : Nat → Nat) : ∀ k, cr_k mask mh ml k ≤ k
  | 0 => Nat.le_refl _
  | k + 1 => by
    have ih := cr_k_le mask mh ml k
    simp only [cr_k]
    split <;> omega
def crN (nw : Nat → Int32) (ms : Nat → Nat) (mv : Nat → Int32) : Nat → Nat → Int32
  | 0 => nw
  | k + 1 => upd (crN nw ms mv k) (ms k) (mv k)
theorem md_if1 (c : Bool) : (if c = true then nI 1 else nI 0) = nI 0 ↔ c = false := by cases c <;> decide +kernel
set_option maxRecDepth 100000 in
theorem jm_settle (l : Launch) (D : va_G) (cB cI : ClassId) (ad : Nat → Nat) (fd nw : Nat → Int32) (ms : Nat → Nat) (mv : Nat → Int32) (ml os : Nat → Nat) (ov : Nat → Int32) (mc mh mo md mi mf mr : Nat) : MetV l jy_Md_settle jb_Md_settle 2 0 D cB cI (md_w ad cB cI (fd) (nw) (ms) (mv) (ml) (os) (ov) (mc) (mh) (mo) (md) (mi) (mf) (mr)) ([.ref (ad 13)]) (fun (_ : Unit) => True) (fun _ => md_w ad cB cI (prf nw fd 212) (nw) (ms) (mv) (ml) (os) (ov) (0) (mh) (mo) (md) (0) (mf) (mr)) := by
  refine MetV.of (lv0 := [(0, .ref (ad 13))]) "JournalShelfModel" rfl (by decide +kernel) (Nat.le_of_ble_eq_true rfl) rfl ?_
  intro p e s m args below meth c A Q X ret
  refine vv_iconst X jd_Md_settle_0 ci_0 ?_
  refine vv_istore_n X jd_Md_settle_1 [1, 0] rfl (Nat.le_of_ble_eq_true rfl) rfl ?_
  have loop : ∀ k, k ≤ 212 → VV p l e (js_room 0) s m args below meth c D A 2 0 0 Q (md_w ad cB cI (prf nw fd k) (nw) (ms) (mv) (ml) (os) (ov) (mc) (mh) (mo) (md) (mi) (mf) (mr)) ([(0, .ref (ad 13)), (1, .int (nI k))]) 2 ([]) := by
    refine js_up ?_
    intro k hk ih
    refine vv_iload_n X jd_Md_settle_2 1 rfl rfl ?_
    refine vv_sipush X jd_Md_settle_3 cs_212 ?_
    refine vv_icmp_ge (tgt := 27) X jd_Md_settle_6 rfl (fun h => ?_) (fun h => ?_)
    · have e1 : k = 212 := Nat.le_antisymm hk (nn_le (by omega) (by omega) h)
      subst e1
      refine vv_aload_n X jd_Md_settle_27 0 rfl rfl ?_
      refine vv_iconst X jd_Md_settle_28 ci_0 ?_
      refine pf_Md_31 (ws' := md_w ad cB cI (prf nw fd 212) (nw) (ms) (mv) (ml) (os) (ov) (0) (mh) (mo) (md) (mi) (mf) (mr)) X 0 jd_Md_settle_29 rfl (Nat.le_of_ble_eq_true rfl) rfl ?_
      refine vv_aload_n X jd_Md_settle_32 0 rfl rfl ?_
      refine vv_iconst X jd_Md_settle_33 ci_0 ?_
      refine pf_Md_35 (ws' := md_w ad cB cI (prf nw fd 212) (nw) (ms) (mv) (ml) (os) (ov) (0) (mh) (mo) (md) (0) (mf) (mr)) X 0 jd_Md_settle_34 rfl (Nat.le_of_ble_eq_true rfl) rfl ?_
      exact ret _ _ 37 () jd_Md_settle_37 trivial rfl
    · have e1 : k < 212 := nn_lt (by omega) (by omega) h
      refine vv_aload_n X jd_Md_settle_9 0 rfl rfl ?_
      refine gf_Md_9 X 0 jd_Md_settle_10 rfl rfl ?_
      refine vv_iload_n X jd_Md_settle_13 1 rfl rfl ?_
      refine vv_aload_n X jd_Md_settle_14 0 rfl rfl ?_
      refine gf_Md_13 X 0 jd_Md_settle_15 rfl rfl ?_
      refine vv_iload_n X jd_Md_settle_18 1 rfl rfl ?_
      refine vv_iald X 2 jd_Md_settle_19 rfl (k) rfl e1 (by decide) rfl ?_
      refine vv_iast (ws' := md_w ad cB cI (prf nw fd (k + 1)) (nw) (ms) (mv) (ml) (os) (ov) (mc) (mh) (mo) (md) (mi) (mf) (mr)) X 1 jd_Md_settle_20 rfl (k) rfl e1 (by decide) (by rw [← prf_s]; rfl) ?_
      refine vv_iinc X jd_Md_settle_21 1 [1, 0] rfl (cn_1 k) (Nat.le_of_ble_eq_true rfl) rfl ?_
      refine vv_goto (tgt := 2) X jd_Md_settle_24 rfl ?_
      exact ih e1
  have l0 := loop 0 (Nat.zero_le _)
  rw [prf_0] at l0
  exact l0
set_option maxRecDepth 100000 in
theorem jm_distinct (l : Launch) (D : va_G) (cB cI : ClassId) (ad : Nat → Nat) (fd nw : Nat → Int32) (ms : Nat → Nat) (mv : Nat → Int32) (ml os : Nat → Nat) (ov : Nat → Int32) (mc mh mo md mi mf mr : Nat) (hm : mc ≤ 24) (hs : ∀ k, k < mc → ms k < 212) : MetI l jy_Md_distinct jb_Md_distinct 5 0 .int D cB cI (md_w ad cB cI (fd) (nw) (ms) (mv) (ml) (os) (ov) (mc) (mh) (mo) (md) (mi) (mf) (mr)) ([.ref (ad 13)]) (fun (r : Int32) (_ : Unit) => r = nI (di_n ms mc)) (fun _ => md_w ad cB cI (fd) (nw) (ms) (mv) (ml) (os) (ov) (mc) (mh) (mo) (md) (mi) (mf) (mr)) := by
  refine MetI.of (lv0 := [(0, .ref (ad 13))]) "JournalShelfModel" rfl (by decide +kernel) (Nat.le_of_ble_eq_true rfl) rfl ?_
  intro p e s m args below meth c A Q X ret
  refine vv_iconst X jd_Md_distinct_0 ci_0 ?_
  refine vv_istore_n X jd_Md_distinct_1 [1, 0] rfl (Nat.le_of_ble_eq_true rfl) rfl ?_
  refine vv_iconst X jd_Md_distinct_2 ci_0 ?_
  refine vv_istore_n X jd_Md_distinct_3 [1, 2, 0] rfl (Nat.le_of_ble_eq_true rfl) rfl ?_
  have loop : ∀ k, k ≤ mc → VV p l e (js_room 0) s m args below meth c D A 5 0 0 Q (md_w ad cB cI (fd) (nw) (ms) (mv) (ml) (os) (ov) (mc) (mh) (mo) (md) (mi) (mf) (mr)) ([(0, .ref (ad 13)), (1, .int (nI (di_n ms k))), (2, .int (nI k))]) 4 ([]) := by
    refine js_up ?_
    intro k hk ih
    have dl := di_n_le ms k
    refine vv_iload_n X jd_Md_distinct_4 2 rfl rfl ?_
    refine vv_aload_n X jd_Md_distinct_5 0 rfl rfl ?_
    refine gf_Md_31 X 0 jd_Md_distinct_6 rfl rfl ?_
    refine vv_icmp_ge (tgt := 60) X jd_Md_distinct_9 rfl (fun h => ?_) (fun h => ?_)
    · have e1 : k = mc := Nat.le_antisymm hk (nn_le (by omega) (by omega) h)
      subst e1
      refine vv_iload_n X jd_Md_distinct_60 1 rfl rfl ?_
      exact ret _ _ 61 _ () jd_Md_distinct_61 rfl rfl
    · have e1 : k < mc := nn_lt (by omega) (by omega) h
      refine vv_iconst X jd_Md_distinct_12 ci_1 ?_
      refine vv_istore_n X jd_Md_distinct_13 [1, 2, 3, 0] rfl (Nat.le_of_ble_eq_true rfl) rfl ?_
      refine vv_iconst X jd_Md_distinct_14 ci_0 ?_
      refine vv_istore X jd_Md_distinct_15 [1, 2, 3, 4, 0] (Nat.le_of_ble_eq_true rfl) rfl ?_
      have inner : ∀ i, i ≤ k → VV p l e (js_room 0) s m args below meth c D A 5 0 0 Q (md_w ad cB cI (fd) (nw) (ms) (mv) (ml) (os) (ov) (mc) (mh) (mo) (md) (mi) (mf) (mr)) ([(0, .ref (ad 13)), (1, .int (nI (di_n ms k))), (2, .int (nI k)), (3, .int (if di_f ms k i = true then nI 1 else nI 0)), (4, .int (nI i))]) 17 ([]) := by
        refine js_up ?_
        intro i hi ih2
        refine vv_iload X jd_Md_distinct_17 4 rfl ?_
        refine vv_iload_n X jd_Md_distinct_19 2 rfl rfl ?_
        refine vv_icmp_ge (tgt := 47) X jd_Md_distinct_20 rfl (fun h2 => ?_) (fun h2 => ?_)
        · have e2 : i = k := Nat.le_antisymm hi (nn_le (by omega) (by omega) h2)
          subst e2
          have i1 := ih e1
          refine vv_iload_n X jd_Md_distinct_47 3 rfl rfl ?_
          refine vv_if_eq (tgt := 54) X jd_Md_distinct_48 rfl (fun y => ?_) (fun y => ?_)
          · have y1 : di_f ms i i = false := (md_if1 _).mp y
            rw [show di_n ms (i + 1) = di_n ms i by simp only [di_n, y1]; rfl] at i1
            refine vv_iinc X jd_Md_distinct_54 2 [1, 2, 0, 3, 4] rfl (cn_1 i) (Nat.le_of_ble_eq_true rfl) rfl ?_
            refine vv_goto (tgt := 4) X jd_Md_distinct_57 rfl ?_
            refine vv_lv [0, 1, 2] rfl ?_
            exact i1
          · have y1 : di_f ms i i = true := by cases hq : di_f ms i i with | true => rfl | false => exact absurd ((md_if1 _).mpr hq) y
            rw [show di_n ms (i + 1) = di_n ms i + 1 by simp only [di_n, y1]; rfl] at i1
            refine vv_iinc X jd_Md_distinct_51 1 [1, 0, 2, 3, 4] rfl (cn_1 _) (Nat.le_of_ble_eq_true rfl) rfl ?_
            refine vv_iinc X jd_Md_distinct_54 2 [1, 2, 0, 3, 4] rfl (cn_1 i) (Nat.le_of_ble_eq_true rfl) rfl ?_
            refine vv_goto (tgt := 4) X jd_Md_distinct_57 rfl ?_
            refine vv_lv [0, 1, 2] rfl ?_
            exact i1
        · have e2 : i < k := nn_lt (by omega) (by omega) h2
          have i2 := ih2 e2
          refine vv_aload_n X jd_Md_distinct_23 0 rfl rfl ?_
          refine gf_Md_16 X 0 jd_Md_distinct_24 rfl rfl ?_
          refine vv_iload X jd_Md_distinct_27 4 rfl ?_
          refine vv_iald X 3 jd_Md_distinct_29 rfl (i) rfl (by omega) (by decide) rfl ?_
          refine vv_aload_n X jd_Md_distinct_30 0 rfl rfl ?_
          refine gf_Md_16 X 0 jd_Md_distinct_31 rfl rfl ?_
          refine vv_iload_n X jd_Md_distinct_34 2 rfl rfl ?_
          refine vv_iald X 3 jd_Md_distinct_35 rfl (k) rfl (by omega) (by decide) rfl ?_
          refine vv_icmp_ne (tgt := 41) X jd_Md_distinct_36 rfl (fun y => ?_) (fun y => ?_)
          · have y1 : ms i ≠ ms k := fun q => y (by show nI (ms i) = nI (ms k); rw [q])
            rw [show di_f ms k (i + 1) = di_f ms k i by simp only [di_f, decide_eq_true y1, Bool.and_true]] at i2
            refine vv_iinc X jd_Md_distinct_41 4 [1, 2, 3, 4, 0] rfl (cn_1 i) (Nat.le_of_ble_eq_true rfl) rfl ?_
            refine vv_goto (tgt := 17) X jd_Md_distinct_44 rfl ?_
            exact i2
          · have y1 : ms i = ms k := (nI_eq (by have := hs i (by omega); omega) (by have := hs k e1; omega)).mp y
            rw [show di_f ms k (i + 1) = false by simp only [di_f, y1]; simp] at i2
            refine vv_iconst X jd_Md_distinct_39 ci_0 ?_
            refine vv_istore_n X jd_Md_distinct_40 [1, 2, 3, 0, 4] rfl (Nat.le_of_ble_eq_true rfl) rfl ?_
            refine vv_iinc X jd_Md_distinct_41 4 [1, 2, 3, 4, 0] rfl (cn_1 i) (Nat.le_of_ble_eq_true rfl) rfl ?_
            refine vv_goto (tgt := 17) X jd_Md_distinct_44 rfl ?_
            exact i2
      exact inner 0 (Nat.zero_le _)
  exact loop 0 (Nat.zero_le _)
set_option maxRecDepth 100000 in
theorem jm_flush (l : Launch) (D : va_G) (cB cI : ClassId) (ad : Nat → Nat) (fd nw : Nat → Int32) (ms : Nat → Nat) (mv : Nat → Int32) (ml os : Nat → Nat) (ov : Nat → Int32) (mc mh mo md mi mf mr : Nat) (hm : mc ≤ 24) (hs : ∀ k, k < mc → ms k < 212) : MetI l jy_Md_flush jb_Md_flush 2 1 .int D cB cI (md_w ad cB cI (fd) (nw) (ms) (mv) (ml) (os) (ov) (mc) (mh) (mo) (md) (mi) (mf) (mr)) ([.ref (ad 13)]) (fun (r : Int32) (_ : Unit) => r = nI mi) (fun _ => md_w ad cB cI (prf nw fd 212) (nw) (ms) (mv) (ml) (os) (ov) (0) (di_n ms mc) (0) (md) (0) (mf + 1) (mr)) := by
  refine MetI.of (lv0 := [(0, .ref (ad 13))]) "JournalShelfModel" rfl (by decide +kernel) (Nat.le_of_ble_eq_true rfl) rfl ?_
  intro p e s m args below meth c A Q X ret
  refine vv_aload_n X jd_Md_flush_0 0 rfl rfl ?_
  refine gf_Md_35 X 0 jd_Md_flush_1 rfl rfl ?_
  refine vv_istore_n X jd_Md_flush_4 [1, 0] rfl (Nat.le_of_ble_eq_true rfl) rfl ?_
  refine vv_aload_n X jd_Md_flush_5 0 rfl rfl ?_
  refine vv_iconst X jd_Md_flush_6 ci_0 ?_
  refine pf_Md_38 (ws' := md_w ad cB cI (fd) (nw) (ms) (mv) (ml) (os) (ov) (mc) (mh) (0) (md) (mi) (mf) (mr)) X 0 jd_Md_flush_7 rfl (Nat.le_of_ble_eq_true rfl) rfl ?_
  refine vv_aload_n X jd_Md_flush_10 0 rfl rfl ?_
  refine vv_aload_n X jd_Md_flush_11 0 rfl rfl ?_
  refine vv_cVi (As := []) X (jm_distinct l D cB cI ad fd nw ms mv ml os ov mc mh 0 md mi mf mr hm hs) ok_Md_48 ⟨rfl, rfl, Nat.le_of_ble_eq_true rfl, Nat.le_of_ble_eq_true rfl⟩ jd_Md_flush_12 0 3 rfl rfl rfl [0, 1, 2, 3, 4, 5, 6, 7] rfl rfl [ad 13, ad 14, ad 15, ad 16, ad 17, ad 18, ad 19, ad 20] (fun _ => rfl) rfl rfl rfl (Nat.le_of_ble_eq_true rfl) ⟨Nat.zero_le _, Nat.zero_le _⟩ (fun r _ er => ?_)
  refine vv_ws (ws' := md_w ad cB cI (fd) (nw) (ms) (mv) (ml) (os) (ov) (mc) (mh) (0) (md) (mi) (mf) (mr)) rfl ?_
  subst er
  refine pf_Md_51 (ws' := md_w ad cB cI (fd) (nw) (ms) (mv) (ml) (os) (ov) (mc) (di_n ms mc) (0) (md) (mi) (mf) (mr)) X 0 jd_Md_flush_15 rfl (Nat.le_of_ble_eq_true rfl) rfl ?_
  refine vv_aload_n X jd_Md_flush_18 0 rfl rfl ?_
  refine vv_cVv (As := []) X (jm_settle l D cB cI ad fd nw ms mv ml os ov mc (di_n ms mc) 0 md mi mf mr) ok_Md_54 ⟨rfl, rfl, Nat.le_of_ble_eq_true rfl, Nat.le_of_ble_eq_true rfl⟩ jd_Md_flush_19 0 3 rfl rfl rfl [0, 1, 2, 3, 4, 5, 6, 7] rfl rfl [ad 13, ad 14, ad 15, ad 16, ad 17, ad 18, ad 19, ad 20] (fun _ => rfl) rfl rfl rfl (Nat.le_of_ble_eq_true rfl) ⟨Nat.zero_le _, Nat.zero_le _⟩ (fun _ _ => ?_)
  refine vv_ws (ws' := md_w ad cB cI (prf nw fd 212) (nw) (ms) (mv) (ml) (os) (ov) (0) (di_n ms mc) (0) (md) (0) (mf) (mr)) rfl ?_
  refine vv_aload_n X jd_Md_flush_22 0 rfl rfl ?_
  refine vv_dup X jd_Md_flush_23 rfl ?_
  refine gf_Md_57 X 0 jd_Md_flush_24 rfl rfl ?_
  refine vv_iconst X jd_Md_flush_27 ci_1 ?_
  refine vv_iadd X jd_Md_flush_28 (nI_add mf 1) ?_
  refine pf_Md_57 (ws' := md_w ad cB cI (prf nw fd 212) (nw) (ms) (mv) (ml) (os) (ov) (0) (di_n ms mc) (0) (md) (0) (mf + 1) (mr)) X 0 jd_Md_flush_29 rfl (Nat.le_of_ble_eq_true rfl) rfl ?_
  refine vv_iload_n X jd_Md_flush_32 1 rfl rfl ?_
  exact ret _ _ 33 _ () jd_Md_flush_33 rfl rfl
theorem md_le {a : Int32} (h : a < nI 212) : a ≤ nI 211 := by
  have h1 := Int32.lt_iff_toInt_lt.mp h
  rw [nI_toInt (by decide)] at h1
  rw [Int32.le_iff_toInt_le, nI_toInt (by decide)]
  omega
set_option maxRecDepth 100000 in
theorem jm_change_ref (l : Launch) (D : va_G) (cB cI : ClassId) (ad : Nat → Nat) (fd nw : Nat → Int32) (ms : Nat → Nat) (mv : Nat → Int32) (ml os : Nat → Nat) (ov : Nat → Int32) (mc mh mo md mi mf mr : Nat) (a v : Int32) (ha : ¬ (nI 0 ≤ a ∧ a ≤ nI 211)) : MetI l jy_Md_change jb_Md_change 3 2 .int D cB cI (md_w ad cB cI (fd) (nw) (ms) (mv) (ml) (os) (ov) (mc) (mh) (mo) (md) (mi) (mf) (mr)) ([.ref (ad 13), .int a, .int v]) (fun (r : Int32) (_ : Unit) => r = -1) (fun _ => md_w ad cB cI (fd) (nw) (ms) (mv) (ml) (os) (ov) (mc) (mh) (mo) (md) (mi) (mf) (mr)) := by
  refine MetI.of (lv0 := [(0, .ref (ad 13)), (1, .int a), (2, .int v)]) "JournalShelfModel" rfl (by decide +kernel) (Nat.le_of_ble_eq_true rfl) rfl ?_
  intro p e s m args below meth c A Q X ret
  refine vv_iload_n X jd_Md_change_0 1 rfl rfl ?_
  refine vv_if_lt (tgt := 11) X jd_Md_change_1 rfl (fun h => ?_) (fun h => ?_)
  · refine vv_iconst X jd_Md_change_11 ci_m1 ?_
    exact ret _ _ 12 _ () jd_Md_change_12 rfl rfl
  · refine vv_iload_n X jd_Md_change_4 1 rfl rfl ?_
    refine vv_sipush X jd_Md_change_5 cs_212 ?_
    refine vv_icmp_lt (tgt := 13) X jd_Md_change_8 rfl (fun h2 => ?_) (fun h2 => ?_)
    · exact absurd ⟨Int32.not_lt.mp h, md_le h2⟩ ha
    · refine vv_iconst X jd_Md_change_11 ci_m1 ?_
      exact ret _ _ 12 _ () jd_Md_change_12 rfl rfl
set_option maxRecDepth 100000 in
theorem jm_change_full (l : Launch) (D : va_G) (cB cI : ClassId) (ad : Nat → Nat) (fd nw : Nat → Int32) (ms : Nat → Nat) (mv : Nat → Int32) (ml os : Nat → Nat) (ov : Nat → Int32) (mc mh mo md mi mf mr : Nat) (x : Nat) (v : Int32) (hx : x < 212) (h17 : mo = 17) : MetI l jy_Md_change jb_Md_change 3 2 .int D cB cI (md_w ad cB cI (fd) (nw) (ms) (mv) (ml) (os) (ov) (mc) (mh) (mo) (md) (mi) (mf) (mr)) ([.ref (ad 13), .int (nI x), .int v]) (fun (r : Int32) (_ : Unit) => r = -2) (fun _ => md_w ad cB cI (fd) (nw) (ms) (mv) (ml) (os) (ov) (mc) (mh) (mo) (md) (mi) (mf) (mr)) := by
  refine MetI.of (lv0 := [(0, .ref (ad 13)), (1, .int (nI x)), (2, .int v)]) "JournalShelfModel" rfl (by decide +kernel) (Nat.le_of_ble_eq_true rfl) rfl ?_
  intro p e s m args below meth c A Q X ret
  refine vv_iload_n X jd_Md_change_0 1 rfl rfl ?_
  refine vv_if_lt (tgt := 11) X jd_Md_change_1 rfl (fun h => absurd h (nI_pos (by omega))) (fun h => ?_)
  refine vv_iload_n X jd_Md_change_4 1 rfl rfl ?_
  refine vv_sipush X jd_Md_change_5 cs_212 ?_
  refine vv_icmp_lt (tgt := 13) X jd_Md_change_8 rfl (fun h => ?_) (fun h => absurd (nI_lt (by omega) (by omega)) h)
  refine vv_aload_n X jd_Md_change_13 0 rfl rfl ?_
  refine gf_Md_38 X 0 jd_Md_change_14 rfl rfl ?_
  refine vv_bipush X jd_Md_change_17 cb_17 ?_
  refine vv_icmp_ne (tgt := 25) X jd_Md_change_19 rfl (fun h => absurd (congrArg nI h17) h) (fun h => ?_)
  refine vv_bipush X jd_Md_change_22 cb_m2 ?_
  exact ret _ _ 24 _ () jd_Md_change_24 rfl rfl
set_option maxRecDepth 100000 in
theorem jm_change_more (l : Launch) (D : va_G) (cB cI : ClassId) (ad : Nat → Nat) (fd nw : Nat → Int32) (ms : Nat → Nat) (mv : Nat → Int32) (ml os : Nat → Nat) (ov : Nat → Int32) (mc mh mo md mi mf mr : Nat) (x : Nat) (v : Int32) (hx : x < 212) (h0 : 0 < mo) (h17 : mo < 17) : MetI l jy_Md_change jb_Md_change 3 2 .int D cB cI (md_w ad cB cI (fd) (nw) (ms) (mv) (ml) (os) (ov) (mc) (mh) (mo) (md) (mi) (mf) (mr)) ([.ref (ad 13), .int (nI x), .int v]) (fun (r : Int32) (_ : Unit) => r = nI (mo + 1)) (fun _ => md_w ad cB cI (fd) (nw) (ms) (mv) (ml) (uN_ os (mo) x) (upd ov (mo) v) (mc) (mh) (mo + 1) (md) (mi) (mf) (mr)) := by
  refine MetI.of (lv0 := [(0, .ref (ad 13)), (1, .int (nI x)), (2, .int v)]) "JournalShelfModel" rfl (by decide +kernel) (Nat.le_of_ble_eq_true rfl) rfl ?_
  intro p e s m args below meth c A Q X ret
  refine vv_iload_n X jd_Md_change_0 1 rfl rfl ?_
  refine vv_if_lt (tgt := 11) X jd_Md_change_1 rfl (fun h => absurd h (nI_pos (by omega))) (fun h => ?_)
  refine vv_iload_n X jd_Md_change_4 1 rfl rfl ?_
  refine vv_sipush X jd_Md_change_5 cs_212 ?_
  refine vv_icmp_lt (tgt := 13) X jd_Md_change_8 rfl (fun h => ?_) (fun h => absurd (nI_lt (by omega) (by omega)) h)
  refine vv_aload_n X jd_Md_change_13 0 rfl rfl ?_
  refine gf_Md_38 X 0 jd_Md_change_14 rfl rfl ?_
  refine vv_bipush X jd_Md_change_17 cb_17 ?_
  refine vv_icmp_ne (tgt := 25) X jd_Md_change_19 rfl (fun h => ?_) (fun h => absurd h (show ¬ nI mo = nI 17 from fun z => absurd ((nI_eq (by omega) (by omega)).mp z) (by omega)))
  refine vv_aload_n X jd_Md_change_25 0 rfl rfl ?_
  refine gf_Md_38 X 0 jd_Md_change_26 rfl rfl ?_
  refine vv_if_ne (tgt := 46) X jd_Md_change_29 rfl (fun h => ?_) (fun h => absurd h (nI_ne0 h0 (by omega)))
  refine vv_aload_n X jd_Md_change_46 0 rfl rfl ?_
  refine gf_Md_25 X 0 jd_Md_change_47 rfl rfl ?_
  refine vv_aload_n X jd_Md_change_50 0 rfl rfl ?_
  refine gf_Md_38 X 0 jd_Md_change_51 rfl rfl ?_
  refine vv_iload_n X jd_Md_change_54 1 rfl rfl ?_
  refine vv_iast (ws' := md_w ad cB cI (fd) (nw) (ms) (mv) (ml) (uN_ os (mo) x) (ov) (mc) (mh) (mo) (md) (mi) (mf) (mr)) X 6 jd_Md_change_55 rfl (mo) rfl (by omega) (by decide) (by rw [upd_nF]; rfl) ?_
  refine vv_aload_n X jd_Md_change_56 0 rfl rfl ?_
  refine gf_Md_28 X 0 jd_Md_change_57 rfl rfl ?_
  refine vv_aload_n X jd_Md_change_60 0 rfl rfl ?_
  refine gf_Md_38 X 0 jd_Md_change_61 rfl rfl ?_
  refine vv_iload_n X jd_Md_change_64 2 rfl rfl ?_
  refine vv_iast (ws' := md_w ad cB cI (fd) (nw) (ms) (mv) (ml) (uN_ os (mo) x) (upd ov (mo) v) (mc) (mh) (mo) (md) (mi) (mf) (mr)) X 7 jd_Md_change_65 rfl (mo) rfl (by omega) (by decide) rfl ?_
  refine vv_aload_n X jd_Md_change_66 0 rfl rfl ?_
  refine vv_dup X jd_Md_change_67 rfl ?_
  refine gf_Md_38 X 0 jd_Md_change_68 rfl rfl ?_
  refine vv_iconst X jd_Md_change_71 ci_1 ?_
  refine vv_iadd X jd_Md_change_72 (nI_add (mo) 1) ?_
  refine pf_Md_38 (ws' := md_w ad cB cI (fd) (nw) (ms) (mv) (ml) (uN_ os (mo) x) (upd ov (mo) v) (mc) (mh) (mo + 1) (md) (mi) (mf) (mr)) X 0 jd_Md_change_73 rfl (Nat.le_of_ble_eq_true rfl) rfl ?_
  refine vv_aload_n X jd_Md_change_76 0 rfl rfl ?_
  refine gf_Md_38 X 0 jd_Md_change_77 rfl rfl ?_
  exact ret _ _ 80 _ () jd_Md_change_80 rfl rfl
set_option maxRecDepth 100000 in
theorem jm_change_lo (l : Launch) (D : va_G) (cB cI : ClassId) (ad : Nat → Nat) (fd nw : Nat → Int32) (ms : Nat → Nat) (mv : Nat → Int32) (ml os : Nat → Nat) (ov : Nat → Int32) (mc mh mo md mi mf mr : Nat) (x : Nat) (v : Int32) (hx : x < 212) (h0 : mo = 0) (h7 : mc ≤ 7) : MetI l jy_Md_change jb_Md_change 3 2 .int D cB cI (md_w ad cB cI (fd) (nw) (ms) (mv) (ml) (os) (ov) (mc) (mh) (mo) (md) (mi) (mf) (mr)) ([.ref (ad 13), .int (nI x), .int v]) (fun (r : Int32) (_ : Unit) => r = nI (mo + 1)) (fun _ => md_w ad cB cI (fd) (nw) (ms) (mv) (ml) (uN_ os (mo) x) (upd ov (mo) v) (mc) (mh) (mo + 1) (md) (mi) (mf) (mr)) := by
  refine MetI.of (lv0 := [(0, .ref (ad 13)), (1, .int (nI x)), (2, .int v)]) "JournalShelfModel" rfl (by decide +kernel) (Nat.le_of_ble_eq_true rfl) rfl ?_
  intro p e s m args below meth c A Q X ret
  refine vv_iload_n X jd_Md_change_0 1 rfl rfl ?_
  refine vv_if_lt (tgt := 11) X jd_Md_change_1 rfl (fun h => absurd h (nI_pos (by omega))) (fun h => ?_)
  refine vv_iload_n X jd_Md_change_4 1 rfl rfl ?_
  refine vv_sipush X jd_Md_change_5 cs_212 ?_
  refine vv_icmp_lt (tgt := 13) X jd_Md_change_8 rfl (fun h => ?_) (fun h => absurd (nI_lt (by omega) (by omega)) h)
  refine vv_aload_n X jd_Md_change_13 0 rfl rfl ?_
  refine gf_Md_38 X 0 jd_Md_change_14 rfl rfl ?_
  refine vv_bipush X jd_Md_change_17 cb_17 ?_
  refine vv_icmp_ne (tgt := 25) X jd_Md_change_19 rfl (fun h => ?_) (fun h => absurd h (show ¬ nI mo = nI 17 from fun z => absurd ((nI_eq (by omega) (by omega)).mp z) (by omega)))
  refine vv_aload_n X jd_Md_change_25 0 rfl rfl ?_
  refine gf_Md_38 X 0 jd_Md_change_26 rfl rfl ?_
  refine vv_if_ne (tgt := 46) X jd_Md_change_29 rfl (fun h => absurd (congrArg nI h0) h) (fun h => ?_)
  refine vv_aload_n X jd_Md_change_32 0 rfl rfl ?_
  refine gf_Md_31 X 0 jd_Md_change_33 rfl rfl ?_
  refine vv_bipush X jd_Md_change_36 cb_7 ?_
  refine vv_icmp_le (tgt := 46) X jd_Md_change_38 rfl (fun h => ?_) (fun h => absurd (nI_le (by omega) (by omega)) h)
  refine vv_aload_n X jd_Md_change_46 0 rfl rfl ?_
  refine gf_Md_25 X 0 jd_Md_change_47 rfl rfl ?_
  refine vv_aload_n X jd_Md_change_50 0 rfl rfl ?_
  refine gf_Md_38 X 0 jd_Md_change_51 rfl rfl ?_
  refine vv_iload_n X jd_Md_change_54 1 rfl rfl ?_
  refine vv_iast (ws' := md_w ad cB cI (fd) (nw) (ms) (mv) (ml) (uN_ os (mo) x) (ov) (mc) (mh) (mo) (md) (mi) (mf) (mr)) X 6 jd_Md_change_55 rfl (mo) rfl (by omega) (by decide) (by rw [upd_nF]; rfl) ?_
  refine vv_aload_n X jd_Md_change_56 0 rfl rfl ?_
  refine gf_Md_28 X 0 jd_Md_change_57 rfl rfl ?_
  refine vv_aload_n X jd_Md_change_60 0 rfl rfl ?_
  refine gf_Md_38 X 0 jd_Md_change_61 rfl rfl ?_
  refine vv_iload_n X jd_Md_change_64 2 rfl rfl ?_
  refine vv_iast (ws' := md_w ad cB cI (fd) (nw) (ms) (mv) (ml) (uN_ os (mo) x) (upd ov (mo) v) (mc) (mh) (mo) (md) (mi) (mf) (mr)) X 7 jd_Md_change_65 rfl (mo) rfl (by omega) (by decide) rfl ?_
  refine vv_aload_n X jd_Md_change_66 0 rfl rfl ?_
  refine vv_dup X jd_Md_change_67 rfl ?_
  refine gf_Md_38 X 0 jd_Md_change_68 rfl rfl ?_
  refine vv_iconst X jd_Md_change_71 ci_1 ?_
  refine vv_iadd X jd_Md_change_72 (nI_add (mo) 1) ?_
  refine pf_Md_38 (ws' := md_w ad cB cI (fd) (nw) (ms) (mv) (ml) (uN_ os (mo) x) (upd ov (mo) v) (mc) (mh) (mo + 1) (md) (mi) (mf) (mr)) X 0 jd_Md_change_73 rfl (Nat.le_of_ble_eq_true rfl) rfl ?_
  refine vv_aload_n X jd_Md_change_76 0 rfl rfl ?_
  refine gf_Md_38 X 0 jd_Md_change_77 rfl rfl ?_
  exact ret _ _ 80 _ () jd_Md_change_80 rfl rfl
set_option maxRecDepth 100000 in
theorem jm_change_hi (l : Launch) (D : va_G) (cB cI : ClassId) (ad : Nat → Nat) (fd nw : Nat → Int32) (ms : Nat → Nat) (mv : Nat → Int32) (ml os : Nat → Nat) (ov : Nat → Int32) (mc mh mo md mi mf mr : Nat) (hm : mc ≤ 24) (hs : ∀ k, k < mc → ms k < 212) (x : Nat) (v : Int32) (hx : x < 212) (h0 : mo = 0) (h7 : 7 < mc) : MetI l jy_Md_change jb_Md_change 3 2 .int D cB cI (md_w ad cB cI (fd) (nw) (ms) (mv) (ml) (os) (ov) (mc) (mh) (mo) (md) (mi) (mf) (mr)) ([.ref (ad 13), .int (nI x), .int v]) (fun (r : Int32) (_ : Unit) => r = nI (0 + 1)) (fun _ => md_w ad cB cI (prf nw fd 212) (nw) (ms) (mv) (ml) (uN_ os (0) x) (upd ov (0) v) (0) (di_n ms mc) (0 + 1) (md) (0) (mf + 1) (mr)) := by
  refine MetI.of (lv0 := [(0, .ref (ad 13)), (1, .int (nI x)), (2, .int v)]) "JournalShelfModel" rfl (by decide +kernel) (Nat.le_of_ble_eq_true rfl) rfl ?_
  intro p e s m args below meth c A Q X ret
  refine vv_iload_n X jd_Md_change_0 1 rfl rfl ?_
  refine vv_if_lt (tgt := 11) X jd_Md_change_1 rfl (fun h => absurd h (nI_pos (by omega))) (fun h => ?_)
  refine vv_iload_n X jd_Md_change_4 1 rfl rfl ?_
  refine vv_sipush X jd_Md_change_5 cs_212 ?_
  refine vv_icmp_lt (tgt := 13) X jd_Md_change_8 rfl (fun h => ?_) (fun h => absurd (nI_lt (by omega) (by omega)) h)
  refine vv_aload_n X jd_Md_change_13 0 rfl rfl ?_
  refine gf_Md_38 X 0 jd_Md_change_14 rfl rfl ?_
  refine vv_bipush X jd_Md_change_17 cb_17 ?_
  refine vv_icmp_ne (tgt := 25) X jd_Md_change_19 rfl (fun h => ?_) (fun h => absurd h (show ¬ nI mo = nI 17 from fun z => absurd ((nI_eq (by omega) (by omega)).mp z) (by omega)))
  refine vv_aload_n X jd_Md_change_25 0 rfl rfl ?_
  refine gf_Md_38 X 0 jd_Md_change_26 rfl rfl ?_
  refine vv_if_ne (tgt := 46) X jd_Md_change_29 rfl (fun h => absurd (congrArg nI h0) h) (fun h => ?_)
  refine vv_aload_n X jd_Md_change_32 0 rfl rfl ?_
  refine gf_Md_31 X 0 jd_Md_change_33 rfl rfl ?_
  refine vv_bipush X jd_Md_change_36 cb_7 ?_
  refine vv_icmp_le (tgt := 46) X jd_Md_change_38 rfl (fun h => absurd h (nI_ge (by omega) (by omega))) (fun h => ?_)
  refine vv_aload_n X jd_Md_change_41 0 rfl rfl ?_
  refine vv_cVi (As := []) X (jm_flush l D cB cI ad fd nw ms mv ml os ov mc mh mo md mi mf mr hm hs) ok_Md_41 ⟨rfl, rfl, Nat.le_of_ble_eq_true rfl, Nat.le_of_ble_eq_true rfl⟩ jd_Md_change_42 0 3 rfl rfl rfl [0, 1, 2, 3, 4, 5, 6, 7] rfl rfl [ad 13, ad 14, ad 15, ad 16, ad 17, ad 18, ad 19, ad 20] (fun _ => rfl) rfl rfl rfl (Nat.le_of_ble_eq_true rfl) ⟨Nat.zero_le _, Nat.zero_le _⟩ (fun r _ er => ?_)
  refine vv_ws (ws' := md_w ad cB cI (prf nw fd 212) (nw) (ms) (mv) (ml) (os) (ov) (0) (di_n ms mc) (0) (md) (0) (mf + 1) (mr)) rfl ?_
  refine vv_pop X jd_Md_change_45 rfl ?_
  refine vv_aload_n X jd_Md_change_46 0 rfl rfl ?_
  refine gf_Md_25 X 0 jd_Md_change_47 rfl rfl ?_
  refine vv_aload_n X jd_Md_change_50 0 rfl rfl ?_
  refine gf_Md_38 X 0 jd_Md_change_51 rfl rfl ?_
  refine vv_iload_n X jd_Md_change_54 1 rfl rfl ?_
  refine vv_iast (ws' := md_w ad cB cI (prf nw fd 212) (nw) (ms) (mv) (ml) (uN_ os (0) x) (ov) (0) (di_n ms mc) (0) (md) (0) (mf + 1) (mr)) X 6 jd_Md_change_55 rfl (0) rfl (by omega) (by decide) (by rw [upd_nF]; rfl) ?_
  refine vv_aload_n X jd_Md_change_56 0 rfl rfl ?_
  refine gf_Md_28 X 0 jd_Md_change_57 rfl rfl ?_
  refine vv_aload_n X jd_Md_change_60 0 rfl rfl ?_
  refine gf_Md_38 X 0 jd_Md_change_61 rfl rfl ?_
  refine vv_iload_n X jd_Md_change_64 2 rfl rfl ?_
  refine vv_iast (ws' := md_w ad cB cI (prf nw fd 212) (nw) (ms) (mv) (ml) (uN_ os (0) x) (upd ov (0) v) (0) (di_n ms mc) (0) (md) (0) (mf + 1) (mr)) X 7 jd_Md_change_65 rfl (0) rfl (by omega) (by decide) rfl ?_
  refine vv_aload_n X jd_Md_change_66 0 rfl rfl ?_
  refine vv_dup X jd_Md_change_67 rfl ?_
  refine gf_Md_38 X 0 jd_Md_change_68 rfl rfl ?_
  refine vv_iconst X jd_Md_change_71 ci_1 ?_
  refine vv_iadd X jd_Md_change_72 (nI_add (0) 1) ?_
  refine pf_Md_38 (ws' := md_w ad cB cI (prf nw fd 212) (nw) (ms) (mv) (ml) (uN_ os (0) x) (upd ov (0) v) (0) (di_n ms mc) (0 + 1) (md) (0) (mf + 1) (mr)) X 0 jd_Md_change_73 rfl (Nat.le_of_ble_eq_true rfl) rfl ?_
  refine vv_aload_n X jd_Md_change_76 0 rfl rfl ?_
  refine gf_Md_38 X 0 jd_Md_change_77 rfl rfl ?_
  exact ret _ _ 80 _ () jd_Md_change_80 rfl rfl
set_option maxRecDepth 100000 in
theorem jm_commit_no (l : Launch) (D : va_G) (cB cI : ClassId) (ad : Nat → Nat) (fd nw : Nat → Int32) (ms : Nat → Nat) (mv : Nat → Int32) (ml os : Nat → Nat) (ov : Nat → Int32) (mc mh mo md mi mf mr : Nat) (h0 : mo = 0) : MetI l jy_Md_commit jb_Md_commit 3 0 .int D cB cI (md_w ad cB cI (fd) (nw) (ms) (mv) (ml) (os) (ov) (mc) (mh) (mo) (md) (mi) (mf) (mr)) ([.ref (ad 13)]) (fun (r : Int32) (_ : Unit) => r = -1) (fun _ => md_w ad cB cI (fd) (nw) (ms) (mv) (ml) (os) (ov) (mc) (mh) (mo) (md) (mi) (mf) (mr)) := by
  refine MetI.of (lv0 := [(0, .ref (ad 13))]) "JournalShelfModel" rfl (by decide +kernel) (Nat.le_of_ble_eq_true rfl) rfl ?_
  intro p e s m args below meth c A Q X ret
  refine vv_aload_n X jd_Md_commit_0 0 rfl rfl ?_
  refine gf_Md_38 X 0 jd_Md_commit_1 rfl rfl ?_
  refine vv_istore_n X jd_Md_commit_4 [1, 0] rfl (Nat.le_of_ble_eq_true rfl) rfl ?_
  refine vv_iload_n X jd_Md_commit_5 1 rfl rfl ?_
  refine vv_if_ne (tgt := 11) X jd_Md_commit_6 rfl (fun h => absurd (congrArg nI h0) h) (fun h => ?_)
  refine vv_iconst X jd_Md_commit_9 ci_m1 ?_
  exact ret _ _ 10 _ () jd_Md_commit_10 rfl rfl
set_option maxRecDepth 100000 in
theorem jm_commit_yes (l : Launch) (D : va_G) (cB cI : ClassId) (ad : Nat → Nat) (fd nw : Nat → Int32) (ms : Nat → Nat) (mv : Nat → Int32) (ml os : Nat → Nat) (ov : Nat → Int32) (mc mh mo md mi mf mr : Nat) (h0 : 0 < mo) (h17 : mo ≤ 17) (h24 : mc + mo ≤ 24) (ho : ∀ k, k < mo → os k < 212) : MetI l jy_Md_commit jb_Md_commit 3 0 .int D cB cI (md_w ad cB cI (fd) (nw) (ms) (mv) (ml) (os) (ov) (mc) (mh) (mo) (md) (mi) (mf) (mr)) ([.ref (ad 13)]) (fun (r : Int32) (_ : Unit) => r = nI mo) (fun _ => md_w ad cB cI (fd) (cmN nw os ov (mo)) (cmS ms os mc (mo)) (cmV mv ov mc (mo)) (cmL ml mc mo (mo)) (os) (ov) (mc + (mo)) (mh) (0) (md + 1) (mi + 1) (mf) (mr)) := by
  refine MetI.of (lv0 := [(0, .ref (ad 13))]) "JournalShelfModel" rfl (by decide +kernel) (Nat.le_of_ble_eq_true rfl) rfl ?_
  intro p e s m args below meth c A Q X ret
  refine vv_aload_n X jd_Md_commit_0 0 rfl rfl ?_
  refine gf_Md_38 X 0 jd_Md_commit_1 rfl rfl ?_
  refine vv_istore_n X jd_Md_commit_4 [1, 0] rfl (Nat.le_of_ble_eq_true rfl) rfl ?_
  refine vv_iload_n X jd_Md_commit_5 1 rfl rfl ?_
  refine vv_if_ne (tgt := 11) X jd_Md_commit_6 rfl (fun h => ?_) (fun h => absurd h (nI_ne0 h0 (by omega)))
  refine vv_iconst X jd_Md_commit_11 ci_0 ?_
  refine vv_istore_n X jd_Md_commit_12 [1, 2, 0] rfl (Nat.le_of_ble_eq_true rfl) rfl ?_
  have loop : ∀ k, k ≤ mo → VV p l e (js_room 0) s m args below meth c D A 3 0 0 Q (md_w ad cB cI (fd) (cmN nw os ov (k)) (cmS ms os mc (k)) (cmV mv ov mc (k)) (cmL ml mc mo (k)) (os) (ov) (mc + (k)) (mh) (mo) (md) (mi) (mf) (mr)) ([(0, .ref (ad 13)), (1, .int (nI mo)), (2, .int (nI k))]) 13 ([]) := by
    refine js_up ?_
    intro k hk ih
    refine vv_iload_n X jd_Md_commit_13 2 rfl rfl ?_
    refine vv_iload_n X jd_Md_commit_14 1 rfl rfl ?_
    refine vv_icmp_ge (tgt := 102) X jd_Md_commit_15 rfl (fun h => ?_) (fun h => ?_)
    · have e1 : k = mo := Nat.le_antisymm hk (nn_le (by omega) (by omega) h)
      rw [e1]
      refine vv_aload_n X jd_Md_commit_102 0 rfl rfl ?_
      refine vv_iconst X jd_Md_commit_103 ci_0 ?_
      refine pf_Md_38 (ws' := md_w ad cB cI (fd) (cmN nw os ov (mo)) (cmS ms os mc (mo)) (cmV mv ov mc (mo)) (cmL ml mc mo (mo)) (os) (ov) (mc + (mo)) (mh) (0) (md) (mi) (mf) (mr)) X 0 jd_Md_commit_104 rfl (Nat.le_of_ble_eq_true rfl) rfl ?_
      refine vv_aload_n X jd_Md_commit_107 0 rfl rfl ?_
      refine vv_dup X jd_Md_commit_108 rfl ?_
      refine gf_Md_45 X 0 jd_Md_commit_109 rfl rfl ?_
      refine vv_iconst X jd_Md_commit_112 ci_1 ?_
      refine vv_iadd X jd_Md_commit_113 (nI_add md 1) ?_
      refine pf_Md_45 (ws' := md_w ad cB cI (fd) (cmN nw os ov (mo)) (cmS ms os mc (mo)) (cmV mv ov mc (mo)) (cmL ml mc mo (mo)) (os) (ov) (mc + (mo)) (mh) (0) (md + 1) (mi) (mf) (mr)) X 0 jd_Md_commit_114 rfl (Nat.le_of_ble_eq_true rfl) rfl ?_
      refine vv_aload_n X jd_Md_commit_117 0 rfl rfl ?_
      refine vv_dup X jd_Md_commit_118 rfl ?_
      refine gf_Md_35 X 0 jd_Md_commit_119 rfl rfl ?_
      refine vv_iconst X jd_Md_commit_122 ci_1 ?_
      refine vv_iadd X jd_Md_commit_123 (nI_add mi 1) ?_
      refine pf_Md_35 (ws' := md_w ad cB cI (fd) (cmN nw os ov (mo)) (cmS ms os mc (mo)) (cmV mv ov mc (mo)) (cmL ml mc mo (mo)) (os) (ov) (mc + (mo)) (mh) (0) (md + 1) (mi + 1) (mf) (mr)) X 0 jd_Md_commit_124 rfl (Nat.le_of_ble_eq_true rfl) rfl ?_
      refine vv_iload_n X jd_Md_commit_127 1 rfl rfl ?_
      exact ret _ _ 128 _ () jd_Md_commit_128 rfl rfl
    · have e1 : k < mo := nn_lt (by omega) (by omega) h
      refine vv_aload_n X jd_Md_commit_18 0 rfl rfl ?_
      refine gf_Md_16 X 0 jd_Md_commit_19 rfl rfl ?_
      refine vv_aload_n X jd_Md_commit_22 0 rfl rfl ?_
      refine gf_Md_31 X 0 jd_Md_commit_23 rfl rfl ?_
      refine vv_aload_n X jd_Md_commit_26 0 rfl rfl ?_
      refine gf_Md_25 X 0 jd_Md_commit_27 rfl rfl ?_
      refine vv_iload_n X jd_Md_commit_30 2 rfl rfl ?_
      refine vv_iald X 6 jd_Md_commit_31 rfl (k) rfl (by omega) (by decide) rfl ?_
      refine vv_iast (ws' := md_w ad cB cI (fd) (cmN nw os ov (k)) (cmS ms os mc (k + 1)) (cmV mv ov mc (k)) (cmL ml mc mo (k)) (os) (ov) (mc + (k)) (mh) (mo) (md) (mi) (mf) (mr)) X 3 jd_Md_commit_32 rfl (mc + k) rfl (by omega) (by decide) (by rw [show nF os k = nI (os k) from rfl, upd_nF]; rfl) ?_
      refine vv_aload_n X jd_Md_commit_33 0 rfl rfl ?_
      refine gf_Md_19 X 0 jd_Md_commit_34 rfl rfl ?_
      refine vv_aload_n X jd_Md_commit_37 0 rfl rfl ?_
      refine gf_Md_31 X 0 jd_Md_commit_38 rfl rfl ?_
      refine vv_aload_n X jd_Md_commit_41 0 rfl rfl ?_
      refine gf_Md_28 X 0 jd_Md_commit_42 rfl rfl ?_
      refine vv_iload_n X jd_Md_commit_45 2 rfl rfl ?_
      refine vv_iald X 7 jd_Md_commit_46 rfl (k) rfl (by omega) (by decide) rfl ?_
      refine vv_iast (ws' := md_w ad cB cI (fd) (cmN nw os ov (k)) (cmS ms os mc (k + 1)) (cmV mv ov mc (k + 1)) (cmL ml mc mo (k)) (os) (ov) (mc + (k)) (mh) (mo) (md) (mi) (mf) (mr)) X 4 jd_Md_commit_47 rfl (mc + k) rfl (by omega) (by decide) rfl ?_
      refine vv_aload_n X jd_Md_commit_48 0 rfl rfl ?_
      refine gf_Md_22 X 0 jd_Md_commit_49 rfl rfl ?_
      refine vv_aload_n X jd_Md_commit_52 0 rfl rfl ?_
      refine gf_Md_31 X 0 jd_Md_commit_53 rfl rfl ?_
      refine vv_iload_n X jd_Md_commit_56 2 rfl rfl ?_
      refine vv_iload_n X jd_Md_commit_57 1 rfl rfl ?_
      refine vv_iconst X jd_Md_commit_58 ci_1 ?_
      refine vv_isub X jd_Md_commit_59 (pk_sub (show 1 ≤ mo from h0)) ?_
      have k68 : VV p l e (js_room 0) s m args below meth c D A 3 0 0 Q (md_w ad cB cI (fd) (cmN nw os ov (k)) (cmS ms os mc (k + 1)) (cmV mv ov mc (k + 1)) (cmL ml mc mo (k)) (os) (ov) (mc + (k)) (mh) (mo) (md) (mi) (mf) (mr)) ([(0, .ref (ad 13)), (1, .int (nI mo)), (2, .int (nI k))]) 68 ([.int (nI (if k + 1 = mo then 1 else 0)), .int (nI (mc + k)), .ref (ad 18)]) := by
        refine vv_iast (ws' := md_w ad cB cI (fd) (cmN nw os ov (k)) (cmS ms os mc (k + 1)) (cmV mv ov mc (k + 1)) (cmL ml mc mo (k + 1)) (os) (ov) (mc + (k)) (mh) (mo) (md) (mi) (mf) (mr)) X 5 jd_Md_commit_68 rfl (mc + k) rfl (by omega) (by decide) (by rw [upd_nF]; rfl) ?_
        refine vv_aload_n X jd_Md_commit_69 0 rfl rfl ?_
        refine vv_dup X jd_Md_commit_70 rfl ?_
        refine gf_Md_31 X 0 jd_Md_commit_71 rfl rfl ?_
        refine vv_iconst X jd_Md_commit_74 ci_1 ?_
        refine vv_iadd X jd_Md_commit_75 (nI_add (mc + k) 1) ?_
        refine pf_Md_31 (ws' := md_w ad cB cI (fd) (cmN nw os ov (k)) (cmS ms os mc (k + 1)) (cmV mv ov mc (k + 1)) (cmL ml mc mo (k + 1)) (os) (ov) (mc + (k + 1)) (mh) (mo) (md) (mi) (mf) (mr)) X 0 jd_Md_commit_76 rfl (Nat.le_of_ble_eq_true rfl) rfl ?_
        refine vv_aload_n X jd_Md_commit_79 0 rfl rfl ?_
        refine gf_Md_13 X 0 jd_Md_commit_80 rfl rfl ?_
        refine vv_aload_n X jd_Md_commit_83 0 rfl rfl ?_
        refine gf_Md_25 X 0 jd_Md_commit_84 rfl rfl ?_
        refine vv_iload_n X jd_Md_commit_87 2 rfl rfl ?_
        refine vv_iald X 6 jd_Md_commit_88 rfl (k) rfl (by omega) (by decide) rfl ?_
        refine vv_aload_n X jd_Md_commit_89 0 rfl rfl ?_
        refine gf_Md_28 X 0 jd_Md_commit_90 rfl rfl ?_
        refine vv_iload_n X jd_Md_commit_93 2 rfl rfl ?_
        refine vv_iald X 7 jd_Md_commit_94 rfl (k) rfl (by omega) (by decide) rfl ?_
        refine vv_iast (ws' := md_w ad cB cI (fd) (cmN nw os ov (k + 1)) (cmS ms os mc (k + 1)) (cmV mv ov mc (k + 1)) (cmL ml mc mo (k + 1)) (os) (ov) (mc + (k + 1)) (mh) (mo) (md) (mi) (mf) (mr)) X 2 jd_Md_commit_95 rfl (os k) rfl (ho k e1) (by decide) rfl ?_
        refine vv_iinc X jd_Md_commit_96 2 [1, 2, 0] rfl (cn_1 k) (Nat.le_of_ble_eq_true rfl) rfl ?_
        refine vv_goto (tgt := 13) X jd_Md_commit_99 rfl ?_
        exact ih e1
      refine vv_icmp_ne (tgt := 67) X jd_Md_commit_60 rfl (fun y => ?_) (fun y => ?_)
      · rw [if_neg (fun z => y (by rw [show k = mo - 1 by omega]))] at k68
        refine vv_iconst X jd_Md_commit_67 ci_0 ?_
        exact k68
      · have y1 : k + 1 = mo := by have := (nI_eq (by omega) (by omega)).mp y; omega
        rw [if_pos y1] at k68
        refine vv_iconst X jd_Md_commit_63 ci_1 ?_
        refine vv_goto (tgt := 68) X jd_Md_commit_64 rfl ?_
        exact k68
  exact loop 0 (Nat.zero_le _)
set_option maxRecDepth 100000 in
theorem jm_forget (l : Launch) (D : va_G) (cB cI : ClassId) (ad : Nat → Nat) (fd nw : Nat → Int32) (ms : Nat → Nat) (mv : Nat → Int32) (ml os : Nat → Nat) (ov : Nat → Int32) (mc mh mo md mi mf mr : Nat) : MetI l jy_Md_forget jb_Md_forget 2 0 .int D cB cI (md_w ad cB cI (fd) (nw) (ms) (mv) (ml) (os) (ov) (mc) (mh) (mo) (md) (mi) (mf) (mr)) ([.ref (ad 13)]) (fun (r : Int32) (_ : Unit) => r = nI mo) (fun _ => md_w ad cB cI (fd) (nw) (ms) (mv) (ml) (os) (ov) (mc) (mh) (0) (md) (mi) (mf) (mr)) := by
  refine MetI.of (lv0 := [(0, .ref (ad 13))]) "JournalShelfModel" rfl (by decide +kernel) (Nat.le_of_ble_eq_true rfl) rfl ?_
  intro p e s m args below meth c A Q X ret
  refine vv_aload_n X jd_Md_forget_0 0 rfl rfl ?_
  refine gf_Md_38 X 0 jd_Md_forget_1 rfl rfl ?_
  refine vv_istore_n X jd_Md_forget_4 [1, 0] rfl (Nat.le_of_ble_eq_true rfl) rfl ?_
  refine vv_aload_n X jd_Md_forget_5 0 rfl rfl ?_
  refine vv_iconst X jd_Md_forget_6 ci_0 ?_
  refine pf_Md_38 (ws' := md_w ad cB cI (fd) (nw) (ms) (mv) (ml) (os) (ov) (mc) (mh) (0) (md) (mi) (mf) (mr)) X 0 jd_Md_forget_7 rfl (Nat.le_of_ble_eq_true rfl) rfl ?_
  refine vv_iload_n X jd_Md_forget_10 1 rfl rfl ?_
  exact ret _ _ 11 _ () jd_Md_forget_11 rfl rfl
theorem md_le5 {a : Int32} (h : a < 0) : ¬ (nI 0 ≤ a ∧ a ≤ nI 500) := fun z => absurd z.1 (Int32.not_le.mpr h)
theorem md_bit0 {mask : Int32} {k : Nat} (h : mask >>> (nI (k % 31) &&& 31) &&& nI 1 = 0) : dk_bit mask k = false := dk_bit_f (fun z => absurd (z.symm.trans h) (by decide +kernel))
theorem md_bit1 {mask : Int32} {k : Nat} (h : ¬ mask >>> (nI (k % 31) &&& 31) &&& nI 1 = 0) : dk_bit mask k = true := dk_bit_t ((dk_and1 _).resolve_left h)
set_option maxRecDepth 100000 in
theorem jm_crash_ref (l : Launch) (D : va_G) (cB cI : ClassId) (ad : Nat → Nat) (fd nw : Nat → Int32) (ms : Nat → Nat) (mv : Nat → Int32) (ml os : Nat → Nat) (ov : Nat → Int32) (mc mh mo md mi mf mr : Nat) (a v : Int32) (ha : ¬ (nI 0 ≤ v ∧ v ≤ nI 500)) : MetI l jy_Md_crash jb_Md_crash 7 1 .int D cB cI (md_w ad cB cI (fd) (nw) (ms) (mv) (ml) (os) (ov) (mc) (mh) (mo) (md) (mi) (mf) (mr)) ([.ref (ad 13), .int a, .int v]) (fun (r : Int32) (_ : Unit) => r = -1) (fun _ => md_w ad cB cI (fd) (nw) (ms) (mv) (ml) (os) (ov) (mc) (mh) (mo) (md) (mi) (mf) (mr)) := by
  refine MetI.of (lv0 := [(0, .ref (ad 13)), (1, .int a), (2, .int v)]) "JournalShelfModel" rfl (by decide +kernel) (Nat.le_of_ble_eq_true rfl) rfl ?_
  intro p e s m args below meth c A Q X ret
  refine vv_iload_n X jd_Md_crash_0 2 rfl rfl ?_
  refine vv_if_lt (tgt := 11) X jd_Md_crash_1 rfl (fun h => ?_) (fun h => ?_)
  · refine vv_iconst X jd_Md_crash_11 ci_m1 ?_
    exact ret _ _ 12 _ () jd_Md_crash_12 rfl rfl
  · refine vv_iload_n X jd_Md_crash_4 2 rfl rfl ?_
    refine vv_sipush X jd_Md_crash_5 cs_500 ?_
    refine vv_icmp_le (tgt := 13) X jd_Md_crash_8 rfl (fun h2 => ?_) (fun h2 => ?_)
    · exact absurd ⟨Int32.not_lt.mp h, h2⟩ ha
    · refine vv_iconst X jd_Md_crash_11 ci_m1 ?_
      exact ret _ _ 12 _ () jd_Md_crash_12 rfl rfl
set_option maxRecDepth 100000 in
theorem jm_crash_yes (l : Launch) (D : va_G) (cB cI : ClassId) (ad : Nat → Nat) (fd nw : Nat → Int32) (ms : Nat → Nat) (mv : Nat → Int32) (ml os : Nat → Nat) (ov : Nat → Int32) (mc mh mo md mi mf mr : Nat) (hm : mc ≤ 24) (hs : ∀ k, k < mc → ms k < 212) (mask : Int32) (z : Nat) (hz : z ≤ 500) (hh : mh ≤ 24) (hl : ∀ k, k < mc → ml k ≤ 1) (hk1 : cr_k mask mh ml mc ≤ mi) (hk2 : mi - cr_k mask mh ml mc ≤ md) : MetI l jy_Md_crash jb_Md_crash 7 1 .int D cB cI (md_w ad cB cI (fd) (nw) (ms) (mv) (ml) (os) (ov) (mc) (mh) (mo) (md) (mi) (mf) (mr)) ([.ref (ad 13), .int mask, .int (nI z)]) (fun (r : Int32) (_ : Unit) => r = nI (mi - cr_k mask mh ml mc)) (fun _ => md_w ad cB cI (prf (crN (prf fd nw 212) ms mv (cr_w mask mh ml mc)) fd 212) (crN (prf fd nw 212) ms mv (cr_w mask mh ml mc)) (ms) (mv) (ml) (os) (ov) (0) (0) (0) (md - (mi - cr_k mask mh ml mc)) (0) (mf) (mr + 1)) := by
  refine MetI.of (lv0 := [(0, .ref (ad 13)), (1, .int mask), (2, .int (nI z))]) "JournalShelfModel" rfl (by decide +kernel) (Nat.le_of_ble_eq_true rfl) rfl ?_
  intro p e s m args below meth c A Q X ret
  have wl := cr_w_le mask mh ml mc
  refine vv_iload_n X jd_Md_crash_0 2 rfl rfl ?_
  refine vv_if_lt (tgt := 11) X jd_Md_crash_1 rfl (fun h => absurd h (nI_pos (by omega))) (fun h => ?_)
  refine vv_iload_n X jd_Md_crash_4 2 rfl rfl ?_
  refine vv_sipush X jd_Md_crash_5 cs_500 ?_
  refine vv_icmp_le (tgt := 13) X jd_Md_crash_8 rfl (fun h => ?_) (fun h => absurd (nI_le (by omega) (by omega)) h)
  refine vv_iconst X jd_Md_crash_13 ci_0 ?_
  refine vv_istore_n X jd_Md_crash_14 [1, 2, 3, 0] rfl (Nat.le_of_ble_eq_true rfl) rfl ?_
  refine vv_iconst X jd_Md_crash_15 ci_0 ?_
  refine vv_istore X jd_Md_crash_16 [1, 2, 3, 4, 0] (Nat.le_of_ble_eq_true rfl) rfl ?_
  refine vv_iconst X jd_Md_crash_18 ci_1 ?_
  refine vv_istore X jd_Md_crash_19 [1, 2, 3, 4, 5, 0] (Nat.le_of_ble_eq_true rfl) rfl ?_
  refine vv_iconst X jd_Md_crash_21 ci_0 ?_
  refine vv_istore X jd_Md_crash_22 [1, 2, 3, 4, 5, 6, 0] (Nat.le_of_ble_eq_true rfl) rfl ?_
  have k83 : ∀ t i, VV p l e (js_room 1) s m args below meth c D A 7 0 0 Q (md_w ad cB cI (fd) (nw) (ms) (mv) (ml) (os) (ov) (mc) (mh) (mo) (md) (mi) (mf) (mr)) ([(0, .ref (ad 13)), (1, .int mask), (2, .int (nI z)), (3, .int (nI (cr_w mask mh ml mc))), (4, .int (nI (cr_k mask mh ml mc))), (5, .int t), (6, .int i)]) 83 ([]) := by
    intro t i
    refine vv_iconst X jd_Md_crash_83 ci_0 ?_
    refine vv_istore X jd_Md_crash_84 [1, 2, 3, 4, 5, 6, 0] (Nat.le_of_ble_eq_true rfl) rfl ?_
    have k114 : ∀ i, VV p l e (js_room 1) s m args below meth c D A 7 0 0 Q (md_w ad cB cI (fd) (prf fd nw 212) (ms) (mv) (ml) (os) (ov) (mc) (mh) (mo) (md) (mi) (mf) (mr)) ([(0, .ref (ad 13)), (1, .int mask), (2, .int (nI z)), (3, .int (nI (cr_w mask mh ml mc))), (4, .int (nI (cr_k mask mh ml mc))), (5, .int t), (6, .int i)]) 114 ([]) := by
      intro i
      refine vv_iconst X jd_Md_crash_114 ci_0 ?_
      refine vv_istore X jd_Md_crash_115 [1, 2, 3, 4, 5, 6, 0] (Nat.le_of_ble_eq_true rfl) rfl ?_
      have loop : ∀ k, k ≤ cr_w mask mh ml mc → VV p l e (js_room 1) s m args below meth c D A 7 0 0 Q (md_w ad cB cI (fd) (crN (prf fd nw 212) ms mv k) (ms) (mv) (ml) (os) (ov) (mc) (mh) (mo) (md) (mi) (mf) (mr)) ([(0, .ref (ad 13)), (1, .int mask), (2, .int (nI z)), (3, .int (nI (cr_w mask mh ml mc))), (4, .int (nI (cr_k mask mh ml mc))), (5, .int t), (6, .int (nI k))]) 117 ([]) := by
        refine js_up ?_
        intro k hk ih
        refine vv_iload X jd_Md_crash_117 6 rfl ?_
        refine vv_iload_n X jd_Md_crash_119 3 rfl rfl ?_
        refine vv_icmp_ge (tgt := 148) X jd_Md_crash_120 rfl (fun h => ?_) (fun h => ?_)
        · have e1 : k = cr_w mask mh ml mc := Nat.le_antisymm hk (nn_le (by omega) (by omega) h)
          rw [e1]
          refine vv_aload_n X jd_Md_crash_148 0 rfl rfl ?_
          refine gf_Md_35 X 0 jd_Md_crash_149 rfl rfl ?_
          refine vv_iload X jd_Md_crash_152 4 rfl ?_
          refine vv_isub X jd_Md_crash_154 (pk_sub hk1) ?_
          refine vv_istore X jd_Md_crash_155 [1, 2, 3, 4, 5, 6, 0] (Nat.le_of_ble_eq_true rfl) rfl ?_
          refine vv_aload_n X jd_Md_crash_157 0 rfl rfl ?_
          refine vv_dup X jd_Md_crash_158 rfl ?_
          refine gf_Md_45 X 0 jd_Md_crash_159 rfl rfl ?_
          refine vv_iload X jd_Md_crash_162 6 rfl ?_
          refine vv_isub X jd_Md_crash_164 (pk_sub hk2) ?_
          refine pf_Md_45 (ws' := md_w ad cB cI (fd) (crN (prf fd nw 212) ms mv (cr_w mask mh ml mc)) (ms) (mv) (ml) (os) (ov) (mc) (mh) (mo) (md - (mi - cr_k mask mh ml mc)) (mi) (mf) (mr)) X 0 jd_Md_crash_165 rfl (Nat.le_of_ble_eq_true rfl) rfl ?_
          refine vv_aload_n X jd_Md_crash_168 0 rfl rfl ?_
          refine vv_iconst X jd_Md_crash_169 ci_0 ?_
          refine pf_Md_38 (ws' := md_w ad cB cI (fd) (crN (prf fd nw 212) ms mv (cr_w mask mh ml mc)) (ms) (mv) (ml) (os) (ov) (mc) (mh) (0) (md - (mi - cr_k mask mh ml mc)) (mi) (mf) (mr)) X 0 jd_Md_crash_170 rfl (Nat.le_of_ble_eq_true rfl) rfl ?_
          refine vv_aload_n X jd_Md_crash_173 0 rfl rfl ?_
          refine vv_iconst X jd_Md_crash_174 ci_0 ?_
          refine pf_Md_51 (ws' := md_w ad cB cI (fd) (crN (prf fd nw 212) ms mv (cr_w mask mh ml mc)) (ms) (mv) (ml) (os) (ov) (mc) (0) (0) (md - (mi - cr_k mask mh ml mc)) (mi) (mf) (mr)) X 0 jd_Md_crash_175 rfl (Nat.le_of_ble_eq_true rfl) rfl ?_
          refine vv_aload_n X jd_Md_crash_178 0 rfl rfl ?_
          refine vv_cVv (As := []) X (jm_settle l D cB cI ad fd (crN (prf fd nw 212) ms mv (cr_w mask mh ml mc)) ms mv ml os ov mc 0 0 (md - (mi - cr_k mask mh ml mc)) mi mf mr) ok_Md_54 ⟨rfl, rfl, Nat.le_of_ble_eq_true rfl, Nat.le_of_ble_eq_true rfl⟩ jd_Md_crash_179 0 3 rfl rfl rfl [0, 1, 2, 3, 4, 5, 6, 7] rfl rfl [ad 13, ad 14, ad 15, ad 16, ad 17, ad 18, ad 19, ad 20] (fun _ => rfl) rfl rfl rfl (Nat.le_of_ble_eq_true rfl) ⟨Nat.zero_le _, Nat.zero_le _⟩ (fun _ _ => ?_)
          refine vv_ws (ws' := md_w ad cB cI (prf (crN (prf fd nw 212) ms mv (cr_w mask mh ml mc)) fd 212) (crN (prf fd nw 212) ms mv (cr_w mask mh ml mc)) (ms) (mv) (ml) (os) (ov) (0) (0) (0) (md - (mi - cr_k mask mh ml mc)) (0) (mf) (mr)) rfl ?_
          refine vv_aload_n X jd_Md_crash_182 0 rfl rfl ?_
          refine vv_dup X jd_Md_crash_183 rfl ?_
          refine gf_Md_60 X 0 jd_Md_crash_184 rfl rfl ?_
          refine vv_iconst X jd_Md_crash_187 ci_1 ?_
          refine vv_iadd X jd_Md_crash_188 (nI_add mr 1) ?_
          refine pf_Md_60 (ws' := md_w ad cB cI (prf (crN (prf fd nw 212) ms mv (cr_w mask mh ml mc)) fd 212) (crN (prf fd nw 212) ms mv (cr_w mask mh ml mc)) (ms) (mv) (ml) (os) (ov) (0) (0) (0) (md - (mi - cr_k mask mh ml mc)) (0) (mf) (mr + 1)) X 0 jd_Md_crash_189 rfl (Nat.le_of_ble_eq_true rfl) rfl ?_
          refine vv_iload X jd_Md_crash_192 6 rfl ?_
          exact ret _ _ 194 _ () jd_Md_crash_194 rfl rfl
        · have e1 : k < cr_w mask mh ml mc := nn_lt (by omega) (by omega) h
          refine vv_aload_n X jd_Md_crash_123 0 rfl rfl ?_
          refine gf_Md_13 X 0 jd_Md_crash_124 rfl rfl ?_
          refine vv_aload_n X jd_Md_crash_127 0 rfl rfl ?_
          refine gf_Md_16 X 0 jd_Md_crash_128 rfl rfl ?_
          refine vv_iload X jd_Md_crash_131 6 rfl ?_
          refine vv_iald X 3 jd_Md_crash_133 rfl (k) rfl (by omega) (by decide) rfl ?_
          refine vv_aload_n X jd_Md_crash_134 0 rfl rfl ?_
          refine gf_Md_19 X 0 jd_Md_crash_135 rfl rfl ?_
          refine vv_iload X jd_Md_crash_138 6 rfl ?_
          refine vv_iald X 4 jd_Md_crash_140 rfl (k) rfl (by omega) (by decide) rfl ?_
          refine vv_iast (ws' := md_w ad cB cI (fd) (crN (prf fd nw 212) ms mv (k + 1)) (ms) (mv) (ml) (os) (ov) (mc) (mh) (mo) (md) (mi) (mf) (mr)) X 2 jd_Md_crash_141 rfl (ms k) rfl (hs k (by omega)) (by decide) rfl ?_
          refine vv_iinc X jd_Md_crash_142 6 [1, 2, 3, 4, 5, 6, 0] rfl (cn_1 k) (Nat.le_of_ble_eq_true rfl) rfl ?_
          refine vv_goto (tgt := 117) X jd_Md_crash_145 rfl ?_
          exact ih e1
      exact loop 0 (Nat.zero_le _)
    have loop : ∀ k, k ≤ 212 → VV p l e (js_room 1) s m args below meth c D A 7 0 0 Q (md_w ad cB cI (fd) (prf fd nw k) (ms) (mv) (ml) (os) (ov) (mc) (mh) (mo) (md) (mi) (mf) (mr)) ([(0, .ref (ad 13)), (1, .int mask), (2, .int (nI z)), (3, .int (nI (cr_w mask mh ml mc))), (4, .int (nI (cr_k mask mh ml mc))), (5, .int t), (6, .int (nI k))]) 86 ([]) := by
      refine js_up ?_
      intro k hk ih
      refine vv_iload X jd_Md_crash_86 6 rfl ?_
      refine vv_sipush X jd_Md_crash_88 cs_212 ?_
      refine vv_icmp_ge (tgt := 114) X jd_Md_crash_91 rfl (fun h => ?_) (fun h => ?_)
      · have e1 : k = 212 := Nat.le_antisymm hk (nn_le (by omega) (by omega) h)
        subst e1
        exact k114 _
      · have e1 : k < 212 := nn_lt (by omega) (by omega) h
        refine vv_aload_n X jd_Md_crash_94 0 rfl rfl ?_
        refine gf_Md_13 X 0 jd_Md_crash_95 rfl rfl ?_
        refine vv_iload X jd_Md_crash_98 6 rfl ?_
        refine vv_aload_n X jd_Md_crash_100 0 rfl rfl ?_
        refine gf_Md_9 X 0 jd_Md_crash_101 rfl rfl ?_
        refine vv_iload X jd_Md_crash_104 6 rfl ?_
        refine vv_iald X 1 jd_Md_crash_106 rfl (k) rfl e1 (by decide) rfl ?_
        refine vv_iast (ws' := md_w ad cB cI (fd) (prf fd nw (k + 1)) (ms) (mv) (ml) (os) (ov) (mc) (mh) (mo) (md) (mi) (mf) (mr)) X 2 jd_Md_crash_107 rfl (k) rfl e1 (by decide) (by rw [← prf_s]; rfl) ?_
        refine vv_iinc X jd_Md_crash_108 6 [1, 2, 3, 4, 5, 6, 0] rfl (cn_1 k) (Nat.le_of_ble_eq_true rfl) rfl ?_
        refine vv_goto (tgt := 86) X jd_Md_crash_111 rfl ?_
        exact ih e1
    have l0 := loop 0 (Nat.zero_le _)
    rw [prf_0] at l0
    exact l0
  have loop : ∀ k, k ≤ mc → VV p l e (js_room 1) s m args below meth c D A 7 0 0 Q (md_w ad cB cI (fd) (nw) (ms) (mv) (ml) (os) (ov) (mc) (mh) (mo) (md) (mi) (mf) (mr)) ([(0, .ref (ad 13)), (1, .int mask), (2, .int (nI z)), (3, .int (nI (cr_w mask mh ml k))), (4, .int (nI (cr_k mask mh ml k))), (5, .int (if cr_st mask mh k = true then nI 1 else nI 0)), (6, .int (nI (k)))]) 24 ([]) := by
    refine js_up ?_
    intro k hk ih
    refine vv_iload X jd_Md_crash_24 6 rfl ?_
    refine vv_aload_n X jd_Md_crash_26 0 rfl rfl ?_
    refine gf_Md_31 X 0 jd_Md_crash_27 rfl rfl ?_
    refine vv_icmp_ge (tgt := 83) X jd_Md_crash_30 rfl (fun h => ?_) (fun h => ?_)
    · have e1 : k = mc := Nat.le_antisymm hk (nn_le (by omega) (by omega) h)
      rw [e1]
      exact k83 _ _
    · have e1 : k < mc := nn_lt (by omega) (by omega) h
      have i1 := ih e1
      have k53 : VV p l e (js_room 1) s m args below meth c D A 7 0 0 Q (md_w ad cB cI (fd) (nw) (ms) (mv) (ml) (os) (ov) (mc) (mh) (mo) (md) (mi) (mf) (mr)) ([(0, .ref (ad 13)), (1, .int mask), (2, .int (nI z)), (3, .int (nI (cr_w mask mh ml k))), (4, .int (nI (cr_k mask mh ml k))), (5, .int (if cr_st mask mh (k + 1) = true then nI 1 else nI 0)), (6, .int (nI (k)))]) 53 ([]) := by
        refine vv_iload X jd_Md_crash_53 5 rfl ?_
        refine vv_if_eq (tgt := 77) X jd_Md_crash_55 rfl (fun y => ?_) (fun y => ?_)
        · have y1 := (md_if1 _).mp y
          have y2 : ¬ (cr_st mask mh (k + 1) = true ∧ ml k = 1) := fun q => by rw [y1] at q; exact absurd q.1 (by decide)
          simp only [cr_w, cr_k, if_neg y2] at i1
          refine vv_iinc X jd_Md_crash_77 6 [1, 2, 3, 4, 5, 6, 0] rfl (cn_1 k) (Nat.le_of_ble_eq_true rfl) rfl ?_
          refine vv_goto (tgt := 24) X jd_Md_crash_80 rfl ?_
          exact i1
        · have y1 : cr_st mask mh (k + 1) = true := by cases hq : cr_st mask mh (k + 1) with | true => rfl | false => exact absurd ((md_if1 _).mpr hq) y
          refine vv_aload_n X jd_Md_crash_58 0 rfl rfl ?_
          refine gf_Md_22 X 0 jd_Md_crash_59 rfl rfl ?_
          refine vv_iload X jd_Md_crash_62 6 rfl ?_
          refine vv_iald X 5 jd_Md_crash_64 rfl (k) rfl (by omega) (by decide) rfl ?_
          refine vv_iconst X jd_Md_crash_65 ci_1 ?_
          refine vv_icmp_ne (tgt := 77) X jd_Md_crash_66 rfl (fun y3 => ?_) (fun y3 => ?_)
          · have y2 : ¬ (cr_st mask mh (k + 1) = true ∧ ml k = 1) := fun q => y3 (by show nI (ml k) = nI 1; rw [q.2])
            simp only [cr_w, cr_k, if_neg y2] at i1
            refine vv_iinc X jd_Md_crash_77 6 [1, 2, 3, 4, 5, 6, 0] rfl (cn_1 k) (Nat.le_of_ble_eq_true rfl) rfl ?_
            refine vv_goto (tgt := 24) X jd_Md_crash_80 rfl ?_
            exact i1
          · have y2 : cr_st mask mh (k + 1) = true ∧ ml k = 1 := ⟨y1, (nI_eq (by have := hl k e1; omega) (by omega)).mp y3⟩
            simp only [cr_w, cr_k, if_pos y2] at i1
            refine vv_iload X jd_Md_crash_69 6 rfl ?_
            refine vv_iconst X jd_Md_crash_71 ci_1 ?_
            refine vv_iadd X jd_Md_crash_72 (nI_add k 1) ?_
            refine vv_istore_n X jd_Md_crash_73 [1, 2, 3, 0, 4, 5, 6] rfl (Nat.le_of_ble_eq_true rfl) rfl ?_
            refine vv_iinc X jd_Md_crash_74 4 [1, 2, 3, 4, 0, 5, 6] rfl (cn_1 _) (Nat.le_of_ble_eq_true rfl) rfl ?_
            refine vv_iinc X jd_Md_crash_77 6 [1, 2, 3, 4, 5, 6, 0] rfl (cn_1 k) (Nat.le_of_ble_eq_true rfl) rfl ?_
            refine vv_goto (tgt := 24) X jd_Md_crash_80 rfl ?_
            exact i1
      refine vv_iload_n X jd_Md_crash_33 1 rfl rfl ?_
      refine vv_aload_n X jd_Md_crash_34 0 rfl rfl ?_
      refine gf_Md_51 X 0 jd_Md_crash_35 rfl rfl ?_
      refine vv_iload X jd_Md_crash_38 6 rfl ?_
      refine vv_iadd X jd_Md_crash_40 (nI_add mh k) ?_
      refine vv_bipush X jd_Md_crash_41 cb_31 ?_
      refine vv_irem X jd_Md_crash_43 (nI_ne0 (by omega) (by omega)) (pk_rem (by omega) (by omega) (by omega)) ?_
      refine vv_ishr X jd_Md_crash_44 rfl ?_
      refine vv_iconst X jd_Md_crash_45 ci_1 ?_
      refine vv_iand X jd_Md_crash_46 rfl ?_
      refine vv_if_ne (tgt := 53) X jd_Md_crash_47 rfl (fun y => ?_) (fun y => ?_)
      · have y1 := md_bit1 y
        rw [show cr_st mask mh (k + 1) = cr_st mask mh k by simp only [cr_st, y1, Bool.and_true]] at k53
        exact k53
      · have y1 := md_bit0 y
        rw [show cr_st mask mh (k + 1) = false by simp only [cr_st, y1, Bool.and_false]] at k53
        refine vv_iconst X jd_Md_crash_50 ci_0 ?_
        refine vv_istore X jd_Md_crash_51 [1, 2, 3, 4, 5, 0, 6] (Nat.le_of_ble_eq_true rfl) rfl ?_
        exact k53
  exact loop 0 (Nat.zero_le _)
set_option maxRecDepth 100000 in
theorem jm_get_ref (l : Launch) (D : va_G) (cB cI : ClassId) (ad : Nat → Nat) (fd nw : Nat → Int32) (ms : Nat → Nat) (mv : Nat → Int32) (ml os : Nat → Nat) (ov : Nat → Int32) (mc mh mo md mi mf mr : Nat) (a : Int32) (ha : ¬ (nI 0 ≤ a ∧ a ≤ nI 211)) : MetI l jy_Md_get jb_Md_get 2 0 .int D cB cI (md_w ad cB cI (fd) (nw) (ms) (mv) (ml) (os) (ov) (mc) (mh) (mo) (md) (mi) (mf) (mr)) ([.ref (ad 13), .int a]) (fun (r : Int32) (_ : Unit) => r = 0) (fun _ => md_w ad cB cI (fd) (nw) (ms) (mv) (ml) (os) (ov) (mc) (mh) (mo) (md) (mi) (mf) (mr)) := by
  refine MetI.of (lv0 := [(0, .ref (ad 13)), (1, .int a)]) "JournalShelfModel" rfl (by decide +kernel) (Nat.le_of_ble_eq_true rfl) rfl ?_
  intro p e s m args below meth c A Q X ret
  refine vv_iload_n X jd_Md_get_0 1 rfl rfl ?_
  refine vv_if_lt (tgt := 11) X jd_Md_get_1 rfl (fun h => ?_) (fun h => ?_)
  · refine vv_iconst (v := 0) X jd_Md_get_11 (by decide +kernel) ?_
    refine vv_goto (tgt := 21) X jd_Md_get_12 rfl ?_
    exact ret _ _ 21 _ () jd_Md_get_21 rfl rfl
  · refine vv_iload_n X jd_Md_get_4 1 rfl rfl ?_
    refine vv_sipush X jd_Md_get_5 cs_212 ?_
    refine vv_icmp_lt (tgt := 15) X jd_Md_get_8 rfl (fun h2 => ?_) (fun h2 => ?_)
    · exact absurd ⟨Int32.not_lt.mp h, md_le h2⟩ ha
    · refine vv_iconst (v := 0) X jd_Md_get_11 (by decide +kernel) ?_
      refine vv_goto (tgt := 21) X jd_Md_get_12 rfl ?_
      exact ret _ _ 21 _ () jd_Md_get_21 rfl rfl
set_option maxRecDepth 100000 in
theorem jm_get_yes (l : Launch) (D : va_G) (cB cI : ClassId) (ad : Nat → Nat) (fd nw : Nat → Int32) (ms : Nat → Nat) (mv : Nat → Int32) (ml os : Nat → Nat) (ov : Nat → Int32) (mc mh mo md mi mf mr : Nat) (x : Nat) (hx : x < 212) : MetI l jy_Md_get jb_Md_get 2 0 .int D cB cI (md_w ad cB cI (fd) (nw) (ms) (mv) (ml) (os) (ov) (mc) (mh) (mo) (md) (mi) (mf) (mr)) ([.ref (ad 13), .int (nI x)]) (fun (r : Int32) (_ : Unit) => r = nw x) (fun _ => md_w ad cB cI (fd) (nw) (ms) (mv) (ml) (os) (ov) (mc) (mh) (mo) (md) (mi) (mf) (mr)) := by
  refine MetI.of (lv0 := [(0, .ref (ad 13)), (1, .int (nI x))]) "JournalShelfModel" rfl (by decide +kernel) (Nat.le_of_ble_eq_true rfl) rfl ?_
  intro p e s m args below meth c A Q X ret
  refine vv_iload_n X jd_Md_get_0 1 rfl rfl ?_
  refine vv_if_lt (tgt := 11) X jd_Md_get_1 rfl (fun h => absurd h (nI_pos (by omega))) (fun h => ?_)
  refine vv_iload_n X jd_Md_get_4 1 rfl rfl ?_
  refine vv_sipush X jd_Md_get_5 cs_212 ?_
  refine vv_icmp_lt (tgt := 15) X jd_Md_get_8 rfl (fun h => ?_) (fun h => absurd (nI_lt (by omega) (by omega)) h)
  refine vv_aload_n X jd_Md_get_15 0 rfl rfl ?_
  refine gf_Md_13 X 0 jd_Md_get_16 rfl rfl ?_
  refine vv_iload_n X jd_Md_get_19 1 rfl rfl ?_
  refine vv_iald X 2 jd_Md_get_20 rfl (x) rfl hx (by decide) rfl ?_
  exact ret _ _ 21 _ () jd_Md_get_21 rfl rfl
set_option maxRecDepth 100000 in
theorem jm_torn (l : Launch) (D : va_G) (cB cI : ClassId) (ad : Nat → Nat) (fd nw : Nat → Int32) (ms : Nat → Nat) (mv : Nat → Int32) (ml os : Nat → Nat) (ov : Nat → Int32) (mc mh mo md mi mf mr : Nat) : MetI l jy_Md_torn jb_Md_torn 1 0 .int D cB cI (md_w ad cB cI (fd) (nw) (ms) (mv) (ml) (os) (ov) (mc) (mh) (mo) (md) (mi) (mf) (mr)) ([.ref (ad 13)]) (fun (r : Int32) (_ : Unit) => r = nI 0) (fun _ => md_w ad cB cI (fd) (nw) (ms) (mv) (ml) (os) (ov) (mc) (mh) (mo) (md) (mi) (mf) (mr)) := by
  refine MetI.of (lv0 := [(0, .ref (ad 13))]) "JournalShelfModel" rfl (by decide +kernel) (Nat.le_of_ble_eq_true rfl) rfl ?_
  intro p e s m args below meth c A Q X ret
  refine vv_iconst X jd_Md_torn_0 ci_0 ?_
  exact ret _ _ 1 _ () jd_Md_torn_1 rfl rfl
set_option maxRecDepth 100000 in
theorem jm_count_0 (l : Launch) (D : va_G) (cB cI : ClassId) (ad : Nat → Nat) (fd nw : Nat → Int32) (ms : Nat → Nat) (mv : Nat → Int32) (ml os : Nat → Nat) (ov : Nat → Int32) (mc mh mo md mi mf mr : Nat) : MetI l jy_Md_count jb_Md_count 2 0 .int D cB cI (md_w ad cB cI (fd) (nw) (ms) (mv) (ml) (os) (ov) (mc) (mh) (mo) (md) (mi) (mf) (mr)) ([.ref (ad 13), .int (nI 0)]) (fun (r : Int32) (_ : Unit) => r = nI md) (fun _ => md_w ad cB cI (fd) (nw) (ms) (mv) (ml) (os) (ov) (mc) (mh) (mo) (md) (mi) (mf) (mr)) := by
  refine MetI.of (lv0 := [(0, .ref (ad 13)), (1, .int (nI 0))]) "JournalShelfModel" rfl (by decide +kernel) (Nat.le_of_ble_eq_true rfl) rfl ?_
  intro p e s m args below meth c A Q X ret
  refine vv_iload_n X jd_Md_count_0 1 rfl rfl ?_
  refine vv_swIn (tgt := 40) X jd_Md_count_1 (by decide +kernel) (by decide +kernel) (off := 39) (by decide +kernel) rfl ?_
  refine vv_aload_n X jd_Md_count_40 0 rfl rfl ?_
  refine gf_Md_45 X 0 jd_Md_count_41 rfl rfl ?_
  exact ret _ _ 44 _ () jd_Md_count_44 rfl rfl
set_option maxRecDepth 100000 in
theorem jm_count_1 (l : Launch) (D : va_G) (cB cI : ClassId) (ad : Nat → Nat) (fd nw : Nat → Int32) (ms : Nat → Nat) (mv : Nat → Int32) (ml os : Nat → Nat) (ov : Nat → Int32) (mc mh mo md mi mf mr : Nat) : MetI l jy_Md_count jb_Md_count 2 0 .int D cB cI (md_w ad cB cI (fd) (nw) (ms) (mv) (ml) (os) (ov) (mc) (mh) (mo) (md) (mi) (mf) (mr)) ([.ref (ad 13), .int (nI 1)]) (fun (r : Int32) (_ : Unit) => r = nI mi) (fun _ => md_w ad cB cI (fd) (nw) (ms) (mv) (ml) (os) (ov) (mc) (mh) (mo) (md) (mi) (mf) (mr)) := by
  refine MetI.of (lv0 := [(0, .ref (ad 13)), (1, .int (nI 1))]) "JournalShelfModel" rfl (by decide +kernel) (Nat.le_of_ble_eq_true rfl) rfl ?_
  intro p e s m args below meth c A Q X ret
  refine vv_iload_n X jd_Md_count_0 1 rfl rfl ?_
  refine vv_swIn (tgt := 45) X jd_Md_count_1 (by decide +kernel) (by decide +kernel) (off := 44) (by decide +kernel) rfl ?_
  refine vv_aload_n X jd_Md_count_45 0 rfl rfl ?_
  refine gf_Md_35 X 0 jd_Md_count_46 rfl rfl ?_
  exact ret _ _ 49 _ () jd_Md_count_49 rfl rfl
set_option maxRecDepth 100000 in
theorem jm_count_2 (l : Launch) (D : va_G) (cB cI : ClassId) (ad : Nat → Nat) (fd nw : Nat → Int32) (ms : Nat → Nat) (mv : Nat → Int32) (ml os : Nat → Nat) (ov : Nat → Int32) (mc mh mo md mi mf mr : Nat) : MetI l jy_Md_count jb_Md_count 2 0 .int D cB cI (md_w ad cB cI (fd) (nw) (ms) (mv) (ml) (os) (ov) (mc) (mh) (mo) (md) (mi) (mf) (mr)) ([.ref (ad 13), .int (nI 2)]) (fun (r : Int32) (_ : Unit) => r = nI (mh + mc)) (fun _ => md_w ad cB cI (fd) (nw) (ms) (mv) (ml) (os) (ov) (mc) (mh) (mo) (md) (mi) (mf) (mr)) := by
  refine MetI.of (lv0 := [(0, .ref (ad 13)), (1, .int (nI 2))]) "JournalShelfModel" rfl (by decide +kernel) (Nat.le_of_ble_eq_true rfl) rfl ?_
  intro p e s m args below meth c A Q X ret
  refine vv_iload_n X jd_Md_count_0 1 rfl rfl ?_
  refine vv_swIn (tgt := 50) X jd_Md_count_1 (by decide +kernel) (by decide +kernel) (off := 49) (by decide +kernel) rfl ?_
  refine vv_aload_n X jd_Md_count_50 0 rfl rfl ?_
  refine gf_Md_51 X 0 jd_Md_count_51 rfl rfl ?_
  refine vv_aload_n X jd_Md_count_54 0 rfl rfl ?_
  refine gf_Md_31 X 0 jd_Md_count_55 rfl rfl ?_
  refine vv_iadd X jd_Md_count_58 (nI_add mh mc) ?_
  exact ret _ _ 59 _ () jd_Md_count_59 rfl rfl
set_option maxRecDepth 100000 in
theorem jm_count_3 (l : Launch) (D : va_G) (cB cI : ClassId) (ad : Nat → Nat) (fd nw : Nat → Int32) (ms : Nat → Nat) (mv : Nat → Int32) (ml os : Nat → Nat) (ov : Nat → Int32) (mc mh mo md mi mf mr : Nat) : MetI l jy_Md_count jb_Md_count 2 0 .int D cB cI (md_w ad cB cI (fd) (nw) (ms) (mv) (ml) (os) (ov) (mc) (mh) (mo) (md) (mi) (mf) (mr)) ([.ref (ad 13), .int (nI 3)]) (fun (r : Int32) (_ : Unit) => r = nI mo) (fun _ => md_w ad cB cI (fd) (nw) (ms) (mv) (ml) (os) (ov) (mc) (mh) (mo) (md) (mi) (mf) (mr)) := by
  refine MetI.of (lv0 := [(0, .ref (ad 13)), (1, .int (nI 3))]) "JournalShelfModel" rfl (by decide +kernel) (Nat.le_of_ble_eq_true rfl) rfl ?_
  intro p e s m args below meth c A Q X ret
  refine vv_iload_n X jd_Md_count_0 1 rfl rfl ?_
  refine vv_swIn (tgt := 60) X jd_Md_count_1 (by decide +kernel) (by decide +kernel) (off := 59) (by decide +kernel) rfl ?_
  refine vv_aload_n X jd_Md_count_60 0 rfl rfl ?_
  refine gf_Md_38 X 0 jd_Md_count_61 rfl rfl ?_
  exact ret _ _ 64 _ () jd_Md_count_64 rfl rfl
set_option maxRecDepth 100000 in
theorem jm_count_4 (l : Launch) (D : va_G) (cB cI : ClassId) (ad : Nat → Nat) (fd nw : Nat → Int32) (ms : Nat → Nat) (mv : Nat → Int32) (ml os : Nat → Nat) (ov : Nat → Int32) (mc mh mo md mi mf mr : Nat) : MetI l jy_Md_count jb_Md_count 2 0 .int D cB cI (md_w ad cB cI (fd) (nw) (ms) (mv) (ml) (os) (ov) (mc) (mh) (mo) (md) (mi) (mf) (mr)) ([.ref (ad 13), .int (nI 4)]) (fun (r : Int32) (_ : Unit) => r = nI mf) (fun _ => md_w ad cB cI (fd) (nw) (ms) (mv) (ml) (os) (ov) (mc) (mh) (mo) (md) (mi) (mf) (mr)) := by
  refine MetI.of (lv0 := [(0, .ref (ad 13)), (1, .int (nI 4))]) "JournalShelfModel" rfl (by decide +kernel) (Nat.le_of_ble_eq_true rfl) rfl ?_
  intro p e s m args below meth c A Q X ret
  refine vv_iload_n X jd_Md_count_0 1 rfl rfl ?_
  refine vv_swIn (tgt := 65) X jd_Md_count_1 (by decide +kernel) (by decide +kernel) (off := 64) (by decide +kernel) rfl ?_
  refine vv_aload_n X jd_Md_count_65 0 rfl rfl ?_
  refine gf_Md_57 X 0 jd_Md_count_66 rfl rfl ?_
  exact ret _ _ 69 _ () jd_Md_count_69 rfl rfl
set_option maxRecDepth 100000 in
theorem jm_count_5 (l : Launch) (D : va_G) (cB cI : ClassId) (ad : Nat → Nat) (fd nw : Nat → Int32) (ms : Nat → Nat) (mv : Nat → Int32) (ml os : Nat → Nat) (ov : Nat → Int32) (mc mh mo md mi mf mr : Nat) : MetI l jy_Md_count jb_Md_count 2 0 .int D cB cI (md_w ad cB cI (fd) (nw) (ms) (mv) (ml) (os) (ov) (mc) (mh) (mo) (md) (mi) (mf) (mr)) ([.ref (ad 13), .int (nI 5)]) (fun (r : Int32) (_ : Unit) => r = nI mr) (fun _ => md_w ad cB cI (fd) (nw) (ms) (mv) (ml) (os) (ov) (mc) (mh) (mo) (md) (mi) (mf) (mr)) := by
  refine MetI.of (lv0 := [(0, .ref (ad 13)), (1, .int (nI 5))]) "JournalShelfModel" rfl (by decide +kernel) (Nat.le_of_ble_eq_true rfl) rfl ?_
  intro p e s m args below meth c A Q X ret
  refine vv_iload_n X jd_Md_count_0 1 rfl rfl ?_
  refine vv_swIn (tgt := 70) X jd_Md_count_1 (by decide +kernel) (by decide +kernel) (off := 69) (by decide +kernel) rfl ?_
  refine vv_aload_n X jd_Md_count_70 0 rfl rfl ?_
  refine gf_Md_60 X 0 jd_Md_count_71 rfl rfl ?_
  exact ret _ _ 74 _ () jd_Md_count_74 rfl rfl
set_option maxRecDepth 100000 in
theorem jm_count_out (l : Launch) (D : va_G) (cB cI : ClassId) (ad : Nat → Nat) (fd nw : Nat → Int32) (ms : Nat → Nat) (mv : Nat → Int32) (ml os : Nat → Nat) (ov : Nat → Int32) (mc mh mo md mi mf mr : Nat) (a : Int32) (ha : a.toInt < 0 ∨ 5 < a.toInt) : MetI l jy_Md_count jb_Md_count 2 0 .int D cB cI (md_w ad cB cI (fd) (nw) (ms) (mv) (ml) (os) (ov) (mc) (mh) (mo) (md) (mi) (mf) (mr)) ([.ref (ad 13), .int a]) (fun (r : Int32) (_ : Unit) => r = -1) (fun _ => md_w ad cB cI (fd) (nw) (ms) (mv) (ml) (os) (ov) (mc) (mh) (mo) (md) (mi) (mf) (mr)) := by
  refine MetI.of (lv0 := [(0, .ref (ad 13)), (1, .int a)]) "JournalShelfModel" rfl (by decide +kernel) (Nat.le_of_ble_eq_true rfl) rfl ?_
  intro p e s m args below meth c A Q X ret
  refine vv_iload_n X jd_Md_count_0 1 rfl rfl ?_
  refine vv_swOut (tgt := 75) X jd_Md_count_1 ha rfl ?_
  refine vv_iconst X jd_Md_count_75 ci_m1 ?_
  exact ret _ _ 76 _ () jd_Md_count_76 rfl rfl
end
section
theorem ob_Dk_init : js_okB jy_Dk_init jb_Dk_init 1 none 0 := ⟨jk_26, jk_3, by decide +kernel⟩
theorem ob_Sh_init : js_okB jy_Sh_init jb_Sh_init 1 none 0 := ⟨jk_20, jk_2, by decide +kernel⟩
theorem ob_JS_init : js_okB jy_JS_init jb_JS_init 1 none 0 := ⟨jk_12, jk_1, by decide +kernel⟩
theorem ob_Md_init : js_okB jy_Md_init jb_Md_init 1 none 0 := ⟨jk_229, jk_4, by decide +kernel⟩
/-- a constructor's start: the heap's size is known -/
def JN (D : va_G) (cB cI : ClassId) (wc : va_W) (av : List Value) (sz : Nat) : Array Value → State → Prop := va_Pc av (fun U => U.heap.size = sz ∧ va_P D js_cls wc U.heap ∧ va_K D js_cls (js_tys cB cI) U ∧ va_D (fun _ => True) wc ∧ js_NW U)
theorem JN.blind {D : va_G} {cB cI : ClassId} {wc : va_W} {av : List Value} {sz : Nat} : FrameBlind (JN D cB cI wc av sz) := by
  intro a U g mk q
  obtain ⟨q0, q1, qP, qK, qD, qN⟩ := q
  exact ⟨q0, q1, qP, va_K.moved (u := U) (U := U.calling g mk a) (Vm.Alike.refl U.vm) qK, qD, js_NW.blind (U := U) (V := U.calling g mk a) rfl qN⟩
abbrev js_roomN (n mc ms : Nat) : Room := { frames := n, cells := mc, slots := ms, locals := 30 * n }
abbrev MetN (l : Launch) (y : MethodName) (b : ByteArray) (maxL lev mc ms : Nat) (D : va_G) (cB cI : ClassId) (wc : va_W) (av : List Value) (sz : Nat) {S : Type} (post : S → Prop) (w1 : S → va_W) : Prop := Met l y (Cond.code y b maxL none :: js_all) (js_roomN lev mc ms) (JN D cB cI wc av sz) (va_Qv post (fun u t => va_P D js_cls (w1 u) t.heap ∧ va_D (va_A wc sz) (w1 u)) (va_A wc sz)) mc ms (va_A wc sz)
theorem nF_0 : nF (fun _ => 0) = fun _ => (0 : Int32) := by funext j; show nI 0 = 0; decide +kernel
section VN
variable {p : Program} {l : Launch} {e : Env} {R : Room} {s : State} {m : MethodId} {args : Array Value} {below : List Frame} {meth : Method} {c : Code} {Q : State → Prop}
variable {D : va_G} {A : Nat → Prop} {cc : ByteArray} {own : String} {nL cells slots pc : Nat} {cB cI : ClassId} {ws ws' : va_W} {lv lv' : List (Nat × Value)} {st : List Value}
variable {S : Type} {w1 : S → va_W}
theorem vv_perm (is : List Nat) (hs : is.map (fun i => ws[i]?) = ws'.map some) (hn : va_nd is = true) (k : VV p l e R s m args below meth c D A nL (cells) (slots) (Q) (ws') (lv) (pc) (st)) : VV p l e R s m args below meth c D A nL (cells) (slots) (Q) (ws) (lv) (pc) (st) := fun H ls locs hP hD hS hl => k H ls locs (js_sub hs hP) (hD.sub is hn hs) hS hl
theorem vv_new (X : CX p s m args c cc own nL D cB cI) (hA : ∀ q, s.heap.size ≤ q → A q) {C : String} {T : u_T} {N ci index : Nat} (hin : ∀ w ∈ u_ws C T N, w ∈ js_all) (ty : Nat → FieldType) (hty : ∀ k, k < N → parseFieldDescriptor (T k).2.2.1 = some (ty k)) (hcl : Cond.classLink own index C ∈ js_all) (hinst : Cond.instantiable C N ∈ js_all) (hini : Cond.initialized C ∈ js_all) (hc : js_cls[ci]? = some (C, T, N)) {fs : List Value} (hfs : ∀ j, j < N → defaultValue (ty j) = vp_V fs j) (hcells : cells + 1 ≤ R.cells) (hslots : slots + N ≤ R.slots) (d : decode cc pc = .ok (.new index, 3))
    (k : ∀ q : Nat, VV p l e R s m args below meth c D A nL (cells + 1) (slots + N) (Q) (ws ++ [(q, .inr (ci, fs))]) (lv) (pc + 3) (.ref q :: st)) : VV p l e R s m args below meth c D A nL (cells) (slots) (Q) (ws) (lv) (pc) (st) := fun H ls locs hP hD hS hl => va_new X.1 X.2.1 X.2.2.2.2.1 hin ty hty X.2.2.2.1 (X.2.2.2.2.1 _ hcl) (X.2.2.2.2.1 _ hinst) (X.2.2.2.2.1 _ hini) X.2.2.2.2.2.1 hP hD hS hA hc hfs hcells hslots d (fun q H1 hP1 hD1 hS1 => k q H1 ls locs hP1 hD1 hS1 hl)
theorem vv_newB (X : CX p s m args c cc own nL D cB cI) (hA : ∀ q, s.heap.size ≤ q → A q) {i : Int32} (N : Nat) (f : Nat → Int32) (hf : f = fun _ => 0) (hi : i = nI N) (hN : N ≤ 135168) (hcells : cells + 1 ≤ R.cells) (hslots : slots + N ≤ R.slots) (d : decode cc pc = .ok (.newarray .byte, 2))
    (k : ∀ q : Nat, VV p l e R s m args below meth c D A nL (cells + 1) (slots + N) (Q) (ws ++ [(q, .inl (cB, N, .inl f))]) (lv) (pc + 2) (.ref q :: st)) : VV p l e R s m args below meth c D A nL (cells) (slots) (Q) (ws) (lv) (pc) (.int i :: st) := fun H ls locs hP hD hS hl => by
  subst hi; subst hf
  refine va_newa (atype := .byte) (ty := .byte) (N' := N) (a0 := (N, .inl (fun _ => 0))) X.1 X.2.1 (X.2.2.2.2.1 _ jk_43) rfl X.2.2.2.2.2.1 hP hD hS hA (fun cA => rfl) (nI_pos (by omega)) (nI_clamp (by omega)) ?_ hcells hslots d (fun q cA H1 hK1 hP1 hD1 hS1 => ?_)
  · show N * componentBytes _ ≤ _
    have : componentBytes FieldType.byte ≤ 8 := by decide
    exact Nat.le_trans (Nat.mul_le_mul hN this) (by decide)
  · have e1 : s.vm.findClass ("[" ++ (FieldType.byte).toString) = some cA := (hK1.2 2 (cA, .byte) rfl).2
    have e2 : s.vm.findClass ("[" ++ (FieldType.byte).toString) = some cB := (X.2.2.2.2.2.1.2 0 (cB, .byte) rfl).2
    have e3 : cA = cB := Option.some.inj (e1.symm.trans e2)
    subst e3
    exact k q H1 ls locs hP1 hD1 hS1 hl
theorem vv_newI (X : CX p s m args c cc own nL D cB cI) (hA : ∀ q, s.heap.size ≤ q → A q) {i : Int32} (N : Nat) (f : Nat → Int32) (hf : f = fun _ => 0) (hi : i = nI N) (hN : N ≤ 135168) (hcells : cells + 1 ≤ R.cells) (hslots : slots + N ≤ R.slots) (d : decode cc pc = .ok (.newarray .int, 2))
    (k : ∀ q : Nat, VV p l e R s m args below meth c D A nL (cells + 1) (slots + N) (Q) (ws ++ [(q, .inl (cI, N, .inl f))]) (lv) (pc + 2) (.ref q :: st)) : VV p l e R s m args below meth c D A nL (cells) (slots) (Q) (ws) (lv) (pc) (.int i :: st) := fun H ls locs hP hD hS hl => by
  subst hi; subst hf
  refine va_newa (atype := .int) (ty := .int) (N' := N) (a0 := (N, .inl (fun _ => 0))) X.1 X.2.1 (X.2.2.2.2.1 _ jk_44) rfl X.2.2.2.2.2.1 hP hD hS hA (fun cA => rfl) (nI_pos (by omega)) (nI_clamp (by omega)) ?_ hcells hslots d (fun q cA H1 hK1 hP1 hD1 hS1 => ?_)
  · show N * componentBytes _ ≤ _
    have : componentBytes FieldType.int ≤ 8 := by decide
    exact Nat.le_trans (Nat.mul_le_mul hN this) (by decide)
  · have e1 : s.vm.findClass ("[" ++ (FieldType.int).toString) = some cA := (hK1.2 2 (cA, .int) rfl).2
    have e2 : s.vm.findClass ("[" ++ (FieldType.int).toString) = some cI := (X.2.2.2.2.2.1.2 1 (cI, .int) rfl).2
    have e3 : cA = cI := Option.some.inj (e1.symm.trans e2)
    subst e3
    exact k q H1 ls locs hP1 hD1 hS1 hl
theorem vv_objInit (X : CX p s m args c cc own nL D cB cI) {index : Nat} {a : Nat} (hw : Cond.methodLink own index objectInit ∈ js_all) (d : decode cc pc = .ok (.invokespecial index, 3)) (hfr : 1 ≤ R.frames) (hlo : 30 ≤ R.locals) (hst : (st.map fun v => v.category).sum ≤ 8) (k : VV p l e R s m args below meth c D A nL (cells) (slots) (Q) (ws) (lv) (pc + 3) (st)) : VV p l e R s m args below meth c D A nL (cells) (slots) (Q) (ws) (lv) (pc) (.ref a :: st) := fun H ls locs hP hD hS hl => W.objInit X.1 X.2.1 X.2.2.2.1 (X.2.2.2.2.1 _ hw) (X.2.2.2.2.1 _ jk_14) (X.2.2.2.2.1 _ jk_15) rfl (by rw [X.2.2.1]; exact hl.1) rfl d hfr (by show 2 * 0 + _ + 12 ≤ _; omega) (k H ls locs hP hD hS hl)
theorem vv_cI (X : CX p s m args c cc own nL D cB cI) (hA : ∀ q, s.heap.size ≤ q → A q) {y : MethodName} {b : ByteArray} {maxL n index lev mc ms : Nat} {wc wr : va_W} {o : Nat} {As st0 : List Value} {post : S → Prop} (hM : ∀ sz, MetN l y b maxL lev mc ms D cB cI wc (.ref o :: As) sz post w1) (ok : js_okB y b maxL none n) (hlink : Cond.methodLink own index y ∈ js_all) (hinst : Cond.instanceMethod y ∈ js_all) (hy : y.name = "<init>") (hfr : lev + 1 ≤ R.frames) (hlo : 8 + (maxL + 11) + 30 * lev ≤ R.locals) (d : decode cc pc = .ok (.invokespecial index, 3))
    (isC isR : List Nat) (hC : isC.map (fun i => ws[i]?) = wc.map some) (hR : isR.map (fun i => ws[i]?) = wr.map some) (hnC : va_nd isC = true) (hnR : va_nd isR = true) (hdis : ∀ i ∈ isR, i ∉ isC) (hn : As.length = n) (hst0 : st0 = As.reverse ++ .ref o :: st) (hroom : (st.map fun v => v.category).sum ≤ 8) (hcs : cells + mc ≤ R.cells ∧ slots + ms ≤ R.slots)
    (k : ∀ u, post u → VV p l e R s m args below meth c D A nL (cells + mc) (slots + ms) (Q) (wr ++ w1 u) (lv) (pc + 3) (st)) : VV p l e R s m args below meth c D A nL (cells) (slots) (Q) (ws) (lv) (pc) (st0) := fun H ls locs hP hD hS hl => by
  obtain ⟨o1, o2, o3, o4, o5⟩ := ok
  have hts := X.2.2.2.2.1
  have hFc := va_free hD hS hA isC hC
  have hPc : va_P D js_cls wc H := js_sub hC hP
  have hDc := hD.sub isC hnC hC
  refine va_callv (va_runI (Ts := js_all) (maxL := maxL) (bytes := b) (n := n) (As := As) ⟨X.1, X.2.1, X.2.2.1, X.2.2.2.1, hts⟩ (hM H.size) ⟨callB_of n hts (js_good o1) rfl rfl rfl (hts _ o2) (hts _ hlink) ⟨o3, o4, o5⟩ ⟨hfr, hlo⟩, hy, hts _ hinst⟩ ⟨JN.blind, fun U hU hW => ⟨rfl, by rw [hU], by rw [hU]; exact hPc, va_K.moved hW.alike X.2.2.2.2.2.1, hDc.weaken (fun _ _ _ _ => trivial), js_NW.warm hW X.2.2.2.2.2.2⟩⟩ rfl hn hl.1 hst0 (by show 2 * 0 + _ ≤ 8; omega) d hcs) hS (fun q _ h => hFc q h) hFc (fun u t H1 locs1 ht hvm hp hB hz hk hS1 => ?_)
  obtain ⟨hP1, hD1⟩ := hB
  rw [ht] at hP1
  obtain ⟨hP2, hD2⟩ := va_join hP hD isC isR hC hR hnR hdis hk hFc hP1 hD1
  exact k u hp H1 ls locs1 hP2 hD2 hS1 hl
theorem vv_cIN (X : CX p s m args c cc own nL D cB cI) (hA : ∀ q, s.heap.size ≤ q → A q) {host : String} {y : MethodName} {b : ByteArray} {maxL n index lev mc ms : Nat} {wc wr : va_W} {o : Nat} {As st0 : List Value} {post : S → Prop} (hM : ∀ sz, MetN l y b maxL lev mc ms D cB cI wc (.ref o :: As) sz post w1) (ok : js_okB y b maxL none n) (hlink : Cond.methodLinkNest own index y host ∈ js_nest) (hinst : Cond.instanceMethod y ∈ js_all) (hy : y.name = "<init>") (hfr : lev + 1 ≤ R.frames) (hlo : 8 + (maxL + 11) + 30 * lev ≤ R.locals) (d : decode cc pc = .ok (.invokespecial index, 3))
    (isC isR : List Nat) (hC : isC.map (fun i => ws[i]?) = wc.map some) (hR : isR.map (fun i => ws[i]?) = wr.map some) (hnC : va_nd isC = true) (hnR : va_nd isR = true) (hdis : ∀ i ∈ isR, i ∉ isC) (hn : As.length = n) (hst0 : st0 = As.reverse ++ .ref o :: st) (hroom : (st.map fun v => v.category).sum ≤ 8) (hcs : cells + mc ≤ R.cells ∧ slots + ms ≤ R.slots)
    (k : ∀ u, post u → VV p l e R s m args below meth c D A nL (cells + mc) (slots + ms) (Q) (wr ++ w1 u) (lv) (pc + 3) (st)) : VV p l e R s m args below meth c D A nL (cells) (slots) (Q) (ws) (lv) (pc) (st0) := fun H ls locs hP hD hS hl => by
  obtain ⟨o1, o2, o3, o4, o5⟩ := ok
  have hts := X.2.2.2.2.1
  have hFc := va_free hD hS hA isC hC
  have hPc : va_P D js_cls wc H := js_sub hC hP
  have hDc := hD.sub isC hnC hC
  refine va_callv (va_runIN (Ts := js_all) (maxL := maxL) (bytes := b) (n := n) (host := host) (As := As) ⟨X.1, X.2.1, X.2.2.1, X.2.2.2.1, hts⟩ (hM H.size) ⟨va_cnB n hts (js_good o1) rfl rfl rfl (X.2.2.2.2.2.2 _ hlink) (hts _ o2) ⟨o3, o4, o5⟩ ⟨hfr, hlo⟩, hy, hts _ hinst⟩ ⟨JN.blind, fun U hU hW => ⟨rfl, by rw [hU], by rw [hU]; exact hPc, va_K.moved hW.alike X.2.2.2.2.2.1, hDc.weaken (fun _ _ _ _ => trivial), js_NW.warm hW X.2.2.2.2.2.2⟩⟩ rfl hn hl.1 hst0 (by show 2 * 0 + _ ≤ 8; omega) d hcs) hS (fun q _ h => hFc q h) hFc (fun u t H1 locs1 ht hvm hp hB hz hk hS1 => ?_)
  obtain ⟨hP1, hD1⟩ := hB
  rw [ht] at hP1
  obtain ⟨hP2, hD2⟩ := va_join hP hD isC isR hC hR hnR hdis hk hFc hP1 hD1
  exact k u hp H1 ls locs1 hP2 hD2 hS1 hl
end VN
theorem MetN.of {l : Launch} {y : MethodName} {cc : ByteArray} {maxL lev mc ms : Nat} {D : va_G} {cB cI : ClassId} {wc : va_W} {av : List Value} {sz : Nat} {lv0 : List (Nat × Value)} {S : Type} {post : S → Prop} {w1 : S → va_W} (own : String) (hown : y.cls = own) (hini : y.name = "<init>") (hy : plainName y.cls = true) (hav : (lg_sl av).length ≤ maxL) (hlv : lv_args 0 av = lv0)
    (body : ∀ (p : Program) (e : Env) (s : State) (m : MethodId) (args : Array Value) (below : List Frame) (meth : Method) (c : Code) (A : Nat → Prop) (Q : State → Prop), CX p s m args c cc own maxL D cB cI → meth.name = "<init>" → (∀ q, s.heap.size ≤ q → A q) → (∀ (ws : va_W) (lv : List (Nat × Value)) (pc : Nat) (u : S), decode cc pc = .ok (.return_, 1) → post u → ws = w1 u → VV p l e (js_roomN lev mc ms) s m args below meth c D A maxL mc ms Q ws lv pc []) → VV p l e (js_roomN lev mc ms) s m args below meth c D A maxL 0 0 Q wc lv0 0 []) : MetN l y cc maxL lev mc ms D cB cI wc av sz post w1 := by
  refine Met.ofW (cc := cc) (maxL := maxL) (ret := none) hy rfl ?_
  intro p e s m args below meth c s₁ B hml hv
  obtain ⟨rfl, hsz, hP, hK, hD0, hN⟩ := hv
  subst hsz
  have hts := atoms_spec (ws := Cond.code y cc maxL none :: js_all) B.pre
  have hfc : s.vm.findClass y.cls = some m.cls := findClass_of_methodNamed B.named
  have hin : meth.name = "<init>" := by rw [(name_of_methodNamed B.named B.method).1]; exact hini
  have hr := B.returns
  have hlk := B.notSynchronized
  have hl := lv_entry av (n := maxL) hav
  rw [hlv] at hl
  rw [lg_entry_eq]
  subst hown
  have X : CX p s m av.toArray c cc y.cls maxL D cB cI := ⟨B.exec, B.bytes, hml, hfc, fun w hw => hts w (List.mem_cons_of_mem _ hw), hK, hN⟩
  exact body p e s m _ below meth c (va_A wc s.heap.size) _ X hin (fun q h => Or.inr h) (fun ws lv pc u d hu hw H ls locs hP hD hS hl => by
    subst hw
    exact W.vret X.1 X.2.1 hr (fun t ht hW => ⟨⟨u, rfl, hu, by rw [ht]; exact hP, hD⟩, hS.F ht⟩) hS.2.2 d hlk) s.heap _ [] hP hD0.self va_S.rf hl
set_option maxRecDepth 100000 in
theorem jn_Dk_init (l : Launch) (D : va_G) (cB cI : ClassId) (o sz : Nat) : MetN l jy_Dk_init jb_Dk_init 1 1 3 159792 D cB cI ([(o, .inr (2, [.null, .null, .null, .int 0]))]) [.ref o] sz (fun (ad : Nat → Nat) => ad 9 = o) (fun ad => dk_w ad cB cI (fun _ => 0) (fun _ => 0) (fun _ => 0) 0) := by
  refine MetN.of (lv0 := [(0, .ref o)]) "JournalShelf$Disk" rfl rfl (by decide +kernel) (Nat.le_of_ble_eq_true rfl) rfl ?_
  intro p e s m args below meth c A Q X hini hA ret
  refine vv_aload_n X jd_Dk_init_0 0 rfl rfl ?_
  refine vv_objInit X jk_27 jd_Dk_init_1 (Nat.le_of_ble_eq_true rfl) (Nat.le_of_ble_eq_true rfl) (Nat.le_of_ble_eq_true rfl) ?_
  refine vv_aload_n X jd_Dk_init_4 0 rfl rfl ?_
  refine vv_ldc (v := 135168) X jk_28 jd_Dk_init_5 ?_
  refine vv_newB X hA 135168 (fun _ => 0) rfl (by decide +kernel) (Nat.le_of_ble_eq_true rfl) (Nat.le_of_ble_eq_true rfl) (Nat.le_of_ble_eq_true rfl) jd_Dk_init_7 (fun q1 => ?_)
  refine pf_Dk_10 (ws' := [(o, .inr (2, [.ref q1, .null, .null, .int 0])), (q1, .inl (cB, 135168, .inl (fun _ => 0)))]) X hini 0 jd_Dk_init_9 rfl (Nat.le_of_ble_eq_true rfl) rfl ?_
  refine vv_aload_n X jd_Dk_init_12 0 rfl rfl ?_
  refine vv_sipush X jd_Dk_init_13 cs_24576 ?_
  refine vv_newB X hA 24576 (fun _ => 0) rfl rfl (Nat.le_of_ble_eq_true rfl) (Nat.le_of_ble_eq_true rfl) (Nat.le_of_ble_eq_true rfl) jd_Dk_init_16 (fun q2 => ?_)
  refine pf_Dk_16 (ws' := [(o, .inr (2, [.ref q1, .ref q2, .null, .int 0])), (q1, .inl (cB, 135168, .inl (fun _ => 0))), (q2, .inl (cB, 24576, .inl (fun _ => 0)))]) X hini 0 jd_Dk_init_18 rfl (Nat.le_of_ble_eq_true rfl) rfl ?_
  refine vv_aload_n X jd_Dk_init_21 0 rfl rfl ?_
  refine vv_bipush X jd_Dk_init_22 cb_48 ?_
  refine vv_newI X hA 48 (nF (fun _ => 0)) nF_0 rfl (Nat.le_of_ble_eq_true rfl) (Nat.le_of_ble_eq_true rfl) (Nat.le_of_ble_eq_true rfl) jd_Dk_init_24 (fun q3 => ?_)
  refine pf_Dk_19 (ws' := [(o, .inr (2, [.ref q1, .ref q2, .ref q3, .int 0])), (q1, .inl (cB, 135168, .inl (fun _ => 0))), (q2, .inl (cB, 24576, .inl (fun _ => 0))), (q3, .inl (cI, 48, .inl (nF (fun _ => 0))))]) X hini 0 jd_Dk_init_26 rfl (Nat.le_of_ble_eq_true rfl) rfl ?_
  exact ret _ _ 29 (fun k => match k with | 9 => o | 10 => q1 | 11 => q2 | _ => q3) jd_Dk_init_29 rfl rfl
set_option maxRecDepth 100000 in
theorem jn_Sh_init (l : Launch) (D : va_G) (cB cI : ClassId) (o sz : Nat) : MetN l jy_Sh_init jb_Sh_init 1 2 10 172392 D cB cI ([(o, .inr (1, [.null, .null, .null, .null, .int 0, .int 0, .int 0, .int 0, .int 0, .int 0, .null, .null, .null]))]) [.ref o] sz (fun (ad : Nat → Nat) => ad 2 = o) (fun ad => sh_w ad cB cI (0) (0) (1) (0) (0) (0) ((fun _ => 0)) ((fun _ => 0)) ((fun _ => 0)) ((fun _ => 0)) ((fun _ => 0)) ((fun _ => 0)) (((fun _ => 0, fun _ => 0, fun _ => 0, 0) : DS))) := by
  refine MetN.of (lv0 := [(0, .ref o)]) "JournalShelf$Shelf" rfl rfl (by decide +kernel) (Nat.le_of_ble_eq_true rfl) rfl ?_
  intro p e s m args below meth c A Q X hini hA ret
  refine vv_aload_n X jd_Sh_init_0 0 rfl rfl ?_
  refine vv_objInit X jk_21 jd_Sh_init_1 (Nat.le_of_ble_eq_true rfl) (Nat.le_of_ble_eq_true rfl) (Nat.le_of_ble_eq_true rfl) ?_
  refine vv_aload_n X jd_Sh_init_4 0 rfl rfl ?_
  refine vv_new (ci := 2) (fs := [.null, .null, .null, .int 0]) X hA jl_Dk jt_Dk jo_Dk jk_22 jk_23 jk_3 rfl (fun j hj => by match j, hj with | 0, _ => rfl | 1, _ => rfl | 2, _ => rfl | 3, _ => rfl | n + 4, h => exact absurd h (by omega)) (Nat.le_of_ble_eq_true rfl) (Nat.le_of_ble_eq_true rfl) jd_Sh_init_5 (fun dk => ?_)
  refine vv_ws (ws' := [(o, .inr (1, [.null, .null, .null, .null, .int 0, .int 0, .int 0, .int 0, .int 0, .int 0, .null, .null, .null])), (dk, .inr (2, [.null, .null, .null, .int 0]))]) rfl ?_
  refine vv_dup X jd_Sh_init_8 rfl ?_
  refine vv_cIN (wr := [(o, .inr (1, [.null, .null, .null, .null, .int 0, .int 0, .int 0, .int 0, .int 0, .int 0, .null, .null, .null]))]) (As := []) X hA (fun sz => jn_Dk_init l D cB cI dk sz) ob_Dk_init jk_24 jk_25 rfl (Nat.le_of_ble_eq_true rfl) (Nat.le_of_ble_eq_true rfl) jd_Sh_init_9 [1] [0] rfl rfl rfl rfl (by decide) rfl rfl (Nat.le_of_ble_eq_true rfl) ⟨(Nat.le_of_ble_eq_true rfl), (Nat.le_of_ble_eq_true rfl)⟩ (fun ad had => ?_)
  subst had
  refine vv_ws (ws' := [(o, .inr (1, [.null, .null, .null, .null, .int 0, .int 0, .int 0, .int 0, .int 0, .int 0, .null, .null, .null])), (ad 9, .inr (2, [.ref (ad 10), .ref (ad 11), .ref (ad 12), .int (nI 0)])), (ad 10, .inl (cB, 135168, .inl (fun _ => 0))), (ad 11, .inl (cB, 24576, .inl (fun _ => 0))), (ad 12, .inl (cI, 48, .inl (nF (fun _ => 0))))]) rfl ?_
  refine pf_Sh_12 (ws' := [(o, .inr (1, [.ref (ad 9), .null, .null, .null, .int 0, .int 0, .int 0, .int 0, .int 0, .int 0, .null, .null, .null])), (ad 9, .inr (2, [.ref (ad 10), .ref (ad 11), .ref (ad 12), .int (nI 0)])), (ad 10, .inl (cB, 135168, .inl (fun _ => 0))), (ad 11, .inl (cB, 24576, .inl (fun _ => 0))), (ad 12, .inl (cI, 48, .inl (nF (fun _ => 0))))]) X hini 0 jd_Sh_init_12 rfl (Nat.le_of_ble_eq_true rfl) rfl ?_
  refine vv_aload_n X jd_Sh_init_15 0 rfl rfl ?_
  refine vv_sipush X jd_Sh_init_16 cs_512 ?_
  refine vv_newB X hA 512 (fun _ => 0) rfl rfl (Nat.le_of_ble_eq_true rfl) (Nat.le_of_ble_eq_true rfl) (Nat.le_of_ble_eq_true rfl) jd_Sh_init_19 (fun q1 => ?_)
  refine pf_Sh_18 (ws' := [(o, .inr (1, [.ref (ad 9), .ref q1, .null, .null, .int 0, .int 0, .int 0, .int 0, .int 0, .int 0, .null, .null, .null])), (ad 9, .inr (2, [.ref (ad 10), .ref (ad 11), .ref (ad 12), .int (nI 0)])), (ad 10, .inl (cB, 135168, .inl (fun _ => 0))), (ad 11, .inl (cB, 24576, .inl (fun _ => 0))), (ad 12, .inl (cI, 48, .inl (nF (fun _ => 0)))), (q1, .inl (cB, 512, .inl (fun _ => 0)))]) X hini 0 jd_Sh_init_21 rfl (Nat.le_of_ble_eq_true rfl) rfl ?_
  refine vv_aload_n X jd_Sh_init_24 0 rfl rfl ?_
  refine vv_sipush X jd_Sh_init_25 cs_11904 ?_
  refine vv_newB X hA 11904 (fun _ => 0) rfl rfl (Nat.le_of_ble_eq_true rfl) (Nat.le_of_ble_eq_true rfl) (Nat.le_of_ble_eq_true rfl) jd_Sh_init_28 (fun q2 => ?_)
  refine pf_Sh_22 (ws' := [(o, .inr (1, [.ref (ad 9), .ref q1, .ref q2, .null, .int 0, .int 0, .int 0, .int 0, .int 0, .int 0, .null, .null, .null])), (ad 9, .inr (2, [.ref (ad 10), .ref (ad 11), .ref (ad 12), .int (nI 0)])), (ad 10, .inl (cB, 135168, .inl (fun _ => 0))), (ad 11, .inl (cB, 24576, .inl (fun _ => 0))), (ad 12, .inl (cI, 48, .inl (nF (fun _ => 0)))), (q1, .inl (cB, 512, .inl (fun _ => 0))), (q2, .inl (cB, 11904, .inl (fun _ => 0)))]) X hini 0 jd_Sh_init_30 rfl (Nat.le_of_ble_eq_true rfl) rfl ?_
  refine vv_aload_n X jd_Sh_init_33 0 rfl rfl ?_
  refine vv_bipush X jd_Sh_init_34 cb_24 ?_
  refine vv_newI X hA 24 (nF (fun _ => 0)) nF_0 rfl (Nat.le_of_ble_eq_true rfl) (Nat.le_of_ble_eq_true rfl) (Nat.le_of_ble_eq_true rfl) jd_Sh_init_36 (fun q3 => ?_)
  refine pf_Sh_25 (ws' := [(o, .inr (1, [.ref (ad 9), .ref q1, .ref q2, .ref q3, .int 0, .int 0, .int 0, .int 0, .int 0, .int 0, .null, .null, .null])), (ad 9, .inr (2, [.ref (ad 10), .ref (ad 11), .ref (ad 12), .int (nI 0)])), (ad 10, .inl (cB, 135168, .inl (fun _ => 0))), (ad 11, .inl (cB, 24576, .inl (fun _ => 0))), (ad 12, .inl (cI, 48, .inl (nF (fun _ => 0)))), (q1, .inl (cB, 512, .inl (fun _ => 0))), (q2, .inl (cB, 11904, .inl (fun _ => 0))), (q3, .inl (cI, 24, .inl (nF (fun _ => 0))))]) X hini 0 jd_Sh_init_38 rfl (Nat.le_of_ble_eq_true rfl) rfl ?_
  refine vv_aload_n X jd_Sh_init_41 0 rfl rfl ?_
  refine vv_iconst X jd_Sh_init_42 ci_1 ?_
  refine pf_Sh_29 (ws' := [(o, .inr (1, [.ref (ad 9), .ref q1, .ref q2, .ref q3, .int 0, .int 0, .int (nI 1), .int 0, .int 0, .int 0, .null, .null, .null])), (ad 9, .inr (2, [.ref (ad 10), .ref (ad 11), .ref (ad 12), .int (nI 0)])), (ad 10, .inl (cB, 135168, .inl (fun _ => 0))), (ad 11, .inl (cB, 24576, .inl (fun _ => 0))), (ad 12, .inl (cI, 48, .inl (nF (fun _ => 0)))), (q1, .inl (cB, 512, .inl (fun _ => 0))), (q2, .inl (cB, 11904, .inl (fun _ => 0))), (q3, .inl (cI, 24, .inl (nF (fun _ => 0))))]) X 0 jd_Sh_init_43 rfl (Nat.le_of_ble_eq_true rfl) rfl ?_
  refine vv_aload_n X jd_Sh_init_46 0 rfl rfl ?_
  refine vv_bipush X jd_Sh_init_47 cb_52 ?_
  refine vv_newI X hA 52 (fun _ => 0) rfl rfl (Nat.le_of_ble_eq_true rfl) (Nat.le_of_ble_eq_true rfl) (Nat.le_of_ble_eq_true rfl) jd_Sh_init_49 (fun q4 => ?_)
  refine pf_Sh_33 (ws' := [(o, .inr (1, [.ref (ad 9), .ref q1, .ref q2, .ref q3, .int 0, .int 0, .int (nI 1), .int 0, .int 0, .int 0, .ref q4, .null, .null])), (ad 9, .inr (2, [.ref (ad 10), .ref (ad 11), .ref (ad 12), .int (nI 0)])), (ad 10, .inl (cB, 135168, .inl (fun _ => 0))), (ad 11, .inl (cB, 24576, .inl (fun _ => 0))), (ad 12, .inl (cI, 48, .inl (nF (fun _ => 0)))), (q1, .inl (cB, 512, .inl (fun _ => 0))), (q2, .inl (cB, 11904, .inl (fun _ => 0))), (q3, .inl (cI, 24, .inl (nF (fun _ => 0)))), (q4, .inl (cI, 52, .inl (fun _ => 0)))]) X hini 0 jd_Sh_init_51 rfl (Nat.le_of_ble_eq_true rfl) rfl ?_
  refine vv_aload_n X jd_Sh_init_54 0 rfl rfl ?_
  refine vv_bipush X jd_Sh_init_55 cb_52 ?_
  refine vv_newI X hA 52 (fun _ => 0) rfl rfl (Nat.le_of_ble_eq_true rfl) (Nat.le_of_ble_eq_true rfl) (Nat.le_of_ble_eq_true rfl) jd_Sh_init_57 (fun q5 => ?_)
  refine pf_Sh_36 (ws' := [(o, .inr (1, [.ref (ad 9), .ref q1, .ref q2, .ref q3, .int 0, .int 0, .int (nI 1), .int 0, .int 0, .int 0, .ref q4, .ref q5, .null])), (ad 9, .inr (2, [.ref (ad 10), .ref (ad 11), .ref (ad 12), .int (nI 0)])), (ad 10, .inl (cB, 135168, .inl (fun _ => 0))), (ad 11, .inl (cB, 24576, .inl (fun _ => 0))), (ad 12, .inl (cI, 48, .inl (nF (fun _ => 0)))), (q1, .inl (cB, 512, .inl (fun _ => 0))), (q2, .inl (cB, 11904, .inl (fun _ => 0))), (q3, .inl (cI, 24, .inl (nF (fun _ => 0)))), (q4, .inl (cI, 52, .inl (fun _ => 0))), (q5, .inl (cI, 52, .inl (fun _ => 0)))]) X hini 0 jd_Sh_init_59 rfl (Nat.le_of_ble_eq_true rfl) rfl ?_
  refine vv_aload_n X jd_Sh_init_62 0 rfl rfl ?_
  refine vv_bipush X jd_Sh_init_63 cb_52 ?_
  refine vv_newI X hA 52 (fun _ => 0) rfl rfl (Nat.le_of_ble_eq_true rfl) (Nat.le_of_ble_eq_true rfl) (Nat.le_of_ble_eq_true rfl) jd_Sh_init_65 (fun q6 => ?_)
  refine pf_Sh_39 (ws' := [(o, .inr (1, [.ref (ad 9), .ref q1, .ref q2, .ref q3, .int 0, .int 0, .int (nI 1), .int 0, .int 0, .int 0, .ref q4, .ref q5, .ref q6])), (ad 9, .inr (2, [.ref (ad 10), .ref (ad 11), .ref (ad 12), .int (nI 0)])), (ad 10, .inl (cB, 135168, .inl (fun _ => 0))), (ad 11, .inl (cB, 24576, .inl (fun _ => 0))), (ad 12, .inl (cI, 48, .inl (nF (fun _ => 0)))), (q1, .inl (cB, 512, .inl (fun _ => 0))), (q2, .inl (cB, 11904, .inl (fun _ => 0))), (q3, .inl (cI, 24, .inl (nF (fun _ => 0)))), (q4, .inl (cI, 52, .inl (fun _ => 0))), (q5, .inl (cI, 52, .inl (fun _ => 0))), (q6, .inl (cI, 52, .inl (fun _ => 0)))]) X hini 0 jd_Sh_init_67 rfl (Nat.le_of_ble_eq_true rfl) rfl ?_
  refine vv_perm (ws' := sh_w (fun k => match k with | 2 => o | 3 => q1 | 4 => q2 | 5 => q3 | 6 => q4 | 7 => q5 | 8 => q6 | 9 => ad 9 | 10 => ad 10 | 11 => ad 11 | _ => ad 12) cB cI (0) (0) (1) (0) (0) (0) ((fun _ => 0)) ((fun _ => 0)) ((fun _ => 0)) ((fun _ => 0)) ((fun _ => 0)) ((fun _ => 0)) (((fun _ => 0, fun _ => 0, fun _ => 0, 0) : DS))) [0, 5, 6, 7, 8, 9, 10, 1, 2, 3, 4] rfl rfl ?_
  exact ret _ _ 70 _ jd_Sh_init_70 rfl rfl
set_option maxRecDepth 100000 in
theorem jn_JS_init (l : Launch) (D : va_G) (cB cI : ClassId) (o sz : Nat) : MetN l jy_JS_init jb_JS_init 1 3 12 172901 D cB cI ([(o, .inr (0, [.null, .null, .int 0, .int 0, .int 0]))]) [.ref o] sz (fun (ad : Nat → Nat) => ad 0 = o) (fun ad => js_w ad cB cI (0) (0) (0) ((fun _ => 0)) (0) (0) (1) (0) (0) (0) ((fun _ => 0)) ((fun _ => 0)) ((fun _ => 0)) ((fun _ => 0)) ((fun _ => 0)) ((fun _ => 0)) (((fun _ => 0, fun _ => 0, fun _ => 0, 0) : DS))) := by
  refine MetN.of (lv0 := [(0, .ref o)]) "JournalShelf" rfl rfl (by decide +kernel) (Nat.le_of_ble_eq_true rfl) rfl ?_
  intro p e s m args below meth c A Q X hini hA ret
  refine vv_aload_n X jd_JS_init_0 0 rfl rfl ?_
  refine vv_objInit X jk_13 jd_JS_init_1 (Nat.le_of_ble_eq_true rfl) (Nat.le_of_ble_eq_true rfl) (Nat.le_of_ble_eq_true rfl) ?_
  refine vv_aload_n X jd_JS_init_4 0 rfl rfl ?_
  refine vv_new (ci := 1) (fs := [.null, .null, .null, .null, .int 0, .int 0, .int 0, .int 0, .int 0, .int 0, .null, .null, .null]) X hA jl_Sh jt_Sh jo_Sh jk_16 jk_17 jk_2 rfl (fun j hj => by match j, hj with | 0, _ => rfl | 1, _ => rfl | 2, _ => rfl | 3, _ => rfl | 4, _ => rfl | 5, _ => rfl | 6, _ => rfl | 7, _ => rfl | 8, _ => rfl | 9, _ => rfl | 10, _ => rfl | 11, _ => rfl | 12, _ => rfl | n + 13, h => exact absurd h (by omega)) (Nat.le_of_ble_eq_true rfl) (Nat.le_of_ble_eq_true rfl) jd_JS_init_5 (fun sh => ?_)
  refine vv_ws (ws' := [(o, .inr (0, [.null, .null, .int 0, .int 0, .int 0])), (sh, .inr (1, [.null, .null, .null, .null, .int 0, .int 0, .int 0, .int 0, .int 0, .int 0, .null, .null, .null]))]) rfl ?_
  refine vv_dup X jd_JS_init_8 rfl ?_
  refine vv_cIN (wr := [(o, .inr (0, [.null, .null, .int 0, .int 0, .int 0]))]) (As := []) X hA (fun sz => jn_Sh_init l D cB cI sh sz) ob_Sh_init jk_18 jk_19 rfl (Nat.le_of_ble_eq_true rfl) (Nat.le_of_ble_eq_true rfl) jd_JS_init_9 [1] [0] rfl rfl rfl rfl (by decide) rfl rfl (Nat.le_of_ble_eq_true rfl) ⟨(Nat.le_of_ble_eq_true rfl), (Nat.le_of_ble_eq_true rfl)⟩ (fun ad had => ?_)
  subst had
  refine vv_ws (ws' := [(o, .inr (0, [.null, .null, .int 0, .int 0, .int 0])), (ad 2, .inr (1, [.ref (ad 9), .ref (ad 3), .ref (ad 4), .ref (ad 5), .int (nI 0), .int (nI 0), .int (nI 1), .int (nI 0), .int (nI 0), .int 0, .ref (ad 6), .ref (ad 7), .ref (ad 8)])), (ad 3, .inl (cB, 512, .inl (fun _ => 0))), (ad 4, .inl (cB, 11904, .inl (fun _ => 0))), (ad 5, .inl (cI, 24, .inl (nF (fun _ => 0)))), (ad 6, .inl (cI, 52, .inl (fun _ => 0))), (ad 7, .inl (cI, 52, .inl (fun _ => 0))), (ad 8, .inl (cI, 52, .inl (fun _ => 0))), (ad 9, .inr (2, [.ref (ad 10), .ref (ad 11), .ref (ad 12), .int (nI 0)])), (ad 10, .inl (cB, 135168, .inl (fun _ => 0))), (ad 11, .inl (cB, 24576, .inl (fun _ => 0))), (ad 12, .inl (cI, 48, .inl (nF (fun _ => 0))))]) rfl ?_
  refine pf_JS_10 (ws' := [(o, .inr (0, [.ref (ad 2), .null, .int 0, .int 0, .int 0])), (ad 2, .inr (1, [.ref (ad 9), .ref (ad 3), .ref (ad 4), .ref (ad 5), .int (nI 0), .int (nI 0), .int (nI 1), .int (nI 0), .int (nI 0), .int 0, .ref (ad 6), .ref (ad 7), .ref (ad 8)])), (ad 3, .inl (cB, 512, .inl (fun _ => 0))), (ad 4, .inl (cB, 11904, .inl (fun _ => 0))), (ad 5, .inl (cI, 24, .inl (nF (fun _ => 0)))), (ad 6, .inl (cI, 52, .inl (fun _ => 0))), (ad 7, .inl (cI, 52, .inl (fun _ => 0))), (ad 8, .inl (cI, 52, .inl (fun _ => 0))), (ad 9, .inr (2, [.ref (ad 10), .ref (ad 11), .ref (ad 12), .int (nI 0)])), (ad 10, .inl (cB, 135168, .inl (fun _ => 0))), (ad 11, .inl (cB, 24576, .inl (fun _ => 0))), (ad 12, .inl (cI, 48, .inl (nF (fun _ => 0))))]) X hini 0 jd_JS_init_12 rfl (Nat.le_of_ble_eq_true rfl) rfl ?_
  refine vv_aload_n X jd_JS_init_15 0 rfl rfl ?_
  refine vv_sipush X jd_JS_init_16 cs_496 ?_
  refine vv_newB X hA 496 (fun _ => 0) rfl rfl (Nat.le_of_ble_eq_true rfl) (Nat.le_of_ble_eq_true rfl) (Nat.le_of_ble_eq_true rfl) jd_JS_init_19 (fun q1 => ?_)
  refine pf_JS_16 (ws' := [(o, .inr (0, [.ref (ad 2), .ref q1, .int 0, .int 0, .int 0])), (ad 2, .inr (1, [.ref (ad 9), .ref (ad 3), .ref (ad 4), .ref (ad 5), .int (nI 0), .int (nI 0), .int (nI 1), .int (nI 0), .int (nI 0), .int 0, .ref (ad 6), .ref (ad 7), .ref (ad 8)])), (ad 3, .inl (cB, 512, .inl (fun _ => 0))), (ad 4, .inl (cB, 11904, .inl (fun _ => 0))), (ad 5, .inl (cI, 24, .inl (nF (fun _ => 0)))), (ad 6, .inl (cI, 52, .inl (fun _ => 0))), (ad 7, .inl (cI, 52, .inl (fun _ => 0))), (ad 8, .inl (cI, 52, .inl (fun _ => 0))), (ad 9, .inr (2, [.ref (ad 10), .ref (ad 11), .ref (ad 12), .int (nI 0)])), (ad 10, .inl (cB, 135168, .inl (fun _ => 0))), (ad 11, .inl (cB, 24576, .inl (fun _ => 0))), (ad 12, .inl (cI, 48, .inl (nF (fun _ => 0)))), (q1, .inl (cB, 496, .inl (fun _ => 0)))]) X hini 0 jd_JS_init_21 rfl (Nat.le_of_ble_eq_true rfl) rfl ?_
  refine vv_perm (ws' := js_w (fun k => match k with | 0 => o | 1 => q1 | 2 => ad 2 | 3 => ad 3 | 4 => ad 4 | 5 => ad 5 | 6 => ad 6 | 7 => ad 7 | 8 => ad 8 | 9 => ad 9 | 10 => ad 10 | 11 => ad 11 | _ => ad 12) cB cI (0) (0) (0) ((fun _ => 0)) (0) (0) (1) (0) (0) (0) ((fun _ => 0)) ((fun _ => 0)) ((fun _ => 0)) ((fun _ => 0)) ((fun _ => 0)) ((fun _ => 0)) (((fun _ => 0, fun _ => 0, fun _ => 0, 0) : DS))) [0, 12, 1, 2, 3, 4, 5, 6, 7, 8, 9, 10, 11] rfl rfl ?_
  exact ret _ _ 24 _ jd_JS_init_24 rfl rfl
set_option maxRecDepth 100000 in
theorem jn_Md_init (l : Launch) (D : va_G) (cB cI : ClassId) (o sz : Nat) : MetN l jy_Md_init jb_Md_init 1 1 7 530 D cB cI ([(o, .inr (3, [.null, .null, .null, .null, .null, .int 0, .int 0, .null, .null, .int 0, .int 0, .int 0, .int 0, .int 0]))]) [.ref o] sz (fun (ad : Nat → Nat) => ad 13 = o) (fun ad => md_w ad cB cI ((fun _ => 0)) ((fun _ => 0)) ((fun _ => 0)) ((fun _ => 0)) ((fun _ => 0)) ((fun _ => 0)) ((fun _ => 0)) (0) (0) (0) (0) (0) (0) (0)) := by
  refine MetN.of (lv0 := [(0, .ref o)]) "JournalShelfModel" rfl rfl (by decide +kernel) (Nat.le_of_ble_eq_true rfl) rfl ?_
  intro p e s m args below meth c A Q X hini hA ret
  refine vv_aload_n X jd_Md_init_0 0 rfl rfl ?_
  refine vv_objInit X jk_230 jd_Md_init_1 (Nat.le_of_ble_eq_true rfl) (Nat.le_of_ble_eq_true rfl) (Nat.le_of_ble_eq_true rfl) ?_
  refine vv_aload_n X jd_Md_init_4 0 rfl rfl ?_
  refine vv_sipush X jd_Md_init_5 cs_212 ?_
  refine vv_newI X hA 212 (fun _ => 0) rfl rfl (Nat.le_of_ble_eq_true rfl) (Nat.le_of_ble_eq_true rfl) (Nat.le_of_ble_eq_true rfl) jd_Md_init_8 (fun q1 => ?_)
  refine pf_Md_9 (ws' := [(o, .inr (3, [.ref q1, .null, .null, .null, .null, .int 0, .int 0, .null, .null, .int 0, .int 0, .int 0, .int 0, .int 0])), (q1, .inl (cI, 212, .inl (fun _ => 0)))]) X hini 0 jd_Md_init_10 rfl (Nat.le_of_ble_eq_true rfl) rfl ?_
  refine vv_aload_n X jd_Md_init_13 0 rfl rfl ?_
  refine vv_sipush X jd_Md_init_14 cs_212 ?_
  refine vv_newI X hA 212 (fun _ => 0) rfl rfl (Nat.le_of_ble_eq_true rfl) (Nat.le_of_ble_eq_true rfl) (Nat.le_of_ble_eq_true rfl) jd_Md_init_17 (fun q2 => ?_)
  refine pf_Md_13 (ws' := [(o, .inr (3, [.ref q1, .ref q2, .null, .null, .null, .int 0, .int 0, .null, .null, .int 0, .int 0, .int 0, .int 0, .int 0])), (q1, .inl (cI, 212, .inl (fun _ => 0))), (q2, .inl (cI, 212, .inl (fun _ => 0)))]) X hini 0 jd_Md_init_19 rfl (Nat.le_of_ble_eq_true rfl) rfl ?_
  refine vv_aload_n X jd_Md_init_22 0 rfl rfl ?_
  refine vv_bipush X jd_Md_init_23 cb_24 ?_
  refine vv_newI X hA 24 (nF (fun _ => 0)) nF_0 rfl (Nat.le_of_ble_eq_true rfl) (Nat.le_of_ble_eq_true rfl) (Nat.le_of_ble_eq_true rfl) jd_Md_init_25 (fun q3 => ?_)
  refine pf_Md_16 (ws' := [(o, .inr (3, [.ref q1, .ref q2, .ref q3, .null, .null, .int 0, .int 0, .null, .null, .int 0, .int 0, .int 0, .int 0, .int 0])), (q1, .inl (cI, 212, .inl (fun _ => 0))), (q2, .inl (cI, 212, .inl (fun _ => 0))), (q3, .inl (cI, 24, .inl (nF (fun _ => 0))))]) X hini 0 jd_Md_init_27 rfl (Nat.le_of_ble_eq_true rfl) rfl ?_
  refine vv_aload_n X jd_Md_init_30 0 rfl rfl ?_
  refine vv_bipush X jd_Md_init_31 cb_24 ?_
  refine vv_newI X hA 24 (fun _ => 0) rfl rfl (Nat.le_of_ble_eq_true rfl) (Nat.le_of_ble_eq_true rfl) (Nat.le_of_ble_eq_true rfl) jd_Md_init_33 (fun q4 => ?_)
  refine pf_Md_19 (ws' := [(o, .inr (3, [.ref q1, .ref q2, .ref q3, .ref q4, .null, .int 0, .int 0, .null, .null, .int 0, .int 0, .int 0, .int 0, .int 0])), (q1, .inl (cI, 212, .inl (fun _ => 0))), (q2, .inl (cI, 212, .inl (fun _ => 0))), (q3, .inl (cI, 24, .inl (nF (fun _ => 0)))), (q4, .inl (cI, 24, .inl (fun _ => 0)))]) X hini 0 jd_Md_init_35 rfl (Nat.le_of_ble_eq_true rfl) rfl ?_
  refine vv_aload_n X jd_Md_init_38 0 rfl rfl ?_
  refine vv_bipush X jd_Md_init_39 cb_24 ?_
  refine vv_newI X hA 24 (nF (fun _ => 0)) nF_0 rfl (Nat.le_of_ble_eq_true rfl) (Nat.le_of_ble_eq_true rfl) (Nat.le_of_ble_eq_true rfl) jd_Md_init_41 (fun q5 => ?_)
  refine pf_Md_22 (ws' := [(o, .inr (3, [.ref q1, .ref q2, .ref q3, .ref q4, .ref q5, .int 0, .int 0, .null, .null, .int 0, .int 0, .int 0, .int 0, .int 0])), (q1, .inl (cI, 212, .inl (fun _ => 0))), (q2, .inl (cI, 212, .inl (fun _ => 0))), (q3, .inl (cI, 24, .inl (nF (fun _ => 0)))), (q4, .inl (cI, 24, .inl (fun _ => 0))), (q5, .inl (cI, 24, .inl (nF (fun _ => 0))))]) X hini 0 jd_Md_init_43 rfl (Nat.le_of_ble_eq_true rfl) rfl ?_
  refine vv_aload_n X jd_Md_init_46 0 rfl rfl ?_
  refine vv_bipush X jd_Md_init_47 cb_17 ?_
  refine vv_newI X hA 17 (nF (fun _ => 0)) nF_0 rfl (Nat.le_of_ble_eq_true rfl) (Nat.le_of_ble_eq_true rfl) (Nat.le_of_ble_eq_true rfl) jd_Md_init_49 (fun q6 => ?_)
  refine pf_Md_25 (ws' := [(o, .inr (3, [.ref q1, .ref q2, .ref q3, .ref q4, .ref q5, .int 0, .int 0, .ref q6, .null, .int 0, .int 0, .int 0, .int 0, .int 0])), (q1, .inl (cI, 212, .inl (fun _ => 0))), (q2, .inl (cI, 212, .inl (fun _ => 0))), (q3, .inl (cI, 24, .inl (nF (fun _ => 0)))), (q4, .inl (cI, 24, .inl (fun _ => 0))), (q5, .inl (cI, 24, .inl (nF (fun _ => 0)))), (q6, .inl (cI, 17, .inl (nF (fun _ => 0))))]) X hini 0 jd_Md_init_51 rfl (Nat.le_of_ble_eq_true rfl) rfl ?_
  refine vv_aload_n X jd_Md_init_54 0 rfl rfl ?_
  refine vv_bipush X jd_Md_init_55 cb_17 ?_
  refine vv_newI X hA 17 (fun _ => 0) rfl rfl (Nat.le_of_ble_eq_true rfl) (Nat.le_of_ble_eq_true rfl) (Nat.le_of_ble_eq_true rfl) jd_Md_init_57 (fun q7 => ?_)
  refine pf_Md_28 (ws' := [(o, .inr (3, [.ref q1, .ref q2, .ref q3, .ref q4, .ref q5, .int 0, .int 0, .ref q6, .ref q7, .int 0, .int 0, .int 0, .int 0, .int 0])), (q1, .inl (cI, 212, .inl (fun _ => 0))), (q2, .inl (cI, 212, .inl (fun _ => 0))), (q3, .inl (cI, 24, .inl (nF (fun _ => 0)))), (q4, .inl (cI, 24, .inl (fun _ => 0))), (q5, .inl (cI, 24, .inl (nF (fun _ => 0)))), (q6, .inl (cI, 17, .inl (nF (fun _ => 0)))), (q7, .inl (cI, 17, .inl (fun _ => 0)))]) X hini 0 jd_Md_init_59 rfl (Nat.le_of_ble_eq_true rfl) rfl ?_
  exact ret _ _ 62 (fun k => match k with | 13 => o | 14 => q1 | 15 => q2 | 16 => q3 | 17 => q4 | 18 => q5 | 19 => q6 | _ => q7) jd_Md_init_62 rfl rfl
end
section
/-! rows of the kit's BITS (a starting text): bt .. b_sshr, bp_b; what follows them is ours -/
def bt (x : Int32) (i : Nat) : Bool := x.toBitVec.getLsbD i
theorem b_ext {x y : Int32} (h : ∀ i, i < 32 → bt x i = bt y i) : x = y := Int32.toBitVec_inj.mp (BitVec.eq_of_getLsbD_eq (fun i hi => h i hi))
theorem b_or (x y : Int32) (i : Nat) : bt (x ||| y) i = (bt x i || bt y i) := by unfold bt; rw [Int32.toBitVec_or, BitVec.getLsbD_or]
theorem b_and (x y : Int32) (i : Nat) : bt (x &&& y) i = (bt x i && bt y i) := by unfold bt; rw [Int32.toBitVec_and, BitVec.getLsbD_and]
theorem b_xor (x y : Int32) (i : Nat) : bt (x ^^^ y) i = (bt x i ^^ bt y i) := by unfold bt; rw [Int32.toBitVec_xor, BitVec.getLsbD_xor]
theorem b_big {x : Int32} {i : Nat} (h : 32 ≤ i) : bt x i = false := BitVec.getLsbD_of_ge _ _ h
theorem b_255 (i : Nat) : bt 255 i = decide (i < 8) := by
  rcases Nat.lt_or_ge i 32 with h | h
  · exact (by decide +kernel : ∀ i, i < 32 → bt 255 i = decide (i < 8)) i h
  · rw [b_big h, decide_eq_false (by omega)]
theorem b_65535 (i : Nat) : bt 65535 i = decide (i < 16) := by
  rcases Nat.lt_or_ge i 32 with h | h
  · exact (by decide +kernel : ∀ i, i < 32 → bt 65535 i = decide (i < 16)) i h
  · rw [b_big h, decide_eq_false (by omega)]
theorem b_m1 : ∀ i, i < 32 → bt (-1) i = true := by decide +kernel
theorem b_0 (i : Nat) : bt 0 i = false := BitVec.getLsbD_zero
theorem s_l : ∀ n, n < 32 → ((nI n &&& 31).toBitVec.smod 32).toNat = n := by decide +kernel
theorem s_u : ∀ n, n < 32 → (((nI n).toUInt32 &&& Int32.toUInt32 31).toBitVec % 32).toNat = n := by decide +kernel
theorem b_shl (n : Nat) (hn : n < 32) (x : Int32) {i : Nat} (hi : i < 32) : bt (x <<< (nI n &&& 31)) i = (decide (n ≤ i) && bt x (i - n)) := by
  unfold bt
  rw [Int32.toBitVec_shiftLeft]
  show (x.toBitVec <<< ((nI n &&& 31).toBitVec.smod 32).toNat).getLsbD i = _
  rw [s_l n hn, BitVec.getLsbD_shiftLeft]
  rcases Nat.lt_or_ge i n with h | h
  · simp [h, Nat.not_le.mpr h]
  · simp [hi, h, Nat.not_lt.mpr h]
theorem b_ushr (n : Nat) (hn : n < 32) (x : Int32) (i : Nat) : bt ((x.toUInt32 >>> ((nI n).toUInt32 &&& Int32.toUInt32 31)).toInt32) i = bt x (n + i) := by
  show (x.toUInt32 >>> ((nI n).toUInt32 &&& Int32.toUInt32 31)).toBitVec.getLsbD i = x.toUInt32.toBitVec.getLsbD (n + i)
  rw [UInt32.toBitVec_shiftRight]
  show (x.toUInt32.toBitVec >>> (((nI n).toUInt32 &&& Int32.toUInt32 31).toBitVec % 32).toNat).getLsbD i = _
  rw [s_u n hn, BitVec.getLsbD_ushiftRight]
theorem b_sshr (n : Nat) (hn : n < 32) (x : Int32) {i : Nat} (hi : i < 32) : bt (x >>> (nI n &&& 31)) i = if n + i < 32 then bt x (n + i) else bt x 31 := by
  unfold bt
  rw [Int32.toBitVec_shiftRight]
  show (x.toBitVec.sshiftRight ((nI n &&& 31).toBitVec.smod 32).toNat).getLsbD i = _
  rw [s_l n hn, BitVec.getLsbD_sshiftRight, BitVec.msb_eq_getLsbD_last]
  simp [hi]
theorem bp_b (x : Int32) : x.toInt8.toInt32 &&& 255 = x &&& 255 := by
  apply Int32.toBitVec_inj.mp
  rw [Int32.toBitVec_and, Int32.toBitVec_and, Int8.toBitVec_toInt32, Int32.toBitVec_toInt8]
  apply BitVec.eq_of_getLsbD_eq
  intro i hi
  rw [BitVec.getLsbD_and, BitVec.getLsbD_and]
  have hm : ∀ i < 32, 8 ≤ i → (255 : Int32).toBitVec.getLsbD i = false := by decide
  rcases Nat.lt_or_ge i 8 with z | z
  · rw [BitVec.getLsbD_signExtend, BitVec.getLsbD_signExtend, if_pos z, if_pos hi]
    simp only [z, hi, decide_true, Bool.true_and]
  · rw [hm i hi z]; simp
theorem b_i8 (x : Int32) {j : Nat} (hj : j < 8) : bt x.toInt8.toInt32 j = bt x j := by
  have h := congrArg (fun z => bt z j) (bp_b x)
  simp only [b_and, b_255, decide_eq_true hj, Bool.and_true] at h
  exact h
theorem b4_p0 (f : Nat → Int32) (k : Nat) (v : Int32) : b4_put f k v k = (v >>> (nI 24 &&& 31)).toInt8.toInt32 := by
  simp only [b4_put]
  rw [pk_un (by omega), pk_un (by omega), pk_un (by omega), pk_us, pk_vb]
theorem b4_p1 (f : Nat → Int32) (k : Nat) (v : Int32) : b4_put f k v (k + 1) = (v >>> (nI 16 &&& 31)).toInt8.toInt32 := by
  simp only [b4_put]
  rw [pk_un (by omega), pk_un (by omega), pk_us, pk_vb]
theorem b4_p2 (f : Nat → Int32) (k : Nat) (v : Int32) : b4_put f k v (k + 2) = (v >>> (nI 8 &&& 31)).toInt8.toInt32 := by
  simp only [b4_put]
  rw [pk_un (by omega), pk_us, pk_vb]
theorem b4_p3 (f : Nat → Int32) (k : Nat) (v : Int32) : b4_put f k v (k + 3) = v.toInt8.toInt32 := by
  simp only [b4_put]
  rw [pk_us, pk_vb]
/-- what was put is got -/
theorem b4_gp (f : Nat → Int32) (k : Nat) (v : Int32) : b4_get (b4_put f k v) k = v := by
  simp only [b4_get, b4_p0, b4_p1, b4_p2, b4_p3]
  rw [show nI 255 = (255 : Int32) from rfl, bp_b, bp_b, bp_b]
  apply b_ext
  intro i hi
  rw [b_or, b_or, b_or, b_shl 24 (by omega) _ hi, b_shl 16 (by omega) _ hi, b_shl 8 (by omega) _ hi]
  simp only [b_and, b_255]
  by_cases h1 : i < 8
  · simp only [decide_eq_false (show ¬ 24 ≤ i by omega), decide_eq_false (show ¬ 16 ≤ i by omega), decide_eq_false (show ¬ 8 ≤ i by omega), decide_eq_true h1, Bool.false_and, Bool.false_or, Bool.and_true]
  · by_cases h2 : i < 16
    · simp only [decide_eq_false (show ¬ 24 ≤ i by omega), decide_eq_false (show ¬ 16 ≤ i by omega), decide_eq_true (show 8 ≤ i by omega), decide_eq_true (show i - 8 < 8 by omega), decide_eq_false h1, Bool.false_and, Bool.false_or, Bool.and_true, Bool.true_and, Bool.and_false, Bool.or_false]
      rw [b_sshr 8 (by omega) _ (show i - 8 < 32 by omega), if_pos (by omega), show 8 + (i - 8) = i by omega]
    · by_cases h3 : i < 24
      · simp only [decide_eq_false (show ¬ 24 ≤ i by omega), decide_eq_true (show 16 ≤ i by omega), decide_eq_false (show ¬ i - 8 < 8 by omega), decide_eq_true (show i - 16 < 8 by omega), decide_eq_false h1, Bool.false_and, Bool.false_or, Bool.and_true, Bool.true_and, Bool.and_false, Bool.or_false]
        rw [b_sshr 16 (by omega) _ (show i - 16 < 32 by omega), if_pos (by omega), show 16 + (i - 16) = i by omega]
      · simp only [decide_eq_true (show 24 ≤ i by omega), decide_eq_false (show ¬ i - 8 < 8 by omega), decide_eq_false (show ¬ i - 16 < 8 by omega), decide_eq_false h1, Bool.and_true, Bool.true_and, Bool.and_false, Bool.or_false]
        rw [b_i8 _ (show i - 24 < 8 by omega), b_sshr 24 (by omega) _ (show i - 24 < 32 by omega), if_pos (by omega), show 24 + (i - 24) = i by omega]
/-! images -/
theorem igv_get {v : Int32} {Z : Nat → Int32} {n : Nat} : ∀ {m}, n < m → b4_get (igv v Z m) (4 * n) = v + nI (4 * n)
  | 0, h => absurd h (Nat.not_lt_zero n)
  | m + 1, h => by
    simp only [igv]
    by_cases e : n = m
    · subst e; exact b4_gp _ _ _
    · have ih := igv_get (v := v) (Z := Z) (n := n) (m := m) (by omega)
      rw [← ih]
      exact b4_get_congr (b4_put_out (by omega)) (b4_put_out (by omega)) (b4_put_out (by omega)) (b4_put_out (by omega))
theorem imgv_get (v : Int32) {n : Nat} (h : n < 124) : b4_get (imgv v) (4 * n) = v + nI (4 * n) := igv_get h
theorem nI0_add (v : Int32) : v + nI 0 = v := by rw [nI_0]; exact Int32.add_zero v
def imgO : Option Int32 → Nat → Int32
  | none => fun _ => 0
  | some v => imgv v
theorem imgO_fit : ∀ o, sb_Fit (imgO o)
  | none => sb_fit0
  | some v => imgv_fit v
theorem b4_get0 (k : Nat) : b4_get (fun _ => 0) k = 0 := by
  simp only [b4_get]; decide +kernel
theorem imgO_get : ∀ o : Option Int32, b4_get (imgO o) 0 = o.getD 0
  | none => b4_get0 0
  | some v => (imgv_get v (n := 0) (by omega)).trans (nI0_add v)
theorem imgO_good : ∀ o : Option Int32, tgood (imgO o)
  | none => fun n _ => by
    show b4_get (fun _ => 0) (4 * n) = if b4_get (fun _ => 0) 0 = 0 ∧ b4_get (fun _ => 0) 4 = 0 then 0 else _
    rw [b4_get0, b4_get0, b4_get0, if_pos ⟨rfl, rfl⟩]
  | some v => fun n hn => by
    show b4_get (imgv v) (4 * n) = if b4_get (imgv v) 0 = 0 ∧ b4_get (imgv v) 4 = 0 then 0 else b4_get (imgv v) 0 + nI (4 * n)
    have h0 : b4_get (imgv v) 0 = v := (imgv_get v (n := 0) (by omega)).trans (nI0_add v)
    have h1 : b4_get (imgv v) 4 = v + nI 4 := imgv_get v (n := 1) (by omega)
    rw [imgv_get v hn, h0, h1, if_neg]
    intro q
    rw [q.1, Int32.zero_add] at q
    exact absurd q.2 (by decide +kernel)
theorem tgood_congr {G H : Nat → Int32} (h : ∀ j, j < 496 → G j = H j) (g : tgood H) : tgood G := fun n hn => by
  have e : ∀ k, k + 4 ≤ 496 → b4_get G k = b4_get H k := fun k hk => b4_get_congr (h _ (by omega)) (h _ (by omega)) (h _ (by omega)) (h _ (by omega))
  rw [e (4 * n) (by omega), e 0 (by omega), e 4 (by omega)]
  exact g n hn
/-! a journal's block, byte by byte -/
theorem by_0 : ∀ x, x < 256 → (nI x >>> (nI 24 &&& 31)).toInt8.toInt32 = 0 ∧ (nI x >>> (nI 16 &&& 31)).toInt8.toInt32 = 0 ∧ (nI x >>> (nI 8 &&& 31)).toInt8.toInt32 = 0 := by decide +kernel
def byt (x : Nat) : Int32 := (nI x).toInt8.toInt32
theorem byt_255 : ∀ x, x < 256 → byt x &&& nI 255 = nI x := by decide +kernel
theorem byt_lo : ∀ x, x < 128 → byt x = nI x := by decide +kernel
theorem b4_small {f : Nat → Int32} {k x : Nat} (hx : x < 256) (h0 : f k = 0) (h1 : f (k + 1) = 0) (h2 : f (k + 2) = 0) (h3 : f (k + 3) = byt x) : b4_get f k = nI x := by
  rw [← b4_gp f k (nI x)]
  obtain ⟨a, b, c⟩ := by_0 x hx
  exact b4_get_congr (by rw [b4_p0, a]; exact h0) (by rw [b4_p1, b]; exact h1) (by rw [b4_p2, c]; exact h2) (by rw [b4_p3]; exact h3)
section JB
variable {nx k op x sf a : Nat} {F Z : Nat → Int32}
theorem jb_front : b4_get (jblk nx k op x sf F a Z) 0 = nI nx := by
  rw [← b4_gp Z 0 (nI nx)]
  refine b4_get_congr ?_ ?_ ?_ ?_ <;> (rw [jblk_lo (by omega), b4_put_out (by omega), pk_un (by omega), pk_un (by omega), pk_un (by omega), pk_un (by omega)])
theorem jb_tail : b4_get (jblk nx k op x sf F a Z) 508 = nI nx := b4_gp _ _ _
theorem jb_safe : b4_get (jblk nx k op x sf F a Z) 8 = nI sf := by
  rw [← b4_gp (upd (upd (upd (upd (b4_put Z 0 (nI nx)) 4 (vp_nar .byte (nI k).toInt8.toInt32)) 5 (vp_nar .byte (nI op).toInt8.toInt32)) 6 (vp_nar .byte (nI x).toInt8.toInt32)) 7 (vp_nar .byte (nI 0))) 8 (nI sf)]
  exact b4_get_congr (jblk_lo (by omega)) (jblk_lo (by omega)) (jblk_lo (by omega)) (jblk_lo (by omega))
theorem jb_4 : jblk nx k op x sf F a Z 4 = byt k := by
  rw [jblk_lo (by omega), b4_put_out (by omega), pk_un (by omega), pk_un (by omega), pk_un (by omega), pk_us, pk_vb]; rfl
theorem jb_5 : jblk nx k op x sf F a Z 5 = byt op := by
  rw [jblk_lo (by omega), b4_put_out (by omega), pk_un (by omega), pk_un (by omega), pk_us, pk_vb]; rfl
theorem jb_6 : jblk nx k op x sf F a Z 6 = byt x := by
  rw [jblk_lo (by omega), b4_put_out (by omega), pk_un (by omega), pk_us, pk_vb]; rfl
theorem jb_0 (h : nx < 256) {j : Nat} (hj : j < 3) : jblk nx k op x sf F a Z j = 0 := by
  rw [jblk_lo (by omega), b4_put_out (by omega), pk_un (by omega), pk_un (by omega), pk_un (by omega), pk_un (by omega)]
  obtain ⟨e0, e1, e2⟩ := by_0 nx h
  rcases (show j = 0 ∨ j = 1 ∨ j = 2 by omega) with rfl | rfl | rfl
  · rw [b4_p0]; exact e0
  · exact (b4_p1 Z 0 (nI nx)).trans e1
  · exact (b4_p2 Z 0 (nI nx)).trans e2
theorem jb_508 (h : nx < 256) : jblk nx k op x sf F a Z 508 = 0 ∧ jblk nx k op x sf F a Z 509 = 0 ∧ jblk nx k op x sf F a Z 510 = 0 ∧ jblk nx k op x sf F a Z 511 = byt nx := by
  obtain ⟨e0, e1, e2⟩ := by_0 nx h
  unfold jblk
  exact ⟨(b4_p0 _ 508 (nI nx)).trans e0, (b4_p1 _ 508 (nI nx)).trans e1, (b4_p2 _ 508 (nI nx)).trans e2, b4_p3 _ 508 (nI nx)⟩
/-- such a block stands -/
theorem jb_stands (h0 : 0 < nx) (h : nx < 2 ^ 31) (h1 : 1 ≤ op) (h17 : op ≤ 17) (hk : k < op) : rc_s (jblk nx k op x sf F a Z) := by
  refine ⟨?_, ?_, ?_, ?_⟩
  · rw [jb_front]; exact (nI_ltI (a := 0) (by omega) h).mpr h0
  · rw [jb_front, jb_tail]
  · rw [jb_5, byt_lo op (by omega)]
    exact ⟨nI_le h1 (by omega), nI_le h17 (by omega)⟩
  · rw [jb_4, jb_5, byt_lo op (by omega), byt_lo k (by omega), pk_sub h1]
    exact ⟨nI_le (Nat.zero_le _) (by omega), nI_le (by omega) (by omega)⟩
end JB
/-- two journal blocks of images that read the same -/
theorem jblk_img {nx k op x sf a a' : Nat} {F F' Z : Nat → Int32} (h : ∀ j, j < 496 → F (a + j) = F' (a' + j)) : ∀ j, j < 512 → jblk nx k op x sf F a Z j = jblk nx k op x sf F' a' Z j := by
  intro j hj
  by_cases h1 : j < 12
  · rw [jblk_lo h1, jblk_lo h1]
  · by_cases h2 : j < 508
    · obtain ⟨i, rfl⟩ : ∃ i, j = 12 + i := ⟨j - 12, by omega⟩
      rw [jblk_mid (by omega), jblk_mid (by omega)]
      exact h i (by omega)
    · exact b4_put_in (by omega) (by omega)
end
section
/-! counting -/
def cnQ (Q : Nat → Bool) : Nat → Nat
  | 0 => 0
  | k + 1 => cnQ Q k + if Q k = true then 1 else 0
theorem cn_congr {Q R : Nat → Bool} : ∀ {n}, (∀ k, k < n → Q k = R k) → cnQ Q n = cnQ R n
  | 0, _ => rfl
  | n + 1, h => by simp only [cnQ, h n (by omega), cn_congr (n := n) (fun k hk => h k (by omega))]
theorem cn_shift (Q : Nat → Bool) : ∀ n, cnQ (fun k => Q (k + 1)) n + (if Q 0 = true then 1 else 0) = cnQ Q n + if Q n = true then 1 else 0
  | 0 => rfl
  | n + 1 => by
    have ih := cn_shift Q n
    simp only [cnQ]
    omega
theorem cn_rot (Q : Nat → Bool) : ∀ a, cnQ (fun k => Q ((a + k) % 52)) 52 = cnQ Q 52
  | 0 => cn_congr (fun k hk => by rw [Nat.zero_add, Nat.mod_eq_of_lt hk])
  | a + 1 => by
    have ih := cn_rot Q a
    have h := cn_shift (fun k => Q ((a + k) % 52)) 52
    have e1 : (a + 52) % 52 = (a + 0) % 52 := by omega
    rw [e1] at h
    have e2 : cnQ (fun k => Q ((a + 1 + k) % 52)) 52 = cnQ (fun k => Q ((a + (k + 1)) % 52)) 52 := cn_congr (fun k _ => by rw [show a + 1 + k = a + (k + 1) by omega])
    omega
theorem cn_cut {Q : Nat → Bool} {m : Nat} : ∀ {n}, m ≤ n → (∀ k, m ≤ k → k < n → Q k = false) → cnQ Q n = cnQ Q m
  | 0, h, _ => by rw [show m = 0 by omega]
  | n + 1, h, hq => by
    by_cases e : m = n + 1
    · rw [e]
    · simp only [cnQ, hq n (by omega) (by omega)]
      have := cn_cut (Q := Q) (m := m) (n := n) (by omega) (fun k h1 h2 => hq k h1 (by omega))
      simpa using this
theorem cn_le (Q : Nat → Bool) : ∀ n, cnQ Q n ≤ n
  | 0 => Nat.le_refl _
  | n + 1 => by
    have := cn_le Q n
    simp only [cnQ]
    split <;> omega
theorem cn_full {Q : Nat → Bool} : ∀ {n}, (∀ k, k < n → Q k = true) → cnQ Q n = n
  | 0, _ => rfl
  | n + 1, h => by simp only [cnQ, h n (by omega), cn_full (n := n) (fun k hk => h k (by omega)), if_pos]
theorem cn_all {Q : Nat → Bool} : ∀ {n}, cnQ Q n = n → ∀ k, k < n → Q k = true
  | 0, _, k, hk => absurd hk (Nat.not_lt_zero k)
  | n + 1, h, k, hk => by
    have hl := cn_le Q n
    simp only [cnQ] at h
    by_cases hq : Q n = true
    · rw [if_pos hq] at h
      by_cases e : k = n
      · rw [e]; exact hq
      · exact cn_all (n := n) (by omega) k (by omega)
    · rw [if_neg hq] at h
      omega
theorem cn_pos {Q : Nat → Bool} : ∀ {n}, 0 < cnQ Q n → ∃ k, k < n ∧ Q k = true
  | 0, h => absurd h (Nat.not_lt_zero _)
  | n + 1, h => by
    simp only [cnQ] at h
    by_cases hq : Q n = true
    · exact ⟨n, by omega, hq⟩
    · rw [if_neg hq] at h
      obtain ⟨k, h1, h2⟩ := cn_pos (n := n) (by omega)
      exact ⟨k, by omega, h2⟩
theorem cn_split (Q R : Nat → Bool) : ∀ n, cnQ Q n = cnQ (fun k => Q k && R k) n + cnQ (fun k => Q k && !R k) n
  | 0 => rfl
  | n + 1 => by
    have ih := cn_split Q R n
    simp only [cnQ]
    have hb : ∀ a b : Bool, (if a = true then 1 else 0) = (if (a && b) = true then 1 else 0) + (if (a && !b) = true then 1 else 0) := by decide
    have h := hb (Q n) (R n)
    omega
/-! whole deeds -/
theorem wh_n_cn {Nb : Nat → Int32} {x : Int32} : ∀ k, wh_n Nb x k = cnQ (fun p => decide (Nb p = x)) k
  | 0 => rfl
  | k + 1 => by
    have ih := wh_n_cn (Nb := Nb) (x := x) k
    simp only [wh_n, cnQ, ih, decide_eq_true_eq]
    split <;> omega
theorem wh_c_some {Nb Ct : Nat → Int32} {x c : Int32} : ∀ {n}, (∃ p, p < n ∧ Nb p = x) → (∀ p, p < n → Nb p = x → Ct p = c) → wh_c Nb Ct x n = c
  | 0, h, _ => by obtain ⟨p, h1, _⟩ := h; exact absurd h1 (Nat.not_lt_zero p)
  | n + 1, h, hc => by
    simp only [wh_c]
    by_cases e : Nb n = x
    · rw [if_pos e]; exact hc n (by omega) e
    · rw [if_neg e]
      obtain ⟨p, h1, h2⟩ := h
      have : p ≠ n := fun q => e (by rw [← q]; exact h2)
      exact wh_c_some (n := n) ⟨p, by omega, h2⟩ (fun p h1 h2 => hc p (by omega) h2)
theorem wh_c_none {Nb Ct : Nat → Int32} {x : Int32} : ∀ {n}, (∀ p, p < n → Nb p ≠ x) → wh_c Nb Ct x n = 1
  | 0, _ => rfl
  | n + 1, h => by
    simp only [wh_c, if_neg (h n (by omega))]
    exact wh_c_none (n := n) (fun p hp => h p (by omega))
/-- a deed of s blocks from place a on is whole when they are all there -/
theorem wh_iff {Nb Ct : Nat → Int32} {x : Int32} {a s : Nat} (hx : 0 < x) (h1 : 1 ≤ s) (h17 : s ≤ 17) (hp : ∀ p, p < 52 → Nb p = x → ∃ k, k < s ∧ p = (a + k) % 52) (hc : ∀ p, p < 52 → Nb p = x → Ct p = nI s) : wh Nb Ct x ↔ ∀ k, k < s → Nb ((a + k) % 52) = x := by
  have e1 : wh_n Nb x 52 = cnQ (fun k => decide (Nb ((a + k) % 52) = x)) s := by
    rw [wh_n_cn, ← cn_rot (fun p => decide (Nb p = x)) a]
    refine cn_cut (by omega) (fun k h2 h3 => ?_)
    refine decide_eq_false (fun q => ?_)
    obtain ⟨k', h4, h5⟩ := hp _ (Nat.mod_lt _ (by omega)) q
    omega
  have hle := cn_le (fun k => decide (Nb ((a + k) % 52) = x)) s
  constructor
  · intro h
    have h2 := h.2
    rw [e1] at h2
    by_cases hz : 0 < cnQ (fun k => decide (Nb ((a + k) % 52) = x)) s
    · obtain ⟨k, h3, h4⟩ := cn_pos hz
      rw [wh_c_some ⟨(a + k) % 52, Nat.mod_lt _ (by omega), of_decide_eq_true h4⟩ hc] at h2
      have h5 := (nI_eq (by omega) (by omega)).mp h2
      exact fun k hk => of_decide_eq_true (cn_all h5 k hk)
    · exfalso
      have h0 : cnQ (fun k => decide (Nb ((a + k) % 52) = x)) s = 0 := by omega
      rw [h0, wh_c_none] at h2
      · exact absurd h2 (by decide +kernel)
      · intro p hp2 q
        obtain ⟨k, h3, h4⟩ := hp p hp2 q
        have h6 : wh_n Nb x 52 = 0 := by rw [e1, h0]
        rw [wh_n_cn] at h6
        have h7 : ∀ n, n ≤ 52 → p < n → 0 < cnQ (fun p => decide (Nb p = x)) n := by
          intro n
          induction n with
          | zero => intro _ h; exact absurd h (Nat.not_lt_zero p)
          | succ n ih =>
            intro hn hpn
            simp only [cnQ]
            by_cases e : p = n
            · subst e; simp [q]
            · have := ih (by omega) (by omega)
              omega
        have := h7 52 (Nat.le_refl _) hp2
        omega
  · intro h
    refine ⟨hx, ?_⟩
    rw [e1, cn_full (fun k hk => decide_eq_true (h k hk)), wh_c_some ⟨(a + 0) % 52, Nat.mod_lt _ (by omega), h 0 (by omega)⟩ hc]
/-! first and last ones -/
theorem di_f_iff {ms : Nat → Nat} {k : Nat} : ∀ {i}, di_f ms k i = true ↔ ∀ j, j < i → ms j ≠ ms k
  | 0 => ⟨fun _ j h => absurd h (Nat.not_lt_zero j), fun _ => rfl⟩
  | i + 1 => by
    simp only [di_f, Bool.and_eq_true, decide_eq_true_eq, di_f_iff (i := i)]
    constructor
    · intro ⟨h1, h2⟩ j hj
      by_cases e : j = i
      · rw [e]; exact h2
      · exact h1 j (by omega)
    · intro h
      exact ⟨fun j hj => h j (by omega), h i (by omega)⟩
theorem dk_last_no {b : Nat → Nat} {x : Nat} : ∀ {n}, (∀ k, k < n → b k ≠ x) → dk_last b x n = none
  | 0, _ => rfl
  | n + 1, h => by
    simp only [dk_last, if_neg (h n (by omega))]
    exact dk_last_no (n := n) (fun k hk => h k (by omega))
theorem cn_none {Q : Nat → Bool} : ∀ {n}, (∀ k, k < n → Q k = false) → cnQ Q n = 0
  | 0, _ => rfl
  | n + 1, h => by simp only [cnQ, h n (by omega), cn_none (n := n) (fun k hk => h k (by omega))]; rfl
theorem la_one (fs : Nat → Nat) (y : Nat) : ∀ m, cnQ (fun k => fl_l fs k m && decide (fs k = y)) m = if dk_last fs y m = none then 0 else 1
  | 0 => rfl
  | m + 1 => by
    have ih := la_one fs y m
    have hm : fl_l fs m (m + 1) = true := fl_l_lo (Nat.le_refl _)
    have hk : ∀ k, k < m → fl_l fs k (m + 1) = (fl_l fs k m && decide (fs m ≠ fs k)) := fun k hk => by
      simp only [fl_l, decide_eq_false (show ¬ m ≤ k by omega), Bool.false_or]
    show cnQ (fun k => fl_l fs k (m + 1) && decide (fs k = y)) m + (if (fl_l fs m (m + 1) && decide (fs m = y)) = true then 1 else 0) = _
    by_cases e : fs m = y
    · rw [cn_none (fun k h => by
        show (fl_l fs k (m + 1) && decide (fs k = y)) = false
        rw [hk k h]
        by_cases e2 : fs k = y
        · rw [decide_eq_false (show ¬ fs m ≠ fs k from fun q => q (e.trans e2.symm))]; simp
        · rw [decide_eq_false e2]; simp)]
      simp only [dk_last, if_pos e, hm, decide_eq_true e]
      simp
    · rw [cn_congr (R := fun k => fl_l fs k m && decide (fs k = y)) (fun k h => by
        show (fl_l fs k (m + 1) && decide (fs k = y)) = (fl_l fs k m && decide (fs k = y))
        rw [hk k h]
        by_cases e2 : fs k = y
        · rw [decide_eq_true (show fs m ≠ fs k from fun q => e (q.trans e2))]; simp
        · rw [decide_eq_false e2]; simp), ih]
      simp only [dk_last, if_neg e, decide_eq_false e]
      simp
/-- as many last ones as first ones -/
theorem la_di (fs : Nat → Nat) : ∀ m, cnQ (fun k => fl_l fs k m) m = di_n fs m
  | 0 => rfl
  | m + 1 => by
    have ih := la_di fs m
    have hm : fl_l fs m (m + 1) = true := fl_l_lo (Nat.le_refl _)
    have h1 := la_one fs (fs m) m
    have h2 := cn_split (fun k => fl_l fs k m) (fun k => decide (fs m ≠ fs k)) m
    have h3 : cnQ (fun k => fl_l fs k m && !decide (fs m ≠ fs k)) m = cnQ (fun k => fl_l fs k m && decide (fs k = fs m)) m := cn_congr (fun k _ => by
      by_cases e : fs k = fs m
      · rw [decide_eq_true e, decide_eq_false (show ¬ fs m ≠ fs k from fun q => q e.symm)]; rfl
      · rw [decide_eq_false e, decide_eq_true (show fs m ≠ fs k from fun q => e q.symm)]; rfl)
    show cnQ (fun k => fl_l fs k (m + 1)) m + (if fl_l fs m (m + 1) = true then 1 else 0) = _
    rw [if_pos hm, cn_congr (R := fun k => fl_l fs k m && decide (fs m ≠ fs k)) (fun k h => by
      show fl_l fs k (m + 1) = _
      simp only [fl_l, decide_eq_false (show ¬ m ≤ k by omega), Bool.false_or])]
    simp only [di_n]
    by_cases e : di_f fs m m = true
    · rw [if_pos e, ← ih, h2, h3, h1, if_pos (dk_last_no (fun k hk => di_f_iff.mp e k hk))]
    · rw [if_neg e, ← ih, h2, h3, h1, if_neg]
      intro q
      exact e (di_f_iff.mpr (fun j hj => dk_last_none q j hj))
end
section
/-! the history behind a shelf: blocks t of slots sl t with values vl t; deed x has the blocks from B x to B (x + 1) -/
def nowO (sl : Nat → Nat) (vl : Nat → Int32) : Nat → Nat → Option Int32
  | 0, _ => none
  | t + 1, s => if sl t = s then some (vl t) else nowO sl vl t s
theorem nowO_skip {sl : Nat → Nat} {vl : Nat → Int32} {s t : Nat} : ∀ {u}, t ≤ u → (∀ i, t ≤ i → i < u → sl i ≠ s) → nowO sl vl u s = nowO sl vl t s
  | 0, h, _ => by rw [show t = 0 by omega]
  | u + 1, h, hn => by
    by_cases e : t = u + 1
    · rw [e]
    · simp only [nowO, if_neg (hn u (by omega) (by omega))]
      exact nowO_skip (u := u) (by omega) (fun i h1 h2 => hn i h1 (by omega))
theorem nowO_last {sl : Nat → Nat} {vl : Nat → Int32} {s i u : Nat} (hi : i < u) (hs : sl i = s) (hn : ∀ j, i < j → j < u → sl j ≠ s) : nowO sl vl u s = some (vl i) := by
  rw [nowO_skip (t := i + 1) hi (fun j h1 h2 => hn j (by omega) h2)]
  simp only [nowO, if_pos hs]
theorem nowO_congr {sl sl' : Nat → Nat} {vl vl' : Nat → Int32} {s : Nat} : ∀ {u}, (∀ i, i < u → sl i = sl' i ∧ vl i = vl' i) → nowO sl vl u s = nowO sl' vl' u s
  | 0, _ => rfl
  | u + 1, h => by
    simp only [nowO, (h u (by omega)).1, (h u (by omega)).2, nowO_congr (u := u) (fun i hi => h i (by omega))]
/-- the journal's block k of deed x -/
def jbk (B sl sz : Nat → Nat) (vl : Nat → Int32) (x k : Nat) : Nat → Int32 := jblk x k (B (x + 1) - B x) (sl (B x + k)) (sz x) (imgv (vl (B x + k))) 0 (fun _ => 0)
def Bk (P : Nat → Int32) (p : Nat) : Nat → Int32 := fun j => P (512 * p + j)
def gB (nx T : Nat) (B : Nat → Nat) : Prop := B 1 = 0 ∧ B nx = T ∧ 1 ≤ nx ∧ ∀ x, 1 ≤ x → x < nx → B x < B (x + 1) ∧ B (x + 1) ≤ B x + 17
theorem gB_mono {nx T : Nat} {B : Nat → Nat} (h : gB nx T B) {x : Nat} (hx : 1 ≤ x) : ∀ {y}, x ≤ y → y ≤ nx → B x ≤ B y
  | 0, h1, _ => by omega
  | y + 1, h1, h2 => by
    by_cases e : x = y + 1
    · rw [e]; exact Nat.le_refl _
    · have ih := gB_mono h hx (y := y) (by omega) (by omega)
      have := (h.2.2.2 y (by omega) (by omega)).1
      omega
theorem gB_find {nx T : Nat} {B : Nat → Nat} (h : gB nx T B) {t a : Nat} (ha : 1 ≤ a) (hat : B a ≤ t) : ∀ {b}, a ≤ b → b ≤ nx → t < B b → ∃ x k, a ≤ x ∧ x < b ∧ k < B (x + 1) - B x ∧ t = B x + k
  | 0, h1, _, _ => by omega
  | b + 1, h1, h2, h3 => by
    by_cases e : a = b + 1
    · rw [e] at hat; omega
    · by_cases e2 : t < B b
      · obtain ⟨x, k, q1, q2, q3⟩ := gB_find h ha hat (b := b) (by omega) (by omega) e2
        exact ⟨x, k, q1, by omega, q3⟩
      · exact ⟨b, t - B b, by omega, by omega, by omega, by omega⟩
theorem gB_inj {nx T : Nat} {B : Nat → Nat} (h : gB nx T B) {x k y l : Nat} (hx : 1 ≤ x) (hx2 : x < nx) (hk : k < B (x + 1) - B x) (hy : 1 ≤ y) (hy2 : y < nx) (hl : l < B (y + 1) - B y) (e : B x + k = B y + l) : x = y ∧ k = l := by
  rcases Nat.lt_trichotomy x y with q | q | q
  · have := gB_mono h (x := x + 1) (by omega) (y := y) q (by omega)
    omega
  · subst q; omega
  · have := gB_mono h (x := y + 1) (by omega) (y := x) q (by omega)
    omega
/-- the platter's journal -/
def JI (P : Nat → Int32) (sf Fl : Nat) (B sl sz : Nat → Nat) (vl : Nat → Int32) : Prop :=
  (∀ p, p < 52 → ¬ rc_s (Bk P p) ∨ ∃ x k, 1 ≤ x ∧ x ≤ sf ∧ k < B (x + 1) - B x ∧ (B x + k) % 52 = p ∧ Fl ≤ B x + k + 52 ∧ ∀ j, j < 512 → Bk P p j = jbk B sl sz vl x k j) ∧
  (∀ x k, 1 ≤ x → x ≤ sf → k < B (x + 1) - B x → Fl ≤ B x + k + 28 → ∀ j, j < 512 → Bk P ((B x + k) % 52) j = jbk B sl sz vl x k j) ∧
  ∀ p, p < 52 → (∀ j, j < 3 → Bk P p j = 0) ∧ (Bk P p 508 = 0 ∧ Bk P p 509 = 0 ∧ Bk P p 510 = 0) ∧ ∃ n, n ≤ sf ∧ Bk P p 511 = byt n
/-- the late blocks: h homes, then the journal's since the flush -/
def LI (d : DS) (h fm sf nx Fl G : Nat) (B sl sz : Nat → Nat) (vl : Nat → Int32) : Prop :=
  d.2.2.2 = h + fm ∧ h ≤ 24 ∧ (∀ k, k < h → ∃ t, G ≤ t ∧ t < Fl ∧ d.2.2.1 k = 52 + sl t) ∧
  ∀ x k, sf < x → x < nx → k < B (x + 1) - B x → d.2.2.1 (h + (B x + k - Fl)) = (B x + k) % 52 ∧ ∀ j, j < 512 → d.2.1 (512 * (h + (B x + k - Fl)) + j) = jbk B sl sz vl x k j
/-- the slots' blocks: as they read, and on the platter -/
def SI (d : DS) (Fl G : Nat) (sl : Nat → Nat) (vl : Nat → Int32) : Prop :=
  (∀ s, s < 212 → ∀ j, j < 496 → ds_view d (52 + s) j = imgO (nowO sl vl Fl s) j) ∧ ∀ s, s < 212 → ∀ j, j < 496 → d.1 (512 * (52 + s) + j) = imgO (nowO sl vl G s) j
/-- numbers of deeds and blocks -/
def gP (sf nx T Fl G : Nat) (B sl sz : Nat → Nat) : Prop :=
  (sf < nx ∧ B (sf + 1) = Fl ∧ T ≤ Fl + 24) ∧ (G ≤ Fl ∧ Fl ≤ G + 24 ∧ ∃ g, 1 ≤ g ∧ g ≤ sf + 1 ∧ B g = G) ∧
  ((∀ x, sf < x → x < nx → sz x = sf) ∧ (∀ x, 1 ≤ x → x ≤ sf → sz x < x) ∧ (0 < sf → Fl ≤ B (sz sf + 1) + 24)) ∧ ∀ t, t < T → sl t < 212
/-- fresh images, and those of the deed that is put together -/
def FI (fm ch Fl : Nat) (F : Nat → Int32) (fs os : Nat → Nat) (ov : Nat → Int32) (sl : Nat → Nat) (vl : Nat → Int32) : Prop :=
  (∀ k, k < fm → fs k = sl (Fl + k) ∧ ∀ j, j < 496 → F (496 * k + j) = imgv (vl (Fl + k)) j) ∧ ∀ k, k < ch → fs (fm + k) = os k ∧ os k < 212 ∧ ∀ j, j < 496 → F (496 * (fm + k) + j) = imgv (ov k) j
/-- the reference's list and values -/
def MI (fm sf nx T Fl : Nat) (fd nw : Nat → Int32) (ms : Nat → Nat) (mv : Nat → Int32) (ml : Nat → Nat) (B sl : Nat → Nat) (vl : Nat → Int32) : Prop :=
  (∀ k, k < fm → ms k = sl (Fl + k) ∧ mv k = vl (Fl + k) ∧ ml k ≤ 1 ∧ (ml k = 1 ↔ ∃ x, sf < x ∧ x < nx ∧ B (x + 1) = Fl + k + 1)) ∧ ∀ s, s < 212 → nw s = (nowO sl vl T s).getD 0 ∧ fd s = (nowO sl vl Fl s).getD 0
/-- counters of both sides -/
def CI_ (i ch fl cr fm op nx pl sf mc mo md mi mf mr T Fl : Nat) : Prop :=
  (fm = T - Fl ∧ Fl ≤ T ∧ pl = T % 52) ∧ (ch ≤ 17 ∧ (0 < ch → op = ch) ∧ (0 < ch → fm ≤ 7)) ∧ (mc = fm ∧ mo = ch ∧ md = nx - 1 ∧ mi = nx - 1 - sf ∧ mf = fl ∧ mr = cr) ∧ (if ch = 0 then 2 * (nx - 1) else 2 * (nx - 1) + 1) ≤ i
/-- both sides belong together, behind i commands -/
def Inv (i ch fl cr : Nat) (I : Nat → Int32) (fm op nx pl sf : Nat) (K F : Nat → Int32) (fs : Nat → Nat) (d : DS) (fd nw : Nat → Int32) (ms : Nat → Nat) (mv : Nat → Int32) (ml os : Nat → Nat) (ov : Nat → Int32) (mc mh mo md mi mf mr : Nat) : Prop :=
  (sb_Fit I ∧ sb_Fit K ∧ sb_Fit F ∧ ds_ok d) ∧ ∃ (T Fl G : Nat) (B sl sz : Nat → Nat) (vl : Nat → Int32), gB nx T B ∧ gP sf nx T Fl G B sl sz ∧ CI_ i ch fl cr fm op nx pl sf mc mo md mi mf mr T Fl ∧ FI fm ch Fl F fs os ov sl vl ∧ MI fm sf nx T Fl fd nw ms mv ml B sl vl ∧ JI d.1 sf Fl B sl sz vl ∧ LI d mh fm sf nx Fl G B sl sz vl ∧ SI d Fl G sl vl
section IV
variable {i ch fl cr : Nat} {I : Nat → Int32} {fm op nx pl sf : Nat} {K F : Nat → Int32} {fs : Nat → Nat} {d : DS} {fd nw : Nat → Int32} {ms : Nat → Nat} {mv : Nat → Int32} {ml os : Nat → Nat} {ov : Nat → Int32} {mc mh mo md mi mf mr : Nat}
/-- what contracts ask -/
theorem Inv.facts (h : Inv i ch fl cr I fm op nx pl sf K F fs d fd nw ms mv ml os ov mc mh mo md mi mf mr) : (sb_Fit I ∧ sb_Fit K ∧ sb_Fit F ∧ ds_ok d) ∧ (fm ≤ 24 ∧ (∀ k, k < fm → fs k < 212) ∧ 1 ≤ nx ∧ sf ≤ nx - 1 ∧ pl < 52 ∧ ch ≤ 17) ∧ ((0 < ch → op = ch ∧ fm ≤ 7) ∧ d.2.2.2 = mh + fm ∧ mh ≤ 24) ∧ (mc = fm ∧ mo = ch ∧ md = nx - 1 ∧ mi = nx - 1 - sf ∧ mf = fl ∧ mr = cr) ∧ ((∀ k, k < mc → ms k < 212) ∧ (∀ k, k < mc → ml k ≤ 1) ∧ ∀ k, k < ch → os k < 212) := by
  obtain ⟨h0, T, Fl, G, B, sl, sz, vl, hB, hP, hC, hF, hM, hJ, hL, hS⟩ := h
  obtain ⟨⟨p1, p2, p3⟩, -, -, p4⟩ := hP
  obtain ⟨⟨c1, c2, c3⟩, ⟨c4, c5, c6⟩, ⟨c7, c8, c9, c10, c11, c12⟩, c13⟩ := hC
  refine ⟨h0, ⟨by omega, fun k hk => ?_, hB.2.2.1, by omega, by omega, c4⟩, ⟨fun q => ⟨c5 q, c6 q⟩, hL.1, hL.2.1⟩, ⟨c7, c8, c9, c10, c11, c12⟩, fun k hk => ?_, fun k hk => ?_, fun k hk => (hF.2 k hk).2.1⟩
  · rw [(hF.1 k hk).1]; exact p4 _ (by omega)
  · rw [(hM.1 k (by omega)).1]; exact p4 _ (by omega)
  · exact (hM.1 k (by omega)).2.2.1
/-- a refused command -/
theorem Inv.later {j : Nat} (hj : i ≤ j) (h : Inv i ch fl cr I fm op nx pl sf K F fs d fd nw ms mv ml os ov mc mh mo md mi mf mr) : Inv j ch fl cr I fm op nx pl sf K F fs d fd nw ms mv ml os ov mc mh mo md mi mf mr := by
  obtain ⟨h0, T, Fl, G, B, sl, sz, vl, hB, hP, ⟨c1, c2, c3, c4⟩, h1⟩ := h
  exact ⟨h0, T, Fl, G, B, sl, sz, vl, hB, hP, ⟨c1, c2, c3, Nat.le_trans c4 hj⟩, h1⟩
/-- other scratch -/
theorem Inv.scratch {I' K' : Nat → Int32} (hI : sb_Fit I') (hK : sb_Fit K') (h : Inv i ch fl cr I fm op nx pl sf K F fs d fd nw ms mv ml os ov mc mh mo md mi mf mr) : Inv i ch fl cr I' fm op nx pl sf K' F fs d fd nw ms mv ml os ov mc mh mo md mi mf mr := ⟨⟨hI, hK, h.1.2.2⟩, h.2⟩
/-- forget -/
theorem Inv.forget (h : Inv i ch fl cr I fm op nx pl sf K F fs d fd nw ms mv ml os ov mc mh mo md mi mf mr) : Inv (i + 1) 0 fl cr I fm op nx pl sf K F fs d fd nw ms mv ml os ov mc mh 0 md mi mf mr := by
  obtain ⟨h0, T, Fl, G, B, sl, sz, vl, hB, hP, ⟨c1, ⟨c2, c3, c4⟩, ⟨d1, d2, d3⟩, c5⟩, hF, h1⟩ := h
  refine ⟨h0, T, Fl, G, B, sl, sz, vl, hB, hP, ⟨c1, ⟨Nat.zero_le _, fun q => absurd q (by omega), fun q => absurd q (by omega)⟩, ⟨d1, rfl, d3⟩, ?_⟩, ⟨hF.1, fun k hk => absurd hk (by omega)⟩, h1⟩
  rw [if_pos rfl]
  split at c5 <;> omega
/-- change, when the shelf has begun a deed and has room for one more image -/
theorem Inv.stage {x : Nat} {v : Int32} {op' ch' : Nat} (hch : ch' = ch) (hop : op' = ch) (h17 : ch < 17) (h7 : fm ≤ 7) (hx : x < 212) (h : Inv i ch fl cr I fm op nx pl sf K F fs d fd nw ms mv ml os ov mc mh mo md mi mf mr) : Inv (i + 1) (ch + 1) fl cr I fm (op' + 1) nx pl sf K (va_cpy (imgv v) F 0 (496 * (fm + op')) 496) (uN_ fs (fm + op') x) d fd nw ms mv ml (uN_ os ch' x) (upd ov ch' v) mc mh (ch' + 1) md mi mf mr := by
  subst hch; subst hop
  obtain ⟨⟨h01, h02, h03, h04⟩, T, Fl, G, B, sl, sz, vl, hB, hP, ⟨c1, ⟨c2, c3, c4⟩, ⟨d1, d2, d3⟩, c5⟩, hF, h1⟩ := h
  refine ⟨⟨h01, h02, sb_fitC (imgv_fit v) h03, h04⟩, T, Fl, G, B, sl, sz, vl, hB, hP, ⟨c1, ⟨by omega, fun _ => rfl, fun _ => h7⟩, ⟨d1, rfl, d3⟩, ?_⟩, ⟨fun k hk => ?_, fun k hk => ?_⟩, h1⟩
  · rw [if_neg (by omega)]
    split at c5 <;> omega
  · obtain ⟨f1, f2⟩ := hF.1 k hk
    refine ⟨?_, fun j hj => ?_⟩
    · simp only [uN_, if_neg (show ¬ k = fm + op' by omega)]; exact f1
    · rw [pk_cpy_out (by omega)]; exact f2 j hj
  · by_cases e : k = op'
    · subst e
      refine ⟨by simp [uN_], by simp [uN_]; exact hx, fun j hj => ?_⟩
      rw [pk_cpy_in (by omega) (by omega)]
      simp only [upd, if_pos]
      congr 1
      omega
    · obtain ⟨f1, f2, f3⟩ := hF.2 k (by omega)
      refine ⟨?_, ?_, fun j hj => ?_⟩
      · simp only [uN_, if_neg (show ¬ fm + k = fm + op' by omega), if_neg e]; exact f1
      · simp only [uN_, if_neg e]; exact f2
      · rw [pk_cpy_out (by omega)]
        simp only [upd, if_neg e]
        exact f3 j hj
/-- what a slot reads as -/
theorem Inv.reads (h : Inv i ch fl cr I fm op nx pl sf K F fs d fd nw ms mv ml os ov mc mh mo md mi mf mr) {x : Nat} (hx : x < 212) : ∃ o : Option Int32, nw x = o.getD 0 ∧ ∀ j, j < 496 → sh_rd fm fs F d x j = imgO o j := by
  obtain ⟨h0, T, Fl, G, B, sl, sz, vl, hB, hP, ⟨⟨c1, c2, -⟩, -⟩, hF, hM, hJ, hL, hS⟩ := h
  refine ⟨nowO sl vl T x, (hM.2 x hx).1, fun j hj => ?_⟩
  simp only [sh_rd]
  cases hl : dk_last fs x fm with
  | some k =>
    obtain ⟨k1, k2⟩ := dk_last_lt hl
    have hmax := dk_last_max hl
    obtain ⟨f1, f2⟩ := hF.1 k k1
    have e := nowO_last (sl := sl) (vl := vl) (s := x) (i := Fl + k) (u := T) (by omega) (f1.symm.trans k2) (fun t h1 h2 => by
      have q := hmax (t - Fl) (by omega) (by omega)
      rw [(hF.1 (t - Fl) (by omega)).1, show Fl + (t - Fl) = t by omega] at q
      exact q)
    rw [e]
    exact f2 j hj
  | none =>
    have hno := dk_last_none hl
    rw [nowO_skip (t := Fl) c2 (fun t h1 h2 => by
      have q := hno (t - Fl) (by omega)
      rw [(hF.1 (t - Fl) (by omega)).1, show Fl + (t - Fl) = t by omega] at q
      exact q)]
    exact hS.1 x hx j hj
theorem Inv.get (h : Inv i ch fl cr I fm op nx pl sf K F fs d fd nw ms mv ml os ov mc mh mo md mi mf mr) {x : Nat} (hx : x < 212) : b4_get (sh_rd fm fs F d x) 0 = nw x := by
  obtain ⟨o, h1, h2⟩ := h.reads hx
  rw [h1, ← imgO_get o]
  exact b4_get_congr (h2 _ (by omega)) (h2 _ (by omega)) (h2 _ (by omega)) (h2 _ (by omega))
theorem Inv.good (h : Inv i ch fl cr I fm op nx pl sf K F fs d fd nw ms mv ml os ov mc mh mo md mi mf mr) {x : Nat} (hx : x < 212) : tgood (sh_rd fm fs F d x) := by
  obtain ⟨o, h1, h2⟩ := h.reads hx
  exact tgood_congr h2 (imgO_good o)
end IV
end
section
/-! commit and flush keep both sides together -/
theorem byt_00 : byt 0 = 0 := by decide +kernel
theorem Inv.init : Inv 0 0 0 0 (fun _ => 0) 0 0 1 0 0 (fun _ => 0) (fun _ => 0) (fun _ => 0) (fun _ => 0, fun _ => 0, fun _ => 0, 0) (fun _ => 0) (fun _ => 0) (fun _ => 0) (fun _ => 0) (fun _ => 0) (fun _ => 0) (fun _ => 0) 0 0 0 0 0 0 0 := by
  refine ⟨⟨sb_fit0, sb_fit0, sb_fit0, Nat.zero_le _, fun k hk => absurd hk (Nat.not_lt_zero k), sb_fit0, sb_fit0⟩, 0, 0, 0, fun _ => 0, fun _ => 0, fun _ => 0, fun _ => 0, ⟨rfl, rfl, Nat.le_refl _, fun x h1 h2 => absurd h2 (by omega)⟩, ⟨⟨by omega, rfl, by omega⟩, ⟨by omega, by omega, 1, by omega, by omega, rfl⟩, ⟨fun x h1 h2 => absurd h2 (by omega), fun x h1 h2 => absurd h2 (by omega), fun q => absurd q (by omega)⟩, fun t ht => absurd ht (by omega)⟩, ⟨⟨rfl, Nat.le_refl _, rfl⟩, ⟨by omega, fun q => absurd q (by omega), fun q => absurd q (by omega)⟩, ⟨rfl, rfl, rfl, rfl, rfl, rfl⟩, by simp⟩, ⟨fun k hk => absurd hk (by omega), fun k hk => absurd hk (by omega)⟩, ⟨fun k hk => absurd hk (by omega), fun s _ => ⟨rfl, rfl⟩⟩, ⟨fun p _ => Or.inl (fun q => ?_), fun x k h1 h2 => absurd h2 (by omega), fun p _ => ⟨fun j _ => rfl, ⟨rfl, rfl, rfl⟩, 0, Nat.le_refl _, byt_00.symm⟩⟩, ⟨rfl, by omega, fun k hk => absurd hk (by omega), fun x k h1 h2 => absurd h2 (by omega)⟩, ⟨fun s _ j _ => ?_, fun s _ j _ => rfl⟩⟩
  · have h := q.1
    rw [show b4_get (Bk (fun _ => 0) p) 0 = 0 from b4_get0 0] at h
    exact absurd h (by decide)
  · rw [ds_view_0 rfl]; rfl
/-! the lists of a commit -/
theorem cmS_at {ms os : Nat → Nat} {mc j : Nat} : ∀ {k}, cmS ms os mc k j = if mc ≤ j ∧ j < mc + k then os (j - mc) else ms j
  | 0 => by rw [if_neg (by omega)]; rfl
  | k + 1 => by
    simp only [cmS, uN_]
    by_cases e : j = mc + k
    · rw [if_pos e, if_pos (by omega), show j - mc = k by omega]
    · rw [if_neg e, cmS_at (k := k)]
      by_cases h : mc ≤ j ∧ j < mc + k
      · rw [if_pos h, if_pos (by omega)]
      · rw [if_neg h, if_neg (by omega)]
theorem cmV_at {mv ov : Nat → Int32} {mc j : Nat} : ∀ {k}, cmV mv ov mc k j = if mc ≤ j ∧ j < mc + k then ov (j - mc) else mv j
  | 0 => by rw [if_neg (by omega)]; rfl
  | k + 1 => by
    simp only [cmV, upd]
    by_cases e : j = mc + k
    · rw [if_pos e, if_pos (by omega), show j - mc = k by omega]
    · rw [if_neg e, cmV_at (k := k)]
      by_cases h : mc ≤ j ∧ j < mc + k
      · rw [if_pos h, if_pos (by omega)]
      · rw [if_neg h, if_neg (by omega)]
theorem cmL_at {ml : Nat → Nat} {mc n j : Nat} : ∀ {k}, cmL ml mc n k j = if mc ≤ j ∧ j < mc + k then (if j - mc + 1 = n then 1 else 0) else ml j
  | 0 => by rw [if_neg (by omega)]; rfl
  | k + 1 => by
    simp only [cmL, uN_]
    by_cases e : j = mc + k
    · rw [if_pos e, if_pos (show mc ≤ j ∧ j < mc + (k + 1) by omega), show j - mc = k by omega]
    · rw [if_neg e, cmL_at (k := k)]
      by_cases h : mc ≤ j ∧ j < mc + k
      · rw [if_pos h, if_pos (show mc ≤ j ∧ j < mc + (k + 1) by omega)]
      · rw [if_neg h, if_neg (show ¬ (mc ≤ j ∧ j < mc + (k + 1)) by omega)]
theorem cmN_at {nw : Nat → Int32} {os : Nat → Nat} {ov : Nat → Int32} {sl : Nat → Nat} {vl : Nat → Int32} {T s : Nat} (h0 : nw s = (nowO sl vl T s).getD 0) : ∀ {k}, (∀ j, j < k → sl (T + j) = os j ∧ vl (T + j) = ov j) → cmN nw os ov k s = (nowO sl vl (T + k) s).getD 0
  | 0, _ => h0
  | k + 1, h => by
    have ih := cmN_at (k := k) h0 (fun j hj => h j (by omega))
    obtain ⟨a, b⟩ := h k (by omega)
    simp only [cmN, upd]
    show _ = (nowO sl vl (T + k + 1) s).getD 0
    simp only [nowO, a, b]
    by_cases e : s = os k
    · rw [if_pos e, if_pos e.symm]; rfl
    · rw [if_neg e, if_neg (fun q => e q.symm)]; exact ih
/-! the disk of a commit -/
theorem cm_d_1 {nx op sf fm pl : Nat} {fs : Nat → Nat} {F : Nat → Int32} {d : DS} : ∀ k, (cm_d nx op sf fm pl fs F d k).1 = d.1
  | 0 => rfl
  | k + 1 => cm_d_1 (nx := nx) (op := op) (sf := sf) (fm := fm) (pl := pl) (fs := fs) (F := F) (d := d) k
theorem cm_d_b {nx op sf fm pl : Nat} {fs : Nat → Nat} {F : Nat → Int32} {d : DS} {q : Nat} : ∀ {k}, (cm_d nx op sf fm pl fs F d k).2.2.1 q = if d.2.2.2 ≤ q ∧ q < d.2.2.2 + k then (pl + (q - d.2.2.2)) % 52 else d.2.2.1 q
  | 0 => by rw [if_neg (by omega)]; rfl
  | k + 1 => by
    have ih := cm_d_b (nx := nx) (op := op) (sf := sf) (fm := fm) (pl := pl) (fs := fs) (F := F) (d := d) (q := q) (k := k)
    show uN_ (cm_d nx op sf fm pl fs F d k).2.2.1 (cm_d nx op sf fm pl fs F d k).2.2.2 ((pl + k) % 52) q = _
    rw [cm_d_n]
    simp only [uN_]
    by_cases e : q = d.2.2.2 + k
    · rw [if_pos e, if_pos (by omega), show q - d.2.2.2 = k by omega]
    · rw [if_neg e, ih]
      by_cases h : d.2.2.2 ≤ q ∧ q < d.2.2.2 + k
      · rw [if_pos h, if_pos (by omega)]
      · rw [if_neg h, if_neg (by omega)]
theorem cm_d_L {nx op sf fm pl : Nat} {fs : Nat → Nat} {F : Nat → Int32} {d : DS} {q j : Nat} (hj : j < 512) : ∀ {k}, (cm_d nx op sf fm pl fs F d k).2.1 (512 * q + j) = if d.2.2.2 ≤ q ∧ q < d.2.2.2 + k then jblk nx (q - d.2.2.2) op (fs (fm + (q - d.2.2.2))) sf F (496 * (fm + (q - d.2.2.2))) (fun _ => 0) j else d.2.1 (512 * q + j)
  | 0 => by rw [if_neg (by omega)]; rfl
  | k + 1 => by
    have ih := cm_d_L (nx := nx) (op := op) (sf := sf) (fm := fm) (pl := pl) (fs := fs) (F := F) (d := d) (q := q) hj (k := k)
    show va_cpy (jblk nx k op (fs (fm + k)) sf F (496 * (fm + k)) (fun _ => 0)) (cm_d nx op sf fm pl fs F d k).2.1 0 (512 * (cm_d nx op sf fm pl fs F d k).2.2.2) 512 (512 * q + j) = _
    rw [cm_d_n, ds_late_at hj]
    by_cases e : q = d.2.2.2 + k
    · rw [if_pos e, if_pos (by omega), show q - d.2.2.2 = k by omega]
    · rw [if_neg e, ih]
      by_cases h : d.2.2.2 ≤ q ∧ q < d.2.2.2 + k
      · rw [if_pos h, if_pos (by omega)]
      · rw [if_neg h, if_neg (by omega)]
theorem cm_d_v {nx op sf fm pl : Nat} {fs : Nat → Nat} {F : Nat → Int32} {d : DS} {s j : Nat} (hs : s < 212) (hj : j < 512) : ∀ k, ds_view (cm_d nx op sf fm pl fs F d k) (52 + s) j = ds_view d (52 + s) j
  | 0 => rfl
  | k + 1 => by
    have ih := cm_d_v (nx := nx) (op := op) (sf := sf) (fm := fm) (pl := pl) (fs := fs) (F := F) (d := d) hs hj k
    refine (ds_write_view _ _ _ (52 + s) (by omega) j hj).trans ?_
    simp only [vup]
    rw [if_neg (by have := Nat.mod_lt (pl + k) (show 0 < 52 by omega); omega)]
    exact ih
theorem jbk_congr {B B' sl sl' sz sz' : Nat → Nat} {vl vl' : Nat → Int32} {x k : Nat} (h1 : B x = B' x) (h2 : B (x + 1) = B' (x + 1)) (h3 : sl (B' x + k) = sl' (B' x + k)) (h4 : sz x = sz' x) (h5 : vl (B' x + k) = vl' (B' x + k)) : jbk B sl sz vl x k = jbk B' sl' sz' vl' x k := by
  simp only [jbk, h1, h2, h3, h4, h5]
theorem JI.congr {P : Nat → Int32} {sf Fl nx T : Nat} {B B' sl sl' sz sz' : Nat → Nat} {vl vl' : Nat → Int32} (hB : gB nx T B) (hsf : sf < nx) (h1 : ∀ x, x ≤ nx → B' x = B x) (h2 : ∀ t, t < T → sl' t = sl t ∧ vl' t = vl t) (h3 : ∀ x, x < nx → sz' x = sz x) (h : JI P sf Fl B sl sz vl) : JI P sf Fl B' sl' sz' vl' := by
  have e : ∀ x k, 1 ≤ x → x ≤ sf → k < B (x + 1) - B x → jbk B' sl' sz' vl' x k = jbk B sl sz vl x k := fun x k q1 q2 q3 => by
    have hm := gB_mono hB (x := x + 1) (by omega) (y := nx) (by omega) (Nat.le_refl _)
    have ht := hB.2.1
    exact jbk_congr (h1 x (by omega)) (h1 (x + 1) (by omega)) (h2 _ (by omega)).1 (h3 x (by omega)) (h2 _ (by omega)).2
  refine ⟨fun p hp => ?_, fun x k q1 q2 q3 q4 j hj => ?_, h.2.2⟩
  · rcases h.1 p hp with q | ⟨x, k, q1, q2, q3, q4, q5, q6⟩
    · exact Or.inl q
    · refine Or.inr ⟨x, k, q1, q2, ?_, ?_, ?_, fun j hj => ?_⟩
      · rw [h1 x (by omega), h1 (x + 1) (by omega)]; exact q3
      · rw [h1 x (by omega)]; exact q4
      · rw [h1 x (by omega)]; exact q5
      · rw [e x k q1 q2 q3]; exact q6 j hj
  · rw [h1 x (by omega), h1 (x + 1) (by omega)] at q3
    rw [h1 x (by omega)] at q4 ⊢
    rw [e x k q1 q2 q3]
    exact h.2.1 x k q1 q2 q3 q4 j hj
section IV
variable {i ch fl cr : Nat} {I : Nat → Int32} {fm op nx pl sf : Nat} {K F : Nat → Int32} {fs : Nat → Nat} {d : DS} {fd nw : Nat → Int32} {ms : Nat → Nat} {mv : Nat → Int32} {ml os : Nat → Nat} {ov : Nat → Int32} {mc mh mo md mi mf mr : Nat}
theorem Inv.commit {K' : Nat → Int32} (hK : sb_Fit K') (h0 : 0 < ch) (h : Inv i ch fl cr I fm op nx pl sf K F fs d fd nw ms mv ml os ov mc mh mo md mi mf mr) : Inv (i + 1) 0 fl cr I (fm + op) 0 (nx + 1) ((pl + op) % 52) sf K' F fs (cm_d nx op sf fm pl fs F d op) fd (cmN nw os ov mo) (cmS ms os mc mo) (cmV mv ov mc mo) (cmL ml mc mo mo) os ov (mc + mo) mh 0 (md + 1) (mi + 1) mf mr := by
  obtain ⟨⟨a1, a2, a3, a4⟩, T, Fl, G, B, sl, sz, vl, hB, ⟨⟨p1, p2, p3⟩, p4, ⟨p5, p6, p7⟩, p8⟩, ⟨⟨c1, c2, c3⟩, ⟨c4, c5, c6⟩, ⟨d1, d2, d3, d4, d5, d6⟩, c7⟩, hF, hM, hJ, ⟨l1, l2, l3, l4⟩, hS⟩ := h
  have eop : op = ch := c5 h0
  have e7 := c6 h0
  rw [if_neg (by omega)] at c7
  subst d1; subst d2
  subst eop
  have hnx := hB.2.2.1
  have hBn := hB.2.1
  -- the new history
  have hb : ∀ x, x ≤ nx → uN_ B (nx + 1) (T + op) x = B x := fun x hx => by simp only [uN_, if_neg (show ¬ x = nx + 1 by omega)]
  have hbn : uN_ B (nx + 1) (T + op) (nx + 1) = T + op := by simp [uN_]
  have hs1 : ∀ t, t < T → (if t < T then sl t else os (t - T)) = sl t := fun t ht => if_pos ht
  have hv1 : ∀ t, t < T → (if t < T then vl t else ov (t - T)) = vl t := fun t ht => if_pos ht
  have hs2 : ∀ k, (if T + k < T then sl (T + k) else os (T + k - T)) = os k := fun k => by rw [if_neg (by omega), show T + k - T = k by omega]
  have hv2 : ∀ k, (if T + k < T then vl (T + k) else ov (T + k - T)) = ov k := fun k => by rw [if_neg (by omega), show T + k - T = k by omega]
  have hz : ∀ x, x < nx → uN_ sz nx sf x = sz x := fun x hx => by simp only [uN_, if_neg (show ¬ x = nx by omega)]
  have hzn : uN_ sz nx sf nx = sf := by simp [uN_]
  generalize uN_ B (nx + 1) (T + op) = B' at hb hbn
  generalize uN_ sz nx sf = sz' at hz hzn
  obtain ⟨sl', hsl⟩ : ∃ f : Nat → Nat, ∀ t, f t = if t < T then sl t else os (t - T) := ⟨_, fun _ => rfl⟩
  obtain ⟨vl', hvl⟩ : ∃ f : Nat → Int32, ∀ t, f t = if t < T then vl t else ov (t - T) := ⟨_, fun _ => rfl⟩
  have s1 : ∀ t, t < T → sl' t = sl t := fun t ht => (hsl t).trans (hs1 t ht)
  have v1 : ∀ t, t < T → vl' t = vl t := fun t ht => (hvl t).trans (hv1 t ht)
  have s2 : ∀ k, sl' (T + k) = os k := fun k => (hsl _).trans (hs2 k)
  have v2 : ∀ k, vl' (T + k) = ov k := fun k => (hvl _).trans (hv2 k)
  have hmx : ∀ x, 1 ≤ x → x < nx → B (x + 1) ≤ T := fun x q1 q2 => by rw [← hBn]; exact gB_mono hB (by omega) (by omega) (Nat.le_refl _)
  have hnow : ∀ u s, u ≤ T → nowO sl' vl' u s = nowO sl vl u s := fun u s hu => nowO_congr (fun t ht => ⟨s1 t (by omega), v1 t (by omega)⟩)
  refine ⟨⟨a1, hK, a3, cm_d_ok a4 a3 op (by omega)⟩, T + op, Fl, G, B', sl', sz', vl', ⟨?_, hbn, by omega, fun x q1 q2 => ?_⟩, ⟨⟨by omega, ?_, by omega⟩, ⟨p4.1, p4.2.1, ?_⟩, ⟨fun x q1 q2 => ?_, fun x q1 q2 => ?_, fun q => ?_⟩, fun t ht => ?_⟩, ⟨⟨by omega, by omega, by omega⟩, ⟨by omega, fun q => absurd q (by omega), fun q => absurd q (by omega)⟩, ⟨rfl, rfl, by omega, by omega, d5, d6⟩, ?_⟩, ⟨fun k hk => ?_, fun k hk => absurd hk (by omega)⟩, ⟨fun k hk => ?_, fun s hs => ⟨?_, ?_⟩⟩, ?_, ⟨?_, l2, fun k hk => ?_, fun x k q1 q2 q3 => ?_⟩, ⟨fun s hs j hj => ?_, fun s hs j hj => ?_⟩⟩
  · rw [hb 1 hnx]; exact hB.1
  · by_cases e : x = nx
    · subst e; rw [hb x (Nat.le_refl _), hbn, hBn]; omega
    · rw [hb x (by omega), hb (x + 1) (by omega)]; exact hB.2.2.2 x q1 (by omega)
  · rw [hb _ (by omega)]; exact p2
  · obtain ⟨g, g1, g2, g3⟩ := p4.2.2
    exact ⟨g, g1, g2, by rw [hb g (by omega)]; exact g3⟩
  · by_cases e : x = nx
    · rw [e]; exact hzn
    · rw [hz x (by omega)]; exact p5 x q1 (by omega)
  · rw [hz x (by omega)]; exact p6 x q1 q2
  · rw [hz sf p1, hb _ (by have := p6 sf q (Nat.le_refl _); omega)]; exact p7 q
  · by_cases e : t < T
    · rw [s1 t e]; exact p8 t e
    · obtain ⟨k, rfl⟩ : ∃ k, t = T + k := ⟨t - T, by omega⟩
      rw [s2 k]; exact (hF.2 k (by omega)).2.1
  · rw [if_pos rfl]; omega
  · by_cases e : k < mc
    · rw [s1 _ (by omega), v1 _ (by omega)]; exact hF.1 k e
    · obtain ⟨k', rfl⟩ : ∃ k', k = mc + k' := ⟨k - mc, by omega⟩
      obtain ⟨f1, f2, f3⟩ := hF.2 k' (by omega)
      rw [show Fl + (mc + k') = T + k' by omega, s2, v2]
      exact ⟨f1, f3⟩
  · rw [cmS_at, cmV_at, cmL_at]
    by_cases e : k < mc
    · rw [if_neg (show ¬ (mc ≤ k ∧ k < mc + op) by omega), if_neg (show ¬ (mc ≤ k ∧ k < mc + op) by omega), if_neg (show ¬ (mc ≤ k ∧ k < mc + op) by omega)]
      obtain ⟨m1, m2, m3, m4⟩ := hM.1 k e
      rw [s1 _ (by omega), v1 _ (by omega)]
      refine ⟨m1, m2, m3, m4.trans ⟨fun ⟨x, x1, x2, x3⟩ => ⟨x, x1, by omega, by rw [hb _ (by omega)]; exact x3⟩, fun ⟨x, x1, x2, x3⟩ => ?_⟩⟩
      by_cases e2 : x = nx
      · subst e2; rw [hbn] at x3; omega
      · rw [hb _ (by omega)] at x3; exact ⟨x, x1, by omega, x3⟩
    · rw [if_pos (show mc ≤ k ∧ k < mc + op by omega), if_pos (show mc ≤ k ∧ k < mc + op by omega), if_pos (show mc ≤ k ∧ k < mc + op by omega)]
      rw [show Fl + k = T + (k - mc) by omega, s2, v2]
      refine ⟨rfl, rfl, by split <;> omega, ⟨fun q => ⟨nx, p1, by omega, ?_⟩, fun ⟨x, x1, x2, x3⟩ => ?_⟩⟩
      · rw [hbn]
        split at q
        · omega
        · cases q
      · by_cases e2 : x = nx
        · subst e2; rw [hbn] at x3; rw [if_pos (by omega)]
        · rw [hb _ (by omega)] at x3
          have := hmx x (by omega) (by omega)
          omega
  · exact cmN_at (by rw [hnow T s (Nat.le_refl _)]; exact (hM.2 s hs).1) (fun j _ => ⟨s2 j, v2 j⟩)
  · rw [hnow Fl s c2]; exact (hM.2 s hs).2
  · rw [cm_d_1]; exact JI.congr hB p1 hb (fun t ht => ⟨s1 t ht, v1 t ht⟩) hz hJ
  · rw [cm_d_n]; omega
  · obtain ⟨t, t1, t2, t3⟩ := l3 k hk
    refine ⟨t, t1, t2, ?_⟩
    rw [cm_d_b, if_neg (by omega), s1 t (by omega)]; exact t3
  · by_cases e : x = nx
    · subst e
      rw [hb x (Nat.le_refl _), hbn, hBn] at q3
      rw [hb x (Nat.le_refl _), hBn]
      have hq : mh + (T + k - Fl) = d.2.2.2 + k := by omega
      rw [hq]
      obtain ⟨f1, f2, f3⟩ := hF.2 k (by omega)
      refine ⟨?_, fun j hj => ?_⟩
      · rw [cm_d_b, if_pos (by omega), show d.2.2.2 + k - d.2.2.2 = k by omega]; omega
      · rw [cm_d_L hj, if_pos (by omega), show d.2.2.2 + k - d.2.2.2 = k by omega, f1]
        simp only [jbk]
        rw [hb x (Nat.le_refl _), hbn, hBn, s2, v2, hzn, show T + op - T = op by omega]
        exact jblk_img (fun j hj => by rw [Nat.zero_add]; exact f3 j hj) j hj
    · have hx1 := hmx x (by omega) (by omega)
      rw [hb x (by omega), hb (x + 1) (by omega)] at q3
      rw [hb x (by omega)]
      obtain ⟨b1, b2⟩ := l4 x k q1 (by omega) q3
      have hge : Fl ≤ B x := by rw [← p2]; exact gB_mono hB (by omega) (by omega) (by omega)
      refine ⟨?_, fun j hj => ?_⟩
      · rw [cm_d_b, if_neg (by omega)]; exact b1
      · rw [cm_d_L hj, if_neg (by omega), jbk_congr (hb x (by omega)) (hb (x + 1) (by omega)) (s1 _ (by omega)) (hz x (by omega)) (v1 _ (by omega))]
        exact b2 j hj
  · rw [cm_d_v hs (by omega), hnow Fl s c2]; exact hS.1 s hs j hj
  · rw [cm_d_1, hnow G s (by omega)]; exact hS.2 s hs j hj
end IV
end
section
/-! flush keeps both sides together -/
theorem cn_mono (Q : Nat → Bool) {a : Nat} : ∀ {b}, a ≤ b → cnQ Q a ≤ cnQ Q b
  | 0, h => by rw [show a = 0 by omega]; exact Nat.le_refl _
  | b + 1, h => by
    by_cases e : a = b + 1
    · rw [e]; exact Nat.le_refl _
    · have ih := cn_mono Q (a := a) (b := b) (by omega)
      simp only [cnQ]
      omega
section FH
variable {F : Nat → Int32} {fs : Nat → Nat} {m : Nat} {d : DS}
theorem fl_h_t {k : Nat} (h : fl_l fs k m = true) : fl_h F fs m d (k + 1) = ds_write (ds_room (fl_h F fs m d k)) (52 + fs k) (hm_img F (496 * k)) := if_pos h
theorem fl_h_f {k : Nat} (h : ¬ fl_l fs k m = true) : fl_h F fs m d (k + 1) = fl_h F fs m d k := if_neg h
theorem fl_h_n (h0 : d.2.2.2 = 0) : ∀ {k}, k ≤ 47 → (fl_h F fs m d k).1 = d.1 ∧ (fl_h F fs m d k).2.2.2 = cnQ (fun q => fl_l fs q m) k
  | 0, _ => ⟨rfl, h0⟩
  | k + 1, hk => by
    obtain ⟨a, b⟩ := fl_h_n (k := k) h0 (by omega)
    have hl := cn_le (fun q => fl_l fs q m) k
    by_cases e : fl_l fs k m = true
    · rw [fl_h_t e, ds_room_id (by omega)]
      refine ⟨a, ?_⟩
      show (fl_h F fs m d k).2.2.2 + 1 = _
      rw [b]
      simp only [cnQ, if_pos e]
    · rw [fl_h_f e]
      refine ⟨a, ?_⟩
      rw [b]
      simp only [cnQ, if_neg e]
      omega
theorem fl_h_b (h0 : d.2.2.2 = 0) : ∀ {k}, k ≤ 47 → ∀ q, q < (fl_h F fs m d k).2.2.2 → ∃ j, j < k ∧ (fl_h F fs m d k).2.2.1 q = 52 + fs j
  | 0, _, q, hq => by
    have : q < d.2.2.2 := hq
    omega
  | k + 1, hk, q, hq => by
    have ih := fl_h_b (k := k) h0 (by omega)
    have hn := (fl_h_n (F := F) (fs := fs) (m := m) (k := k) h0 (by omega)).2
    have hl := cn_le (fun q => fl_l fs q m) k
    by_cases e : fl_l fs k m = true
    · rw [fl_h_t e, ds_room_id (by omega)] at hq ⊢
      have hq2 : q < (fl_h F fs m d k).2.2.2 + 1 := hq
      show ∃ j, j < k + 1 ∧ uN_ (fl_h F fs m d k).2.2.1 (fl_h F fs m d k).2.2.2 (52 + fs k) q = 52 + fs j
      by_cases e2 : q = (fl_h F fs m d k).2.2.2
      · exact ⟨k, by omega, by simp only [uN_, if_pos e2]⟩
      · obtain ⟨j, j1, j2⟩ := ih q (by omega)
        exact ⟨j, by omega, by simp only [uN_, if_neg e2]; exact j2⟩
    · rw [fl_h_f e] at hq ⊢
      obtain ⟨j, j1, j2⟩ := ih q hq
      exact ⟨j, by omega, j2⟩
theorem fl_h_v (hs : ∀ k, k < m → fs k < 212) : ∀ {k}, k ≤ m → ∀ s, s < 212 → ∀ j, j < 496 → (∀ q, q < k → fl_l fs q m = true → fs q = s → ds_view (fl_h F fs m d k) (52 + s) j = F (496 * q + j)) ∧ ((∀ q, q < k → fl_l fs q m = true → fs q ≠ s) → ds_view (fl_h F fs m d k) (52 + s) j = ds_view d (52 + s) j)
  | 0, _, s, _, j, _ => ⟨fun q hq => absurd hq (Nat.not_lt_zero q), fun _ => rfl⟩
  | k + 1, hk, s, hs2, j, hj => by
    obtain ⟨ia, ib⟩ := fl_h_v hs (k := k) (by omega) s hs2 j hj
    by_cases e : fl_l fs k m = true
    · have hv : ds_view (fl_h F fs m d (k + 1)) (52 + s) j = if s = fs k then F (496 * k + j) else ds_view (fl_h F fs m d k) (52 + s) j := by
        rw [fl_h_t e]
        refine (ds_write_view _ _ _ (52 + s) (by omega) j (by omega)).trans ?_
        simp only [vup]
        by_cases e2 : s = fs k
        · rw [if_pos (by omega), if_pos e2]
          simp only [hm_img, if_pos hj]
        · rw [if_neg (by omega), if_neg e2]
          exact ds_room_view _ (52 + s) (by omega) j (by omega)
      rw [hv]
      by_cases e2 : s = fs k
      · rw [if_pos e2]
        refine ⟨fun q hq hl hf => ?_, fun hn => absurd e2.symm (hn k (by omega) e)⟩
        by_cases e3 : q = k
        · rw [e3]
        · exact absurd (e2.symm.trans hf.symm) (fl_l_iff.mp hl k (by omega) (by omega))
      · rw [if_neg e2]
        refine ⟨fun q hq hl hf => ?_, fun hn => ib (fun q hq hl => hn q (by omega) hl)⟩
        by_cases e3 : q = k
        · rw [e3] at hf; exact absurd hf.symm e2
        · exact ia q (by omega) hl hf
    · rw [fl_h_f e]
      refine ⟨fun q hq hl hf => ?_, fun hn => ib (fun q hq hl => hn q (by omega) hl)⟩
      by_cases e3 : q = k
      · rw [e3] at hl; exact absurd hl e
      · exact ia q (by omega) hl hf
end FH
theorem di_n_congr {ms fs : Nat → Nat} {m : Nat} (h : ∀ k, k < m → ms k = fs k) : ∀ {k}, k ≤ m → di_n ms k = di_n fs k
  | 0, _ => rfl
  | k + 1, hk => by
    have ih := di_n_congr h (k := k) (by omega)
    have e : di_f ms k k = di_f fs k k := by
      have : di_f ms k k = true ↔ di_f fs k k = true := by
        rw [di_f_iff, di_f_iff]
        constructor
        · intro q j hj; rw [← h j (by omega), ← h k (by omega)]; exact q j hj
        · intro q j hj; rw [h j (by omega), h k (by omega)]; exact q j hj
      cases h1 : di_f ms k k <;> cases h2 : di_f fs k k <;> simp [h1, h2] at this ⊢
    simp only [di_n, ih, e]
/-- a late block of the journal, by its place -/
theorem LI.find {d : DS} {h fm sf nx Fl G T : Nat} {B sl sz : Nat → Nat} {vl : Nat → Int32} (hL : LI d h fm sf nx Fl G B sl sz vl) (hB : gB nx T B) (hsf : sf < nx) (hFl : B (sf + 1) = Fl) (hfm : fm = T - Fl) {k : Nat} (hk : k < d.2.2.2) (hk2 : d.2.2.1 k < 52) : ∃ x y, sf < x ∧ x < nx ∧ y < B (x + 1) - B x ∧ k = h + (B x + y - Fl) ∧ Fl ≤ B x + y ∧ B x + y < T := by
  obtain ⟨l1, l2, l3, l4⟩ := hL
  have hge : h ≤ k := by
    refine Nat.le_of_not_lt (fun q => ?_)
    obtain ⟨t, t1, t2, t3⟩ := l3 k q
    omega
  have hBn := hB.2.1
  obtain ⟨x, y, q1, q2, q3, q4⟩ := gB_find hB (t := Fl + (k - h)) (a := sf + 1) (by omega) (by omega) (b := nx) (by omega) (Nat.le_refl _) (by omega)
  exact ⟨x, y, by omega, q2, q3, by omega, by omega, by omega⟩
/-- where the journal's late blocks lie on the platter when they land: nowhere twice -/
theorem LI.uniq {d : DS} {h fm sf nx Fl G T : Nat} {B sl sz : Nat → Nat} {vl : Nat → Int32} (hL : LI d h fm sf nx Fl G B sl sz vl) (hB : gB nx T B) (hsf : sf < nx) (hFl : B (sf + 1) = Fl) (hfm : fm = T - Fl) (h24 : T ≤ Fl + 24) {k x y : Nat} (hk : k < d.2.2.2) (x1 : sf < x) (x2 : x < nx) (x3 : y < B (x + 1) - B x) (e : d.2.2.1 k = (B x + y) % 52) : k = h + (B x + y - Fl) := by
  have hlt := Nat.mod_lt (B x + y) (show 0 < 52 by omega)
  obtain ⟨x', y', q1, q2, q3, q4, q5, q6⟩ := hL.find hB hsf hFl hfm hk (by omega)
  have e2 := (hL.2.2.2 x' y' q1 q2 q3).1
  rw [← q4] at e2
  have hx : Fl ≤ B x := by rw [← hFl]; exact gB_mono hB (by omega) (by omega) (by omega)
  have hx2 : B (x + 1) ≤ T := by rw [← hB.2.1]; exact gB_mono hB (by omega) (by omega) (Nat.le_refl _)
  omega
theorem dk_last_is {b : Nat → Nat} {x n k : Nat} (hk : k < n) (hb : b k = x) (hu : ∀ i, i < n → b i = x → i = k) : dk_last b x n = some k := by
  cases h : dk_last b x n with
  | none => exact absurd hb (dk_last_none h k hk)
  | some i => rw [hu i (dk_last_lt h).1 (dk_last_lt h).2]
section IV
variable {i ch fl cr : Nat} {I : Nat → Int32} {fm op nx pl sf : Nat} {K F : Nat → Int32} {fs : Nat → Nat} {d : DS} {fd nw : Nat → Int32} {ms : Nat → Nat} {mv : Nat → Int32} {ml os : Nat → Nat} {ov : Nat → Int32} {mc mh mo md mi mf mr : Nat}
set_option maxHeartbeats 4000000 in
theorem Inv.flush {K' : Nat → Int32} {op' : Nat} (hi : i < 512) (hK : sb_Fit K') (h : Inv i ch fl cr I fm op nx pl sf K F fs d fd nw ms mv ml os ov mc mh mo md mi mf mr) : Inv i 0 (fl + 1) cr I 0 op' nx pl (nx - 1) K' F fs (fl_h F fs fm (ds_flush d) fm) (prf nw fd 212) nw ms mv ml os ov 0 (di_n ms mc) 0 md 0 (mf + 1) mr := by
  obtain ⟨⟨a1, a2, a3, a4⟩, T, Fl, G, B, sl, sz, vl, hB, ⟨⟨p1, p2, p3⟩, p4, ⟨p5, p6, p7⟩, p8⟩, ⟨⟨c1, c2, c3⟩, ⟨c4, c5, c6⟩, ⟨d1, d2, d3, d4, d5, d6⟩, c7⟩, hF, hM, hJ, hL, hS⟩ := h
  have hnx := hB.2.2.1
  have hBn := hB.2.1
  have l1 := hL.1
  have hfs : ∀ k, k < fm → fs k < 212 := fun k hk => by rw [(hF.1 k hk).1]; exact p8 _ (by omega)
  have hmsfs : ∀ k, k < fm → ms k = fs k := fun k hk => (hM.1 k hk).1.trans (hF.1 k hk).1.symm
  have hnx2 : nx - 1 ≤ 255 := by split at c7 <;> omega
  have hmx : ∀ x, 1 ≤ x → x < nx → B (x + 1) ≤ T := fun x q1 q2 => by rw [← hBn]; exact gB_mono hB (by omega) (by omega) (Nat.le_refl _)
  have hge : ∀ x, sf < x → x ≤ nx → Fl ≤ B x := fun x q1 q2 => by rw [← p2]; exact gB_mono hB (by omega) (by omega) q2
  have hlo : ∀ x, 1 ≤ x → x ≤ sf → B (x + 1) ≤ Fl := fun x q1 q2 => by rw [← p2]; exact gB_mono hB (by omega) (by omega) (by omega)
  have hP1 := (fl_h_n (F := F) (fs := fs) (m := fm) (d := ds_flush d) (k := fm) rfl (by omega)).1
  have hN1 := (fl_h_n (F := F) (fs := fs) (m := fm) (d := ds_flush d) (k := fm) rfl (by omega)).2
  have hcnt : cnQ (fun q => fl_l fs q fm) fm = di_n ms mc := by rw [la_di, d1, di_n_congr hmsfs (Nat.le_refl _)]
  have hdl := di_n_le ms mc
  -- the platter behind the flush
  have hpl : ∀ x j, j < 512 → (ds_flush d).1 (512 * x + j) = ds_view d x j := fun x j hj => dk_fl_at hj _
  have hnew : ∀ x y, sf < x → x < nx → y < B (x + 1) - B x → ∀ j, j < 512 → ds_view d ((B x + y) % 52) j = jbk B sl sz vl x y j := by
    intro x y x1 x2 x3 j hj
    have hk : mh + (B x + y - Fl) < d.2.2.2 := by have := hmx x (by omega) x2; have := hge x x1 (by omega); omega
    have e := dk_last_is (b := d.2.2.1) (x := (B x + y) % 52) (n := d.2.2.2) hk (hL.2.2.2 x y x1 x2 x3).1 (fun q q1 q2 => hL.uniq hB p1 p2 c1 p3 q1 x1 x2 x3 q2)
    simp only [ds_view, e]
    exact (hL.2.2.2 x y x1 x2 x3).2 j hj
  have hold : ∀ p, p < 52 → (∀ x y, sf < x → x < nx → y < B (x + 1) - B x → (B x + y) % 52 ≠ p) → ∀ j, ds_view d p j = Bk d.1 p j := by
    intro p hp hno j
    have e : dk_last d.2.2.1 p d.2.2.2 = none := dk_last_no (fun k hk q => by
      obtain ⟨x, y, q1, q2, q3, q4, -, -⟩ := hL.find hB p1 p2 c1 hk (by omega)
      have e2 := (hL.2.2.2 x y q1 q2 q3).1
      rw [← q4, q] at e2
      exact hno x y q1 q2 q3 e2.symm)
    simp only [ds_view, e]
    rfl
  have hcase : ∀ p, (∃ x y, sf < x ∧ x < nx ∧ y < B (x + 1) - B x ∧ (B x + y) % 52 = p) ∨ ∀ x y, sf < x → x < nx → y < B (x + 1) - B x → (B x + y) % 52 ≠ p := fun p => by
    by_cases q : ∃ x y, sf < x ∧ x < nx ∧ y < B (x + 1) - B x ∧ (B x + y) % 52 = p
    · exact Or.inl q
    · exact Or.inr (fun x y x1 x2 x3 x4 => q ⟨x, y, x1, x2, x3, x4⟩)
  refine ⟨⟨a1, hK, a3, fl_h_ok (ds_flush_ok a4) a3 hfs (Nat.le_refl _)⟩, T, T, Fl, B, sl, sz, vl, hB, ⟨⟨by omega, by rw [show nx - 1 + 1 = nx by omega]; exact hBn, by omega⟩, ⟨c2, p3, sf + 1, by omega, by omega, p2⟩, ⟨fun x q1 q2 => absurd q2 (by omega), fun x q1 q2 => ?_, fun q => ?_⟩, p8⟩, ⟨⟨by omega, Nat.le_refl _, c3⟩, ⟨by omega, fun q => absurd q (by omega), fun q => absurd q (by omega)⟩, ⟨rfl, rfl, d3, by omega, by omega, d6⟩, ?_⟩, ⟨fun k hk => absurd hk (by omega), fun k hk => absurd hk (by omega)⟩, ⟨fun k hk => absurd hk (by omega), fun s hs => ⟨(hM.2 s hs).1, ?_⟩⟩, ⟨fun p hp => ?_, fun x k q1 q2 q3 q4 j hj => ?_, fun p hp => ?_⟩, ⟨by rw [hN1, hcnt]; omega, by omega, fun k hk => ?_, fun x k q1 q2 => absurd q2 (by omega)⟩, ⟨fun s hs j hj => ?_, fun s hs j hj => ?_⟩⟩
  · by_cases e : x ≤ sf
    · exact p6 x q1 e
    · rw [p5 x (by omega) (by omega)]; omega
  · by_cases e : nx - 1 ≤ sf
    · have e2 : nx - 1 = sf := by omega
      have e3 : T = Fl := by rw [← hBn, ← p2]; congr 1; omega
      rw [e2, e3]; exact p7 (by omega)
    · rw [p5 (nx - 1) (by omega) (by omega), p2]; exact p3
  · rw [if_pos rfl]; split at c7 <;> omega
  · rw [prf_at hs]; exact (hM.2 s hs).1
  · rw [hP1]
    rcases hcase p with ⟨x, y, x1, x2, x3, x4⟩ | hno
    · refine Or.inr ⟨x, y, by omega, by omega, x3, x4, by have := hge x x1 (by omega); omega, fun j hj => ?_⟩
      rw [← x4]
      exact (hpl _ j hj).trans (hnew x y x1 x2 x3 j hj)
    · have hb : ∀ j, j < 512 → Bk (ds_flush d).1 p j = Bk d.1 p j := fun j hj => (hpl p j hj).trans (hold p hp hno j)
      rcases hJ.1 p hp with q | ⟨x, k, q1, q2, q3, q4, q5, q6⟩
      · refine Or.inl (fun z => q ?_)
        obtain ⟨z1, z2, z3, z4⟩ := z
        have e0 : b4_get (Bk (ds_flush d).1 p) 0 = b4_get (Bk d.1 p) 0 := b4_get_congr (hb _ (by omega)) (hb _ (by omega)) (hb _ (by omega)) (hb _ (by omega))
        have e8 : b4_get (Bk (ds_flush d).1 p) 508 = b4_get (Bk d.1 p) 508 := b4_get_congr (hb _ (by omega)) (hb _ (by omega)) (hb _ (by omega)) (hb _ (by omega))
        rw [e0] at z1 z2
        rw [e8] at z2
        rw [hb 5 (by omega)] at z3 z4
        rw [hb 4 (by omega)] at z4
        exact ⟨z1, z2, z3, z4⟩
      · refine Or.inr ⟨x, k, q1, by omega, q3, q4, ?_, fun j hj => (hb j hj).trans (q6 j hj)⟩
        refine Nat.le_of_not_lt (fun z => ?_)
        obtain ⟨x', y', w1, w2, w3, w4⟩ := gB_find hB (t := B x + k + 52) (a := sf + 1) (by omega) (by omega) (b := nx) (by omega) (Nat.le_refl _) (by omega)
        exact hno x' y' (by omega) w2 w3 (by omega)
  · rw [hP1]
    have hx1 := hmx x q1 (by omega)
    by_cases e : x ≤ sf
    · have hx2 := hlo x q1 e
      have hno : ∀ x' y', sf < x' → x' < nx → y' < B (x' + 1) - B x' → (B x' + y') % 52 ≠ (B x + k) % 52 := fun x' y' w1 w2 w3 w4 => by
        have := hge x' w1 (by omega)
        have := hmx x' (by omega) w2
        omega
      exact ((hpl _ j hj).trans (hold _ (Nat.mod_lt _ (by omega)) hno j)).trans (hJ.2.1 x k q1 e q3 (by omega) j hj)
    · exact (hpl _ j hj).trans (hnew x k (by omega) (by omega) q3 j hj)
  · rw [hP1]
    rcases hcase p with ⟨x, y, x1, x2, x3, x4⟩ | hno
    · have hb : ∀ j, j < 512 → Bk (ds_flush d).1 p j = jbk B sl sz vl x y j := fun j hj => by rw [← x4]; exact (hpl _ j hj).trans (hnew x y x1 x2 x3 j hj)
      obtain ⟨w1, w2, w3, w4⟩ := jb_508 (nx := x) (k := y) (op := B (x + 1) - B x) (x := sl (B x + y)) (sf := sz x) (F := imgv (vl (B x + y))) (a := 0) (Z := fun _ => 0) (by omega)
      exact ⟨fun j hj => (hb j (by omega)).trans (jb_0 (by omega) hj), ⟨(hb _ (by omega)).trans w1, (hb _ (by omega)).trans w2, (hb _ (by omega)).trans w3⟩, x, by omega, (hb _ (by omega)).trans w4⟩
    · have hb : ∀ j, j < 512 → Bk (ds_flush d).1 p j = Bk d.1 p j := fun j hj => (hpl p j hj).trans (hold p hp hno j)
      obtain ⟨w1, ⟨w2, w3, w4⟩, n, w5, w6⟩ := hJ.2.2 p hp
      exact ⟨fun j hj => (hb j (by omega)).trans (w1 j hj), ⟨(hb _ (by omega)).trans w2, (hb _ (by omega)).trans w3, (hb _ (by omega)).trans w4⟩, n, by omega, (hb _ (by omega)).trans w6⟩
  · obtain ⟨j, j1, j2⟩ := fl_h_b (F := F) (fs := fs) (m := fm) (d := ds_flush d) (k := fm) rfl (by omega) k (by rw [hN1, hcnt]; exact hk)
    refine ⟨Fl + j, by omega, by omega, ?_⟩
    rw [j2, (hF.1 j j1).1]
  · obtain ⟨va, vb⟩ := fl_h_v (F := F) (fs := fs) (m := fm) (d := ds_flush d) hfs (Nat.le_refl _) s hs j hj
    cases hl : dk_last fs s fm with
    | some k =>
      obtain ⟨k1, k2⟩ := dk_last_lt hl
      have hmax := dk_last_max hl
      rw [va k k1 (fl_l_iff.mpr (fun q q1 q2 => by rw [k2]; exact hmax q q1 q2)) k2]
      obtain ⟨f1, f2⟩ := hF.1 k k1
      rw [nowO_last (i := Fl + k) (by omega) (f1.symm.trans k2) (fun t h1 h2 => by
        have q := hmax (t - Fl) (by omega) (by omega)
        rw [(hF.1 (t - Fl) (by omega)).1, show Fl + (t - Fl) = t by omega] at q
        exact q)]
      exact f2 j hj
    | none =>
      have hno := dk_last_none hl
      rw [vb (fun q q1 _ => hno q q1)]
      rw [nowO_skip (t := Fl) c2 (fun t h1 h2 => by
        have q := hno (t - Fl) (by omega)
        rw [(hF.1 (t - Fl) (by omega)).1, show Fl + (t - Fl) = t by omega] at q
        exact q)]
      exact (ds_flush_view d (52 + s) (by omega) j (by omega)).trans (hS.1 s hs j hj)
  · rw [hP1]
    exact (hpl _ j (by omega)).trans (hS.1 s hs j hj)
end IV
end
section
/-! behind a crash: what the journal's blocks are -/
theorem dk_cr_none {L P : Nat → Int32} {b : Nat → Nat} {mask : Int32} {z x j : Nat} (hj : j < 512) (hz : z ≤ 512) : ∀ {n}, (∀ k, k < n → b k ≠ x) → dk_cr L b P mask z n (512 * x + j) = P (512 * x + j)
  | 0, _ => rfl
  | n + 1, h => by
    rw [dk_cr_at hj hz, if_neg (fun q => h n (by omega) q.1.symm)]
    exact dk_cr_none hj hz (n := n) (fun k hk => h k (by omega))
theorem dk_cr_one {L P : Nat → Int32} {b : Nat → Nat} {mask : Int32} {z x j k : Nat} (hj : j < 512) (hz : z ≤ 512) (hb : b k = x) : ∀ {n}, k < n → (∀ i, i < n → b i = x → i = k) → dk_cr L b P mask z n (512 * x + j) = if dk_bit mask k = true ∨ (dk_miss mask k = false ∧ j < z) then L (512 * k + j) else P (512 * x + j)
  | 0, hk, _ => absurd hk (Nat.not_lt_zero k)
  | n + 1, hk, hu => by
    rw [dk_cr_at hj hz]
    by_cases e : k = n
    · subst e
      rw [dk_cr_none hj hz (n := k) (fun i hi q => by have := hu i (by omega) q; omega)]
      by_cases q : dk_bit mask k = true ∨ (dk_miss mask k = false ∧ j < z)
      · rw [if_pos ⟨hb.symm, q⟩, if_pos q]
      · rw [if_neg (fun w => q w.2), if_neg q]
    · rw [if_neg (fun q => e ((hu n (by omega) q.1.symm).symm))]
      exact dk_cr_one hj hz hb (n := n) (by omega) (fun i hi q => hu i (by omega) q)
theorem rc_s_congr {A B : Nat → Int32} (h : ∀ j, j < 512 → A j = B j) : rc_s A ↔ rc_s B := by
  have e0 : b4_get A 0 = b4_get B 0 := b4_get_congr (h _ (by omega)) (h _ (by omega)) (h _ (by omega)) (h _ (by omega))
  have e8 : b4_get A 508 = b4_get B 508 := b4_get_congr (h _ (by omega)) (h _ (by omega)) (h _ (by omega)) (h _ (by omega))
  simp only [rc_s, e0, e8, h 5 (by omega), h 4 (by omega)]
/-- what holds before a crash -/
def CrH (d : DS) (z mh fm sf nx T Fl G : Nat) (B sl sz : Nat → Nat) (vl : Nat → Int32) : Prop :=
  gB nx T B ∧ (sf < nx ∧ B (sf + 1) = Fl ∧ fm = T - Fl ∧ Fl ≤ T ∧ T ≤ Fl + 24) ∧ JI d.1 sf Fl B sl sz vl ∧ LI d mh fm sf nx Fl G B sl sz vl ∧ nx ≤ 256 ∧ z ≤ 500
/-- no block of the journal landed at place p -/
def nol (mask : Int32) (mh sf nx Fl : Nat) (B : Nat → Nat) (p : Nat) : Prop := ∀ x y, sf < x → x < nx → y < B (x + 1) - B x → (B x + y) % 52 = p → ¬ dk_bit mask (mh + (B x + y - Fl)) = true
section CR
variable {d : DS} {mask : Int32} {z mh fm sf nx T Fl G : Nat} {B sl sz : Nat → Nat} {vl : Nat → Int32}
theorem CrH.hi (h : CrH d z mh fm sf nx T Fl G B sl sz vl) {x : Nat} (x1 : 1 ≤ x) (x2 : x < nx) : B (x + 1) ≤ T := by rw [← h.1.2.1]; exact gB_mono h.1 (by omega) (by omega) (Nat.le_refl _)
theorem CrH.ge (h : CrH d z mh fm sf nx T Fl G B sl sz vl) {x : Nat} (x1 : sf < x) (x2 : x ≤ nx) : Fl ≤ B x := by rw [← h.2.1.2.1]; exact gB_mono h.1 (by omega) (by omega) x2
theorem CrH.lo (h : CrH d z mh fm sf nx T Fl G B sl sz vl) {x : Nat} (x1 : 1 ≤ x) (x2 : x ≤ sf) : B (x + 1) ≤ Fl := by rw [← h.2.1.2.1]; exact gB_mono h.1 (by omega) (by omega) (by have := h.2.1.1; omega)
theorem CrH.size (h : CrH d z mh fm sf nx T Fl G B sl sz vl) {x : Nat} (x1 : 1 ≤ x) (x2 : x < nx) : 1 ≤ B (x + 1) - B x ∧ B (x + 1) - B x ≤ 17 ∧ B x + (B (x + 1) - B x) = B (x + 1) := by have := h.1.2.2.2 x x1 x2; omega
theorem CrH.late (h : CrH d z mh fm sf nx T Fl G B sl sz vl) {x y : Nat} (x1 : sf < x) (x2 : x < nx) (x3 : y < B (x + 1) - B x) {j : Nat} (hj : j < 512) : ds_view (ds_crash d mask z) ((B x + y) % 52) j = if dk_bit mask (mh + (B x + y - Fl)) = true ∨ (dk_miss mask (mh + (B x + y - Fl)) = false ∧ j < z) then jbk B sl sz vl x y j else Bk d.1 ((B x + y) % 52) j := by
  obtain ⟨hB, ⟨p1, p2, c1, c2, p3⟩, hJ, hL, hn, hz⟩ := id h
  have hk : mh + (B x + y - Fl) < d.2.2.2 := by have := h.hi (x := x) (by omega) x2; have := h.ge x1 (by omega); have := hL.1; omega
  rw [ds_view_0 rfl]
  show dk_cr d.2.1 d.2.2.1 d.1 mask z d.2.2.2 _ = _
  rw [dk_cr_one hj (by omega) (hL.2.2.2 x y x1 x2 x3).1 hk (fun q q1 q2 => hL.uniq hB p1 p2 c1 p3 q1 x1 x2 x3 q2), (hL.2.2.2 x y x1 x2 x3).2 j hj]
  rfl
theorem CrH.old (h : CrH d z mh fm sf nx T Fl G B sl sz vl) {p : Nat} (hp : p < 52) (hno : ∀ x y, sf < x → x < nx → y < B (x + 1) - B x → (B x + y) % 52 ≠ p) {j : Nat} (hj : j < 512) : ds_view (ds_crash d mask z) p j = Bk d.1 p j := by
  obtain ⟨hB, ⟨p1, p2, c1, c2, p3⟩, hJ, hL, hn, hz⟩ := id h
  rw [ds_view_0 rfl]
  exact dk_cr_none hj (by omega) (fun k hk q => by
    obtain ⟨x, y, q1, q2, q3, q4, -, -⟩ := hL.find hB p1 p2 c1 hk (by omega)
    have e2 := (hL.2.2.2 x y q1 q2 q3).1
    rw [← q4, q] at e2
    exact hno x y q1 q2 q3 e2.symm)
/-- three things can have become of a block of the journal: it landed; it is as it was; it is torn -/
theorem CrH.state (h : CrH d z mh fm sf nx T Fl G B sl sz vl) (mask : Int32) {p : Nat} (hp : p < 52) :
    (∃ x y, sf < x ∧ x < nx ∧ y < B (x + 1) - B x ∧ (B x + y) % 52 = p ∧ dk_bit mask (mh + (B x + y - Fl)) = true ∧ ∀ j, j < 512 → ds_view (ds_crash d mask z) p j = jbk B sl sz vl x y j) ∨
    (nol mask mh sf nx Fl B p ∧ ((∀ j, j < 512 → ds_view (ds_crash d mask z) p j = Bk d.1 p j) ∨
      (¬ rc_s (ds_view (ds_crash d mask z) p) ∧ (∀ j, j < 3 → ds_view (ds_crash d mask z) p j = 0) ∧ ∀ j, 500 ≤ j → j < 512 → ds_view (ds_crash d mask z) p j = Bk d.1 p j))) := by
  obtain ⟨hB, ⟨p1, p2, c1, c2, p3⟩, hJ, hL, hn, hz⟩ := id h
  by_cases hc : ∃ x y, sf < x ∧ x < nx ∧ y < B (x + 1) - B x ∧ (B x + y) % 52 = p
  · obtain ⟨x, y, x1, x2, x3, x4⟩ := hc
    have hv : ∀ j, j < 512 → ds_view (ds_crash d mask z) p j = if dk_bit mask (mh + (B x + y - Fl)) = true ∨ (dk_miss mask (mh + (B x + y - Fl)) = false ∧ j < z) then jbk B sl sz vl x y j else Bk d.1 p j := fun j hj => by rw [← x4]; exact h.late x1 x2 x3 hj
    by_cases hb : dk_bit mask (mh + (B x + y - Fl)) = true
    · refine Or.inl ⟨x, y, x1, x2, x3, x4, hb, fun j hj => ?_⟩
      rw [hv j hj, if_pos (Or.inl hb)]
    · have hnl : nol mask mh sf nx Fl B p := fun x' y' w1 w2 w3 w4 => by
        have e : B x' + y' = B x + y := by
          have a1 := h.ge w1 (by omega); have a2 := h.hi (x := x') (by omega) w2; have a3 := h.ge x1 (by omega); have a4 := h.hi (x := x) (by omega) x2
          omega
        rw [e]; exact hb
      refine Or.inr ⟨hnl, ?_⟩
      by_cases hm : dk_miss mask (mh + (B x + y - Fl)) = false
      · obtain ⟨w1, ⟨w2, w3, w4⟩, n, w5, w6⟩ := hJ.2.2 p hp
        by_cases hz4 : z < 4
        · refine Or.inl (fun j hj => ?_)
          rw [hv j hj]
          by_cases hjz : j < z
          · rw [if_pos (Or.inr ⟨hm, hjz⟩), w1 j (by omega)]
            exact jb_0 (by omega) (by omega)
          · rw [if_neg (fun q => q.elim hb (fun w => hjz w.2))]
        · refine Or.inr ⟨fun q => ?_, fun j hj => ?_, fun j h1 h2 => ?_⟩
          · have e0 : b4_get (ds_view (ds_crash d mask z) p) 0 = nI x := by
              refine Eq.trans ?_ (jb_front (nx := x) (k := y) (op := B (x + 1) - B x) (x := sl (B x + y)) (sf := sz x) (F := imgv (vl (B x + y))) (a := 0) (Z := fun _ => 0))
              refine b4_get_congr ?_ ?_ ?_ ?_
              · rw [hv _ (by omega), if_pos (Or.inr ⟨hm, by omega⟩)]; rfl
              · rw [hv _ (by omega), if_pos (Or.inr ⟨hm, by omega⟩)]; rfl
              · rw [hv _ (by omega), if_pos (Or.inr ⟨hm, by omega⟩)]; rfl
              · rw [hv _ (by omega), if_pos (Or.inr ⟨hm, by omega⟩)]; rfl
            have ho : ∀ j, 500 ≤ j → j < 512 → ds_view (ds_crash d mask z) p j = Bk d.1 p j := fun j h1 h2 => by rw [hv j h2, if_neg (fun q => q.elim hb (fun w => by omega))]
            have e8 : b4_get (ds_view (ds_crash d mask z) p) 508 = nI n := b4_small (by omega) ((ho _ (by omega) (by omega)).trans w2) ((ho _ (by omega) (by omega)).trans w3) ((ho _ (by omega) (by omega)).trans w4) ((ho _ (by omega) (by omega)).trans w6)
            have e := q.2.1
            rw [e0, e8] at e
            have := (nI_eq (by omega) (by omega)).mp e
            omega
          · rw [hv j (by omega), if_pos (Or.inr ⟨hm, by omega⟩)]
            exact jb_0 (by omega) hj
          · rw [hv j h2, if_neg (fun q => q.elim hb (fun w => by omega))]
      · refine Or.inl (fun j hj => ?_)
        rw [hv j hj, if_neg (fun q => q.elim hb (fun w => hm w.1))]
  · have hno : ∀ x y, sf < x → x < nx → y < B (x + 1) - B x → (B x + y) % 52 ≠ p := fun x y x1 x2 x3 x4 => hc ⟨x, y, x1, x2, x3, x4⟩
    exact Or.inr ⟨fun x y x1 x2 x3 x4 => absurd x4 (hno x y x1 x2 x3), Or.inl (fun j hj => h.old hp hno hj)⟩
/-- what stands is a block of the history -/
theorem CrH.stand (h : CrH d z mh fm sf nx T Fl G B sl sz vl) (mask : Int32) {p : Nat} (hp : p < 52) (hs : rc_s (ds_view (ds_crash d mask z) p)) :
    ∃ x y, 1 ≤ x ∧ x < nx ∧ y < B (x + 1) - B x ∧ (B x + y) % 52 = p ∧ (∀ j, j < 512 → ds_view (ds_crash d mask z) p j = jbk B sl sz vl x y j) ∧ (sf < x → dk_bit mask (mh + (B x + y - Fl)) = true) ∧ (x ≤ sf → Fl ≤ B x + y + 52 ∧ nol mask mh sf nx Fl B p) := by
  rcases h.state mask hp with ⟨x, y, x1, x2, x3, x4, x5, x6⟩ | ⟨hn, q | q⟩
  · exact ⟨x, y, by omega, x2, x3, x4, x6, fun _ => x5, fun w => absurd w (by omega)⟩
  · rcases h.2.2.1.1 p hp with w | ⟨x, y, q1, q2, q3, q4, q5, q6⟩
    · exact absurd ((rc_s_congr q).mp hs) w
    · exact ⟨x, y, q1, by have := h.2.1.1; omega, q3, q4, fun j hj => (q j hj).trans (q6 j hj), fun w => absurd w (by omega), fun _ => ⟨q5, hn⟩⟩
  · exact absurd hs q.1
/-- a block that reads as one of the history stands, and says what it is -/
theorem CrH.says (h : CrH d z mh fm sf nx T Fl G B sl sz vl) {V : Nat → Nat → Int32} {p x y : Nat} (x1 : 1 ≤ x) (x2 : x < nx) (x3 : y < B (x + 1) - B x) (hV : ∀ j, j < 512 → V p j = jbk B sl sz vl x y j) : rc_s (V p) ∧ rc_nb V p = nI x ∧ rc_ct V p = nI (B (x + 1) - B x) ∧ rc_pt V p = nI y ∧ b4_get (V p) 8 = nI (sz x) ∧ (sl (B x + y) < 256 → V p 6 &&& nI 255 = nI (sl (B x + y))) := by
  have hsz := h.size x1 x2
  have hn := h.2.2.2.2.1
  have hs : rc_s (V p) := (rc_s_congr hV).mpr (jb_stands (by omega) (by omega) hsz.1 hsz.2.1 x3)
  refine ⟨hs, ?_, ?_, ?_, ?_, fun h6 => ?_⟩
  · rw [rc_nb_t hs]
    exact (b4_get_congr (hV _ (by omega)) (hV _ (by omega)) (hV _ (by omega)) (hV _ (by omega))).trans jb_front
  · exact (hV 5 (by omega)).trans (jb_5.trans (byt_lo _ (by omega)))
  · exact (hV 4 (by omega)).trans (jb_4.trans (byt_lo _ (by omega)))
  · exact (b4_get_congr (hV _ (by omega)) (hV _ (by omega)) (hV _ (by omega)) (hV _ (by omega))).trans jb_safe
  · rw [hV 6 (by omega)]
    show jblk _ _ _ _ _ _ _ _ 6 &&& nI 255 = _
    rw [jb_6]; exact byt_255 _ h6
/-- the blocks that bear the number of deed x -/
theorem CrH.num (h : CrH d z mh fm sf nx T Fl G B sl sz vl) (mask : Int32) {p x : Nat} (hp : p < 52) (x1 : 1 ≤ x) (x2 : x < 2 ^ 30) (hq : rc_nb (ds_view (ds_crash d mask z)) p = nI x) : x < nx ∧ ∃ y, y < B (x + 1) - B x ∧ (B x + y) % 52 = p ∧ (∀ j, j < 512 → ds_view (ds_crash d mask z) p j = jbk B sl sz vl x y j) ∧ (sf < x → dk_bit mask (mh + (B x + y - Fl)) = true) ∧ (x ≤ sf → Fl ≤ B x + y + 52 ∧ nol mask mh sf nx Fl B p) := by
  by_cases hs : rc_s (ds_view (ds_crash d mask z) p)
  · obtain ⟨x', y, q1, q2, q3, q4, q5, q6, q7⟩ := h.stand mask hp hs
    have e := (h.says q1 q2 q3 q5).2.1
    rw [hq] at e
    have e2 := (nI_eq (by omega) (by have := h.2.2.2.2.1; omega)).mp e
    subst e2
    exact ⟨q2, y, q3, q4, q5, q6, q7⟩
  · rw [rc_nb_f hs] at hq
    exact absurd hq.symm (nI_ne0 (by omega) (by omega))
theorem CrH.held (h : CrH d z mh fm sf nx T Fl G B sl sz vl) (mask : Int32) {x y : Nat} (x1 : 1 ≤ x) (x2 : x < nx) (x3 : y < B (x + 1) - B x) : rc_nb (ds_view (ds_crash d mask z)) ((B x + y) % 52) = nI x ↔ ∀ j, j < 512 → ds_view (ds_crash d mask z) ((B x + y) % 52) j = jbk B sl sz vl x y j := by
  constructor
  · intro q
    obtain ⟨-, y', q1, q2, q3, -⟩ := h.num mask (Nat.mod_lt _ (by omega)) x1 (by have := h.2.2.2.2.1; omega) q
    have hsz := h.size x1 x2
    have e : y' = y := by omega
    subst e
    exact q3
  · intro q
    exact (h.says x1 x2 x3 q).2.1
/-- blocks of the last 28 before the flush are there -/
theorem CrH.kept (h : CrH d z mh fm sf nx T Fl G B sl sz vl) (mask : Int32) {x y : Nat} (x1 : 1 ≤ x) (x2 : x ≤ sf) (x3 : y < B (x + 1) - B x) (x4 : Fl ≤ B x + y + 28) : ∀ j, j < 512 → ds_view (ds_crash d mask z) ((B x + y) % 52) j = jbk B sl sz vl x y j := by
  intro j hj
  have hlo := h.lo x1 x2
  have p3 := h.2.1.2.2.2.2
  rw [h.old (Nat.mod_lt _ (by omega)) (fun x' y' w1 w2 w3 w4 => by
    have := h.ge w1 (by omega)
    have := h.hi (x := x') (by omega) w2
    omega) hj]
  exact h.2.2.1.2.1 x y x1 x2 x3 x4 j hj
/-- blocks behind the flush are there when they landed -/
theorem CrH.landed (h : CrH d z mh fm sf nx T Fl G B sl sz vl) {x y : Nat} (x1 : sf < x) (x2 : x < nx) (x3 : y < B (x + 1) - B x) : rc_nb (ds_view (ds_crash d mask z)) ((B x + y) % 52) = nI x ↔ dk_bit mask (mh + (B x + y - Fl)) = true := by
  constructor
  · intro q
    obtain ⟨-, y', q1, q2, q3, q4, -⟩ := h.num mask (Nat.mod_lt _ (by omega)) (by omega) (by have := h.2.2.2.2.1; omega) q
    have hsz := h.size (x := x) (by omega) x2
    have e : y' = y := by omega
    subst e
    exact q4 x1
  · intro q
    refine (h.held mask (by omega) x2 x3).mpr (fun j hj => ?_)
    rw [h.late x1 x2 x3 hj, if_pos (Or.inl q)]
/-- whole deeds -/
theorem CrH.whole (h : CrH d z mh fm sf nx T Fl G B sl sz vl) (mask : Int32) {x : Nat} (x1 : 1 ≤ x) (x2 : x < nx) : wh (rc_nb (ds_view (ds_crash d mask z))) (rc_ct (ds_view (ds_crash d mask z))) (nI x) ↔ ∀ y, y < B (x + 1) - B x → rc_nb (ds_view (ds_crash d mask z)) ((B x + y) % 52) = nI x := by
  have hsz := h.size x1 x2
  have hn := h.2.2.2.2.1
  refine wh_iff ((nI_ltI (a := 0) (by omega) (by omega)).mpr (by omega)) hsz.1 hsz.2.1 (fun p hp q => ?_) (fun p hp q => ?_)
  · obtain ⟨-, y, q1, q2, -⟩ := h.num mask hp x1 (by omega) q
    exact ⟨y, q1, q2.symm⟩
  · obtain ⟨-, y, q1, q2, q3, -⟩ := h.num mask hp x1 (by omega) q
    exact (h.says x1 x2 q1 q3).2.2.1
theorem wh_no {Nb Ct : Nat → Int32} {x : Int32} (h : ∀ p, p < 52 → Nb p ≠ x) : ¬ wh Nb Ct x := by
  intro q
  have e := q.2
  rw [wh_n_cn, cn_none (fun p hp => decide_eq_false (h p hp)), wh_c_none h] at e
  exact absurd e (by decide +kernel)
theorem CrH.nowhole (h : CrH d z mh fm sf nx T Fl G B sl sz vl) (mask : Int32) {x : Nat} (x1 : x = 0 ∨ nx ≤ x) (x2 : x < 2 ^ 30) : ¬ wh (rc_nb (ds_view (ds_crash d mask z))) (rc_ct (ds_view (ds_crash d mask z))) (nI x) := by
  rcases x1 with rfl | x1
  · exact fun q => absurd q.1 (by decide +kernel)
  · refine wh_no (fun p hp q => ?_)
    have := (h.num mask hp (by have := h.1.2.2.1; omega) x2 q).1
    omega
/-- what is known to be flushed -/
theorem CrH.known (h : CrH d z mh fm sf nx T Fl G B sl sz vl) (mask : Int32) (hzx : ∀ x, 1 ≤ x → x < nx → sz x ≤ sf) : ∀ k, k ≤ 52 → ∃ kn, kn ≤ sf ∧ rc_kn (ds_view (ds_crash d mask z)) k = nI kn ∧ ∀ p x y, p < k → 1 ≤ x → x < nx → y < B (x + 1) - B x → (∀ j, j < 512 → ds_view (ds_crash d mask z) p j = jbk B sl sz vl x y j) → sz x ≤ kn
  | 0, _ => ⟨0, Nat.zero_le _, by rw [nI_0]; rfl, fun p x y hp => absurd hp (Nat.not_lt_zero p)⟩
  | k + 1, hk => by
    obtain ⟨kn, k1, k2, k3⟩ := h.known mask hzx k (by omega)
    have hn := h.2.2.2.2.1
    have hsf := h.2.1.1
    by_cases hs : rc_s (ds_view (ds_crash d mask z) k)
    · obtain ⟨x, y, q1, q2, q3, q4, q5, -, -⟩ := h.stand mask (by omega) hs
      have e8 := (h.says q1 q2 q3 q5).2.2.2.2.1
      have hzz := hzx x q1 q2
      have hsame : ∀ x' y', 1 ≤ x' → x' < nx → y' < B (x' + 1) - B x' → (∀ j, j < 512 → ds_view (ds_crash d mask z) k j = jbk B sl sz vl x' y' j) → x' = x := fun x' y' w1 w2 w3 w4 => by
        have e1 := (h.says q1 q2 q3 q5).2.1
        have e2 := (h.says w1 w2 w3 w4).2.1
        exact ((nI_eq (by omega) (by omega)).mp (e1.symm.trans e2)).symm
      rw [rc_kn_t hs, e8, k2]
      by_cases hlt : kn < sz x
      · refine ⟨sz x, hzz, if_pos ((nI_ltI (by omega) (by omega)).mpr hlt), fun p x' y' hp w1 w2 w3 w4 => ?_⟩
        by_cases e : p = k
        · subst e; rw [hsame x' y' w1 w2 w3 w4]; exact Nat.le_refl _
        · have := k3 p x' y' (by omega) w1 w2 w3 w4; omega
      · refine ⟨kn, k1, if_neg (fun q => hlt ((nI_ltI (by omega) (by omega)).mp q)), fun p x' y' hp w1 w2 w3 w4 => ?_⟩
        by_cases e : p = k
        · subst e; rw [hsame x' y' w1 w2 w3 w4]; omega
        · exact k3 p x' y' (by omega) w1 w2 w3 w4
    · rw [rc_kn_f hs]
      refine ⟨kn, k1, k2, fun p x' y' hp w1 w2 w3 w4 => ?_⟩
      by_cases e : p = k
      · subst e; exact absurd (h.says w1 w2 w3 w4).1 hs
      · exact k3 p x' y' (by omega) w1 w2 w3 w4
end CR
theorem low_ex (W : Nat → Prop) (h0 : ¬ W 0) : ∀ kn, ∃ lo, 1 ≤ lo ∧ lo ≤ kn + 1 ∧ (∀ x, lo ≤ x → x ≤ kn → W x) ∧ ¬ W (lo - 1)
  | 0 => ⟨1, Nat.le_refl _, Nat.le_refl _, fun x h1 h2 => absurd h2 (by omega), h0⟩
  | kn + 1 => by
    by_cases q : W (kn + 1)
    · obtain ⟨lo, a, b, c, e⟩ := low_ex W h0 kn
      refine ⟨lo, a, by omega, fun x h1 h2 => ?_, e⟩
      by_cases e2 : x = kn + 1
      · rw [e2]; exact q
      · exact c x h1 (by omega)
    · exact ⟨kn + 2, by omega, by omega, fun x h1 h2 => absurd h2 (by omega), q⟩
end
section
/-! a crash keeps both sides together -/
theorem cr_st_iff {mask : Int32} {mh : Nat} : ∀ {m}, cr_st mask mh m = true ↔ ∀ t, t < m → dk_bit mask (mh + t) = true
  | 0 => ⟨fun _ t h => absurd h (Nat.not_lt_zero t), fun _ => rfl⟩
  | m + 1 => by
    simp only [cr_st, Bool.and_eq_true, cr_st_iff (m := m)]
    constructor
    · intro ⟨h1, h2⟩ t ht
      by_cases e : t = m
      · rw [e]; exact h2
      · exact h1 t (by omega)
    · intro h
      exact ⟨fun t ht => h t (by omega), h m (by omega)⟩
/-- up to which deed the reference keeps -/
theorem cr_hi {mask : Int32} {mh fm sf nx T Fl : Nat} {ml B : Nat → Nat} (hB : gB nx T B) (p1 : sf < nx) (p2 : B (sf + 1) = Fl) (hm : ∀ k, k < fm → (ml k = 1 ↔ ∃ x, sf < x ∧ x < nx ∧ B (x + 1) = Fl + k + 1)) : ∀ k, k ≤ fm → ∃ y, sf ≤ y ∧ y < nx ∧ cr_w mask mh ml k = B (y + 1) - Fl ∧ cr_k mask mh ml k = y - sf ∧ B (y + 1) ≤ Fl + k ∧ cr_st mask mh (B (y + 1) - Fl) = true ∧ ∀ x, y < x → x < nx → B (x + 1) ≤ Fl + k → cr_st mask mh (B (x + 1) - Fl) = false
  | 0, _ => by
    refine ⟨sf, Nat.le_refl _, p1, by rw [p2, Nat.sub_self]; rfl, by rw [Nat.sub_self]; rfl, by omega, by rw [p2, Nat.sub_self]; rfl, fun x x1 x2 x3 => ?_⟩
    have := gB_mono hB (x := sf + 1) (by omega) (y := x) (by omega) (by omega)
    have := (hB.2.2.2 x (by omega) x2).1
    omega
  | k + 1, hk => by
    obtain ⟨y, y1, y2, y3, y4, y5, y6, y7⟩ := cr_hi (mask := mask) (mh := mh) hB p1 p2 hm k (by omega)
    by_cases c : cr_st mask mh (k + 1) = true ∧ ml k = 1
    · obtain ⟨x, x1, x2, x3⟩ := (hm k (by omega)).mp c.2
      have hxy : x = y + 1 := by
        rcases Nat.lt_trichotomy x (y + 1) with q | q | q
        · have := gB_mono hB (x := x + 1) (by omega) (y := y + 1) (by omega) (by omega)
          omega
        · exact q
        · exfalso
          have a1 := gB_mono hB (x := y + 1 + 1) (by omega) (y := x) (by omega) (by omega)
          have a2 := (hB.2.2.2 x (by omega) x2).1
          have a3 := y7 (y + 1) (by omega) (by omega) (by omega)
          have a4 : cr_st mask mh (B (y + 1 + 1) - Fl) = true := cr_st_iff.mpr (fun t ht => cr_st_iff.mp c.1 t (by omega))
          rw [a3] at a4
          cases a4
      refine ⟨x, by omega, x2, ?_, ?_, by omega, ?_, fun x' w1 w2 w3 => ?_⟩
      · simp only [cr_w, if_pos c]; omega
      · simp only [cr_k, if_pos c, y4]; omega
      · rw [x3, show Fl + k + 1 - Fl = k + 1 by omega]; exact c.1
      · have := gB_mono hB (x := x + 1) (by omega) (y := x') (by omega) (by omega)
        have := (hB.2.2.2 x' (by omega) w2).1
        omega
    · refine ⟨y, y1, y2, by simp only [cr_w, if_neg c]; exact y3, by simp only [cr_k, if_neg c]; exact y4, by omega, y6, fun x w1 w2 w3 => ?_⟩
      by_cases e : B (x + 1) = Fl + k + 1
      · have h1 := (hm k (by omega)).mpr ⟨x, by omega, w2, e⟩
        rw [e, show Fl + k + 1 - Fl = k + 1 by omega]
        cases hq : cr_st mask mh (k + 1) with
        | false => rfl
        | true => exact absurd ⟨hq, h1⟩ c
      · exact y7 x w1 w2 (by omega)
/-- slots, when the blocks from t0 to t are done again -/
def QV (D : DS) (V : Nat → Nat → Int32) (t0 t : Nat) (sl : Nat → Nat) (vl : Nat → Int32) : Prop := ∀ s, s < 212 → ∀ j, j < 496 → ((∃ u, t0 ≤ u ∧ u < t ∧ sl u = s) → ds_view D (52 + s) j = imgO (nowO sl vl t s) j) ∧ ((∀ u, t0 ≤ u → u < t → sl u ≠ s) → ds_view D (52 + s) j = V (52 + s) j)
theorem QV.step {D : DS} {V : Nat → Nat → Int32} {t0 t : Nat} {sl : Nat → Nat} {vl : Nat → Int32} {A : Nat → Int32} (h : QV D V t0 t sl vl) (ht : t0 ≤ t) (hA : ∀ j, j < 496 → A (12 + j) = imgv (vl t) j) : QV (ds_write (ds_room D) (52 + sl t) (rimg A)) V t0 (t + 1) sl vl := by
  intro s hs j hj
  have hv : ds_view (ds_write (ds_room D) (52 + sl t) (rimg A)) (52 + s) j = if s = sl t then imgv (vl t) j else ds_view D (52 + s) j := by
    refine (ds_write_view _ _ _ (52 + s) (by omega) j (by omega)).trans ?_
    simp only [vup]
    by_cases e : s = sl t
    · rw [if_pos (by omega), if_pos e]
      simp only [rimg, if_pos hj]
      exact hA j hj
    · rw [if_neg (by omega), if_neg e]
      exact ds_room_view _ (52 + s) (by omega) j (by omega)
  rw [hv]
  obtain ⟨h1, h2⟩ := h s hs j hj
  by_cases e : s = sl t
  · rw [if_pos e]
    refine ⟨fun _ => ?_, fun q => absurd e.symm (q t ht (by omega))⟩
    simp only [nowO, if_pos e.symm]
    rfl
  · rw [if_neg e]
    refine ⟨fun ⟨u, u1, u2, u3⟩ => ?_, fun q => h2 (fun u u1 u2 => q u u1 (by omega))⟩
    simp only [nowO, if_neg (show ¬ sl t = s from fun q => e q.symm)]
    have : u ≠ t := fun q => e (by rw [← q]; exact u3.symm)
    exact h1 ⟨u, u1, by omega, u3⟩
theorem QV.rd {D : DS} {V : Nat → Nat → Int32} {t0 a c : Nat} {sl : Nat → Nat} {vl : Nat → Int32} (h : QV D V t0 a sl vl) (ht : t0 ≤ a) (hA : ∀ i, i < c → ∀ j, j < 496 → V ((a + i) % 52) (12 + j) = imgv (vl (a + i)) j) : ∀ {i}, i ≤ c → QV (rd_d V (a % 52) (fun i => sl (a + i)) D i) V t0 (a + i) sl vl
  | 0, _ => h
  | i + 1, hi => by
    have ih := QV.rd h ht hA (i := i) (by omega)
    have e : (a % 52 + i) % 52 = (a + i) % 52 := by omega
    show QV (ds_write (ds_room (rd_d V (a % 52) (fun i => sl (a + i)) D i)) (52 + sl (a + i)) (rimg (V ((a % 52 + i) % 52)))) V t0 (a + i + 1) sl vl
    rw [e]
    exact ih.step (by omega) (hA i (by omega))
theorem fg_d_t {Nb : Nat → Int32} {h k : Nat} {d : DS} (q : nI h < Nb k) : fg_d Nb h d (k + 1) = ds_write (ds_room (fg_d Nb h d k)) k (fun _ => 0) := if_pos q
theorem fg_d_f {Nb : Nat → Int32} {h k : Nat} {d : DS} (q : ¬ nI h < Nb k) : fg_d Nb h d (k + 1) = fg_d Nb h d k := if_neg q
theorem fg_view {Nb : Nat → Int32} {h : Nat} {d : DS} {x j : Nat} (hx : x < 264) (hj : j < 512) : ∀ k, ds_view (fg_d Nb h d k) x j = if x < k ∧ nI h < Nb x then 0 else ds_view d x j
  | 0 => by rw [if_neg (by omega)]; rfl
  | k + 1 => by
    have ih := fg_view (Nb := Nb) (h := h) (d := d) hx hj k
    by_cases q : nI h < Nb k
    · rw [fg_d_t q]
      refine (ds_write_view _ _ _ x hx j hj).trans ?_
      simp only [vup]
      by_cases e : x = k
      · subst e; rw [if_pos rfl, if_pos ⟨by omega, q⟩]
      · rw [if_neg e]
        refine (ds_room_view _ x hx j hj).trans (ih.trans ?_)
        by_cases w : x < k ∧ nI h < Nb x
        · rw [if_pos w, if_pos ⟨by omega, w.2⟩]
        · rw [if_neg w, if_neg (fun z => w ⟨by omega, z.2⟩)]
    · rw [fg_d_f q, ih]
      by_cases w : x < k ∧ nI h < Nb x
      · rw [if_pos w, if_pos ⟨by omega, w.2⟩]
      · rw [if_neg w, if_neg (fun z => w ⟨Nat.lt_of_le_of_ne (by omega) (fun e => q (by rw [← e]; exact z.2)), z.2⟩)]
theorem fg_pl_is {Nb Ct : Nat → Int32} {h v : Nat} : ∀ {n}, (∃ k, k < n ∧ fg_c Nb Ct h k) → (∀ k, k < n → fg_c Nb Ct h k → (k + 1) % 52 = v) → fg_pl Nb Ct h n = v
  | 0, q, _ => by obtain ⟨k, k1, _⟩ := q; exact absurd k1 (Nat.not_lt_zero k)
  | n + 1, q, hv => by
    by_cases c : fg_c Nb Ct h n
    · rw [fg_pl_t c]; exact hv n (by omega) c
    · rw [fg_pl_f c]
      obtain ⟨k, k1, k2⟩ := q
      have : k ≠ n := fun e => c (by rw [← e]; exact k2)
      exact fg_pl_is (n := n) ⟨k, by omega, k2⟩ (fun k h1 h2 => hv k (by omega) h2)
theorem fg_pl_0 {Nb Ct : Nat → Int32} : ∀ n, fg_pl Nb Ct 0 n = 0
  | 0 => rfl
  | n + 1 => by rw [fg_pl_f (fun q => absurd q.2.1 (by omega))]; exact fg_pl_0 n
theorem crN_at {nw : Nat → Int32} {ms : Nat → Nat} {mv : Nat → Int32} {sl : Nat → Nat} {vl : Nat → Int32} {T s : Nat} (h0 : nw s = (nowO sl vl T s).getD 0) : ∀ {k}, (∀ j, j < k → sl (T + j) = ms j ∧ vl (T + j) = mv j) → crN nw ms mv k s = (nowO sl vl (T + k) s).getD 0
  | 0, _ => h0
  | k + 1, h => by
    have ih := crN_at (k := k) h0 (fun j hj => h j (by omega))
    obtain ⟨a, b⟩ := h k (by omega)
    simp only [crN, upd]
    show _ = (nowO sl vl (T + k + 1) s).getD 0
    simp only [nowO, a, b]
    by_cases e : s = ms k
    · rw [if_pos e, if_pos e.symm]; rfl
    · rw [if_neg e, if_neg (fun q => e q.symm)]; exact ih
theorem QV.rv {D : DS} {V : Nat → Nat → Int32} {lo : Nat} {B sl : Nat → Nat} {vl : Nat → Int32} (hm : ∀ n, B lo ≤ B (lo + n)) (h : QV D V (B lo) (B lo) sl vl) : ∀ {n}, (∀ x, lo ≤ x → x < lo + n → B x + (B (x + 1) - B x) = B (x + 1) ∧ ∀ i, i < B (x + 1) - B x → ∀ j, j < 496 → V ((B x + i) % 52) (12 + j) = imgv (vl (B x + i)) j) → QV (rv_d V (fun x => B x % 52) (fun x => B (x + 1) - B x) (fun x i => sl (B x + i)) lo D n) V (B lo) (B (lo + n)) sl vl
  | 0, _ => h
  | n + 1, hd => by
    have ih := QV.rv hm h (n := n) (fun x h1 h2 => hd x h1 (by omega))
    obtain ⟨e1, e2⟩ := hd (lo + n) (by omega) (by omega)
    have r := QV.rd ih (hm n) e2 (Nat.le_refl _)
    rw [e1] at r
    exact r
end
section
section IV
variable {i ch fl cr : Nat} {I : Nat → Int32} {fm op nx pl sf : Nat} {K F : Nat → Int32} {fs : Nat → Nat} {d : DS} {fd nw : Nat → Int32} {ms : Nat → Nat} {mv : Nat → Int32} {ml os : Nat → Nat} {ov : Nat → Int32} {mc mh mo md mi mf mr : Nat}
set_option maxHeartbeats 8000000 in
/-- a crash: what is found on the disk, and that both sides agree behind it -/
theorem Inv.crash {mask : Int32} {z : Nat} (hi512 : i < 512) (hz : z ≤ 500) (h : Inv i ch fl cr I fm op nx pl sf K F fs d fd nw ms mv ml os ov mc mh mo md mi mf mr) :
    ∃ (kn lo hi : Nat) (k0 cn : Nat → Nat) (sl' : Nat → Nat → Nat), RecOk (ds_view (ds_crash d mask z)) kn lo hi k0 cn sl' ∧ hi + 1 ≤ nx ∧ cr_k mask mh ml mc ≤ mi ∧ mi - cr_k mask mh ml mc ≤ md ∧ nx - (hi + 1) = mi - cr_k mask mh ml mc ∧
      ∀ (I' K' F' Nb Ct : Nat → Int32), sb_Fit I' → sb_Fit K' → sb_Fit F' → Inv (i + 1) 0 fl (cr + 1) I' 0 0 (hi + 1) (fg_pl (prf (rc_nb (ds_view (ds_crash d mask z))) Nb 52) (prf (rc_ct (ds_view (ds_crash d mask z))) Ct 52) hi 52) hi K' F' fs (ds_flush (fg_d (prf (rc_nb (ds_view (ds_crash d mask z))) Nb 52) hi (rv_d (ds_view (ds_crash d mask z)) k0 cn sl' lo (ds_crash d mask z) (hi + 1 - lo)) 52)) (prf (crN (prf fd nw 212) ms mv (cr_w mask mh ml mc)) fd 212) (crN (prf fd nw 212) ms mv (cr_w mask mh ml mc)) ms mv ml os ov 0 0 0 (md - (mi - cr_k mask mh ml mc)) 0 mf (mr + 1) := by
  obtain ⟨⟨a1, a2, a3, a4⟩, T, Fl, G, B, sl, sz, vl, hB, ⟨⟨p1, p2, p3⟩, ⟨p4, p40, g, g1, g2, g3⟩, ⟨p5, p6, p7⟩, p8⟩, ⟨⟨c1, c2, c3⟩, ⟨c4, c5, c6⟩, ⟨d1, d2, d3, d4, d5, d6⟩, c7⟩, hF, hM, hJ, hL, hS⟩ := h
  have hnx := hB.2.2.1
  have hBn := hB.2.1
  have hnx2 : nx ≤ 256 := by split at c7 <;> omega
  have H : CrH d z mh fm sf nx T Fl G B sl sz vl := ⟨hB, ⟨p1, p2, c1, c2, p3⟩, hJ, hL, hnx2, hz⟩
  subst d1
  -- up to which deed
  obtain ⟨hi, y1, y2, y3, y4, y5, y6, y7⟩ := cr_hi (mask := mask) (mh := mh) (ml := ml) hB p1 p2 (fun k hk => (hM.1 k hk).2.2.2) mc (Nat.le_refl _)
  have hhiT : B (hi + 1) ≤ T := by omega
  have hgeT : Fl ≤ B (hi + 1) := by rw [← p2]; exact gB_mono hB (by omega) (by omega) (by omega)
  -- what is known
  have hzx : ∀ x, 1 ≤ x → x < nx → sz x ≤ sf := fun x x1 x2 => by
    by_cases e : x ≤ sf
    · have := p6 x x1 e; omega
    · rw [p5 x (by omega) x2]; exact Nat.le_refl _
  obtain ⟨kn, k1, k2, k3⟩ := H.known mask hzx 52 (Nat.le_refl _)
  obtain ⟨lo, l1, l2, l3, l4⟩ := low_ex (fun x => wh (rc_nb (ds_view (ds_crash d mask z))) (rc_ct (ds_view (ds_crash d mask z))) (nI x)) (H.nowhole mask (Or.inl rfl) (by omega)) kn
  have hkept : ∀ x, 1 ≤ x → x ≤ sf → Fl ≤ B x + 28 → wh (rc_nb (ds_view (ds_crash d mask z))) (rc_ct (ds_view (ds_crash d mask z))) (nI x) := fun x x1 x2 x3 =>
    (H.whole mask x1 (by omega)).mpr (fun y hy => (H.held mask x1 (by omega) hy).mpr (H.kept mask x1 x2 hy (by omega)))
  have hbits : ∀ x y, sf < x → x ≤ hi → y < B (x + 1) - B x → dk_bit mask (mh + (B x + y - Fl)) = true := fun x y x1 x2 x3 => by
    have := gB_mono hB (x := x + 1) (by omega) (y := hi + 1) (by omega) (by omega)
    have := H.ge x1 (by omega)
    exact cr_st_iff.mp y6 _ (by omega)
  have hland : ∀ x, sf < x → x ≤ hi → wh (rc_nb (ds_view (ds_crash d mask z))) (rc_ct (ds_view (ds_crash d mask z))) (nI x) := fun x x1 x2 =>
    (H.whole mask (by omega) (by omega)).mpr (fun y hy => (H.landed x1 (by omega) hy).mpr (hbits x y x1 x2 hy))
  -- deed sf is whole
  have hsfB : 0 < sf → Fl ≤ B sf + 17 := fun q => by have := (hB.2.2.2 sf q p1).2; rw [p2] at this; exact this
  have hsfk : 0 < sf → sz sf ≤ kn := fun q => by
    have hs := H.size (x := sf) q p1
    exact k3 ((B sf + 0) % 52) sf 0 (Nat.mod_lt _ (by omega)) q p1 (by omega) (H.kept mask q (Nat.le_refl _) (by omega) (by have := hsfB q; omega))
  have hmid : ∀ x, kn < x → x ≤ sf → wh (rc_nb (ds_view (ds_crash d mask z))) (rc_ct (ds_view (ds_crash d mask z))) (nI x) := fun x x1 x2 => by
    have q : 0 < sf := by omega
    have q1 := hsfk q
    have q2 := p7 q
    have q3 := gB_mono hB (x := sz sf + 1) (by omega) (y := x) (by omega) (by omega)
    exact hkept x (by omega) x2 (by omega)
  have hall : ∀ x, lo ≤ x → x ≤ hi → wh (rc_nb (ds_view (ds_crash d mask z))) (rc_ct (ds_view (ds_crash d mask z))) (nI x) := fun x x1 x2 => by
    by_cases e1 : x ≤ kn
    · exact l3 x x1 e1
    · by_cases e2 : x ≤ sf
      · exact hmid x (by omega) e2
      · exact hland x (by omega) x2
  have hnot : ¬ wh (rc_nb (ds_view (ds_crash d mask z))) (rc_ct (ds_view (ds_crash d mask z))) (nI (hi + 1)) := by
    by_cases e : hi + 1 < nx
    · intro q
      have hw := (H.whole mask (by omega) e).mp q
      have hf := y7 (hi + 1) (by omega) e (by have := H.hi (x := hi + 1) (by omega) e; omega)
      have ht : cr_st mask mh (B (hi + 1 + 1) - Fl) = true := cr_st_iff.mpr (fun t ht => by
        by_cases e2 : t < B (hi + 1) - Fl
        · exact cr_st_iff.mp y6 t e2
        · have hb := (H.landed (mask := mask) (x := hi + 1) (y := t - (B (hi + 1) - Fl)) (by omega) e (by omega)).mp (hw _ (by omega))
          rw [show B (hi + 1) + (t - (B (hi + 1) - Fl)) - Fl = t by omega] at hb
          exact hb)
      rw [hf] at ht
      cases ht
    · exact H.nowhole mask (Or.inr (by omega)) (by omega)
  have hlog : lo ≤ g := by
    refine Nat.le_of_not_lt (fun q => l4 ?_)
    have hBg := gB_mono hB (x := g) g1 (y := lo - 1) (by omega) (by omega)
    exact hkept (lo - 1) (by omega) (by omega) (by omega)
  have heldx : ∀ x, lo ≤ x → x ≤ hi → ∀ y, y < B (x + 1) - B x → ∀ j, j < 512 → ds_view (ds_crash d mask z) ((B x + y) % 52) j = jbk B sl sz vl x y j := fun x x1 x2 y hy =>
    (H.held mask (by omega) (by omega) hy).mp ((H.whole mask (by omega) (by omega)).mp (hall x x1 x2) y hy)
  -- deed hi is there
  have heldhi : 0 < hi → ∀ y, y < B (hi + 1) - B hi → rc_nb (ds_view (ds_crash d mask z)) ((B hi + y) % 52) = nI hi := fun q => by
    by_cases e : hi ≤ sf
    · have e2 : hi = sf := by omega
      subst e2
      exact (H.whole mask q y2).mp (hkept hi q (Nat.le_refl _) (by have := hsfB q; omega))
    · exact (H.whole mask q y2).mp (hland hi (by omega) (Nat.le_refl _))
  refine ⟨kn, lo, hi, fun x => B x % 52, fun x => B (x + 1) - B x, fun x i => sl (B x + i), ⟨k2, ⟨l1, l2, by omega, by omega⟩, hall, l4, hnot, fun x x1 x2 => ?_⟩, by omega, by rw [y4]; omega, by omega, by rw [y4]; omega, ?_⟩
  · have hs := H.size (x := x) (by omega) (by omega)
    have hh := heldx x x1 x2
    have hp : ∀ y, y < B (x + 1) - B x → (B x % 52 + y) % 52 = (B x + y) % 52 := fun y _ => by omega
    refine ⟨Nat.mod_lt _ (by omega), fun k (hk : k < B x % 52) => ?_, ⟨?_, ?_⟩, fun y (hy : y < B (x + 1) - B x) => ?_, ?_, fun y (hy : y < B (x + 1) - B x) => ?_⟩
    · by_cases e : rc_nb (ds_view (ds_crash d mask z)) k = nI x
      · refine Or.inr ?_
        have hk52 : k < 52 := by have := Nat.mod_lt (B x) (show 0 < 52 by omega); omega
        obtain ⟨-, y, q1, q2, q3, -⟩ := H.num mask hk52 (by omega) (by omega) e
        rw [(H.says (by omega) (by omega) q1 q3).2.2.2.1]
        refine (nI_ltI (a := 0) (by omega) (by omega)).mpr (Nat.pos_of_ne_zero (fun w => ?_))
        subst w
        rw [Nat.add_zero] at q2
        omega
      · exact Or.inl e
    · have := (H.says (V := ds_view (ds_crash d mask z)) (by omega) (by omega) (by omega) (hh 0 (by omega))).2.1
      rw [Nat.add_zero] at this
      exact this
    · have := (H.says (V := ds_view (ds_crash d mask z)) (by omega) (by omega) (by omega) (hh 0 (by omega))).2.2.2.1
      rw [Nat.add_zero] at this
      rw [this]
      decide +kernel
    · rw [hp y hy]; exact (H.says (by omega) (by omega) hy (hh y hy)).2.1
    · intro q
      have hlt := Nat.mod_lt (B x % 52 + (B (x + 1) - B x)) (show 0 < 52 by omega)
      obtain ⟨-, y, q1, q2, -⟩ := H.num mask hlt (by omega) (by omega) q
      omega
    · rw [hp y hy]
      have hsl : sl (B x + y) < 212 := p8 _ (by have := H.hi (x := x) (by omega) (by omega); omega)
      exact ⟨(H.says (by omega) (by omega) hy (hh y hy)).2.2.2.2.2 (by omega), hsl⟩
  · intro I' K' F' Nb Ct hI' hK' hF'
    have hd1 : ds_ok (ds_crash d mask z) := ⟨Nat.zero_le _, fun k hk => absurd hk (Nat.not_lt_zero k), dk_cr_fit a4.2.2.2 a4.2.2.1 _, a4.2.2.2⟩
    have hVf : jFit (ds_view (ds_crash d mask z)) := fun q _ j _ => by
      rw [ds_view_0 rfl]; exact hd1.2.2.1 _
    have hmono : ∀ x y, 1 ≤ x → x ≤ y → y ≤ nx → B x ≤ B y := fun x y q1 q2 q3 => gB_mono hB q1 q2 q3
    have hrok : ds_ok (rv_d (ds_view (ds_crash d mask z)) (fun x => B x % 52) (fun x => B (x + 1) - B x) (fun x i => sl (B x + i)) lo (ds_crash d mask z) (hi + 1 - lo)) := rv_d_ok hd1 hVf (fun x q1 q2 y hy => p8 _ (by have := H.hi (x := x) (by omega) (by omega); omega))
    -- the views
    have hjv := rv_d_j (k0 := fun x => B x % 52) (cn := fun x => B (x + 1) - B x) (sl := fun x i => sl (B x + i)) (lo := lo) (V := ds_view (ds_crash d mask z)) (d := ds_crash d mask z) (fun q _ j _ => rfl) (hi + 1 - lo)
    have hqv : QV (rv_d (ds_view (ds_crash d mask z)) (fun x => B x % 52) (fun x => B (x + 1) - B x) (fun x i => sl (B x + i)) lo (ds_crash d mask z) (hi + 1 - lo)) (ds_view (ds_crash d mask z)) (B lo) (B (hi + 1)) sl vl := by
      have key : ∀ n, n ≤ hi + 1 - lo → QV (rv_d (ds_view (ds_crash d mask z)) (fun x => B x % 52) (fun x => B (x + 1) - B x) (fun x i => sl (B x + i)) lo (ds_crash d mask z) n) (ds_view (ds_crash d mask z)) (B lo) (B (lo + n)) sl vl := by
        intro n
        induction n with
        | zero => intro _ s _ j _; exact ⟨fun ⟨u, u1, u2, _⟩ => absurd u2 (by rw [Nat.add_zero]; omega), fun _ => rfl⟩
        | succ n ih =>
          intro hn
          have hs := H.size (x := lo + n) (by omega) (by omega)
          have r := QV.rd (ih (by omega)) (hmono lo (lo + n) l1 (by omega) (by omega)) (c := B (lo + n + 1) - B (lo + n)) (fun y hy j hj => by
            rw [heldx (lo + n) (by omega) (by omega) y hy (12 + j) (by omega)]
            exact (jblk_mid hj).trans (by rw [Nat.zero_add])) (Nat.le_refl _)
          rw [hs.2.2] at r
          exact r
      have r := key (hi + 1 - lo) (Nat.le_refl _)
      rw [show lo + (hi + 1 - lo) = hi + 1 by omega] at r
      exact r
    generalize rv_d (ds_view (ds_crash d mask z)) (fun x => B x % 52) (fun x => B (x + 1) - B x) (fun x i => sl (B x + i)) lo (ds_crash d mask z) (hi + 1 - lo) = d2 at hrok hjv hqv ⊢
    have hplat : ∀ x j, x < 264 → j < 512 → (ds_flush (fg_d (prf (rc_nb (ds_view (ds_crash d mask z))) Nb 52) hi d2 52)).1 (512 * x + j) = if x < 52 ∧ nI hi < prf (rc_nb (ds_view (ds_crash d mask z))) Nb 52 x then 0 else ds_view d2 x j := fun x j hx hj => by
      have e1 : (ds_flush (fg_d (prf (rc_nb (ds_view (ds_crash d mask z))) Nb 52) hi d2 52)).1 (512 * x + j) = ds_view (fg_d (prf (rc_nb (ds_view (ds_crash d mask z))) Nb 52) hi d2 52) x j := dk_fl_at hj _
      rw [e1]; exact fg_view hx hj 52
    have hjn : ∀ p, p < 52 → ∀ j, j < 512 → Bk (ds_flush (fg_d (prf (rc_nb (ds_view (ds_crash d mask z))) Nb 52) hi d2 52)).1 p j = if nI hi < rc_nb (ds_view (ds_crash d mask z)) p then 0 else ds_view (ds_crash d mask z) p j := fun p hp j hj => by
      refine (hplat p j (by omega) hj).trans ?_
      rw [prf_at hp]
      by_cases q : nI hi < rc_nb (ds_view (ds_crash d mask z)) p
      · rw [if_pos ⟨hp, q⟩, if_pos q]
      · rw [if_neg (fun w => q w.2), if_neg q]; exact hjv p hp j hj
    have hslot : ∀ s, s < 212 → ∀ j, j < 496 → (ds_flush (fg_d (prf (rc_nb (ds_view (ds_crash d mask z))) Nb 52) hi d2 52)).1 (512 * (52 + s) + j) = imgO (nowO sl vl (B (hi + 1)) s) j := fun s hs j hj => by
      rw [hplat (52 + s) j (by omega) (by omega), if_neg (by omega)]
      obtain ⟨q1, q2⟩ := hqv s hs j hj
      by_cases e : ∃ u, B lo ≤ u ∧ u < B (hi + 1) ∧ sl u = s
      · exact q1 e
      · have hno : ∀ u, B lo ≤ u → u < B (hi + 1) → sl u ≠ s := fun u u1 u2 u3 => e ⟨u, u1, u2, u3⟩
        have hBlo : B lo ≤ G := by rw [← g3]; exact hmono lo g l1 hlog (by omega)
        rw [q2 hno, ds_view_0 rfl]
        show dk_cr d.2.1 d.2.2.1 d.1 mask z d.2.2.2 (512 * (52 + s) + j) = _
        rw [dk_cr_none (by omega) (by omega) (fun k hk q => by
          by_cases e2 : k < mh
          · obtain ⟨t, t1, t2, t3⟩ := hL.2.2.1 k e2
            exact hno t (by omega) (by omega) (by omega)
          · have hn := hL.1
            obtain ⟨x, y, w1, w2, w3, w4⟩ := gB_find hB (t := Fl + (k - mh)) (a := sf + 1) (by omega) (by omega) (b := nx) (by omega) (Nat.le_refl _) (by omega)
            have hb := (hL.2.2.2 x y (by omega) w2 w3).1
            rw [← w4, show mh + (Fl + (k - mh) - Fl) = k by omega, q] at hb
            have := Nat.mod_lt (Fl + (k - mh)) (show 0 < 52 by omega)
            omega), hS.2 s hs j hj]
        rw [nowO_skip (t := G) (by omega) (fun u u1 u2 => hno u (by omega) u2)]
    have hzero : ∀ p, p < 52 → nI hi < rc_nb (ds_view (ds_crash d mask z)) p → ∀ j, j < 512 → Bk (ds_flush (fg_d (prf (rc_nb (ds_view (ds_crash d mask z))) Nb 52) hi d2 52)).1 p j = 0 := fun p hp q j hj => by rw [hjn p hp j hj, if_pos q]
    have hsame : ∀ p, p < 52 → ¬ nI hi < rc_nb (ds_view (ds_crash d mask z)) p → ∀ j, j < 512 → Bk (ds_flush (fg_d (prf (rc_nb (ds_view (ds_crash d mask z))) Nb 52) hi d2 52)).1 p j = ds_view (ds_crash d mask z) p j := fun p hp q j hj => by rw [hjn p hp j hj, if_neg q]
    have hfit : ds_ok (ds_flush (fg_d (prf (rc_nb (ds_view (ds_crash d mask z))) Nb 52) hi d2 52)) := ds_flush_ok (fg_d_ok hrok (Nat.le_refl _))
    have hn0 : (ds_flush (fg_d (prf (rc_nb (ds_view (ds_crash d mask z))) Nb 52) hi d2 52)).2.2.2 = 0 := rfl
    generalize ds_flush (fg_d (prf (rc_nb (ds_view (ds_crash d mask z))) Nb 52) hi d2 52) = d3 at hjn hslot hzero hsame hfit hn0 ⊢
    have hnow : ∀ s, s < 212 → crN (prf fd nw 212) ms mv (cr_w mask mh ml mc) s = (nowO sl vl (B (hi + 1)) s).getD 0 := fun s hs => by
      have r := crN_at (nw := prf fd nw 212) (ms := ms) (mv := mv) (sl := sl) (vl := vl) (T := Fl) (s := s) (by rw [prf_at hs]; exact (hM.2 s hs).2) (k := cr_w mask mh ml mc) (fun j hj => by
        have := cr_w_le mask mh ml mc
        exact ⟨(hM.1 j (by omega)).1.symm, (hM.1 j (by omega)).2.1.symm⟩)
      rw [y3, show Fl + (B (hi + 1) - Fl) = B (hi + 1) by omega] at r
      rw [y3]; exact r
    have hple : fg_pl (prf (rc_nb (ds_view (ds_crash d mask z))) Nb 52) (prf (rc_ct (ds_view (ds_crash d mask z))) Ct 52) hi 52 = B (hi + 1) % 52 := by
      by_cases e : hi = 0
      · subst e
        rw [fg_pl_0, show B (0 + 1) = 0 from hB.1]
      · have hs := H.size (x := hi) (by omega) y2
        have hc : ∀ k, k < 52 → (fg_c (prf (rc_nb (ds_view (ds_crash d mask z))) Nb 52) (prf (rc_ct (ds_view (ds_crash d mask z))) Ct 52) hi k ↔ k = (B (hi + 1) - 1) % 52) := fun k hk => by
          simp only [fg_c]
          rw [prf_at hk, prf_at hk, prf_at (show (k + 1) % 52 < 52 from Nat.mod_lt _ (by omega))]
          constructor
          · intro ⟨w1, w2, w3⟩
            obtain ⟨-, y, q1, q2, q3, -⟩ := H.num mask hk (by omega) (by omega) w1
            by_cases e2 : y + 1 < B (hi + 1) - B hi
            · exfalso
              rcases w3 with w3 | w3
              · refine w3 ?_
                have := heldhi (by omega) (y + 1) e2
                rw [show (k + 1) % 52 = (B hi + (y + 1)) % 52 by omega]
                exact this
              · rw [(H.says (by omega) (by omega) q1 q3).2.2.1] at w3
                have := (nI_eq (by omega) (by omega)).mp w3
                omega
            · omega
          · intro w
            have hl := heldhi (by omega) (B (hi + 1) - B hi - 1) (by omega)
            rw [show (B hi + (B (hi + 1) - B hi - 1)) % 52 = k by omega] at hl
            refine ⟨hl, by omega, Or.inl (fun q => ?_)⟩
            obtain ⟨-, y, q1, q2, -⟩ := H.num mask (Nat.mod_lt _ (by omega)) (by omega) (by omega) q
            omega
        exact fg_pl_is ⟨(B (hi + 1) - 1) % 52, Nat.mod_lt _ (by omega), (hc _ (Nat.mod_lt _ (by omega))).mpr rfl⟩ (fun k hk q => by have := (hc k hk).mp q; omega)
    rw [hple]
    refine ⟨⟨hI', hK', hF', hfit⟩, B (hi + 1), B (hi + 1), B (hi + 1), B, sl, sz, vl, ⟨hB.1, rfl, by omega, fun x q1 q2 => hB.2.2.2 x q1 (by omega)⟩, ⟨⟨by omega, rfl, by omega⟩, ⟨Nat.le_refl _, by omega, hi + 1, by omega, Nat.le_refl _, rfl⟩, ⟨fun x q1 q2 => absurd q2 (by omega), fun x q1 q2 => ?_, fun q => ?_⟩, fun t ht => p8 t (by omega)⟩, ⟨⟨by omega, Nat.le_refl _, rfl⟩, ⟨by omega, fun q => absurd q (by omega), fun q => absurd q (by omega)⟩, ⟨rfl, rfl, by rw [y4]; omega, by omega, d5, by omega⟩, ?_⟩, ⟨fun k hk => absurd hk (by omega), fun k hk => absurd hk (by omega)⟩, ⟨fun k hk => absurd hk (by omega), fun s hs => ⟨hnow s hs, by rw [prf_at hs]; exact hnow s hs⟩⟩, ⟨fun p hp => ?_, fun x y q1 q2 q3 q4 j hj => ?_, fun p hp => ?_⟩, ⟨by rw [hn0], by omega, fun k hk => absurd hk (by omega), fun x k q1 q2 => absurd q2 (by omega)⟩, ⟨fun s hs j hj => by rw [ds_view_0 hn0]; exact hslot s hs j hj, hslot⟩⟩
    · by_cases e : x ≤ sf
      · exact p6 x q1 e
      · rw [p5 x (by omega) (by omega)]; omega
    · by_cases e : hi ≤ sf
      · have e2 : hi = sf := by omega
        subst e2
        rw [p2]; exact p7 q
      · rw [p5 hi (by omega) (by omega), p2]; omega
    · rw [if_pos rfl]; split at c7 <;> omega
    · by_cases q : nI hi < rc_nb (ds_view (ds_crash d mask z)) p
      · refine Or.inl (fun w => ?_)
        have e0 : b4_get (Bk d3.1 p) 0 = 0 := (b4_get_congr (hzero p hp q _ (by omega)) (hzero p hp q _ (by omega)) (hzero p hp q _ (by omega)) (hzero p hp q _ (by omega))).trans (b4_get0 0)
        have := w.1
        rw [e0] at this
        exact absurd this (by decide)
      · by_cases hs : rc_s (ds_view (ds_crash d mask z) p)
        · obtain ⟨x, y, w1, w2, w3, w4, w5, w6, w7⟩ := H.stand mask hp hs
          have hnb := (H.says w1 w2 w3 w5).2.1
          have hxh : x ≤ hi := Nat.le_of_not_lt (fun w => q (by rw [hnb]; exact nI_lt w (by omega)))
          refine Or.inr ⟨x, y, w1, hxh, w3, w4, ?_, fun j hj => (hsame p hp q j hj).trans (w5 j hj)⟩
          by_cases e : x ≤ sf
          · obtain ⟨v1, v2⟩ := w7 e
            refine Nat.le_of_not_lt (fun w => ?_)
            obtain ⟨x', y', u1, u2, u3, u4⟩ := gB_find hB (t := B x + y + 52) (a := sf + 1) (by omega) (by omega) (b := hi + 1) (by omega) (by omega) (by omega)
            exact v2 x' y' (by omega) (by omega) u3 (by omega) (hbits x' y' (by omega) (by omega) u3)
          · have := H.ge (x := x) (by omega) (by omega)
            omega
        · exact Or.inl (fun w => hs ((rc_s_congr (hsame p hp q)).mp w))
    · have hl : ∀ j, j < 512 → ds_view (ds_crash d mask z) ((B x + y) % 52) j = jbk B sl sz vl x y j := by
        by_cases e : x ≤ sf
        · exact H.kept mask q1 e q3 (by omega)
        · exact (H.held mask q1 (by omega) q3).mp ((H.landed (by omega) (by omega) q3).mpr (hbits x y (by omega) q2 q3))
      have hnb := (H.says q1 (by omega) q3 hl).2.1
      rw [hsame _ (Nat.mod_lt _ (by omega)) (by rw [hnb]; exact nI_nlt q2 (by omega)) j hj]
      exact hl j hj
    · by_cases q : nI hi < rc_nb (ds_view (ds_crash d mask z)) p
      · have hz0 := hzero p hp q
        exact ⟨fun j hj => hz0 j (by omega), ⟨hz0 _ (by omega), hz0 _ (by omega), hz0 _ (by omega)⟩, 0, Nat.zero_le _, (hz0 _ (by omega)).trans byt_00.symm⟩
      · have hb := hsame p hp q
        rcases H.state mask hp with ⟨x, y, x1, x2, x3, x4, x5, x6⟩ | ⟨-, w | w⟩
        · have hnb := (H.says (by omega) x2 x3 x6).2.1
          have hxh : x ≤ hi := Nat.le_of_not_lt (fun w => q (by rw [hnb]; exact nI_lt w (by omega)))
          obtain ⟨w1, w2, w3, w4⟩ := jb_508 (nx := x) (k := y) (op := B (x + 1) - B x) (x := sl (B x + y)) (sf := sz x) (F := imgv (vl (B x + y))) (a := 0) (Z := fun _ => 0) (by omega)
          have hc : ∀ j, j < 512 → Bk d3.1 p j = jbk B sl sz vl x y j := fun j hj => (hb j hj).trans (x6 j hj)
          exact ⟨fun j hj => (hc j (by omega)).trans (jb_0 (by omega) hj), ⟨(hc _ (by omega)).trans w1, (hc _ (by omega)).trans w2, (hc _ (by omega)).trans w3⟩, x, hxh, (hc _ (by omega)).trans w4⟩
        · obtain ⟨w1, ⟨w2, w3, w4⟩, n, w5, w6⟩ := hJ.2.2 p hp
          have hc : ∀ j, j < 512 → Bk d3.1 p j = Bk d.1 p j := fun j hj => (hb j hj).trans (w j hj)
          exact ⟨fun j hj => (hc j (by omega)).trans (w1 j hj), ⟨(hc _ (by omega)).trans w2, (hc _ (by omega)).trans w3, (hc _ (by omega)).trans w4⟩, n, by omega, (hc _ (by omega)).trans w6⟩
        · obtain ⟨w1, ⟨w2, w3, w4⟩, n, w5, w6⟩ := hJ.2.2 p hp
          have hc : ∀ j, 500 ≤ j → j < 512 → Bk d3.1 p j = Bk d.1 p j := fun j h1 h2 => (hb j h2).trans (w.2.2 j h1 h2)
          exact ⟨fun j hj => (hb j (by omega)).trans (w.2.1 j hj), ⟨(hc _ (by omega) (by omega)).trans w2, (hc _ (by omega) (by omega)).trans w3, (hc _ (by omega) (by omega)).trans w4⟩, n, by omega, (hc _ (by omega) (by omega)).trans w6⟩
end IV
end
section
/-! THE CLAIM OUT OF ONE WALK OF THE LAW'S BODY. Your part is whole_start (and what it stands on); all else here is the same for every law, but numbers. -/
def R_law : String := "JournalShelfLaw"
def lw_P (b : Addr) (xs : List Int32) (args : Array Value) (s : State) : Prop := args = #[.ref b] ∧ s.IntsAt b xs ∧ xs.length ≤ 1536 ∧ (Jvm.Cond.and given_1 narrow_1).before args s = true
def lw_Q (_ : Array Value) (s : State) (o : Outcome) (t : State) : Prop := o = .returned (some (.int 1)) ∧ Framed s o t [] 600000 7302250
def lw_Z (below : List Frame) (a : Array Value) (s : State) : State → Prop := fun t => ∃ o, t.status = .running ∧ Ended t below o ∧ lw_Q a s o t
/-- the law's own end, with 1 on the stack, nothing written that was there before, its room as the claim has it -/
theorem lw_ret {p : Program} {l : Launch} {e : Env} {s : State} {m : MethodId} {below : List Frame} {meth : Method} {c : Code} {b : Nat} (hx : p.tables.exec = Jvm.exec) (hb : c.code = code) (hr : meth.sig.returnType = ret) (hlocks : meth.locks = false) {pc : Nat} {H : Heap} {ls : Array Slot} (hdg : decode code pc = .ok (.ireturn, 1)) : W p l e room_1 s m #[Value.ref b] below meth c H [] 600000 7302250 (lw_Z below #[Value.ref b] s) (F0 m pc ls [.int 1]) := by
  intro T hT X
  obtain ⟨fs, hret, hrun, hended, hW, hframe⟩ := X.leave (v := some (.int 1)) (hlocks := hlocks) (fun h => by rw [hr] at h; cases h)
  have hmeth' : T.vm.method? m = some meth := X.method'
  refine ⟨T.setFrames fs, ?_, .returned (some (.int 1)), hrun, hended, rfl, ⟨_, rfl⟩, hW, hframe⟩
  jvm_step X.here [X.here.top, hx, hb, hdg, hmeth', hr, ret, narrow_b1]
  (try refine ⟨rfl, ?_⟩); (try refine ⟨rfl, ?_⟩)
  first | (intro acts; rw [hret _ acts rfl rfl rfl]) | rw [hret _ _ rfl rfl rfl]
  exact Steps.refl _
/-- what holds at the law's entry: the machine, the code, the tables' words (any of lw_tbl by 'hts w (by decide +kernel)'), the script of L ints xs at the cell b, what the Statement gives of the start (any of its parts by flat_of_before) -/
def lw_At (p : Program) (s : State) (m : MethodId) (meth : Method) (c : Code) (b L : Nat) (xs : Nat → Int32) : Prop :=
  p.tables.exec = Jvm.exec ∧ c.code = code ∧ meth.sig.returnType = ret ∧ c.maxLocals = 4 ∧ s.vm.findClass R_law = some m.cls ∧ (∀ w ∈ lw_tbl, w.before #[Value.ref b] s = true) ∧ va_X b L xs s s.heap ∧ b < s.heap.size ∧ meth.locks = false ∧ (Jvm.Cond.and given_1 narrow_1).before #[Value.ref b] s = true
/-- the classes' numbers and places, the arrays' classes -/
theorem js_known {s : State} {args : Array Value} (hts : ∀ w ∈ js_all, w.before args s = true) : ∃ (D : va_G) (cB cI : ClassId), va_K D js_cls (js_tys cB cI) s := by
  obtain ⟨c0, i0, h0⟩ := u_known hts jl_JS (hts _ jk_9)
  obtain ⟨c1, i1, h1⟩ := u_known hts jl_Sh (hts _ jk_17)
  obtain ⟨c2, i2, h2⟩ := u_known hts jl_Dk (hts _ jk_23)
  obtain ⟨c3, i3, h3⟩ := u_known hts jl_Md (hts _ jk_226)
  obtain ⟨cB, kB, pB, b1, b2, b3⟩ := Cond.arrayClass_spec (hts _ jk_43)
  obtain ⟨cI, kI, pI, e1, e2, e3⟩ := Cond.arrayClass_spec (hts _ jk_44)
  refine ⟨(fun k => match k with | 0 => c0 | 1 => c1 | 2 => c2 | _ => c3, fun k => match k with | 0 => i0 | 1 => i1 | 2 => i2 | _ => i3), cB, cI, fun c q hq => ?_, fun k q hq => ?_⟩
  · match c, hq with
    | 0, hq => cases hq; exact h0
    | 1, hq => cases hq; exact h1
    | 2, hq => cases hq; exact h2
    | 3, hq => cases hq; exact h3
    | n + 4, hq => exact absurd hq (by simp)
  · match k, hq with
    | 0, hq => cases hq; exact ⟨fun n z => ⟨fun k h => (by cases h), kB, b2, pB, b3⟩, b1⟩
    | 1, hq => cases hq; exact ⟨fun n z => ⟨fun k h => (by cases h), kI, e2, pI, e3⟩, e1⟩
    | n + 2, hq => exact absurd hq (by simp)
section VLAW
variable {p : Program} {l : Launch} {e : Env} {R : Room} {s : State} {m : MethodId} {args : Array Value} {below : List Frame} {meth : Method} {c : Code} {Q : State → Prop}
variable {D : va_G} {A : Nat → Prop} {cc : ByteArray} {own : String} {nL cells slots pc : Nat} {cB cI : ClassId} {ws ws' : va_W} {lv lv' : List (Nat × Value)} {st : List Value}
theorem vv_widen {k n : Nat} (h1 : cells ≤ k) (h2 : slots ≤ n) (kk : VV p l e R s m args below meth c D A nL (k) (n) (Q) (ws) (lv) (pc) (st)) : VV p l e R s m args below meth c D A nL (cells) (slots) (Q) (ws) (lv) (pc) (st) := fun H ls locs hP hD hS hl => W.widen h1 h2 (kk H ls locs hP hD hS hl)
theorem vv_slen (X : CX p s m args c cc own nL D cB cI) {b L : Nat} {xs : Nat → Int32} (hX : va_X b L xs s s.heap) (hbl : b < s.heap.size) (hbA : ¬ A b) (d : decode cc pc = .ok (.arraylength, 1)) (k : VV p l e R s m args below meth c D A nL (cells) (slots) (Q) (ws) (lv) (pc + 1) (.int (nI L) :: st)) : VV p l e R s m args below meth c D A nL (cells) (slots) (Q) (ws) (lv) (pc) (.ref b :: st) := fun H ls locs hP hD hS hl => va_slen X.1 X.2.1 hX hbl hbA hS d (k H ls locs hP hD hS hl)
theorem vv_sld (X : CX p s m args c cc own nL D cB cI) {b L : Nat} {xs : Nat → Int32} (hX : va_X b L xs s s.heap) (hbl : b < s.heap.size) (hbA : ¬ A b) (d : decode cc pc = .ok (.iaload, 1)) {i : Int32} (j : Nat) (hi : i = nI j) (hj : j < L) (hL : L < 2 ^ 31) (k : VV p l e R s m args below meth c D A nL (cells) (slots) (Q) (ws) (lv) (pc + 1) (.int (xs j) :: st)) : VV p l e R s m args below meth c D A nL (cells) (slots) (Q) (ws) (lv) (pc) (.int i :: .ref b :: st) := fun H ls locs hP hD hS hl => by subst hi; have h0 := va_sld (i := nI j) (rest := st) (pc := pc) (ls := ls) (Q := Q) (e := e) (l := l) (R := R) (m := m) (args := args) (below := below) (meth := meth) (cells := cells) (slots := slots) X.1 X.2.1 hX hbl hbA hS (vp_in_nI hj hL) d; rw [nI_clamp (by omega)] at h0; exact h0 (k H ls locs hP hD hS hl)
end VLAW
theorem lw_cmp {L n : Nat} (hL : L ≤ 1536) (hn : n ≤ 512) : nI L - nI 3 < nI (3 * n) ↔ L < 3 * n + 3 := by
  rw [Int32.lt_iff_toInt_lt, pk_sub_toInt (by omega) (by omega), nI_toInt (by omega)]
  omega
theorem lw_out {a : Int32} (h : ∀ k, k < 6 → a ≠ nI k) : a.toInt < 0 ∨ 5 < a.toInt := by
  rcases pk_ix a (n := 6) (by decide) with q | q | ⟨j, j1, j2⟩
  · exact Or.inl (by have := Int32.lt_iff_toInt_lt.mp q; simpa using this)
  · refine Or.inr ?_
    have := Int32.le_iff_toInt_le.mp q
    rw [nI_toInt (by decide)] at this
    omega
  · exact absurd j2 (h j j1)
abbrev lw_w (ad : Nat → Nat) (cB cI : ClassId) (ch fl cr : Nat) (I : Nat → Int32) (fm op nx pl sf : Nat) (di : Int32) (K F : Nat → Int32) (fs : Nat → Nat) (Nb Ct Pt : Nat → Int32) (d : DS) (fd nw : Nat → Int32) (ms : Nat → Nat) (mv : Nat → Int32) (ml os : Nat → Nat) (ov : Nat → Int32) (mc mh mo md mi mf mr : Nat) : va_W := js_w ad cB cI (ch) (fl) (cr) (I) (fm) (op) (nx) (pl) (sf) (di) (K) (F) (fs) (Nb) (Ct) (Pt) (d) ++ md_w ad cB cI (fd) (nw) (ms) (mv) (ml) (os) (ov) (mc) (mh) (mo) (md) (mi) (mf) (mr)
set_option maxRecDepth 100000 in
theorem lw_change {p : Program} {l : Launch} {e : Env} {s : State} {m : MethodId} {below : List Frame} {meth : Method} {c : Code} {D : va_G} {A : Nat → Prop} {Q : State → Prop} {cB cI : ClassId} {b L : Nat} {xs : Nat → Int32} (X : CX p s m #[Value.ref b] c code "JournalShelfLaw" 4 D cB cI) (hX : va_X b L xs s s.heap) (hbl : b < s.heap.size) (hbA : ¬ A b) (hL : L ≤ 1536) (ad : Nat → Nat) (n : Nat) (hn : 3 * n + 3 ≤ L) (k : ∀ (ch fl cr : Nat) (I : Nat → Int32) (fm op nx pl sf : Nat) (di : Int32) (K F : Nat → Int32) (fs : Nat → Nat) (Nb Ct Pt : Nat → Int32) (d : DS) (fd nw : Nat → Int32) (ms : Nat → Nat) (mv : Nat → Int32) (ml os : Nat → Nat) (ov : Nat → Int32) (mc mh mo md mi mf mr : Nat), Inv (n + 1) (ch) (fl) (cr) (I) (fm) (op) (nx) (pl) (sf) (K) (F) (fs) (d) (fd) (nw) (ms) (mv) (ml) (os) (ov) (mc) (mh) (mo) (md) (mi) (mf) (mr) → VV p l e room_1 s m #[Value.ref b] below meth c D A 4 600000 7302250 Q (lw_w ad cB cI (ch) (fl) (cr) (I) (fm) (op) (nx) (pl) (sf) (di) (K) (F) (fs) (Nb) (Ct) (Pt) (d) (fd) (nw) (ms) (mv) (ml) (os) (ov) (mc) (mh) (mo) (md) (mi) (mf) (mr)) ([(0, .ref b), (1, .ref (ad 0)), (2, .ref (ad 13)), (3, .int (nI (3 * (n + 1))))]) 18 ([]))
    (ch fl cr : Nat) (I : Nat → Int32) (fm op nx pl sf : Nat) (di : Int32) (K F : Nat → Int32) (fs : Nat → Nat) (Nb Ct Pt : Nat → Int32) (d : DS) (fd nw : Nat → Int32) (ms : Nat → Nat) (mv : Nat → Int32) (ml os : Nat → Nat) (ov : Nat → Int32) (mc mh mo md mi mf mr : Nat) (hI : Inv (n) (ch) (fl) (cr) (I) (fm) (op) (nx) (pl) (sf) (K) (F) (fs) (d) (fd) (nw) (ms) (mv) (ml) (os) (ov) (mc) (mh) (mo) (md) (mi) (mf) (mr)) : VV p l e room_1 s m #[Value.ref b] below meth c D A 4 600000 7302250 Q (lw_w ad cB cI (ch) (fl) (cr) (I) (fm) (op) (nx) (pl) (sf) (di) (K) (F) (fs) (Nb) (Ct) (Pt) (d) (fd) (nw) (ms) (mv) (ml) (os) (ov) (mc) (mh) (mo) (md) (mi) (mf) (mr)) ([(0, .ref b), (1, .ref (ad 0)), (2, .ref (ad 13)), (3, .int (nI (3 * n)))]) 80 ([]) := by
  obtain ⟨⟨f1, f2, f3, f4⟩, ⟨f5, f6, f7, f8, f9, f10⟩, ⟨f11, f12, f13⟩, ⟨f14, f15, f16, f17, f18, f19⟩, f20, f21, f22⟩ := hI.facts
  obtain ⟨a, ha⟩ : ∃ z, z = xs (3 * n + 1) := ⟨_, rfl⟩
  obtain ⟨v, hv⟩ : ∃ z, z = xs (3 * n + 2) := ⟨_, rfl⟩
  by_cases q1 : nI 0 ≤ a ∧ a ≤ nI 211
  · obtain ⟨x, x1, x2⟩ := nI_of2 (M := nI 211) (n := 211) (by decide +kernel) (Int32.not_lt.mpr q1.1) q1.2
    have hx : x < 212 := by omega
    subst x2
    by_cases q2 : ch = 17
    · skip
      refine vv_aload_n X jd_Lw_law_80 1 rfl rfl ?_
      refine vv_aload_n X jd_Lw_law_81 0 rfl rfl ?_
      refine vv_iload_n X jd_Lw_law_82 3 rfl rfl ?_
      refine vv_iconst X jd_Lw_law_83 ci_1 ?_
      refine vv_iadd X jd_Lw_law_84 (nI_add (3 * n) 1) ?_
      refine vv_sld X hX hbl hbA jd_Lw_law_85 (3 * n + 1) rfl (by omega) (by omega) ?_
      rw [← ha]
      refine vv_aload_n X jd_Lw_law_86 0 rfl rfl ?_
      refine vv_iload_n X jd_Lw_law_87 3 rfl rfl ?_
      refine vv_iconst X jd_Lw_law_88 ci_2 ?_
      refine vv_iadd X jd_Lw_law_89 (nI_add (3 * n) 2) ?_
      refine vv_sld X hX hbl hbA jd_Lw_law_90 (3 * n + 2) rfl (by omega) (by omega) ?_
      rw [← hv]
      refine vv_cVi (As := [.int (nI x), .int v]) X (jc_change_full l D cB cI ad ch fl cr I fm op nx pl sf di K F fs Nb Ct Pt d x v hx q2) ok_Lw_13 ⟨rfl, rfl, Nat.le_of_ble_eq_true rfl, Nat.le_of_ble_eq_true rfl⟩ jd_Lw_law_91 0 0 rfl rfl rfl [0, 1, 2, 3, 4, 5, 6, 7, 8, 9, 10, 11, 12] rfl rfl [ad 0, ad 1, ad 2, ad 3, ad 4, ad 5, ad 6, ad 7, ad 8, ad 9, ad 10, ad 11, ad 12] (fun _ => rfl) rfl rfl rfl (Nat.le_of_ble_eq_true rfl) ⟨Nat.le_refl _, Nat.le_refl _⟩ (fun r _ er => ?_)
      refine vv_ws (ws' := lw_w ad cB cI (ch) (fl) (cr) (I) (fm) (op) (nx) (pl) (sf) (di) (K) (F) (fs) (Nb) (Ct) (Pt) (d) (fd) (nw) (ms) (mv) (ml) (os) (ov) (mc) (mh) (mo) (md) (mi) (mf) (mr)) rfl ?_
      refine vv_aload_n X jd_Lw_law_94 2 rfl rfl ?_
      refine vv_aload_n X jd_Lw_law_95 0 rfl rfl ?_
      refine vv_iload_n X jd_Lw_law_96 3 rfl rfl ?_
      refine vv_iconst X jd_Lw_law_97 ci_1 ?_
      refine vv_iadd X jd_Lw_law_98 (nI_add (3 * n) 1) ?_
      refine vv_sld X hX hbl hbA jd_Lw_law_99 (3 * n + 1) rfl (by omega) (by omega) ?_
      rw [← ha]
      refine vv_aload_n X jd_Lw_law_100 0 rfl rfl ?_
      refine vv_iload_n X jd_Lw_law_101 3 rfl rfl ?_
      refine vv_iconst X jd_Lw_law_102 ci_2 ?_
      refine vv_iadd X jd_Lw_law_103 (nI_add (3 * n) 2) ?_
      refine vv_sld X hX hbl hbA jd_Lw_law_104 (3 * n + 2) rfl (by omega) (by omega) ?_
      rw [← hv]
      refine vv_cVi (As := [.int (nI x), .int v]) X (jm_change_full l D cB cI ad fd nw ms mv ml os ov mc mh mo md mi mf mr x v hx (by omega)) ok_Lw_17 ⟨rfl, rfl, Nat.le_of_ble_eq_true rfl, Nat.le_of_ble_eq_true rfl⟩ jd_Lw_law_105 13 3 rfl rfl rfl [13, 14, 15, 16, 17, 18, 19, 20] rfl rfl [ad 13, ad 14, ad 15, ad 16, ad 17, ad 18, ad 19, ad 20] (fun _ => rfl) rfl rfl rfl (Nat.le_of_ble_eq_true rfl) ⟨Nat.le_refl _, Nat.le_refl _⟩ (fun t _ et => ?_)
      refine vv_ws (ws' := lw_w ad cB cI (ch) (fl) (cr) (I) (fm) (op) (nx) (pl) (sf) (di) (K) (F) (fs) (Nb) (Ct) (Pt) (d) (fd) (nw) (ms) (mv) (ml) (os) (ov) (mc) (mh) (mo) (md) (mi) (mf) (mr)) rfl ?_
      refine vv_icmp_eq (tgt := 244) X jd_Lw_law_108 rfl (fun h => ?_) (fun h => absurd (er.trans et.symm) h)
      refine vv_iinc X jd_Lw_law_244 3 [1, 2, 3, 0] rfl (cn_3 (3 * n)) (Nat.le_of_ble_eq_true rfl) rfl ?_
      refine vv_goto (tgt := 18) X jd_Lw_law_247 rfl ?_
      exact k _ _ _ _ _ _ _ _ _ _ _ _ _ _ _ _ _ _ _ _ _ _ _ _ _ _ _ _ _ _ _ (hI.later (by omega))
    · have h17 : ch < 17 := by omega
      by_cases q3 : 0 < ch
      · skip
        refine vv_aload_n X jd_Lw_law_80 1 rfl rfl ?_
        refine vv_aload_n X jd_Lw_law_81 0 rfl rfl ?_
        refine vv_iload_n X jd_Lw_law_82 3 rfl rfl ?_
        refine vv_iconst X jd_Lw_law_83 ci_1 ?_
        refine vv_iadd X jd_Lw_law_84 (nI_add (3 * n) 1) ?_
        refine vv_sld X hX hbl hbA jd_Lw_law_85 (3 * n + 1) rfl (by omega) (by omega) ?_
        rw [← ha]
        refine vv_aload_n X jd_Lw_law_86 0 rfl rfl ?_
        refine vv_iload_n X jd_Lw_law_87 3 rfl rfl ?_
        refine vv_iconst X jd_Lw_law_88 ci_2 ?_
        refine vv_iadd X jd_Lw_law_89 (nI_add (3 * n) 2) ?_
        refine vv_sld X hX hbl hbA jd_Lw_law_90 (3 * n + 2) rfl (by omega) (by omega) ?_
        rw [← hv]
        refine vv_cVi (As := [.int (nI x), .int v]) X (jc_change_more l D cB cI ad ch fl cr I fm op nx pl sf di K F fs Nb Ct Pt d x v hx q3 h17 (by have := f11 q3; omega) f1) ok_Lw_13 ⟨rfl, rfl, Nat.le_of_ble_eq_true rfl, Nat.le_of_ble_eq_true rfl⟩ jd_Lw_law_91 0 0 rfl rfl rfl [0, 1, 2, 3, 4, 5, 6, 7, 8, 9, 10, 11, 12] rfl rfl [ad 0, ad 1, ad 2, ad 3, ad 4, ad 5, ad 6, ad 7, ad 8, ad 9, ad 10, ad 11, ad 12] (fun _ => rfl) rfl rfl rfl (Nat.le_of_ble_eq_true rfl) ⟨Nat.le_refl _, Nat.le_refl _⟩ (fun r u er => ?_)
        refine vv_ws (ws' := lw_w ad cB cI (ch + 1) (fl) (cr) (u) (fm) (op + 1) (nx) (pl) (sf) (di) (K) (va_cpy (imgv v) (F) 0 (496 * (fm + op)) 496) (uN_ (fs) (fm + op) x) (Nb) (Ct) (Pt) (d) (fd) (nw) (ms) (mv) (ml) (os) (ov) (mc) (mh) (mo) (md) (mi) (mf) (mr)) rfl ?_
        refine vv_aload_n X jd_Lw_law_94 2 rfl rfl ?_
        refine vv_aload_n X jd_Lw_law_95 0 rfl rfl ?_
        refine vv_iload_n X jd_Lw_law_96 3 rfl rfl ?_
        refine vv_iconst X jd_Lw_law_97 ci_1 ?_
        refine vv_iadd X jd_Lw_law_98 (nI_add (3 * n) 1) ?_
        refine vv_sld X hX hbl hbA jd_Lw_law_99 (3 * n + 1) rfl (by omega) (by omega) ?_
        rw [← ha]
        refine vv_aload_n X jd_Lw_law_100 0 rfl rfl ?_
        refine vv_iload_n X jd_Lw_law_101 3 rfl rfl ?_
        refine vv_iconst X jd_Lw_law_102 ci_2 ?_
        refine vv_iadd X jd_Lw_law_103 (nI_add (3 * n) 2) ?_
        refine vv_sld X hX hbl hbA jd_Lw_law_104 (3 * n + 2) rfl (by omega) (by omega) ?_
        rw [← hv]
        refine vv_cVi (As := [.int (nI x), .int v]) X (jm_change_more l D cB cI ad fd nw ms mv ml os ov mc mh mo md mi mf mr x v hx (by omega) (by omega)) ok_Lw_17 ⟨rfl, rfl, Nat.le_of_ble_eq_true rfl, Nat.le_of_ble_eq_true rfl⟩ jd_Lw_law_105 13 3 rfl rfl rfl [13, 14, 15, 16, 17, 18, 19, 20] rfl rfl [ad 13, ad 14, ad 15, ad 16, ad 17, ad 18, ad 19, ad 20] (fun _ => rfl) rfl rfl rfl (Nat.le_of_ble_eq_true rfl) ⟨Nat.le_refl _, Nat.le_refl _⟩ (fun t _ et => ?_)
        refine vv_ws (ws' := lw_w ad cB cI (ch + 1) (fl) (cr) (u) (fm) (op + 1) (nx) (pl) (sf) (di) (K) (va_cpy (imgv v) (F) 0 (496 * (fm + op)) 496) (uN_ (fs) (fm + op) x) (Nb) (Ct) (Pt) (d) (fd) (nw) (ms) (mv) (ml) (uN_ os (mo) x) (upd ov (mo) v) (mc) (mh) (mo + 1) (md) (mi) (mf) (mr)) rfl ?_
        refine vv_icmp_eq (tgt := 244) X jd_Lw_law_108 rfl (fun h => ?_) (fun h => absurd (er.1.trans (by rw [et, f15])) h)
        refine vv_iinc X jd_Lw_law_244 3 [1, 2, 3, 0] rfl (cn_3 (3 * n)) (Nat.le_of_ble_eq_true rfl) rfl ?_
        refine vv_goto (tgt := 18) X jd_Lw_law_247 rfl ?_
        exact k _ _ _ _ _ _ _ _ _ _ _ _ _ _ _ _ _ _ _ _ _ _ _ _ _ _ _ _ _ _ _ ((hI.stage (v := v) f15 (f11 q3).1 h17 (f11 q3).2 hx).scratch er.2 f2)
      · have h0 : ch = 0 := by omega
        by_cases q4 : fm ≤ 7
        · skip
          refine vv_aload_n X jd_Lw_law_80 1 rfl rfl ?_
          refine vv_aload_n X jd_Lw_law_81 0 rfl rfl ?_
          refine vv_iload_n X jd_Lw_law_82 3 rfl rfl ?_
          refine vv_iconst X jd_Lw_law_83 ci_1 ?_
          refine vv_iadd X jd_Lw_law_84 (nI_add (3 * n) 1) ?_
          refine vv_sld X hX hbl hbA jd_Lw_law_85 (3 * n + 1) rfl (by omega) (by omega) ?_
          rw [← ha]
          refine vv_aload_n X jd_Lw_law_86 0 rfl rfl ?_
          refine vv_iload_n X jd_Lw_law_87 3 rfl rfl ?_
          refine vv_iconst X jd_Lw_law_88 ci_2 ?_
          refine vv_iadd X jd_Lw_law_89 (nI_add (3 * n) 2) ?_
          refine vv_sld X hX hbl hbA jd_Lw_law_90 (3 * n + 2) rfl (by omega) (by omega) ?_
          rw [← hv]
          refine vv_cVi (As := [.int (nI x), .int v]) X (jc_change_lo l D cB cI ad ch fl cr I fm op nx pl sf di K F fs Nb Ct Pt d x v hx h0 q4 f1) ok_Lw_13 ⟨rfl, rfl, Nat.le_of_ble_eq_true rfl, Nat.le_of_ble_eq_true rfl⟩ jd_Lw_law_91 0 0 rfl rfl rfl [0, 1, 2, 3, 4, 5, 6, 7, 8, 9, 10, 11, 12] rfl rfl [ad 0, ad 1, ad 2, ad 3, ad 4, ad 5, ad 6, ad 7, ad 8, ad 9, ad 10, ad 11, ad 12] (fun _ => rfl) rfl rfl rfl (Nat.le_of_ble_eq_true rfl) ⟨Nat.le_refl _, Nat.le_refl _⟩ (fun r u er => ?_)
          refine vv_ws (ws' := lw_w ad cB cI (ch + 1) (fl) (cr) (u) (fm) (0 + 1) (nx) (pl) (sf) (di) (K) (va_cpy (imgv v) (F) 0 (496 * (fm + 0)) 496) (uN_ (fs) (fm + 0) x) (Nb) (Ct) (Pt) (d) (fd) (nw) (ms) (mv) (ml) (os) (ov) (mc) (mh) (mo) (md) (mi) (mf) (mr)) rfl ?_
          refine vv_aload_n X jd_Lw_law_94 2 rfl rfl ?_
          refine vv_aload_n X jd_Lw_law_95 0 rfl rfl ?_
          refine vv_iload_n X jd_Lw_law_96 3 rfl rfl ?_
          refine vv_iconst X jd_Lw_law_97 ci_1 ?_
          refine vv_iadd X jd_Lw_law_98 (nI_add (3 * n) 1) ?_
          refine vv_sld X hX hbl hbA jd_Lw_law_99 (3 * n + 1) rfl (by omega) (by omega) ?_
          rw [← ha]
          refine vv_aload_n X jd_Lw_law_100 0 rfl rfl ?_
          refine vv_iload_n X jd_Lw_law_101 3 rfl rfl ?_
          refine vv_iconst X jd_Lw_law_102 ci_2 ?_
          refine vv_iadd X jd_Lw_law_103 (nI_add (3 * n) 2) ?_
          refine vv_sld X hX hbl hbA jd_Lw_law_104 (3 * n + 2) rfl (by omega) (by omega) ?_
          rw [← hv]
          refine vv_cVi (As := [.int (nI x), .int v]) X (jm_change_lo l D cB cI ad fd nw ms mv ml os ov mc mh mo md mi mf mr x v hx (by omega) (by omega)) ok_Lw_17 ⟨rfl, rfl, Nat.le_of_ble_eq_true rfl, Nat.le_of_ble_eq_true rfl⟩ jd_Lw_law_105 13 3 rfl rfl rfl [13, 14, 15, 16, 17, 18, 19, 20] rfl rfl [ad 13, ad 14, ad 15, ad 16, ad 17, ad 18, ad 19, ad 20] (fun _ => rfl) rfl rfl rfl (Nat.le_of_ble_eq_true rfl) ⟨Nat.le_refl _, Nat.le_refl _⟩ (fun t _ et => ?_)
          refine vv_ws (ws' := lw_w ad cB cI (ch + 1) (fl) (cr) (u) (fm) (0 + 1) (nx) (pl) (sf) (di) (K) (va_cpy (imgv v) (F) 0 (496 * (fm + 0)) 496) (uN_ (fs) (fm + 0) x) (Nb) (Ct) (Pt) (d) (fd) (nw) (ms) (mv) (ml) (uN_ os (mo) x) (upd ov (mo) v) (mc) (mh) (mo + 1) (md) (mi) (mf) (mr)) rfl ?_
          refine vv_icmp_eq (tgt := 244) X jd_Lw_law_108 rfl (fun h => ?_) (fun h => absurd (er.1.trans (by rw [et, f15])) h)
          refine vv_iinc X jd_Lw_law_244 3 [1, 2, 3, 0] rfl (cn_3 (3 * n)) (Nat.le_of_ble_eq_true rfl) rfl ?_
          refine vv_goto (tgt := 18) X jd_Lw_law_247 rfl ?_
          exact k _ _ _ _ _ _ _ _ _ _ _ _ _ _ _ _ _ _ _ _ _ _ _ _ _ _ _ _ _ _ _ ((hI.stage (v := v) f15 (op' := 0) h0.symm h17 q4 hx).scratch er.2 f2)
        · skip
          refine vv_aload_n X jd_Lw_law_80 1 rfl rfl ?_
          refine vv_aload_n X jd_Lw_law_81 0 rfl rfl ?_
          refine vv_iload_n X jd_Lw_law_82 3 rfl rfl ?_
          refine vv_iconst X jd_Lw_law_83 ci_1 ?_
          refine vv_iadd X jd_Lw_law_84 (nI_add (3 * n) 1) ?_
          refine vv_sld X hX hbl hbA jd_Lw_law_85 (3 * n + 1) rfl (by omega) (by omega) ?_
          rw [← ha]
          refine vv_aload_n X jd_Lw_law_86 0 rfl rfl ?_
          refine vv_iload_n X jd_Lw_law_87 3 rfl rfl ?_
          refine vv_iconst X jd_Lw_law_88 ci_2 ?_
          refine vv_iadd X jd_Lw_law_89 (nI_add (3 * n) 2) ?_
          refine vv_sld X hX hbl hbA jd_Lw_law_90 (3 * n + 2) rfl (by omega) (by omega) ?_
          rw [← hv]
          refine vv_cVi (As := [.int (nI x), .int v]) X (jc_change_hi l D cB cI ad ch fl cr I fm op nx pl sf di K F fs Nb Ct Pt d x v hx h0 (by omega) f4 f5 f6 f7 f3 f2 f1) ok_Lw_13 ⟨rfl, rfl, Nat.le_of_ble_eq_true rfl, Nat.le_of_ble_eq_true rfl⟩ jd_Lw_law_91 0 0 rfl rfl rfl [0, 1, 2, 3, 4, 5, 6, 7, 8, 9, 10, 11, 12] rfl rfl [ad 0, ad 1, ad 2, ad 3, ad 4, ad 5, ad 6, ad 7, ad 8, ad 9, ad 10, ad 11, ad 12] (fun _ => rfl) rfl rfl rfl (Nat.le_of_ble_eq_true rfl) ⟨Nat.le_refl _, Nat.le_refl _⟩ (fun r u er => ?_)
          refine vv_ws (ws' := lw_w ad cB cI (ch + 1) (fl + 1) (cr) (u.1) (0) (0 + 1) (nx) (pl) (nx - 1) (0) (u.2) (va_cpy (imgv v) (F) 0 (496 * (0 + 0)) 496) (uN_ (fs) (0 + 0) x) (Nb) (Ct) (Pt) (fl_h F fs fm (ds_flush d) fm) (fd) (nw) (ms) (mv) (ml) (os) (ov) (mc) (mh) (mo) (md) (mi) (mf) (mr)) rfl ?_
          refine vv_aload_n X jd_Lw_law_94 2 rfl rfl ?_
          refine vv_aload_n X jd_Lw_law_95 0 rfl rfl ?_
          refine vv_iload_n X jd_Lw_law_96 3 rfl rfl ?_
          refine vv_iconst X jd_Lw_law_97 ci_1 ?_
          refine vv_iadd X jd_Lw_law_98 (nI_add (3 * n) 1) ?_
          refine vv_sld X hX hbl hbA jd_Lw_law_99 (3 * n + 1) rfl (by omega) (by omega) ?_
          rw [← ha]
          refine vv_aload_n X jd_Lw_law_100 0 rfl rfl ?_
          refine vv_iload_n X jd_Lw_law_101 3 rfl rfl ?_
          refine vv_iconst X jd_Lw_law_102 ci_2 ?_
          refine vv_iadd X jd_Lw_law_103 (nI_add (3 * n) 2) ?_
          refine vv_sld X hX hbl hbA jd_Lw_law_104 (3 * n + 2) rfl (by omega) (by omega) ?_
          rw [← hv]
          refine vv_cVi (As := [.int (nI x), .int v]) X (jm_change_hi l D cB cI ad fd nw ms mv ml os ov mc mh mo md mi mf mr (by omega) f20 x v hx (by omega) (by omega)) ok_Lw_17 ⟨rfl, rfl, Nat.le_of_ble_eq_true rfl, Nat.le_of_ble_eq_true rfl⟩ jd_Lw_law_105 13 3 rfl rfl rfl [13, 14, 15, 16, 17, 18, 19, 20] rfl rfl [ad 13, ad 14, ad 15, ad 16, ad 17, ad 18, ad 19, ad 20] (fun _ => rfl) rfl rfl rfl (Nat.le_of_ble_eq_true rfl) ⟨Nat.le_refl _, Nat.le_refl _⟩ (fun t _ et => ?_)
          refine vv_ws (ws' := lw_w ad cB cI (ch + 1) (fl + 1) (cr) (u.1) (0) (0 + 1) (nx) (pl) (nx - 1) (0) (u.2) (va_cpy (imgv v) (F) 0 (496 * (0 + 0)) 496) (uN_ (fs) (0 + 0) x) (Nb) (Ct) (Pt) (fl_h F fs fm (ds_flush d) fm) (prf nw fd 212) (nw) (ms) (mv) (ml) (uN_ os (0) x) (upd ov (0) v) (0) (di_n ms mc) (0 + 1) (md) (0) (mf + 1) (mr)) rfl ?_
          refine vv_icmp_eq (tgt := 244) X jd_Lw_law_108 rfl (fun h => ?_) (fun h => absurd (er.1.trans (by rw [et, h0])) h)
          refine vv_iinc X jd_Lw_law_244 3 [1, 2, 3, 0] rfl (cn_3 (3 * n)) (Nat.le_of_ble_eq_true rfl) rfl ?_
          refine vv_goto (tgt := 18) X jd_Lw_law_247 rfl ?_
          exact k _ _ _ _ _ _ _ _ _ _ _ _ _ _ _ _ _ _ _ _ _ _ _ _ _ _ _ _ _ _ _ (by
            subst h0
            exact ((hI.flush (op' := 0) (by omega) er.2.2).stage (v := v) (op' := 0) (ch' := 0) rfl rfl (by omega) (by omega) hx).scratch er.2.1 er.2.2)
  · skip
    refine vv_aload_n X jd_Lw_law_80 1 rfl rfl ?_
    refine vv_aload_n X jd_Lw_law_81 0 rfl rfl ?_
    refine vv_iload_n X jd_Lw_law_82 3 rfl rfl ?_
    refine vv_iconst X jd_Lw_law_83 ci_1 ?_
    refine vv_iadd X jd_Lw_law_84 (nI_add (3 * n) 1) ?_
    refine vv_sld X hX hbl hbA jd_Lw_law_85 (3 * n + 1) rfl (by omega) (by omega) ?_
    rw [← ha]
    refine vv_aload_n X jd_Lw_law_86 0 rfl rfl ?_
    refine vv_iload_n X jd_Lw_law_87 3 rfl rfl ?_
    refine vv_iconst X jd_Lw_law_88 ci_2 ?_
    refine vv_iadd X jd_Lw_law_89 (nI_add (3 * n) 2) ?_
    refine vv_sld X hX hbl hbA jd_Lw_law_90 (3 * n + 2) rfl (by omega) (by omega) ?_
    rw [← hv]
    refine vv_cVi (As := [.int a, .int v]) X (jc_change_ref l D cB cI ad ch fl cr I fm op nx pl sf di K F fs Nb Ct Pt d a v q1) ok_Lw_13 ⟨rfl, rfl, Nat.le_of_ble_eq_true rfl, Nat.le_of_ble_eq_true rfl⟩ jd_Lw_law_91 0 0 rfl rfl rfl [0, 1, 2, 3, 4, 5, 6, 7, 8, 9, 10, 11, 12] rfl rfl [ad 0, ad 1, ad 2, ad 3, ad 4, ad 5, ad 6, ad 7, ad 8, ad 9, ad 10, ad 11, ad 12] (fun _ => rfl) rfl rfl rfl (Nat.le_of_ble_eq_true rfl) ⟨Nat.le_refl _, Nat.le_refl _⟩ (fun r _ er => ?_)
    refine vv_ws (ws' := lw_w ad cB cI (ch) (fl) (cr) (I) (fm) (op) (nx) (pl) (sf) (di) (K) (F) (fs) (Nb) (Ct) (Pt) (d) (fd) (nw) (ms) (mv) (ml) (os) (ov) (mc) (mh) (mo) (md) (mi) (mf) (mr)) rfl ?_
    refine vv_aload_n X jd_Lw_law_94 2 rfl rfl ?_
    refine vv_aload_n X jd_Lw_law_95 0 rfl rfl ?_
    refine vv_iload_n X jd_Lw_law_96 3 rfl rfl ?_
    refine vv_iconst X jd_Lw_law_97 ci_1 ?_
    refine vv_iadd X jd_Lw_law_98 (nI_add (3 * n) 1) ?_
    refine vv_sld X hX hbl hbA jd_Lw_law_99 (3 * n + 1) rfl (by omega) (by omega) ?_
    rw [← ha]
    refine vv_aload_n X jd_Lw_law_100 0 rfl rfl ?_
    refine vv_iload_n X jd_Lw_law_101 3 rfl rfl ?_
    refine vv_iconst X jd_Lw_law_102 ci_2 ?_
    refine vv_iadd X jd_Lw_law_103 (nI_add (3 * n) 2) ?_
    refine vv_sld X hX hbl hbA jd_Lw_law_104 (3 * n + 2) rfl (by omega) (by omega) ?_
    rw [← hv]
    refine vv_cVi (As := [.int a, .int v]) X (jm_change_ref l D cB cI ad fd nw ms mv ml os ov mc mh mo md mi mf mr a v q1) ok_Lw_17 ⟨rfl, rfl, Nat.le_of_ble_eq_true rfl, Nat.le_of_ble_eq_true rfl⟩ jd_Lw_law_105 13 3 rfl rfl rfl [13, 14, 15, 16, 17, 18, 19, 20] rfl rfl [ad 13, ad 14, ad 15, ad 16, ad 17, ad 18, ad 19, ad 20] (fun _ => rfl) rfl rfl rfl (Nat.le_of_ble_eq_true rfl) ⟨Nat.le_refl _, Nat.le_refl _⟩ (fun t _ et => ?_)
    refine vv_ws (ws' := lw_w ad cB cI (ch) (fl) (cr) (I) (fm) (op) (nx) (pl) (sf) (di) (K) (F) (fs) (Nb) (Ct) (Pt) (d) (fd) (nw) (ms) (mv) (ml) (os) (ov) (mc) (mh) (mo) (md) (mi) (mf) (mr)) rfl ?_
    refine vv_icmp_eq (tgt := 244) X jd_Lw_law_108 rfl (fun h => ?_) (fun h => absurd (er.trans et.symm) h)
    refine vv_iinc X jd_Lw_law_244 3 [1, 2, 3, 0] rfl (cn_3 (3 * n)) (Nat.le_of_ble_eq_true rfl) rfl ?_
    refine vv_goto (tgt := 18) X jd_Lw_law_247 rfl ?_
    exact k _ _ _ _ _ _ _ _ _ _ _ _ _ _ _ _ _ _ _ _ _ _ _ _ _ _ _ _ _ _ _ (hI.later (by omega))
set_option maxRecDepth 100000 in
theorem lw_commit {p : Program} {l : Launch} {e : Env} {s : State} {m : MethodId} {below : List Frame} {meth : Method} {c : Code} {D : va_G} {A : Nat → Prop} {Q : State → Prop} {cB cI : ClassId} {b L : Nat} {xs : Nat → Int32} (X : CX p s m #[Value.ref b] c code "JournalShelfLaw" 4 D cB cI) (hX : va_X b L xs s s.heap) (hbl : b < s.heap.size) (hbA : ¬ A b) (hL : L ≤ 1536) (ad : Nat → Nat) (n : Nat) (hn : 3 * n + 3 ≤ L) (k : ∀ (ch fl cr : Nat) (I : Nat → Int32) (fm op nx pl sf : Nat) (di : Int32) (K F : Nat → Int32) (fs : Nat → Nat) (Nb Ct Pt : Nat → Int32) (d : DS) (fd nw : Nat → Int32) (ms : Nat → Nat) (mv : Nat → Int32) (ml os : Nat → Nat) (ov : Nat → Int32) (mc mh mo md mi mf mr : Nat), Inv (n + 1) (ch) (fl) (cr) (I) (fm) (op) (nx) (pl) (sf) (K) (F) (fs) (d) (fd) (nw) (ms) (mv) (ml) (os) (ov) (mc) (mh) (mo) (md) (mi) (mf) (mr) → VV p l e room_1 s m #[Value.ref b] below meth c D A 4 600000 7302250 Q (lw_w ad cB cI (ch) (fl) (cr) (I) (fm) (op) (nx) (pl) (sf) (di) (K) (F) (fs) (Nb) (Ct) (Pt) (d) (fd) (nw) (ms) (mv) (ml) (os) (ov) (mc) (mh) (mo) (md) (mi) (mf) (mr)) ([(0, .ref b), (1, .ref (ad 0)), (2, .ref (ad 13)), (3, .int (nI (3 * (n + 1))))]) 18 ([]))
    (ch fl cr : Nat) (I : Nat → Int32) (fm op nx pl sf : Nat) (di : Int32) (K F : Nat → Int32) (fs : Nat → Nat) (Nb Ct Pt : Nat → Int32) (d : DS) (fd nw : Nat → Int32) (ms : Nat → Nat) (mv : Nat → Int32) (ml os : Nat → Nat) (ov : Nat → Int32) (mc mh mo md mi mf mr : Nat) (hI : Inv (n) (ch) (fl) (cr) (I) (fm) (op) (nx) (pl) (sf) (K) (F) (fs) (d) (fd) (nw) (ms) (mv) (ml) (os) (ov) (mc) (mh) (mo) (md) (mi) (mf) (mr)) : VV p l e room_1 s m #[Value.ref b] below meth c D A 4 600000 7302250 Q (lw_w ad cB cI (ch) (fl) (cr) (I) (fm) (op) (nx) (pl) (sf) (di) (K) (F) (fs) (Nb) (Ct) (Pt) (d) (fd) (nw) (ms) (mv) (ml) (os) (ov) (mc) (mh) (mo) (md) (mi) (mf) (mr)) ([(0, .ref b), (1, .ref (ad 0)), (2, .ref (ad 13)), (3, .int (nI (3 * n)))]) 113 ([]) := by
  obtain ⟨⟨f1, f2, f3, f4⟩, ⟨f5, f6, f7, f8, f9, f10⟩, ⟨f11, f12, f13⟩, ⟨f14, f15, f16, f17, f18, f19⟩, f20, f21, f22⟩ := hI.facts
  by_cases q : ch = 0
  · skip
    refine vv_aload_n X jd_Lw_law_113 1 rfl rfl ?_
    refine vv_cVi (As := []) X (jc_commit_no l D cB cI ad ch fl cr I fm op nx pl sf di K F fs Nb Ct Pt d q) ok_Lw_18 ⟨rfl, rfl, Nat.le_of_ble_eq_true rfl, Nat.le_of_ble_eq_true rfl⟩ jd_Lw_law_114 0 0 rfl rfl rfl [0, 1, 2, 3, 4, 5, 6, 7, 8, 9, 10, 11, 12] rfl rfl [ad 0, ad 1, ad 2, ad 3, ad 4, ad 5, ad 6, ad 7, ad 8, ad 9, ad 10, ad 11, ad 12] (fun _ => rfl) rfl rfl rfl (Nat.le_of_ble_eq_true rfl) ⟨Nat.le_refl _, Nat.le_refl _⟩ (fun r _ er => ?_)
    refine vv_ws (ws' := lw_w ad cB cI (ch) (fl) (cr) (I) (fm) (op) (nx) (pl) (sf) (di) (K) (F) (fs) (Nb) (Ct) (Pt) (d) (fd) (nw) (ms) (mv) (ml) (os) (ov) (mc) (mh) (mo) (md) (mi) (mf) (mr)) rfl ?_
    refine vv_aload_n X jd_Lw_law_117 2 rfl rfl ?_
    refine vv_cVi (As := []) X (jm_commit_no l D cB cI ad fd nw ms mv ml os ov mc mh mo md mi mf mr (by omega)) ok_Lw_22 ⟨rfl, rfl, Nat.le_of_ble_eq_true rfl, Nat.le_of_ble_eq_true rfl⟩ jd_Lw_law_118 13 3 rfl rfl rfl [13, 14, 15, 16, 17, 18, 19, 20] rfl rfl [ad 13, ad 14, ad 15, ad 16, ad 17, ad 18, ad 19, ad 20] (fun _ => rfl) rfl rfl rfl (Nat.le_of_ble_eq_true rfl) ⟨Nat.le_refl _, Nat.le_refl _⟩ (fun t _ et => ?_)
    refine vv_ws (ws' := lw_w ad cB cI (ch) (fl) (cr) (I) (fm) (op) (nx) (pl) (sf) (di) (K) (F) (fs) (Nb) (Ct) (Pt) (d) (fd) (nw) (ms) (mv) (ml) (os) (ov) (mc) (mh) (mo) (md) (mi) (mf) (mr)) rfl ?_
    refine vv_icmp_eq (tgt := 244) X jd_Lw_law_121 rfl (fun h => ?_) (fun h => absurd (er.trans et.symm) h)
    refine vv_iinc X jd_Lw_law_244 3 [1, 2, 3, 0] rfl (cn_3 (3 * n)) (Nat.le_of_ble_eq_true rfl) rfl ?_
    refine vv_goto (tgt := 18) X jd_Lw_law_247 rfl ?_
    exact k _ _ _ _ _ _ _ _ _ _ _ _ _ _ _ _ _ _ _ _ _ _ _ _ _ _ _ _ _ _ _ (hI.later (by omega))
  · have h0 : 0 < ch := by omega
    obtain ⟨e1, e2⟩ := f11 h0
    skip
    refine vv_aload_n X jd_Lw_law_113 1 rfl rfl ?_
    refine vv_cVi (As := []) X (jc_commit_yes l D cB cI ad ch fl cr I fm op nx pl sf di K F fs Nb Ct Pt d h0 f10 f4 (by omega) (by omega) (by omega) f9 f3 f2) ok_Lw_18 ⟨rfl, rfl, Nat.le_of_ble_eq_true rfl, Nat.le_of_ble_eq_true rfl⟩ jd_Lw_law_114 0 0 rfl rfl rfl [0, 1, 2, 3, 4, 5, 6, 7, 8, 9, 10, 11, 12] rfl rfl [ad 0, ad 1, ad 2, ad 3, ad 4, ad 5, ad 6, ad 7, ad 8, ad 9, ad 10, ad 11, ad 12] (fun _ => rfl) rfl rfl rfl (Nat.le_of_ble_eq_true rfl) ⟨Nat.le_refl _, Nat.le_refl _⟩ (fun r u er => ?_)
    refine vv_ws (ws' := lw_w ad cB cI (0) (fl) (cr) (I) (fm + op) (0) (nx + 1) ((pl + op) % 52) (sf) (1) (u) (F) (fs) (Nb) (Ct) (Pt) (cm_d nx op sf fm pl fs F d op) (fd) (nw) (ms) (mv) (ml) (os) (ov) (mc) (mh) (mo) (md) (mi) (mf) (mr)) rfl ?_
    refine vv_aload_n X jd_Lw_law_117 2 rfl rfl ?_
    refine vv_cVi (As := []) X (jm_commit_yes l D cB cI ad fd nw ms mv ml os ov mc mh mo md mi mf mr (by omega) (by omega) (by omega) (fun k hk => f22 k (by omega))) ok_Lw_22 ⟨rfl, rfl, Nat.le_of_ble_eq_true rfl, Nat.le_of_ble_eq_true rfl⟩ jd_Lw_law_118 13 3 rfl rfl rfl [13, 14, 15, 16, 17, 18, 19, 20] rfl rfl [ad 13, ad 14, ad 15, ad 16, ad 17, ad 18, ad 19, ad 20] (fun _ => rfl) rfl rfl rfl (Nat.le_of_ble_eq_true rfl) ⟨Nat.le_refl _, Nat.le_refl _⟩ (fun t _ et => ?_)
    refine vv_ws (ws' := lw_w ad cB cI (0) (fl) (cr) (I) (fm + op) (0) (nx + 1) ((pl + op) % 52) (sf) (1) (u) (F) (fs) (Nb) (Ct) (Pt) (cm_d nx op sf fm pl fs F d op) (fd) (cmN nw os ov (mo)) (cmS ms os mc (mo)) (cmV mv ov mc (mo)) (cmL ml mc mo (mo)) (os) (ov) (mc + (mo)) (mh) (0) (md + 1) (mi + 1) (mf) (mr)) rfl ?_
    refine vv_icmp_eq (tgt := 244) X jd_Lw_law_121 rfl (fun h => ?_) (fun h => absurd (er.1.trans (by rw [et, f15])) h)
    refine vv_iinc X jd_Lw_law_244 3 [1, 2, 3, 0] rfl (cn_3 (3 * n)) (Nat.le_of_ble_eq_true rfl) rfl ?_
    refine vv_goto (tgt := 18) X jd_Lw_law_247 rfl ?_
    exact k _ _ _ _ _ _ _ _ _ _ _ _ _ _ _ _ _ _ _ _ _ _ _ _ _ _ _ _ _ _ _ (hI.commit er.2 h0)
set_option maxRecDepth 100000 in
theorem lw_forget {p : Program} {l : Launch} {e : Env} {s : State} {m : MethodId} {below : List Frame} {meth : Method} {c : Code} {D : va_G} {A : Nat → Prop} {Q : State → Prop} {cB cI : ClassId} {b L : Nat} {xs : Nat → Int32} (X : CX p s m #[Value.ref b] c code "JournalShelfLaw" 4 D cB cI) (hX : va_X b L xs s s.heap) (hbl : b < s.heap.size) (hbA : ¬ A b) (hL : L ≤ 1536) (ad : Nat → Nat) (n : Nat) (hn : 3 * n + 3 ≤ L) (k : ∀ (ch fl cr : Nat) (I : Nat → Int32) (fm op nx pl sf : Nat) (di : Int32) (K F : Nat → Int32) (fs : Nat → Nat) (Nb Ct Pt : Nat → Int32) (d : DS) (fd nw : Nat → Int32) (ms : Nat → Nat) (mv : Nat → Int32) (ml os : Nat → Nat) (ov : Nat → Int32) (mc mh mo md mi mf mr : Nat), Inv (n + 1) (ch) (fl) (cr) (I) (fm) (op) (nx) (pl) (sf) (K) (F) (fs) (d) (fd) (nw) (ms) (mv) (ml) (os) (ov) (mc) (mh) (mo) (md) (mi) (mf) (mr) → VV p l e room_1 s m #[Value.ref b] below meth c D A 4 600000 7302250 Q (lw_w ad cB cI (ch) (fl) (cr) (I) (fm) (op) (nx) (pl) (sf) (di) (K) (F) (fs) (Nb) (Ct) (Pt) (d) (fd) (nw) (ms) (mv) (ml) (os) (ov) (mc) (mh) (mo) (md) (mi) (mf) (mr)) ([(0, .ref b), (1, .ref (ad 0)), (2, .ref (ad 13)), (3, .int (nI (3 * (n + 1))))]) 18 ([]))
    (ch fl cr : Nat) (I : Nat → Int32) (fm op nx pl sf : Nat) (di : Int32) (K F : Nat → Int32) (fs : Nat → Nat) (Nb Ct Pt : Nat → Int32) (d : DS) (fd nw : Nat → Int32) (ms : Nat → Nat) (mv : Nat → Int32) (ml os : Nat → Nat) (ov : Nat → Int32) (mc mh mo md mi mf mr : Nat) (hI : Inv (n) (ch) (fl) (cr) (I) (fm) (op) (nx) (pl) (sf) (K) (F) (fs) (d) (fd) (nw) (ms) (mv) (ml) (os) (ov) (mc) (mh) (mo) (md) (mi) (mf) (mr)) : VV p l e room_1 s m #[Value.ref b] below meth c D A 4 600000 7302250 Q (lw_w ad cB cI (ch) (fl) (cr) (I) (fm) (op) (nx) (pl) (sf) (di) (K) (F) (fs) (Nb) (Ct) (Pt) (d) (fd) (nw) (ms) (mv) (ml) (os) (ov) (mc) (mh) (mo) (md) (mi) (mf) (mr)) ([(0, .ref b), (1, .ref (ad 0)), (2, .ref (ad 13)), (3, .int (nI (3 * n)))]) 126 ([]) := by
  obtain ⟨⟨f1, f2, f3, f4⟩, ⟨f5, f6, f7, f8, f9, f10⟩, ⟨f11, f12, f13⟩, ⟨f14, f15, f16, f17, f18, f19⟩, f20, f21, f22⟩ := hI.facts
  skip
  refine vv_aload_n X jd_Lw_law_126 1 rfl rfl ?_
  refine vv_cVi (As := []) X (jc_forget l D cB cI ad ch fl cr I fm op nx pl sf di K F fs Nb Ct Pt d) ok_Lw_23 ⟨rfl, rfl, Nat.le_of_ble_eq_true rfl, Nat.le_of_ble_eq_true rfl⟩ jd_Lw_law_127 0 0 rfl rfl rfl [0, 1, 2, 3, 4, 5, 6, 7, 8, 9, 10, 11, 12] rfl rfl [ad 0, ad 1, ad 2, ad 3, ad 4, ad 5, ad 6, ad 7, ad 8, ad 9, ad 10, ad 11, ad 12] (fun _ => rfl) rfl rfl rfl (Nat.le_of_ble_eq_true rfl) ⟨Nat.le_refl _, Nat.le_refl _⟩ (fun r _ er => ?_)
  refine vv_ws (ws' := lw_w ad cB cI (0) (fl) (cr) (I) (fm) (op) (nx) (pl) (sf) (di) (K) (F) (fs) (Nb) (Ct) (Pt) (d) (fd) (nw) (ms) (mv) (ml) (os) (ov) (mc) (mh) (mo) (md) (mi) (mf) (mr)) rfl ?_
  refine vv_aload_n X jd_Lw_law_130 2 rfl rfl ?_
  refine vv_cVi (As := []) X (jm_forget l D cB cI ad fd nw ms mv ml os ov mc mh mo md mi mf mr) ok_Lw_26 ⟨rfl, rfl, Nat.le_of_ble_eq_true rfl, Nat.le_of_ble_eq_true rfl⟩ jd_Lw_law_131 13 3 rfl rfl rfl [13, 14, 15, 16, 17, 18, 19, 20] rfl rfl [ad 13, ad 14, ad 15, ad 16, ad 17, ad 18, ad 19, ad 20] (fun _ => rfl) rfl rfl rfl (Nat.le_of_ble_eq_true rfl) ⟨Nat.le_refl _, Nat.le_refl _⟩ (fun t _ et => ?_)
  refine vv_ws (ws' := lw_w ad cB cI (0) (fl) (cr) (I) (fm) (op) (nx) (pl) (sf) (di) (K) (F) (fs) (Nb) (Ct) (Pt) (d) (fd) (nw) (ms) (mv) (ml) (os) (ov) (mc) (mh) (0) (md) (mi) (mf) (mr)) rfl ?_
  refine vv_icmp_eq (tgt := 244) X jd_Lw_law_134 rfl (fun h => ?_) (fun h => absurd (er.trans (by rw [et, f15])) h)
  refine vv_iinc X jd_Lw_law_244 3 [1, 2, 3, 0] rfl (cn_3 (3 * n)) (Nat.le_of_ble_eq_true rfl) rfl ?_
  refine vv_goto (tgt := 18) X jd_Lw_law_247 rfl ?_
  exact k _ _ _ _ _ _ _ _ _ _ _ _ _ _ _ _ _ _ _ _ _ _ _ _ _ _ _ _ _ _ _ (hI.forget)
set_option maxRecDepth 100000 in
theorem lw_flush {p : Program} {l : Launch} {e : Env} {s : State} {m : MethodId} {below : List Frame} {meth : Method} {c : Code} {D : va_G} {A : Nat → Prop} {Q : State → Prop} {cB cI : ClassId} {b L : Nat} {xs : Nat → Int32} (X : CX p s m #[Value.ref b] c code "JournalShelfLaw" 4 D cB cI) (hX : va_X b L xs s s.heap) (hbl : b < s.heap.size) (hbA : ¬ A b) (hL : L ≤ 1536) (ad : Nat → Nat) (n : Nat) (hn : 3 * n + 3 ≤ L) (k : ∀ (ch fl cr : Nat) (I : Nat → Int32) (fm op nx pl sf : Nat) (di : Int32) (K F : Nat → Int32) (fs : Nat → Nat) (Nb Ct Pt : Nat → Int32) (d : DS) (fd nw : Nat → Int32) (ms : Nat → Nat) (mv : Nat → Int32) (ml os : Nat → Nat) (ov : Nat → Int32) (mc mh mo md mi mf mr : Nat), Inv (n + 1) (ch) (fl) (cr) (I) (fm) (op) (nx) (pl) (sf) (K) (F) (fs) (d) (fd) (nw) (ms) (mv) (ml) (os) (ov) (mc) (mh) (mo) (md) (mi) (mf) (mr) → VV p l e room_1 s m #[Value.ref b] below meth c D A 4 600000 7302250 Q (lw_w ad cB cI (ch) (fl) (cr) (I) (fm) (op) (nx) (pl) (sf) (di) (K) (F) (fs) (Nb) (Ct) (Pt) (d) (fd) (nw) (ms) (mv) (ml) (os) (ov) (mc) (mh) (mo) (md) (mi) (mf) (mr)) ([(0, .ref b), (1, .ref (ad 0)), (2, .ref (ad 13)), (3, .int (nI (3 * (n + 1))))]) 18 ([]))
    (ch fl cr : Nat) (I : Nat → Int32) (fm op nx pl sf : Nat) (di : Int32) (K F : Nat → Int32) (fs : Nat → Nat) (Nb Ct Pt : Nat → Int32) (d : DS) (fd nw : Nat → Int32) (ms : Nat → Nat) (mv : Nat → Int32) (ml os : Nat → Nat) (ov : Nat → Int32) (mc mh mo md mi mf mr : Nat) (hI : Inv (n) (ch) (fl) (cr) (I) (fm) (op) (nx) (pl) (sf) (K) (F) (fs) (d) (fd) (nw) (ms) (mv) (ml) (os) (ov) (mc) (mh) (mo) (md) (mi) (mf) (mr)) : VV p l e room_1 s m #[Value.ref b] below meth c D A 4 600000 7302250 Q (lw_w ad cB cI (ch) (fl) (cr) (I) (fm) (op) (nx) (pl) (sf) (di) (K) (F) (fs) (Nb) (Ct) (Pt) (d) (fd) (nw) (ms) (mv) (ml) (os) (ov) (mc) (mh) (mo) (md) (mi) (mf) (mr)) ([(0, .ref b), (1, .ref (ad 0)), (2, .ref (ad 13)), (3, .int (nI (3 * n)))]) 139 ([]) := by
  obtain ⟨⟨f1, f2, f3, f4⟩, ⟨f5, f6, f7, f8, f9, f10⟩, ⟨f11, f12, f13⟩, ⟨f14, f15, f16, f17, f18, f19⟩, f20, f21, f22⟩ := hI.facts
  skip
  refine vv_aload_n X jd_Lw_law_139 1 rfl rfl ?_
  refine vv_cVi (As := []) X (jc_flush l D cB cI ad ch fl cr I fm op nx pl sf di K F fs Nb Ct Pt d f4 f5 f6 f7 f8 f3 f2) ok_Lw_27 ⟨rfl, rfl, Nat.le_of_ble_eq_true rfl, Nat.le_of_ble_eq_true rfl⟩ jd_Lw_law_140 0 0 rfl rfl rfl [0, 1, 2, 3, 4, 5, 6, 7, 8, 9, 10, 11, 12] rfl rfl [ad 0, ad 1, ad 2, ad 3, ad 4, ad 5, ad 6, ad 7, ad 8, ad 9, ad 10, ad 11, ad 12] (fun _ => rfl) rfl rfl rfl (Nat.le_of_ble_eq_true rfl) ⟨Nat.le_refl _, Nat.le_refl _⟩ (fun r u er => ?_)
  refine vv_ws (ws' := lw_w ad cB cI (0) (fl + 1) (cr) (I) (0) (op) (nx) (pl) (nx - 1) (0) (u) (F) (fs) (Nb) (Ct) (Pt) (fl_h F fs fm (ds_flush d) fm) (fd) (nw) (ms) (mv) (ml) (os) (ov) (mc) (mh) (mo) (md) (mi) (mf) (mr)) rfl ?_
  refine vv_aload_n X jd_Lw_law_143 2 rfl rfl ?_
  refine vv_cVi (As := []) X (jm_flush l D cB cI ad fd nw ms mv ml os ov mc mh mo md mi mf mr (by omega) f20) ok_Lw_30 ⟨rfl, rfl, Nat.le_of_ble_eq_true rfl, Nat.le_of_ble_eq_true rfl⟩ jd_Lw_law_144 13 3 rfl rfl rfl [13, 14, 15, 16, 17, 18, 19, 20] rfl rfl [ad 13, ad 14, ad 15, ad 16, ad 17, ad 18, ad 19, ad 20] (fun _ => rfl) rfl rfl rfl (Nat.le_of_ble_eq_true rfl) ⟨Nat.le_refl _, Nat.le_refl _⟩ (fun t _ et => ?_)
  refine vv_ws (ws' := lw_w ad cB cI (0) (fl + 1) (cr) (I) (0) (op) (nx) (pl) (nx - 1) (0) (u) (F) (fs) (Nb) (Ct) (Pt) (fl_h F fs fm (ds_flush d) fm) (prf nw fd 212) (nw) (ms) (mv) (ml) (os) (ov) (0) (di_n ms mc) (0) (md) (0) (mf + 1) (mr)) rfl ?_
  refine vv_icmp_eq (tgt := 244) X jd_Lw_law_147 rfl (fun h => ?_) (fun h => absurd (er.1.trans (by rw [et, f17])) h)
  refine vv_iinc X jd_Lw_law_244 3 [1, 2, 3, 0] rfl (cn_3 (3 * n)) (Nat.le_of_ble_eq_true rfl) rfl ?_
  refine vv_goto (tgt := 18) X jd_Lw_law_247 rfl ?_
  exact k _ _ _ _ _ _ _ _ _ _ _ _ _ _ _ _ _ _ _ _ _ _ _ _ _ _ _ _ _ _ _ ((hI.flush (by omega) er.2).later (by omega))
set_option maxRecDepth 100000 in
theorem lw_crash {p : Program} {l : Launch} {e : Env} {s : State} {m : MethodId} {below : List Frame} {meth : Method} {c : Code} {D : va_G} {A : Nat → Prop} {Q : State → Prop} {cB cI : ClassId} {b L : Nat} {xs : Nat → Int32} (X : CX p s m #[Value.ref b] c code "JournalShelfLaw" 4 D cB cI) (hX : va_X b L xs s s.heap) (hbl : b < s.heap.size) (hbA : ¬ A b) (hL : L ≤ 1536) (ad : Nat → Nat) (n : Nat) (hn : 3 * n + 3 ≤ L) (k : ∀ (ch fl cr : Nat) (I : Nat → Int32) (fm op nx pl sf : Nat) (di : Int32) (K F : Nat → Int32) (fs : Nat → Nat) (Nb Ct Pt : Nat → Int32) (d : DS) (fd nw : Nat → Int32) (ms : Nat → Nat) (mv : Nat → Int32) (ml os : Nat → Nat) (ov : Nat → Int32) (mc mh mo md mi mf mr : Nat), Inv (n + 1) (ch) (fl) (cr) (I) (fm) (op) (nx) (pl) (sf) (K) (F) (fs) (d) (fd) (nw) (ms) (mv) (ml) (os) (ov) (mc) (mh) (mo) (md) (mi) (mf) (mr) → VV p l e room_1 s m #[Value.ref b] below meth c D A 4 600000 7302250 Q (lw_w ad cB cI (ch) (fl) (cr) (I) (fm) (op) (nx) (pl) (sf) (di) (K) (F) (fs) (Nb) (Ct) (Pt) (d) (fd) (nw) (ms) (mv) (ml) (os) (ov) (mc) (mh) (mo) (md) (mi) (mf) (mr)) ([(0, .ref b), (1, .ref (ad 0)), (2, .ref (ad 13)), (3, .int (nI (3 * (n + 1))))]) 18 ([]))
    (ch fl cr : Nat) (I : Nat → Int32) (fm op nx pl sf : Nat) (di : Int32) (K F : Nat → Int32) (fs : Nat → Nat) (Nb Ct Pt : Nat → Int32) (d : DS) (fd nw : Nat → Int32) (ms : Nat → Nat) (mv : Nat → Int32) (ml os : Nat → Nat) (ov : Nat → Int32) (mc mh mo md mi mf mr : Nat) (hI : Inv (n) (ch) (fl) (cr) (I) (fm) (op) (nx) (pl) (sf) (K) (F) (fs) (d) (fd) (nw) (ms) (mv) (ml) (os) (ov) (mc) (mh) (mo) (md) (mi) (mf) (mr)) : VV p l e room_1 s m #[Value.ref b] below meth c D A 4 600000 7302250 Q (lw_w ad cB cI (ch) (fl) (cr) (I) (fm) (op) (nx) (pl) (sf) (di) (K) (F) (fs) (Nb) (Ct) (Pt) (d) (fd) (nw) (ms) (mv) (ml) (os) (ov) (mc) (mh) (mo) (md) (mi) (mf) (mr)) ([(0, .ref b), (1, .ref (ad 0)), (2, .ref (ad 13)), (3, .int (nI (3 * n)))]) 152 ([]) := by
  obtain ⟨⟨f1, f2, f3, f4⟩, ⟨f5, f6, f7, f8, f9, f10⟩, ⟨f11, f12, f13⟩, ⟨f14, f15, f16, f17, f18, f19⟩, f20, f21, f22⟩ := hI.facts
  obtain ⟨a, ha⟩ : ∃ z, z = xs (3 * n + 1) := ⟨_, rfl⟩
  obtain ⟨v, hv⟩ : ∃ z, z = xs (3 * n + 2) := ⟨_, rfl⟩
  by_cases q1 : nI 0 ≤ v ∧ v ≤ nI 500
  · obtain ⟨z, z1, z2⟩ := nI_of2 (M := nI 500) (n := 500) (by decide +kernel) (Int32.not_lt.mpr q1.1) q1.2
    subst z2
    obtain ⟨kn, lo, hi, k0, cn, sl, r1, r2, r3, r4, r5, r6⟩ := hI.crash (mask := a) (z := z) (by omega) z1
    skip
    refine vv_aload_n X jd_Lw_law_152 1 rfl rfl ?_
    refine vv_aload_n X jd_Lw_law_153 0 rfl rfl ?_
    refine vv_iload_n X jd_Lw_law_154 3 rfl rfl ?_
    refine vv_iconst X jd_Lw_law_155 ci_1 ?_
    refine vv_iadd X jd_Lw_law_156 (nI_add (3 * n) 1) ?_
    refine vv_sld X hX hbl hbA jd_Lw_law_157 (3 * n + 1) rfl (by omega) (by omega) ?_
    rw [← ha]
    refine vv_aload_n X jd_Lw_law_158 0 rfl rfl ?_
    refine vv_iload_n X jd_Lw_law_159 3 rfl rfl ?_
    refine vv_iconst X jd_Lw_law_160 ci_2 ?_
    refine vv_iadd X jd_Lw_law_161 (nI_add (3 * n) 2) ?_
    refine vv_sld X hX hbl hbA jd_Lw_law_162 (3 * n + 2) rfl (by omega) (by omega) ?_
    rw [← hv]
    refine vv_cVi (As := [.int a, .int (nI z)]) X (jc_crash_yes l D cB cI ad ch fl cr I fm op nx pl sf di K F fs Nb Ct Pt d a z kn lo hi k0 cn sl z1 f4 r1 r2 f3 f2) ok_Lw_31 ⟨rfl, rfl, Nat.le_of_ble_eq_true rfl, Nat.le_of_ble_eq_true rfl⟩ jd_Lw_law_163 0 0 rfl rfl rfl [0, 1, 2, 3, 4, 5, 6, 7, 8, 9, 10, 11, 12] rfl rfl [ad 0, ad 1, ad 2, ad 3, ad 4, ad 5, ad 6, ad 7, ad 8, ad 9, ad 10, ad 11, ad 12] (fun _ => rfl) rfl rfl rfl (Nat.le_of_ble_eq_true rfl) ⟨Nat.le_refl _, Nat.le_refl _⟩ (fun r u er => ?_)
    refine vv_ws (ws' := lw_w ad cB cI (0) (fl) (cr + 1) (I) (0) (0) (hi + 1) (fg_pl (prf (rc_nb (ds_view (ds_crash d a z))) Nb 52) (prf (rc_ct (ds_view (ds_crash d a z))) Ct 52) hi 52) (hi) (0) (u.1) (u.2) (fs) (prf (rc_nb (ds_view (ds_crash d a z))) Nb 52) (prf (rc_ct (ds_view (ds_crash d a z))) Ct 52) (prf (rc_pt (ds_view (ds_crash d a z))) Pt 52) (ds_flush (fg_d (prf (rc_nb (ds_view (ds_crash d a z))) Nb 52) hi (rv_d (ds_view (ds_crash d a z)) k0 cn sl lo (ds_crash d a z) (hi + 1 - lo)) 52)) (fd) (nw) (ms) (mv) (ml) (os) (ov) (mc) (mh) (mo) (md) (mi) (mf) (mr)) rfl ?_
    refine vv_aload_n X jd_Lw_law_166 2 rfl rfl ?_
    refine vv_aload_n X jd_Lw_law_167 0 rfl rfl ?_
    refine vv_iload_n X jd_Lw_law_168 3 rfl rfl ?_
    refine vv_iconst X jd_Lw_law_169 ci_1 ?_
    refine vv_iadd X jd_Lw_law_170 (nI_add (3 * n) 1) ?_
    refine vv_sld X hX hbl hbA jd_Lw_law_171 (3 * n + 1) rfl (by omega) (by omega) ?_
    rw [← ha]
    refine vv_aload_n X jd_Lw_law_172 0 rfl rfl ?_
    refine vv_iload_n X jd_Lw_law_173 3 rfl rfl ?_
    refine vv_iconst X jd_Lw_law_174 ci_2 ?_
    refine vv_iadd X jd_Lw_law_175 (nI_add (3 * n) 2) ?_
    refine vv_sld X hX hbl hbA jd_Lw_law_176 (3 * n + 2) rfl (by omega) (by omega) ?_
    rw [← hv]
    refine vv_cVi (As := [.int a, .int (nI z)]) X (jm_crash_yes l D cB cI ad fd nw ms mv ml os ov mc mh mo md mi mf mr (by omega) f20 a z z1 f13 f21 r3 r4) ok_Lw_34 ⟨rfl, rfl, Nat.le_of_ble_eq_true rfl, Nat.le_of_ble_eq_true rfl⟩ jd_Lw_law_177 13 3 rfl rfl rfl [13, 14, 15, 16, 17, 18, 19, 20] rfl rfl [ad 13, ad 14, ad 15, ad 16, ad 17, ad 18, ad 19, ad 20] (fun _ => rfl) rfl rfl rfl (Nat.le_of_ble_eq_true rfl) ⟨Nat.le_refl _, Nat.le_refl _⟩ (fun t _ et => ?_)
    refine vv_ws (ws' := lw_w ad cB cI (0) (fl) (cr + 1) (I) (0) (0) (hi + 1) (fg_pl (prf (rc_nb (ds_view (ds_crash d a z))) Nb 52) (prf (rc_ct (ds_view (ds_crash d a z))) Ct 52) hi 52) (hi) (0) (u.1) (u.2) (fs) (prf (rc_nb (ds_view (ds_crash d a z))) Nb 52) (prf (rc_ct (ds_view (ds_crash d a z))) Ct 52) (prf (rc_pt (ds_view (ds_crash d a z))) Pt 52) (ds_flush (fg_d (prf (rc_nb (ds_view (ds_crash d a z))) Nb 52) hi (rv_d (ds_view (ds_crash d a z)) k0 cn sl lo (ds_crash d a z) (hi + 1 - lo)) 52)) (prf (crN (prf fd nw 212) ms mv (cr_w a mh ml mc)) fd 212) (crN (prf fd nw 212) ms mv (cr_w a mh ml mc)) (ms) (mv) (ml) (os) (ov) (0) (0) (0) (md - (mi - cr_k a mh ml mc)) (0) (mf) (mr + 1)) rfl ?_
    refine vv_icmp_eq (tgt := 244) X jd_Lw_law_180 rfl (fun h => ?_) (fun h => absurd (er.1.trans (by rw [et, r5])) h)
    refine vv_iinc X jd_Lw_law_244 3 [1, 2, 3, 0] rfl (cn_3 (3 * n)) (Nat.le_of_ble_eq_true rfl) rfl ?_
    refine vv_goto (tgt := 18) X jd_Lw_law_247 rfl ?_
    exact k _ _ _ _ _ _ _ _ _ _ _ _ _ _ _ _ _ _ _ _ _ _ _ _ _ _ _ _ _ _ _ (r6 _ _ _ _ _ f1 er.2.1 er.2.2)
  · skip
    refine vv_aload_n X jd_Lw_law_152 1 rfl rfl ?_
    refine vv_aload_n X jd_Lw_law_153 0 rfl rfl ?_
    refine vv_iload_n X jd_Lw_law_154 3 rfl rfl ?_
    refine vv_iconst X jd_Lw_law_155 ci_1 ?_
    refine vv_iadd X jd_Lw_law_156 (nI_add (3 * n) 1) ?_
    refine vv_sld X hX hbl hbA jd_Lw_law_157 (3 * n + 1) rfl (by omega) (by omega) ?_
    rw [← ha]
    refine vv_aload_n X jd_Lw_law_158 0 rfl rfl ?_
    refine vv_iload_n X jd_Lw_law_159 3 rfl rfl ?_
    refine vv_iconst X jd_Lw_law_160 ci_2 ?_
    refine vv_iadd X jd_Lw_law_161 (nI_add (3 * n) 2) ?_
    refine vv_sld X hX hbl hbA jd_Lw_law_162 (3 * n + 2) rfl (by omega) (by omega) ?_
    rw [← hv]
    refine vv_cVi (As := [.int a, .int v]) X (jc_crash_ref l D cB cI ad ch fl cr I fm op nx pl sf di K F fs Nb Ct Pt d a v q1) ok_Lw_31 ⟨rfl, rfl, Nat.le_of_ble_eq_true rfl, Nat.le_of_ble_eq_true rfl⟩ jd_Lw_law_163 0 0 rfl rfl rfl [0, 1, 2, 3, 4, 5, 6, 7, 8, 9, 10, 11, 12] rfl rfl [ad 0, ad 1, ad 2, ad 3, ad 4, ad 5, ad 6, ad 7, ad 8, ad 9, ad 10, ad 11, ad 12] (fun _ => rfl) rfl rfl rfl (Nat.le_of_ble_eq_true rfl) ⟨Nat.le_refl _, Nat.le_refl _⟩ (fun r _ er => ?_)
    refine vv_ws (ws' := lw_w ad cB cI (ch) (fl) (cr) (I) (fm) (op) (nx) (pl) (sf) (di) (K) (F) (fs) (Nb) (Ct) (Pt) (d) (fd) (nw) (ms) (mv) (ml) (os) (ov) (mc) (mh) (mo) (md) (mi) (mf) (mr)) rfl ?_
    refine vv_aload_n X jd_Lw_law_166 2 rfl rfl ?_
    refine vv_aload_n X jd_Lw_law_167 0 rfl rfl ?_
    refine vv_iload_n X jd_Lw_law_168 3 rfl rfl ?_
    refine vv_iconst X jd_Lw_law_169 ci_1 ?_
    refine vv_iadd X jd_Lw_law_170 (nI_add (3 * n) 1) ?_
    refine vv_sld X hX hbl hbA jd_Lw_law_171 (3 * n + 1) rfl (by omega) (by omega) ?_
    rw [← ha]
    refine vv_aload_n X jd_Lw_law_172 0 rfl rfl ?_
    refine vv_iload_n X jd_Lw_law_173 3 rfl rfl ?_
    refine vv_iconst X jd_Lw_law_174 ci_2 ?_
    refine vv_iadd X jd_Lw_law_175 (nI_add (3 * n) 2) ?_
    refine vv_sld X hX hbl hbA jd_Lw_law_176 (3 * n + 2) rfl (by omega) (by omega) ?_
    rw [← hv]
    refine vv_cVi (As := [.int a, .int v]) X (jm_crash_ref l D cB cI ad fd nw ms mv ml os ov mc mh mo md mi mf mr a v q1) ok_Lw_34 ⟨rfl, rfl, Nat.le_of_ble_eq_true rfl, Nat.le_of_ble_eq_true rfl⟩ jd_Lw_law_177 13 3 rfl rfl rfl [13, 14, 15, 16, 17, 18, 19, 20] rfl rfl [ad 13, ad 14, ad 15, ad 16, ad 17, ad 18, ad 19, ad 20] (fun _ => rfl) rfl rfl rfl (Nat.le_of_ble_eq_true rfl) ⟨Nat.le_refl _, Nat.le_refl _⟩ (fun t _ et => ?_)
    refine vv_ws (ws' := lw_w ad cB cI (ch) (fl) (cr) (I) (fm) (op) (nx) (pl) (sf) (di) (K) (F) (fs) (Nb) (Ct) (Pt) (d) (fd) (nw) (ms) (mv) (ml) (os) (ov) (mc) (mh) (mo) (md) (mi) (mf) (mr)) rfl ?_
    refine vv_icmp_eq (tgt := 244) X jd_Lw_law_180 rfl (fun h => ?_) (fun h => absurd (er.trans et.symm) h)
    refine vv_iinc X jd_Lw_law_244 3 [1, 2, 3, 0] rfl (cn_3 (3 * n)) (Nat.le_of_ble_eq_true rfl) rfl ?_
    refine vv_goto (tgt := 18) X jd_Lw_law_247 rfl ?_
    exact k _ _ _ _ _ _ _ _ _ _ _ _ _ _ _ _ _ _ _ _ _ _ _ _ _ _ _ _ _ _ _ (hI.later (by omega))
set_option maxRecDepth 100000 in
theorem lw_get {p : Program} {l : Launch} {e : Env} {s : State} {m : MethodId} {below : List Frame} {meth : Method} {c : Code} {D : va_G} {A : Nat → Prop} {Q : State → Prop} {cB cI : ClassId} {b L : Nat} {xs : Nat → Int32} (X : CX p s m #[Value.ref b] c code "JournalShelfLaw" 4 D cB cI) (hX : va_X b L xs s s.heap) (hbl : b < s.heap.size) (hbA : ¬ A b) (hL : L ≤ 1536) (ad : Nat → Nat) (n : Nat) (hn : 3 * n + 3 ≤ L) (k : ∀ (ch fl cr : Nat) (I : Nat → Int32) (fm op nx pl sf : Nat) (di : Int32) (K F : Nat → Int32) (fs : Nat → Nat) (Nb Ct Pt : Nat → Int32) (d : DS) (fd nw : Nat → Int32) (ms : Nat → Nat) (mv : Nat → Int32) (ml os : Nat → Nat) (ov : Nat → Int32) (mc mh mo md mi mf mr : Nat), Inv (n + 1) (ch) (fl) (cr) (I) (fm) (op) (nx) (pl) (sf) (K) (F) (fs) (d) (fd) (nw) (ms) (mv) (ml) (os) (ov) (mc) (mh) (mo) (md) (mi) (mf) (mr) → VV p l e room_1 s m #[Value.ref b] below meth c D A 4 600000 7302250 Q (lw_w ad cB cI (ch) (fl) (cr) (I) (fm) (op) (nx) (pl) (sf) (di) (K) (F) (fs) (Nb) (Ct) (Pt) (d) (fd) (nw) (ms) (mv) (ml) (os) (ov) (mc) (mh) (mo) (md) (mi) (mf) (mr)) ([(0, .ref b), (1, .ref (ad 0)), (2, .ref (ad 13)), (3, .int (nI (3 * (n + 1))))]) 18 ([]))
    (ch fl cr : Nat) (I : Nat → Int32) (fm op nx pl sf : Nat) (di : Int32) (K F : Nat → Int32) (fs : Nat → Nat) (Nb Ct Pt : Nat → Int32) (d : DS) (fd nw : Nat → Int32) (ms : Nat → Nat) (mv : Nat → Int32) (ml os : Nat → Nat) (ov : Nat → Int32) (mc mh mo md mi mf mr : Nat) (hI : Inv (n) (ch) (fl) (cr) (I) (fm) (op) (nx) (pl) (sf) (K) (F) (fs) (d) (fd) (nw) (ms) (mv) (ml) (os) (ov) (mc) (mh) (mo) (md) (mi) (mf) (mr)) : VV p l e room_1 s m #[Value.ref b] below meth c D A 4 600000 7302250 Q (lw_w ad cB cI (ch) (fl) (cr) (I) (fm) (op) (nx) (pl) (sf) (di) (K) (F) (fs) (Nb) (Ct) (Pt) (d) (fd) (nw) (ms) (mv) (ml) (os) (ov) (mc) (mh) (mo) (md) (mi) (mf) (mr)) ([(0, .ref b), (1, .ref (ad 0)), (2, .ref (ad 13)), (3, .int (nI (3 * n)))]) 185 ([]) := by
  obtain ⟨⟨f1, f2, f3, f4⟩, ⟨f5, f6, f7, f8, f9, f10⟩, ⟨f11, f12, f13⟩, ⟨f14, f15, f16, f17, f18, f19⟩, f20, f21, f22⟩ := hI.facts
  obtain ⟨a, ha⟩ : ∃ z, z = xs (3 * n + 1) := ⟨_, rfl⟩
  by_cases q1 : nI 0 ≤ a ∧ a ≤ nI 211
  · obtain ⟨x, x1, x2⟩ := nI_of2 (M := nI 211) (n := 211) (by decide +kernel) (Int32.not_lt.mpr q1.1) q1.2
    have hx : x < 212 := by omega
    subst x2
    skip
    refine vv_aload_n X jd_Lw_law_185 1 rfl rfl ?_
    refine vv_aload_n X jd_Lw_law_186 0 rfl rfl ?_
    refine vv_iload_n X jd_Lw_law_187 3 rfl rfl ?_
    refine vv_iconst X jd_Lw_law_188 ci_1 ?_
    refine vv_iadd X jd_Lw_law_189 (nI_add (3 * n) 1) ?_
    refine vv_sld X hX hbl hbA jd_Lw_law_190 (3 * n + 1) rfl (by omega) (by omega) ?_
    rw [← ha]
    refine vv_cVi (As := [.int (nI x)]) X (jc_get_yes l D cB cI ad ch fl cr I fm op nx pl sf di K F fs Nb Ct Pt d x hx f4 f5 f6 f3 f2 f1) ok_Lw_35 ⟨rfl, rfl, Nat.le_of_ble_eq_true rfl, Nat.le_of_ble_eq_true rfl⟩ jd_Lw_law_191 0 0 rfl rfl rfl [0, 1, 2, 3, 4, 5, 6, 7, 8, 9, 10, 11, 12] rfl rfl [ad 0, ad 1, ad 2, ad 3, ad 4, ad 5, ad 6, ad 7, ad 8, ad 9, ad 10, ad 11, ad 12] (fun _ => rfl) rfl rfl rfl (Nat.le_of_ble_eq_true rfl) ⟨Nat.le_refl _, Nat.le_refl _⟩ (fun r u er => ?_)
    refine vv_ws (ws' := lw_w ad cB cI (ch) (fl) (cr) (u.1) (fm) (op) (nx) (pl) (sf) (di) (u.2) (F) (fs) (Nb) (Ct) (Pt) (d) (fd) (nw) (ms) (mv) (ml) (os) (ov) (mc) (mh) (mo) (md) (mi) (mf) (mr)) rfl ?_
    refine vv_aload_n X jd_Lw_law_194 2 rfl rfl ?_
    refine vv_aload_n X jd_Lw_law_195 0 rfl rfl ?_
    refine vv_iload_n X jd_Lw_law_196 3 rfl rfl ?_
    refine vv_iconst X jd_Lw_law_197 ci_1 ?_
    refine vv_iadd X jd_Lw_law_198 (nI_add (3 * n) 1) ?_
    refine vv_sld X hX hbl hbA jd_Lw_law_199 (3 * n + 1) rfl (by omega) (by omega) ?_
    rw [← ha]
    refine vv_cVi (As := [.int (nI x)]) X (jm_get_yes l D cB cI ad fd nw ms mv ml os ov mc mh mo md mi mf mr x hx) ok_Lw_39 ⟨rfl, rfl, Nat.le_of_ble_eq_true rfl, Nat.le_of_ble_eq_true rfl⟩ jd_Lw_law_200 13 3 rfl rfl rfl [13, 14, 15, 16, 17, 18, 19, 20] rfl rfl [ad 13, ad 14, ad 15, ad 16, ad 17, ad 18, ad 19, ad 20] (fun _ => rfl) rfl rfl rfl (Nat.le_of_ble_eq_true rfl) ⟨Nat.le_refl _, Nat.le_refl _⟩ (fun t _ et => ?_)
    refine vv_ws (ws' := lw_w ad cB cI (ch) (fl) (cr) (u.1) (fm) (op) (nx) (pl) (sf) (di) (u.2) (F) (fs) (Nb) (Ct) (Pt) (d) (fd) (nw) (ms) (mv) (ml) (os) (ov) (mc) (mh) (mo) (md) (mi) (mf) (mr)) rfl ?_
    refine vv_icmp_eq (tgt := 244) X jd_Lw_law_203 rfl (fun h => ?_) (fun h => absurd (er.1.trans (by rw [et, hI.get hx])) h)
    refine vv_iinc X jd_Lw_law_244 3 [1, 2, 3, 0] rfl (cn_3 (3 * n)) (Nat.le_of_ble_eq_true rfl) rfl ?_
    refine vv_goto (tgt := 18) X jd_Lw_law_247 rfl ?_
    exact k _ _ _ _ _ _ _ _ _ _ _ _ _ _ _ _ _ _ _ _ _ _ _ _ _ _ _ _ _ _ _ ((hI.later (by omega)).scratch er.2.1 er.2.2)
  · skip
    refine vv_aload_n X jd_Lw_law_185 1 rfl rfl ?_
    refine vv_aload_n X jd_Lw_law_186 0 rfl rfl ?_
    refine vv_iload_n X jd_Lw_law_187 3 rfl rfl ?_
    refine vv_iconst X jd_Lw_law_188 ci_1 ?_
    refine vv_iadd X jd_Lw_law_189 (nI_add (3 * n) 1) ?_
    refine vv_sld X hX hbl hbA jd_Lw_law_190 (3 * n + 1) rfl (by omega) (by omega) ?_
    rw [← ha]
    refine vv_cVi (As := [.int a]) X (jc_get_ref l D cB cI ad ch fl cr I fm op nx pl sf di K F fs Nb Ct Pt d a q1) ok_Lw_35 ⟨rfl, rfl, Nat.le_of_ble_eq_true rfl, Nat.le_of_ble_eq_true rfl⟩ jd_Lw_law_191 0 0 rfl rfl rfl [0, 1, 2, 3, 4, 5, 6, 7, 8, 9, 10, 11, 12] rfl rfl [ad 0, ad 1, ad 2, ad 3, ad 4, ad 5, ad 6, ad 7, ad 8, ad 9, ad 10, ad 11, ad 12] (fun _ => rfl) rfl rfl rfl (Nat.le_of_ble_eq_true rfl) ⟨Nat.le_refl _, Nat.le_refl _⟩ (fun r _ er => ?_)
    refine vv_ws (ws' := lw_w ad cB cI (ch) (fl) (cr) (I) (fm) (op) (nx) (pl) (sf) (di) (K) (F) (fs) (Nb) (Ct) (Pt) (d) (fd) (nw) (ms) (mv) (ml) (os) (ov) (mc) (mh) (mo) (md) (mi) (mf) (mr)) rfl ?_
    refine vv_aload_n X jd_Lw_law_194 2 rfl rfl ?_
    refine vv_aload_n X jd_Lw_law_195 0 rfl rfl ?_
    refine vv_iload_n X jd_Lw_law_196 3 rfl rfl ?_
    refine vv_iconst X jd_Lw_law_197 ci_1 ?_
    refine vv_iadd X jd_Lw_law_198 (nI_add (3 * n) 1) ?_
    refine vv_sld X hX hbl hbA jd_Lw_law_199 (3 * n + 1) rfl (by omega) (by omega) ?_
    rw [← ha]
    refine vv_cVi (As := [.int a]) X (jm_get_ref l D cB cI ad fd nw ms mv ml os ov mc mh mo md mi mf mr a q1) ok_Lw_39 ⟨rfl, rfl, Nat.le_of_ble_eq_true rfl, Nat.le_of_ble_eq_true rfl⟩ jd_Lw_law_200 13 3 rfl rfl rfl [13, 14, 15, 16, 17, 18, 19, 20] rfl rfl [ad 13, ad 14, ad 15, ad 16, ad 17, ad 18, ad 19, ad 20] (fun _ => rfl) rfl rfl rfl (Nat.le_of_ble_eq_true rfl) ⟨Nat.le_refl _, Nat.le_refl _⟩ (fun t _ et => ?_)
    refine vv_ws (ws' := lw_w ad cB cI (ch) (fl) (cr) (I) (fm) (op) (nx) (pl) (sf) (di) (K) (F) (fs) (Nb) (Ct) (Pt) (d) (fd) (nw) (ms) (mv) (ml) (os) (ov) (mc) (mh) (mo) (md) (mi) (mf) (mr)) rfl ?_
    refine vv_icmp_eq (tgt := 244) X jd_Lw_law_203 rfl (fun h => ?_) (fun h => absurd (er.trans et.symm) h)
    refine vv_iinc X jd_Lw_law_244 3 [1, 2, 3, 0] rfl (cn_3 (3 * n)) (Nat.le_of_ble_eq_true rfl) rfl ?_
    refine vv_goto (tgt := 18) X jd_Lw_law_247 rfl ?_
    exact k _ _ _ _ _ _ _ _ _ _ _ _ _ _ _ _ _ _ _ _ _ _ _ _ _ _ _ _ _ _ _ (hI.later (by omega))
set_option maxRecDepth 100000 in
theorem lw_torn {p : Program} {l : Launch} {e : Env} {s : State} {m : MethodId} {below : List Frame} {meth : Method} {c : Code} {D : va_G} {A : Nat → Prop} {Q : State → Prop} {cB cI : ClassId} {b L : Nat} {xs : Nat → Int32} (X : CX p s m #[Value.ref b] c code "JournalShelfLaw" 4 D cB cI) (hX : va_X b L xs s s.heap) (hbl : b < s.heap.size) (hbA : ¬ A b) (hL : L ≤ 1536) (ad : Nat → Nat) (n : Nat) (hn : 3 * n + 3 ≤ L) (k : ∀ (ch fl cr : Nat) (I : Nat → Int32) (fm op nx pl sf : Nat) (di : Int32) (K F : Nat → Int32) (fs : Nat → Nat) (Nb Ct Pt : Nat → Int32) (d : DS) (fd nw : Nat → Int32) (ms : Nat → Nat) (mv : Nat → Int32) (ml os : Nat → Nat) (ov : Nat → Int32) (mc mh mo md mi mf mr : Nat), Inv (n + 1) (ch) (fl) (cr) (I) (fm) (op) (nx) (pl) (sf) (K) (F) (fs) (d) (fd) (nw) (ms) (mv) (ml) (os) (ov) (mc) (mh) (mo) (md) (mi) (mf) (mr) → VV p l e room_1 s m #[Value.ref b] below meth c D A 4 600000 7302250 Q (lw_w ad cB cI (ch) (fl) (cr) (I) (fm) (op) (nx) (pl) (sf) (di) (K) (F) (fs) (Nb) (Ct) (Pt) (d) (fd) (nw) (ms) (mv) (ml) (os) (ov) (mc) (mh) (mo) (md) (mi) (mf) (mr)) ([(0, .ref b), (1, .ref (ad 0)), (2, .ref (ad 13)), (3, .int (nI (3 * (n + 1))))]) 18 ([]))
    (ch fl cr : Nat) (I : Nat → Int32) (fm op nx pl sf : Nat) (di : Int32) (K F : Nat → Int32) (fs : Nat → Nat) (Nb Ct Pt : Nat → Int32) (d : DS) (fd nw : Nat → Int32) (ms : Nat → Nat) (mv : Nat → Int32) (ml os : Nat → Nat) (ov : Nat → Int32) (mc mh mo md mi mf mr : Nat) (hI : Inv (n) (ch) (fl) (cr) (I) (fm) (op) (nx) (pl) (sf) (K) (F) (fs) (d) (fd) (nw) (ms) (mv) (ml) (os) (ov) (mc) (mh) (mo) (md) (mi) (mf) (mr)) : VV p l e room_1 s m #[Value.ref b] below meth c D A 4 600000 7302250 Q (lw_w ad cB cI (ch) (fl) (cr) (I) (fm) (op) (nx) (pl) (sf) (di) (K) (F) (fs) (Nb) (Ct) (Pt) (d) (fd) (nw) (ms) (mv) (ml) (os) (ov) (mc) (mh) (mo) (md) (mi) (mf) (mr)) ([(0, .ref b), (1, .ref (ad 0)), (2, .ref (ad 13)), (3, .int (nI (3 * n)))]) 208 ([]) := by
  obtain ⟨⟨f1, f2, f3, f4⟩, ⟨f5, f6, f7, f8, f9, f10⟩, ⟨f11, f12, f13⟩, ⟨f14, f15, f16, f17, f18, f19⟩, f20, f21, f22⟩ := hI.facts
  skip
  refine vv_aload_n X jd_Lw_law_208 1 rfl rfl ?_
  refine vv_cVi (As := []) X (jc_torn l D cB cI ad ch fl cr I fm op nx pl sf di K F fs Nb Ct Pt d f4 f5 f6 f3 f2 f1 (fun x hx => hI.good hx)) ok_Lw_40 ⟨rfl, rfl, Nat.le_of_ble_eq_true rfl, Nat.le_of_ble_eq_true rfl⟩ jd_Lw_law_209 0 0 rfl rfl rfl [0, 1, 2, 3, 4, 5, 6, 7, 8, 9, 10, 11, 12] rfl rfl [ad 0, ad 1, ad 2, ad 3, ad 4, ad 5, ad 6, ad 7, ad 8, ad 9, ad 10, ad 11, ad 12] (fun _ => rfl) rfl rfl rfl (Nat.le_of_ble_eq_true rfl) ⟨Nat.le_refl _, Nat.le_refl _⟩ (fun r u er => ?_)
  refine vv_ws (ws' := lw_w ad cB cI (ch) (fl) (cr) (u.1) (fm) (op) (nx) (pl) (sf) (di) (u.2) (F) (fs) (Nb) (Ct) (Pt) (d) (fd) (nw) (ms) (mv) (ml) (os) (ov) (mc) (mh) (mo) (md) (mi) (mf) (mr)) rfl ?_
  refine vv_aload_n X jd_Lw_law_212 2 rfl rfl ?_
  refine vv_cVi (As := []) X (jm_torn l D cB cI ad fd nw ms mv ml os ov mc mh mo md mi mf mr) ok_Lw_43 ⟨rfl, rfl, Nat.le_of_ble_eq_true rfl, Nat.le_of_ble_eq_true rfl⟩ jd_Lw_law_213 13 3 rfl rfl rfl [13, 14, 15, 16, 17, 18, 19, 20] rfl rfl [ad 13, ad 14, ad 15, ad 16, ad 17, ad 18, ad 19, ad 20] (fun _ => rfl) rfl rfl rfl (Nat.le_of_ble_eq_true rfl) ⟨Nat.le_refl _, Nat.le_refl _⟩ (fun t _ et => ?_)
  refine vv_ws (ws' := lw_w ad cB cI (ch) (fl) (cr) (u.1) (fm) (op) (nx) (pl) (sf) (di) (u.2) (F) (fs) (Nb) (Ct) (Pt) (d) (fd) (nw) (ms) (mv) (ml) (os) (ov) (mc) (mh) (mo) (md) (mi) (mf) (mr)) rfl ?_
  refine vv_icmp_eq (tgt := 244) X jd_Lw_law_216 rfl (fun h => ?_) (fun h => absurd (er.1.trans et.symm) h)
  refine vv_iinc X jd_Lw_law_244 3 [1, 2, 3, 0] rfl (cn_3 (3 * n)) (Nat.le_of_ble_eq_true rfl) rfl ?_
  refine vv_goto (tgt := 18) X jd_Lw_law_247 rfl ?_
  exact k _ _ _ _ _ _ _ _ _ _ _ _ _ _ _ _ _ _ _ _ _ _ _ _ _ _ _ _ _ _ _ ((hI.later (by omega)).scratch er.2.1 er.2.2)
set_option maxRecDepth 100000 in
theorem lw_count {p : Program} {l : Launch} {e : Env} {s : State} {m : MethodId} {below : List Frame} {meth : Method} {c : Code} {D : va_G} {A : Nat → Prop} {Q : State → Prop} {cB cI : ClassId} {b L : Nat} {xs : Nat → Int32} (X : CX p s m #[Value.ref b] c code "JournalShelfLaw" 4 D cB cI) (hX : va_X b L xs s s.heap) (hbl : b < s.heap.size) (hbA : ¬ A b) (hL : L ≤ 1536) (ad : Nat → Nat) (n : Nat) (hn : 3 * n + 3 ≤ L) (k : ∀ (ch fl cr : Nat) (I : Nat → Int32) (fm op nx pl sf : Nat) (di : Int32) (K F : Nat → Int32) (fs : Nat → Nat) (Nb Ct Pt : Nat → Int32) (d : DS) (fd nw : Nat → Int32) (ms : Nat → Nat) (mv : Nat → Int32) (ml os : Nat → Nat) (ov : Nat → Int32) (mc mh mo md mi mf mr : Nat), Inv (n + 1) (ch) (fl) (cr) (I) (fm) (op) (nx) (pl) (sf) (K) (F) (fs) (d) (fd) (nw) (ms) (mv) (ml) (os) (ov) (mc) (mh) (mo) (md) (mi) (mf) (mr) → VV p l e room_1 s m #[Value.ref b] below meth c D A 4 600000 7302250 Q (lw_w ad cB cI (ch) (fl) (cr) (I) (fm) (op) (nx) (pl) (sf) (di) (K) (F) (fs) (Nb) (Ct) (Pt) (d) (fd) (nw) (ms) (mv) (ml) (os) (ov) (mc) (mh) (mo) (md) (mi) (mf) (mr)) ([(0, .ref b), (1, .ref (ad 0)), (2, .ref (ad 13)), (3, .int (nI (3 * (n + 1))))]) 18 ([]))
    (ch fl cr : Nat) (I : Nat → Int32) (fm op nx pl sf : Nat) (di : Int32) (K F : Nat → Int32) (fs : Nat → Nat) (Nb Ct Pt : Nat → Int32) (d : DS) (fd nw : Nat → Int32) (ms : Nat → Nat) (mv : Nat → Int32) (ml os : Nat → Nat) (ov : Nat → Int32) (mc mh mo md mi mf mr : Nat) (hI : Inv (n) (ch) (fl) (cr) (I) (fm) (op) (nx) (pl) (sf) (K) (F) (fs) (d) (fd) (nw) (ms) (mv) (ml) (os) (ov) (mc) (mh) (mo) (md) (mi) (mf) (mr)) : VV p l e room_1 s m #[Value.ref b] below meth c D A 4 600000 7302250 Q (lw_w ad cB cI (ch) (fl) (cr) (I) (fm) (op) (nx) (pl) (sf) (di) (K) (F) (fs) (Nb) (Ct) (Pt) (d) (fd) (nw) (ms) (mv) (ml) (os) (ov) (mc) (mh) (mo) (md) (mi) (mf) (mr)) ([(0, .ref b), (1, .ref (ad 0)), (2, .ref (ad 13)), (3, .int (nI (3 * n)))]) 221 ([]) := by
  obtain ⟨⟨f1, f2, f3, f4⟩, ⟨f5, f6, f7, f8, f9, f10⟩, ⟨f11, f12, f13⟩, ⟨f14, f15, f16, f17, f18, f19⟩, f20, f21, f22⟩ := hI.facts
  obtain ⟨a, ha⟩ : ∃ z, z = xs (3 * n + 1) := ⟨_, rfl⟩
  by_cases q0 : a = nI 0
  · subst q0
    skip
    refine vv_aload_n X jd_Lw_law_221 1 rfl rfl ?_
    refine vv_aload_n X jd_Lw_law_222 0 rfl rfl ?_
    refine vv_iload_n X jd_Lw_law_223 3 rfl rfl ?_
    refine vv_iconst X jd_Lw_law_224 ci_1 ?_
    refine vv_iadd X jd_Lw_law_225 (nI_add (3 * n) 1) ?_
    refine vv_sld X hX hbl hbA jd_Lw_law_226 (3 * n + 1) rfl (by omega) (by omega) ?_
    rw [← ha]
    refine vv_cVi (As := [.int (nI 0)]) X (jc_count_0 l D cB cI ad ch fl cr I fm op nx pl sf di K F fs Nb Ct Pt d f7 f8) ok_Lw_44 ⟨rfl, rfl, Nat.le_of_ble_eq_true rfl, Nat.le_of_ble_eq_true rfl⟩ jd_Lw_law_227 0 0 rfl rfl rfl [0, 1, 2, 3, 4, 5, 6, 7, 8, 9, 10, 11, 12] rfl rfl [ad 0, ad 1, ad 2, ad 3, ad 4, ad 5, ad 6, ad 7, ad 8, ad 9, ad 10, ad 11, ad 12] (fun _ => rfl) rfl rfl rfl (Nat.le_of_ble_eq_true rfl) ⟨Nat.le_refl _, Nat.le_refl _⟩ (fun r _ er => ?_)
    refine vv_ws (ws' := lw_w ad cB cI (ch) (fl) (cr) (I) (fm) (op) (nx) (pl) (sf) (di) (K) (F) (fs) (Nb) (Ct) (Pt) (d) (fd) (nw) (ms) (mv) (ml) (os) (ov) (mc) (mh) (mo) (md) (mi) (mf) (mr)) rfl ?_
    refine vv_aload_n X jd_Lw_law_230 2 rfl rfl ?_
    refine vv_aload_n X jd_Lw_law_231 0 rfl rfl ?_
    refine vv_iload_n X jd_Lw_law_232 3 rfl rfl ?_
    refine vv_iconst X jd_Lw_law_233 ci_1 ?_
    refine vv_iadd X jd_Lw_law_234 (nI_add (3 * n) 1) ?_
    refine vv_sld X hX hbl hbA jd_Lw_law_235 (3 * n + 1) rfl (by omega) (by omega) ?_
    rw [← ha]
    refine vv_cVi (As := [.int (nI 0)]) X (jm_count_0 l D cB cI ad fd nw ms mv ml os ov mc mh mo md mi mf mr) ok_Lw_47 ⟨rfl, rfl, Nat.le_of_ble_eq_true rfl, Nat.le_of_ble_eq_true rfl⟩ jd_Lw_law_236 13 3 rfl rfl rfl [13, 14, 15, 16, 17, 18, 19, 20] rfl rfl [ad 13, ad 14, ad 15, ad 16, ad 17, ad 18, ad 19, ad 20] (fun _ => rfl) rfl rfl rfl (Nat.le_of_ble_eq_true rfl) ⟨Nat.le_refl _, Nat.le_refl _⟩ (fun t _ et => ?_)
    refine vv_ws (ws' := lw_w ad cB cI (ch) (fl) (cr) (I) (fm) (op) (nx) (pl) (sf) (di) (K) (F) (fs) (Nb) (Ct) (Pt) (d) (fd) (nw) (ms) (mv) (ml) (os) (ov) (mc) (mh) (mo) (md) (mi) (mf) (mr)) rfl ?_
    refine vv_icmp_eq (tgt := 244) X jd_Lw_law_239 rfl (fun h => ?_) (fun h => absurd (er.trans (by rw [et, f16])) h)
    refine vv_iinc X jd_Lw_law_244 3 [1, 2, 3, 0] rfl (cn_3 (3 * n)) (Nat.le_of_ble_eq_true rfl) rfl ?_
    refine vv_goto (tgt := 18) X jd_Lw_law_247 rfl ?_
    exact k _ _ _ _ _ _ _ _ _ _ _ _ _ _ _ _ _ _ _ _ _ _ _ _ _ _ _ _ _ _ _ (hI.later (by omega))
  by_cases q1 : a = nI 1
  · subst q1
    skip
    refine vv_aload_n X jd_Lw_law_221 1 rfl rfl ?_
    refine vv_aload_n X jd_Lw_law_222 0 rfl rfl ?_
    refine vv_iload_n X jd_Lw_law_223 3 rfl rfl ?_
    refine vv_iconst X jd_Lw_law_224 ci_1 ?_
    refine vv_iadd X jd_Lw_law_225 (nI_add (3 * n) 1) ?_
    refine vv_sld X hX hbl hbA jd_Lw_law_226 (3 * n + 1) rfl (by omega) (by omega) ?_
    rw [← ha]
    refine vv_cVi (As := [.int (nI 1)]) X (jc_count_1 l D cB cI ad ch fl cr I fm op nx pl sf di K F fs Nb Ct Pt d f7 f8) ok_Lw_44 ⟨rfl, rfl, Nat.le_of_ble_eq_true rfl, Nat.le_of_ble_eq_true rfl⟩ jd_Lw_law_227 0 0 rfl rfl rfl [0, 1, 2, 3, 4, 5, 6, 7, 8, 9, 10, 11, 12] rfl rfl [ad 0, ad 1, ad 2, ad 3, ad 4, ad 5, ad 6, ad 7, ad 8, ad 9, ad 10, ad 11, ad 12] (fun _ => rfl) rfl rfl rfl (Nat.le_of_ble_eq_true rfl) ⟨Nat.le_refl _, Nat.le_refl _⟩ (fun r _ er => ?_)
    refine vv_ws (ws' := lw_w ad cB cI (ch) (fl) (cr) (I) (fm) (op) (nx) (pl) (sf) (di) (K) (F) (fs) (Nb) (Ct) (Pt) (d) (fd) (nw) (ms) (mv) (ml) (os) (ov) (mc) (mh) (mo) (md) (mi) (mf) (mr)) rfl ?_
    refine vv_aload_n X jd_Lw_law_230 2 rfl rfl ?_
    refine vv_aload_n X jd_Lw_law_231 0 rfl rfl ?_
    refine vv_iload_n X jd_Lw_law_232 3 rfl rfl ?_
    refine vv_iconst X jd_Lw_law_233 ci_1 ?_
    refine vv_iadd X jd_Lw_law_234 (nI_add (3 * n) 1) ?_
    refine vv_sld X hX hbl hbA jd_Lw_law_235 (3 * n + 1) rfl (by omega) (by omega) ?_
    rw [← ha]
    refine vv_cVi (As := [.int (nI 1)]) X (jm_count_1 l D cB cI ad fd nw ms mv ml os ov mc mh mo md mi mf mr) ok_Lw_47 ⟨rfl, rfl, Nat.le_of_ble_eq_true rfl, Nat.le_of_ble_eq_true rfl⟩ jd_Lw_law_236 13 3 rfl rfl rfl [13, 14, 15, 16, 17, 18, 19, 20] rfl rfl [ad 13, ad 14, ad 15, ad 16, ad 17, ad 18, ad 19, ad 20] (fun _ => rfl) rfl rfl rfl (Nat.le_of_ble_eq_true rfl) ⟨Nat.le_refl _, Nat.le_refl _⟩ (fun t _ et => ?_)
    refine vv_ws (ws' := lw_w ad cB cI (ch) (fl) (cr) (I) (fm) (op) (nx) (pl) (sf) (di) (K) (F) (fs) (Nb) (Ct) (Pt) (d) (fd) (nw) (ms) (mv) (ml) (os) (ov) (mc) (mh) (mo) (md) (mi) (mf) (mr)) rfl ?_
    refine vv_icmp_eq (tgt := 244) X jd_Lw_law_239 rfl (fun h => ?_) (fun h => absurd (er.trans (by rw [et, f17])) h)
    refine vv_iinc X jd_Lw_law_244 3 [1, 2, 3, 0] rfl (cn_3 (3 * n)) (Nat.le_of_ble_eq_true rfl) rfl ?_
    refine vv_goto (tgt := 18) X jd_Lw_law_247 rfl ?_
    exact k _ _ _ _ _ _ _ _ _ _ _ _ _ _ _ _ _ _ _ _ _ _ _ _ _ _ _ _ _ _ _ (hI.later (by omega))
  by_cases q2 : a = nI 2
  · subst q2
    skip
    refine vv_aload_n X jd_Lw_law_221 1 rfl rfl ?_
    refine vv_aload_n X jd_Lw_law_222 0 rfl rfl ?_
    refine vv_iload_n X jd_Lw_law_223 3 rfl rfl ?_
    refine vv_iconst X jd_Lw_law_224 ci_1 ?_
    refine vv_iadd X jd_Lw_law_225 (nI_add (3 * n) 1) ?_
    refine vv_sld X hX hbl hbA jd_Lw_law_226 (3 * n + 1) rfl (by omega) (by omega) ?_
    rw [← ha]
    refine vv_cVi (As := [.int (nI 2)]) X (jc_count_2 l D cB cI ad ch fl cr I fm op nx pl sf di K F fs Nb Ct Pt d f7 f8) ok_Lw_44 ⟨rfl, rfl, Nat.le_of_ble_eq_true rfl, Nat.le_of_ble_eq_true rfl⟩ jd_Lw_law_227 0 0 rfl rfl rfl [0, 1, 2, 3, 4, 5, 6, 7, 8, 9, 10, 11, 12] rfl rfl [ad 0, ad 1, ad 2, ad 3, ad 4, ad 5, ad 6, ad 7, ad 8, ad 9, ad 10, ad 11, ad 12] (fun _ => rfl) rfl rfl rfl (Nat.le_of_ble_eq_true rfl) ⟨Nat.le_refl _, Nat.le_refl _⟩ (fun r _ er => ?_)
    refine vv_ws (ws' := lw_w ad cB cI (ch) (fl) (cr) (I) (fm) (op) (nx) (pl) (sf) (di) (K) (F) (fs) (Nb) (Ct) (Pt) (d) (fd) (nw) (ms) (mv) (ml) (os) (ov) (mc) (mh) (mo) (md) (mi) (mf) (mr)) rfl ?_
    refine vv_aload_n X jd_Lw_law_230 2 rfl rfl ?_
    refine vv_aload_n X jd_Lw_law_231 0 rfl rfl ?_
    refine vv_iload_n X jd_Lw_law_232 3 rfl rfl ?_
    refine vv_iconst X jd_Lw_law_233 ci_1 ?_
    refine vv_iadd X jd_Lw_law_234 (nI_add (3 * n) 1) ?_
    refine vv_sld X hX hbl hbA jd_Lw_law_235 (3 * n + 1) rfl (by omega) (by omega) ?_
    rw [← ha]
    refine vv_cVi (As := [.int (nI 2)]) X (jm_count_2 l D cB cI ad fd nw ms mv ml os ov mc mh mo md mi mf mr) ok_Lw_47 ⟨rfl, rfl, Nat.le_of_ble_eq_true rfl, Nat.le_of_ble_eq_true rfl⟩ jd_Lw_law_236 13 3 rfl rfl rfl [13, 14, 15, 16, 17, 18, 19, 20] rfl rfl [ad 13, ad 14, ad 15, ad 16, ad 17, ad 18, ad 19, ad 20] (fun _ => rfl) rfl rfl rfl (Nat.le_of_ble_eq_true rfl) ⟨Nat.le_refl _, Nat.le_refl _⟩ (fun t _ et => ?_)
    refine vv_ws (ws' := lw_w ad cB cI (ch) (fl) (cr) (I) (fm) (op) (nx) (pl) (sf) (di) (K) (F) (fs) (Nb) (Ct) (Pt) (d) (fd) (nw) (ms) (mv) (ml) (os) (ov) (mc) (mh) (mo) (md) (mi) (mf) (mr)) rfl ?_
    refine vv_icmp_eq (tgt := 244) X jd_Lw_law_239 rfl (fun h => ?_) (fun h => absurd (er.trans (by rw [et, f12, f14])) h)
    refine vv_iinc X jd_Lw_law_244 3 [1, 2, 3, 0] rfl (cn_3 (3 * n)) (Nat.le_of_ble_eq_true rfl) rfl ?_
    refine vv_goto (tgt := 18) X jd_Lw_law_247 rfl ?_
    exact k _ _ _ _ _ _ _ _ _ _ _ _ _ _ _ _ _ _ _ _ _ _ _ _ _ _ _ _ _ _ _ (hI.later (by omega))
  by_cases q3 : a = nI 3
  · subst q3
    skip
    refine vv_aload_n X jd_Lw_law_221 1 rfl rfl ?_
    refine vv_aload_n X jd_Lw_law_222 0 rfl rfl ?_
    refine vv_iload_n X jd_Lw_law_223 3 rfl rfl ?_
    refine vv_iconst X jd_Lw_law_224 ci_1 ?_
    refine vv_iadd X jd_Lw_law_225 (nI_add (3 * n) 1) ?_
    refine vv_sld X hX hbl hbA jd_Lw_law_226 (3 * n + 1) rfl (by omega) (by omega) ?_
    rw [← ha]
    refine vv_cVi (As := [.int (nI 3)]) X (jc_count_3 l D cB cI ad ch fl cr I fm op nx pl sf di K F fs Nb Ct Pt d f7 f8) ok_Lw_44 ⟨rfl, rfl, Nat.le_of_ble_eq_true rfl, Nat.le_of_ble_eq_true rfl⟩ jd_Lw_law_227 0 0 rfl rfl rfl [0, 1, 2, 3, 4, 5, 6, 7, 8, 9, 10, 11, 12] rfl rfl [ad 0, ad 1, ad 2, ad 3, ad 4, ad 5, ad 6, ad 7, ad 8, ad 9, ad 10, ad 11, ad 12] (fun _ => rfl) rfl rfl rfl (Nat.le_of_ble_eq_true rfl) ⟨Nat.le_refl _, Nat.le_refl _⟩ (fun r _ er => ?_)
    refine vv_ws (ws' := lw_w ad cB cI (ch) (fl) (cr) (I) (fm) (op) (nx) (pl) (sf) (di) (K) (F) (fs) (Nb) (Ct) (Pt) (d) (fd) (nw) (ms) (mv) (ml) (os) (ov) (mc) (mh) (mo) (md) (mi) (mf) (mr)) rfl ?_
    refine vv_aload_n X jd_Lw_law_230 2 rfl rfl ?_
    refine vv_aload_n X jd_Lw_law_231 0 rfl rfl ?_
    refine vv_iload_n X jd_Lw_law_232 3 rfl rfl ?_
    refine vv_iconst X jd_Lw_law_233 ci_1 ?_
    refine vv_iadd X jd_Lw_law_234 (nI_add (3 * n) 1) ?_
    refine vv_sld X hX hbl hbA jd_Lw_law_235 (3 * n + 1) rfl (by omega) (by omega) ?_
    rw [← ha]
    refine vv_cVi (As := [.int (nI 3)]) X (jm_count_3 l D cB cI ad fd nw ms mv ml os ov mc mh mo md mi mf mr) ok_Lw_47 ⟨rfl, rfl, Nat.le_of_ble_eq_true rfl, Nat.le_of_ble_eq_true rfl⟩ jd_Lw_law_236 13 3 rfl rfl rfl [13, 14, 15, 16, 17, 18, 19, 20] rfl rfl [ad 13, ad 14, ad 15, ad 16, ad 17, ad 18, ad 19, ad 20] (fun _ => rfl) rfl rfl rfl (Nat.le_of_ble_eq_true rfl) ⟨Nat.le_refl _, Nat.le_refl _⟩ (fun t _ et => ?_)
    refine vv_ws (ws' := lw_w ad cB cI (ch) (fl) (cr) (I) (fm) (op) (nx) (pl) (sf) (di) (K) (F) (fs) (Nb) (Ct) (Pt) (d) (fd) (nw) (ms) (mv) (ml) (os) (ov) (mc) (mh) (mo) (md) (mi) (mf) (mr)) rfl ?_
    refine vv_icmp_eq (tgt := 244) X jd_Lw_law_239 rfl (fun h => ?_) (fun h => absurd (er.trans (by rw [et, f15])) h)
    refine vv_iinc X jd_Lw_law_244 3 [1, 2, 3, 0] rfl (cn_3 (3 * n)) (Nat.le_of_ble_eq_true rfl) rfl ?_
    refine vv_goto (tgt := 18) X jd_Lw_law_247 rfl ?_
    exact k _ _ _ _ _ _ _ _ _ _ _ _ _ _ _ _ _ _ _ _ _ _ _ _ _ _ _ _ _ _ _ (hI.later (by omega))
  by_cases q4 : a = nI 4
  · subst q4
    skip
    refine vv_aload_n X jd_Lw_law_221 1 rfl rfl ?_
    refine vv_aload_n X jd_Lw_law_222 0 rfl rfl ?_
    refine vv_iload_n X jd_Lw_law_223 3 rfl rfl ?_
    refine vv_iconst X jd_Lw_law_224 ci_1 ?_
    refine vv_iadd X jd_Lw_law_225 (nI_add (3 * n) 1) ?_
    refine vv_sld X hX hbl hbA jd_Lw_law_226 (3 * n + 1) rfl (by omega) (by omega) ?_
    rw [← ha]
    refine vv_cVi (As := [.int (nI 4)]) X (jc_count_4 l D cB cI ad ch fl cr I fm op nx pl sf di K F fs Nb Ct Pt d f7 f8) ok_Lw_44 ⟨rfl, rfl, Nat.le_of_ble_eq_true rfl, Nat.le_of_ble_eq_true rfl⟩ jd_Lw_law_227 0 0 rfl rfl rfl [0, 1, 2, 3, 4, 5, 6, 7, 8, 9, 10, 11, 12] rfl rfl [ad 0, ad 1, ad 2, ad 3, ad 4, ad 5, ad 6, ad 7, ad 8, ad 9, ad 10, ad 11, ad 12] (fun _ => rfl) rfl rfl rfl (Nat.le_of_ble_eq_true rfl) ⟨Nat.le_refl _, Nat.le_refl _⟩ (fun r _ er => ?_)
    refine vv_ws (ws' := lw_w ad cB cI (ch) (fl) (cr) (I) (fm) (op) (nx) (pl) (sf) (di) (K) (F) (fs) (Nb) (Ct) (Pt) (d) (fd) (nw) (ms) (mv) (ml) (os) (ov) (mc) (mh) (mo) (md) (mi) (mf) (mr)) rfl ?_
    refine vv_aload_n X jd_Lw_law_230 2 rfl rfl ?_
    refine vv_aload_n X jd_Lw_law_231 0 rfl rfl ?_
    refine vv_iload_n X jd_Lw_law_232 3 rfl rfl ?_
    refine vv_iconst X jd_Lw_law_233 ci_1 ?_
    refine vv_iadd X jd_Lw_law_234 (nI_add (3 * n) 1) ?_
    refine vv_sld X hX hbl hbA jd_Lw_law_235 (3 * n + 1) rfl (by omega) (by omega) ?_
    rw [← ha]
    refine vv_cVi (As := [.int (nI 4)]) X (jm_count_4 l D cB cI ad fd nw ms mv ml os ov mc mh mo md mi mf mr) ok_Lw_47 ⟨rfl, rfl, Nat.le_of_ble_eq_true rfl, Nat.le_of_ble_eq_true rfl⟩ jd_Lw_law_236 13 3 rfl rfl rfl [13, 14, 15, 16, 17, 18, 19, 20] rfl rfl [ad 13, ad 14, ad 15, ad 16, ad 17, ad 18, ad 19, ad 20] (fun _ => rfl) rfl rfl rfl (Nat.le_of_ble_eq_true rfl) ⟨Nat.le_refl _, Nat.le_refl _⟩ (fun t _ et => ?_)
    refine vv_ws (ws' := lw_w ad cB cI (ch) (fl) (cr) (I) (fm) (op) (nx) (pl) (sf) (di) (K) (F) (fs) (Nb) (Ct) (Pt) (d) (fd) (nw) (ms) (mv) (ml) (os) (ov) (mc) (mh) (mo) (md) (mi) (mf) (mr)) rfl ?_
    refine vv_icmp_eq (tgt := 244) X jd_Lw_law_239 rfl (fun h => ?_) (fun h => absurd (er.trans (by rw [et, f18])) h)
    refine vv_iinc X jd_Lw_law_244 3 [1, 2, 3, 0] rfl (cn_3 (3 * n)) (Nat.le_of_ble_eq_true rfl) rfl ?_
    refine vv_goto (tgt := 18) X jd_Lw_law_247 rfl ?_
    exact k _ _ _ _ _ _ _ _ _ _ _ _ _ _ _ _ _ _ _ _ _ _ _ _ _ _ _ _ _ _ _ (hI.later (by omega))
  by_cases q5 : a = nI 5
  · subst q5
    skip
    refine vv_aload_n X jd_Lw_law_221 1 rfl rfl ?_
    refine vv_aload_n X jd_Lw_law_222 0 rfl rfl ?_
    refine vv_iload_n X jd_Lw_law_223 3 rfl rfl ?_
    refine vv_iconst X jd_Lw_law_224 ci_1 ?_
    refine vv_iadd X jd_Lw_law_225 (nI_add (3 * n) 1) ?_
    refine vv_sld X hX hbl hbA jd_Lw_law_226 (3 * n + 1) rfl (by omega) (by omega) ?_
    rw [← ha]
    refine vv_cVi (As := [.int (nI 5)]) X (jc_count_5 l D cB cI ad ch fl cr I fm op nx pl sf di K F fs Nb Ct Pt d f7 f8) ok_Lw_44 ⟨rfl, rfl, Nat.le_of_ble_eq_true rfl, Nat.le_of_ble_eq_true rfl⟩ jd_Lw_law_227 0 0 rfl rfl rfl [0, 1, 2, 3, 4, 5, 6, 7, 8, 9, 10, 11, 12] rfl rfl [ad 0, ad 1, ad 2, ad 3, ad 4, ad 5, ad 6, ad 7, ad 8, ad 9, ad 10, ad 11, ad 12] (fun _ => rfl) rfl rfl rfl (Nat.le_of_ble_eq_true rfl) ⟨Nat.le_refl _, Nat.le_refl _⟩ (fun r _ er => ?_)
    refine vv_ws (ws' := lw_w ad cB cI (ch) (fl) (cr) (I) (fm) (op) (nx) (pl) (sf) (di) (K) (F) (fs) (Nb) (Ct) (Pt) (d) (fd) (nw) (ms) (mv) (ml) (os) (ov) (mc) (mh) (mo) (md) (mi) (mf) (mr)) rfl ?_
    refine vv_aload_n X jd_Lw_law_230 2 rfl rfl ?_
    refine vv_aload_n X jd_Lw_law_231 0 rfl rfl ?_
    refine vv_iload_n X jd_Lw_law_232 3 rfl rfl ?_
    refine vv_iconst X jd_Lw_law_233 ci_1 ?_
    refine vv_iadd X jd_Lw_law_234 (nI_add (3 * n) 1) ?_
    refine vv_sld X hX hbl hbA jd_Lw_law_235 (3 * n + 1) rfl (by omega) (by omega) ?_
    rw [← ha]
    refine vv_cVi (As := [.int (nI 5)]) X (jm_count_5 l D cB cI ad fd nw ms mv ml os ov mc mh mo md mi mf mr) ok_Lw_47 ⟨rfl, rfl, Nat.le_of_ble_eq_true rfl, Nat.le_of_ble_eq_true rfl⟩ jd_Lw_law_236 13 3 rfl rfl rfl [13, 14, 15, 16, 17, 18, 19, 20] rfl rfl [ad 13, ad 14, ad 15, ad 16, ad 17, ad 18, ad 19, ad 20] (fun _ => rfl) rfl rfl rfl (Nat.le_of_ble_eq_true rfl) ⟨Nat.le_refl _, Nat.le_refl _⟩ (fun t _ et => ?_)
    refine vv_ws (ws' := lw_w ad cB cI (ch) (fl) (cr) (I) (fm) (op) (nx) (pl) (sf) (di) (K) (F) (fs) (Nb) (Ct) (Pt) (d) (fd) (nw) (ms) (mv) (ml) (os) (ov) (mc) (mh) (mo) (md) (mi) (mf) (mr)) rfl ?_
    refine vv_icmp_eq (tgt := 244) X jd_Lw_law_239 rfl (fun h => ?_) (fun h => absurd (er.trans (by rw [et, f19])) h)
    refine vv_iinc X jd_Lw_law_244 3 [1, 2, 3, 0] rfl (cn_3 (3 * n)) (Nat.le_of_ble_eq_true rfl) rfl ?_
    refine vv_goto (tgt := 18) X jd_Lw_law_247 rfl ?_
    exact k _ _ _ _ _ _ _ _ _ _ _ _ _ _ _ _ _ _ _ _ _ _ _ _ _ _ _ _ _ _ _ (hI.later (by omega))
  have ho := lw_out (a := a) (fun k hk => by rcases (show k = 0 ∨ k = 1 ∨ k = 2 ∨ k = 3 ∨ k = 4 ∨ k = 5 by omega) with rfl | rfl | rfl | rfl | rfl | rfl <;> assumption)
  skip
  refine vv_aload_n X jd_Lw_law_221 1 rfl rfl ?_
  refine vv_aload_n X jd_Lw_law_222 0 rfl rfl ?_
  refine vv_iload_n X jd_Lw_law_223 3 rfl rfl ?_
  refine vv_iconst X jd_Lw_law_224 ci_1 ?_
  refine vv_iadd X jd_Lw_law_225 (nI_add (3 * n) 1) ?_
  refine vv_sld X hX hbl hbA jd_Lw_law_226 (3 * n + 1) rfl (by omega) (by omega) ?_
  rw [← ha]
  refine vv_cVi (As := [.int a]) X (jc_count_out l D cB cI ad ch fl cr I fm op nx pl sf di K F fs Nb Ct Pt d a ho) ok_Lw_44 ⟨rfl, rfl, Nat.le_of_ble_eq_true rfl, Nat.le_of_ble_eq_true rfl⟩ jd_Lw_law_227 0 0 rfl rfl rfl [0, 1, 2, 3, 4, 5, 6, 7, 8, 9, 10, 11, 12] rfl rfl [ad 0, ad 1, ad 2, ad 3, ad 4, ad 5, ad 6, ad 7, ad 8, ad 9, ad 10, ad 11, ad 12] (fun _ => rfl) rfl rfl rfl (Nat.le_of_ble_eq_true rfl) ⟨Nat.le_refl _, Nat.le_refl _⟩ (fun r _ er => ?_)
  refine vv_ws (ws' := lw_w ad cB cI (ch) (fl) (cr) (I) (fm) (op) (nx) (pl) (sf) (di) (K) (F) (fs) (Nb) (Ct) (Pt) (d) (fd) (nw) (ms) (mv) (ml) (os) (ov) (mc) (mh) (mo) (md) (mi) (mf) (mr)) rfl ?_
  refine vv_aload_n X jd_Lw_law_230 2 rfl rfl ?_
  refine vv_aload_n X jd_Lw_law_231 0 rfl rfl ?_
  refine vv_iload_n X jd_Lw_law_232 3 rfl rfl ?_
  refine vv_iconst X jd_Lw_law_233 ci_1 ?_
  refine vv_iadd X jd_Lw_law_234 (nI_add (3 * n) 1) ?_
  refine vv_sld X hX hbl hbA jd_Lw_law_235 (3 * n + 1) rfl (by omega) (by omega) ?_
  rw [← ha]
  refine vv_cVi (As := [.int a]) X (jm_count_out l D cB cI ad fd nw ms mv ml os ov mc mh mo md mi mf mr a ho) ok_Lw_47 ⟨rfl, rfl, Nat.le_of_ble_eq_true rfl, Nat.le_of_ble_eq_true rfl⟩ jd_Lw_law_236 13 3 rfl rfl rfl [13, 14, 15, 16, 17, 18, 19, 20] rfl rfl [ad 13, ad 14, ad 15, ad 16, ad 17, ad 18, ad 19, ad 20] (fun _ => rfl) rfl rfl rfl (Nat.le_of_ble_eq_true rfl) ⟨Nat.le_refl _, Nat.le_refl _⟩ (fun t _ et => ?_)
  refine vv_ws (ws' := lw_w ad cB cI (ch) (fl) (cr) (I) (fm) (op) (nx) (pl) (sf) (di) (K) (F) (fs) (Nb) (Ct) (Pt) (d) (fd) (nw) (ms) (mv) (ml) (os) (ov) (mc) (mh) (mo) (md) (mi) (mf) (mr)) rfl ?_
  refine vv_icmp_eq (tgt := 244) X jd_Lw_law_239 rfl (fun h => ?_) (fun h => absurd (er.trans et.symm) h)
  refine vv_iinc X jd_Lw_law_244 3 [1, 2, 3, 0] rfl (cn_3 (3 * n)) (Nat.le_of_ble_eq_true rfl) rfl ?_
  refine vv_goto (tgt := 18) X jd_Lw_law_247 rfl ?_
  exact k _ _ _ _ _ _ _ _ _ _ _ _ _ _ _ _ _ _ _ _ _ _ _ _ _ _ _ _ _ _ _ (hI.later (by omega))
set_option maxRecDepth 100000 in
theorem lw_step {p : Program} {l : Launch} {e : Env} {s : State} {m : MethodId} {below : List Frame} {meth : Method} {c : Code} {D : va_G} {A : Nat → Prop} {Q : State → Prop} {cB cI : ClassId} {b L : Nat} {xs : Nat → Int32} (X : CX p s m #[Value.ref b] c code "JournalShelfLaw" 4 D cB cI) (hX : va_X b L xs s s.heap) (hbl : b < s.heap.size) (hbA : ¬ A b) (hL : L ≤ 1536) (ad : Nat → Nat) (n : Nat) (hn : 3 * n + 3 ≤ L) (k : ∀ (ch fl cr : Nat) (I : Nat → Int32) (fm op nx pl sf : Nat) (di : Int32) (K F : Nat → Int32) (fs : Nat → Nat) (Nb Ct Pt : Nat → Int32) (d : DS) (fd nw : Nat → Int32) (ms : Nat → Nat) (mv : Nat → Int32) (ml os : Nat → Nat) (ov : Nat → Int32) (mc mh mo md mi mf mr : Nat), Inv (n + 1) (ch) (fl) (cr) (I) (fm) (op) (nx) (pl) (sf) (K) (F) (fs) (d) (fd) (nw) (ms) (mv) (ml) (os) (ov) (mc) (mh) (mo) (md) (mi) (mf) (mr) → VV p l e room_1 s m #[Value.ref b] below meth c D A 4 600000 7302250 Q (lw_w ad cB cI (ch) (fl) (cr) (I) (fm) (op) (nx) (pl) (sf) (di) (K) (F) (fs) (Nb) (Ct) (Pt) (d) (fd) (nw) (ms) (mv) (ml) (os) (ov) (mc) (mh) (mo) (md) (mi) (mf) (mr)) ([(0, .ref b), (1, .ref (ad 0)), (2, .ref (ad 13)), (3, .int (nI (3 * (n + 1))))]) 18 ([]))
    (ch fl cr : Nat) (I : Nat → Int32) (fm op nx pl sf : Nat) (di : Int32) (K F : Nat → Int32) (fs : Nat → Nat) (Nb Ct Pt : Nat → Int32) (d : DS) (fd nw : Nat → Int32) (ms : Nat → Nat) (mv : Nat → Int32) (ml os : Nat → Nat) (ov : Nat → Int32) (mc mh mo md mi mf mr : Nat) (hI : Inv (n) (ch) (fl) (cr) (I) (fm) (op) (nx) (pl) (sf) (K) (F) (fs) (d) (fd) (nw) (ms) (mv) (ml) (os) (ov) (mc) (mh) (mo) (md) (mi) (mf) (mr)) : VV p l e room_1 s m #[Value.ref b] below meth c D A 4 600000 7302250 Q (lw_w ad cB cI (ch) (fl) (cr) (I) (fm) (op) (nx) (pl) (sf) (di) (K) (F) (fs) (Nb) (Ct) (Pt) (d) (fd) (nw) (ms) (mv) (ml) (os) (ov) (mc) (mh) (mo) (md) (mi) (mf) (mr)) ([(0, .ref b), (1, .ref (ad 0)), (2, .ref (ad 13)), (3, .int (nI (3 * n)))]) 26 ([]) := by
  obtain ⟨j, j1, j2⟩ := pk_andE (xs (3 * n)) (m := nI 7) 3 (by decide +kernel)
  refine vv_aload_n X jd_Lw_law_26 0 rfl rfl ?_
  refine vv_iload_n X jd_Lw_law_27 3 rfl rfl ?_
  refine vv_sld X hX hbl hbA jd_Lw_law_28 (3 * n) rfl (by omega) (by omega) ?_
  refine vv_bipush X jd_Lw_law_29 cb_7 ?_
  refine vv_iand X jd_Lw_law_31 j2 ?_
  rcases (show j = 0 ∨ j = 1 ∨ j = 2 ∨ j = 3 ∨ j = 4 ∨ j = 5 ∨ j = 6 ∨ j = 7 by omega) with rfl | rfl | rfl | rfl | rfl | rfl | rfl | rfl
  · refine vv_swIn (tgt := 80) X jd_Lw_law_32 (by decide +kernel) (by decide +kernel) (off := 48) (by decide +kernel) rfl ?_
    exact lw_change X hX hbl hbA hL ad n hn k ch fl cr I fm op nx pl sf di K F fs Nb Ct Pt d fd nw ms mv ml os ov mc mh mo md mi mf mr hI
  · refine vv_swIn (tgt := 113) X jd_Lw_law_32 (by decide +kernel) (by decide +kernel) (off := 81) (by decide +kernel) rfl ?_
    exact lw_commit X hX hbl hbA hL ad n hn k ch fl cr I fm op nx pl sf di K F fs Nb Ct Pt d fd nw ms mv ml os ov mc mh mo md mi mf mr hI
  · refine vv_swIn (tgt := 126) X jd_Lw_law_32 (by decide +kernel) (by decide +kernel) (off := 94) (by decide +kernel) rfl ?_
    exact lw_forget X hX hbl hbA hL ad n hn k ch fl cr I fm op nx pl sf di K F fs Nb Ct Pt d fd nw ms mv ml os ov mc mh mo md mi mf mr hI
  · refine vv_swIn (tgt := 139) X jd_Lw_law_32 (by decide +kernel) (by decide +kernel) (off := 107) (by decide +kernel) rfl ?_
    exact lw_flush X hX hbl hbA hL ad n hn k ch fl cr I fm op nx pl sf di K F fs Nb Ct Pt d fd nw ms mv ml os ov mc mh mo md mi mf mr hI
  · refine vv_swIn (tgt := 152) X jd_Lw_law_32 (by decide +kernel) (by decide +kernel) (off := 120) (by decide +kernel) rfl ?_
    exact lw_crash X hX hbl hbA hL ad n hn k ch fl cr I fm op nx pl sf di K F fs Nb Ct Pt d fd nw ms mv ml os ov mc mh mo md mi mf mr hI
  · refine vv_swIn (tgt := 185) X jd_Lw_law_32 (by decide +kernel) (by decide +kernel) (off := 153) (by decide +kernel) rfl ?_
    exact lw_get X hX hbl hbA hL ad n hn k ch fl cr I fm op nx pl sf di K F fs Nb Ct Pt d fd nw ms mv ml os ov mc mh mo md mi mf mr hI
  · refine vv_swIn (tgt := 208) X jd_Lw_law_32 (by decide +kernel) (by decide +kernel) (off := 176) (by decide +kernel) rfl ?_
    exact lw_torn X hX hbl hbA hL ad n hn k ch fl cr I fm op nx pl sf di K F fs Nb Ct Pt d fd nw ms mv ml os ov mc mh mo md mi mf mr hI
  · refine vv_swIn (tgt := 221) X jd_Lw_law_32 (by decide +kernel) (by decide +kernel) (off := 189) (by decide +kernel) rfl ?_
    exact lw_count X hX hbl hbA hL ad n hn k ch fl cr I fm op nx pl sf di K F fs Nb Ct Pt d fd nw ms mv ml os ov mc mh mo md mi mf mr hI
/-- YOUR PART: from the entry, for every script of at most 1536 ints, the law comes to its end with true -/
theorem whole_start {p : Program} {e : Env} {s : State} {m : MethodId} {below : List Frame} {meth : Method} {c : Code} (l : Launch) {b L : Nat} {xs : Nat → Int32} (hL : L ≤ 1536) (C0 : lw_At p s m meth c b L xs) : W p l e room_1 s m #[Value.ref b] below meth c s.heap [] 0 0 (lw_Z below #[Value.ref b] s) (entryFrame m ([Value.ref b] : List Value).toArray 4) := by
  obtain ⟨hx, hb, hr, hml, hown, hts0, hX, hbl, hlk, hgv⟩ := C0
  have hts : ∀ w ∈ js_all, w.before #[Value.ref b] s = true := fun w hw => hts0 w (List.mem_filter.mp hw).1
  obtain ⟨D, cB, cI, hK⟩ := js_known hts
  have hN : js_NW s := fun w hw => by
    have h1 := hts0 w (js_nest_in w hw)
    simp only [js_nest, List.mem_cons, List.not_mem_nil, or_false] at hw
    rcases hw with rfl | rfl | rfl | rfl | rfl | rfl | rfl | rfl | rfl <;> exact va_Nw.of rfl h1
  have X : CX p s m #[Value.ref b] c code "JournalShelfLaw" 4 D cB cI := ⟨hx, hb, hml, hown, hts, hK, hN⟩
  have hl := lv_entry [Value.ref b] (n := 4) (Nat.le_of_ble_eq_true rfl)
  rw [lg_entry_eq]
  obtain ⟨A, hAe⟩ : ∃ A : Nat → Prop, A = fun q => s.heap.size ≤ q := ⟨_, rfl⟩
  have hA : ∀ q, s.heap.size ≤ q → A q := fun q h => by rw [hAe]; exact h
  have hbA : ¬ A b := fun h => by rw [hAe] at h; exact absurd hbl (Nat.not_lt.mpr h)
  obtain ⟨Q, hQ⟩ : ∃ Q : State → Prop, Q = lw_Z below #[Value.ref b] s := ⟨_, rfl⟩
  have fin : ∀ ws lv, VV p l e room_1 s m #[Value.ref b] below meth c D A 4 600000 7302250 Q ws lv 251 [.int (nI 1)] := fun ws lv H ls locs hP hD hS hl => by
    subst hQ
    exact va_forget (fun q hq => by have := hS.2.2 q hq; rw [hAe] at this; exact this) (lw_ret hx hb hr hlk jd_Lw_law_251)
  have loop : ∀ (ad : Nat → Nat) (n : Nat), n ≤ L / 3 → ∀ (ch fl cr : Nat) (I : Nat → Int32) (fm op nx pl sf : Nat) (di : Int32) (K F : Nat → Int32) (fs : Nat → Nat) (Nb Ct Pt : Nat → Int32) (d : DS) (fd nw : Nat → Int32) (ms : Nat → Nat) (mv : Nat → Int32) (ml os : Nat → Nat) (ov : Nat → Int32) (mc mh mo md mi mf mr : Nat), Inv (n) (ch) (fl) (cr) (I) (fm) (op) (nx) (pl) (sf) (K) (F) (fs) (d) (fd) (nw) (ms) (mv) (ml) (os) (ov) (mc) (mh) (mo) (md) (mi) (mf) (mr) → VV p l e room_1 s m #[Value.ref b] below meth c D A 4 600000 7302250 Q (lw_w ad cB cI (ch) (fl) (cr) (I) (fm) (op) (nx) (pl) (sf) (di) (K) (F) (fs) (Nb) (Ct) (Pt) (d) (fd) (nw) (ms) (mv) (ml) (os) (ov) (mc) (mh) (mo) (md) (mi) (mf) (mr)) ([(0, .ref b), (1, .ref (ad 0)), (2, .ref (ad 13)), (3, .int (nI (3 * n)))]) 18 ([]) := by
    intro ad
    refine js_up ?_
    intro n hn ih ch fl cr I fm op nx pl sf di K F fs Nb Ct Pt d fd nw ms mv ml os ov mc mh mo md mi mf mr hI
    refine vv_iload_n X jd_Lw_law_18 3 rfl rfl ?_
    refine vv_aload_n X jd_Lw_law_19 0 rfl rfl ?_
    refine vv_slen X hX hbl hbA jd_Lw_law_20 ?_
    refine vv_iconst X jd_Lw_law_21 ci_3 ?_
    refine vv_isub X jd_Lw_law_22 rfl ?_
    refine vv_icmp_gt (tgt := 250) X jd_Lw_law_23 rfl (fun h => ?_) (fun h => ?_)
    · refine vv_iconst X jd_Lw_law_250 ci_1 ?_
      exact fin _ _
    · have h3 : 3 * n + 3 ≤ L := Nat.le_of_not_lt (fun q => h ((lw_cmp hL (by omega)).mpr q))
      exact lw_step X hX hbl hbA hL ad n h3 (fun ch fl cr I fm op nx pl sf di K F fs Nb Ct Pt d fd nw ms mv ml os ov mc mh mo md mi mf mr hI2 => ih (by omega) ch fl cr I fm op nx pl sf di K F fs Nb Ct Pt d fd nw ms mv ml os ov mc mh mo md mi mf mr hI2) ch fl cr I fm op nx pl sf di K F fs Nb Ct Pt d fd nw ms mv ml os ov mc mh mo md mi mf mr hI
  have start : VV p l e room_1 s m #[Value.ref b] below meth c D A 4 0 0 Q [] [(0, .ref b)] 0 [] := by
    refine vv_new (ci := 0) (fs := [.null, .null, .int 0, .int 0, .int 0]) X hA jl_JS jt_JS jo_JS jk_8 jk_9 jk_1 rfl (fun j hj => by match j, hj with | 0, _ => rfl | 1, _ => rfl | 2, _ => rfl | 3, _ => rfl | 4, _ => rfl | n + 5, h => exact absurd h (by omega)) (Nat.le_of_ble_eq_true rfl) (Nat.le_of_ble_eq_true rfl) jd_Lw_law_0 (fun o => ?_)
    refine vv_ws (ws' := [(o, .inr (0, [.null, .null, .int 0, .int 0, .int 0]))]) rfl ?_
    refine vv_dup X jd_Lw_law_3 rfl ?_
    refine vv_cI (wr := []) (As := []) X hA (fun sz => jn_JS_init l D cB cI o sz) ob_JS_init jk_10 jk_11 rfl (Nat.le_of_ble_eq_true rfl) (Nat.le_of_ble_eq_true rfl) jd_Lw_law_4 [0] [] rfl rfl rfl rfl (by decide) rfl rfl (Nat.le_of_ble_eq_true rfl) ⟨(Nat.le_of_ble_eq_true rfl), (Nat.le_of_ble_eq_true rfl)⟩ (fun ad had => ?_)
    subst had
    refine vv_ws (ws' := js_w ad cB cI (0) (0) (0) ((fun _ => 0)) (0) (0) (1) (0) (0) (0) ((fun _ => 0)) ((fun _ => 0)) ((fun _ => 0)) ((fun _ => 0)) ((fun _ => 0)) ((fun _ => 0)) (((fun _ => 0, fun _ => 0, fun _ => 0, 0) : DS))) rfl ?_
    refine vv_astore_n X jd_Lw_law_7 [1, 0] rfl (Nat.le_of_ble_eq_true rfl) rfl ?_
    refine vv_new (ci := 3) (fs := [.null, .null, .null, .null, .null, .int 0, .int 0, .null, .null, .int 0, .int 0, .int 0, .int 0, .int 0]) X hA jl_Md jt_Md jo_Md jk_225 jk_226 jk_4 rfl (fun j hj => by match j, hj with | 0, _ => rfl | 1, _ => rfl | 2, _ => rfl | 3, _ => rfl | 4, _ => rfl | 5, _ => rfl | 6, _ => rfl | 7, _ => rfl | 8, _ => rfl | 9, _ => rfl | 10, _ => rfl | 11, _ => rfl | 12, _ => rfl | 13, _ => rfl | n + 14, h => exact absurd h (by omega)) (Nat.le_of_ble_eq_true rfl) (Nat.le_of_ble_eq_true rfl) jd_Lw_law_8 (fun o => ?_)
    refine vv_dup X jd_Lw_law_11 rfl ?_
    refine vv_cI (wr := js_w ad cB cI (0) (0) (0) ((fun _ => 0)) (0) (0) (1) (0) (0) (0) ((fun _ => 0)) ((fun _ => 0)) ((fun _ => 0)) ((fun _ => 0)) ((fun _ => 0)) ((fun _ => 0)) (((fun _ => 0, fun _ => 0, fun _ => 0, 0) : DS))) (As := []) X hA (fun sz => jn_Md_init l D cB cI o sz) ob_Md_init jk_227 jk_228 rfl (Nat.le_of_ble_eq_true rfl) (Nat.le_of_ble_eq_true rfl) jd_Lw_law_12 [13] [0, 1, 2, 3, 4, 5, 6, 7, 8, 9, 10, 11, 12] rfl rfl rfl rfl (by decide) rfl rfl (Nat.le_of_ble_eq_true rfl) ⟨(Nat.le_of_ble_eq_true rfl), (Nat.le_of_ble_eq_true rfl)⟩ (fun ad2 had => ?_)
    subst had
    refine vv_ws (ws' := lw_w (fun k => match k with | 0 => ad 0 | 1 => ad 1 | 2 => ad 2 | 3 => ad 3 | 4 => ad 4 | 5 => ad 5 | 6 => ad 6 | 7 => ad 7 | 8 => ad 8 | 9 => ad 9 | 10 => ad 10 | 11 => ad 11 | 12 => ad 12 | k => ad2 k) cB cI (0) (0) (0) ((fun _ => 0)) (0) (0) (1) (0) (0) (0) ((fun _ => 0)) ((fun _ => 0)) ((fun _ => 0)) ((fun _ => 0)) ((fun _ => 0)) ((fun _ => 0)) (((fun _ => 0, fun _ => 0, fun _ => 0, 0) : DS)) ((fun _ => 0)) ((fun _ => 0)) ((fun _ => 0)) ((fun _ => 0)) ((fun _ => 0)) ((fun _ => 0)) ((fun _ => 0)) (0) (0) (0) (0) (0) (0) (0)) rfl ?_
    refine vv_astore_n X jd_Lw_law_15 [1, 2, 0] rfl (Nat.le_of_ble_eq_true rfl) rfl ?_
    refine vv_iconst X jd_Lw_law_16 ci_0 ?_
    refine vv_istore_n X jd_Lw_law_17 [1, 2, 3, 0] rfl (Nat.le_of_ble_eq_true rfl) rfl ?_
    refine vv_widen (k := 600000) (n := 7302250) (Nat.le_of_ble_eq_true rfl) (Nat.le_of_ble_eq_true rfl) ?_
    exact loop (fun k => match k with | 0 => ad 0 | 1 => ad 1 | 2 => ad 2 | 3 => ad 3 | 4 => ad 4 | 5 => ad 5 | 6 => ad 6 | 7 => ad 7 | 8 => ad 8 | 9 => ad 9 | 10 => ad 10 | 11 => ad 11 | 12 => ad 12 | k => ad2 k) 0 (Nat.zero_le _) 0 0 0 (fun _ => 0) 0 0 1 0 0 0 (fun _ => 0) (fun _ => 0) (fun _ => 0) (fun _ => 0) (fun _ => 0) (fun _ => 0) ((fun _ => 0, fun _ => 0, fun _ => 0, 0) : DS) (fun _ => 0) (fun _ => 0) (fun _ => 0) (fun _ => 0) (fun _ => 0) (fun _ => 0) (fun _ => 0) 0 0 0 0 0 0 0 Inv.init
  have r := start s.heap _ [] (fun k q hq => by simp at hq) ⟨fun i j p q hi => by simp at hi, fun k q hq => by simp at hq⟩ va_S.rf hl
  rw [hQ] at r
  exact r
set_option maxHeartbeats 4000000 in
theorem lw_walk (l : Launch) (b : Addr) (xs : List Int32) : MetFree l x (headSpec (Jvm.Cond.code x code maxLocals ret :: tables_1) room_1) (lw_P b xs) (fun _ _ _ _ _ => True) lw_Q := by
  refine MetFree.of_bodyS (code := code) (maxLocals := maxLocals) (ret := ret) (by decide) ?_ ?_
  · intro args s m h hn
    obtain ⟨meth, c, h1, h2, h3, h4, h5, h6, -, -⟩ := Cond.code_spec hn (atoms_spec (ws := Jvm.Cond.code x code maxLocals ret :: tables_1) h _ List.mem_cons_self)
    exact ⟨meth, c, h1, h2, h3, h4, h5, h6⟩
  · intro p e s m args below meth c s₁ B hml0 hP _
    obtain ⟨rfl, hx, hbd, hgv⟩ := hP
    obtain ⟨scr, harrAt, hlist, hof, hsmall⟩ := hx
    obtain ⟨hcb, hkn, -, -⟩ := State.arrayAt?_spec harrAt
    have hown : s.vm.findClass R_law = some m.cls := findClass_of_methodNamed B.named
    have hts0 : ∀ c ∈ (Jvm.Cond.code x code maxLocals ret :: tables_1), c.before #[Value.ref b] s = true := atoms_spec (ws := Jvm.Cond.code x code maxLocals ret :: tables_1) B.pre
    have hts : ∀ w ∈ lw_tbl, w.before #[Value.ref b] s = true := k2_hts_sels lw_privs (fun w hw => hts0 w (List.mem_cons_of_mem _ hw)) lw_privs_ok
    have hml : c.maxLocals = 4 := B.maxLocals_eq (hts0 _ List.mem_cons_self)
    have X₀ : Stand p l e room_1 s m #[Value.ref b] below meth c s₁ [] 0 0 := Stand.of_body B
    have hh0 : s₁.heap = s.heap := by rw [B.state]; rfl
    have hsz : scr.slots.size = xs.length := by rw [← Array.length_toList, hlist, List.length_map]
    have hval : ∀ j : Nat, j < xs.length → scr.slots[j]? = some (.int (xs.getD j 0)) := fun j hj => by
      rw [← Array.getElem?_toList, hlist]
      simp [hj]
    have hbl : b < s.heap.size := (Array.getElem?_eq_some_iff.mp hcb).1
    have hX : va_X b xs.length (fun j => xs.getD j 0) s s.heap := ⟨scr, hcb, hof, hkn, hsz, hval⟩
    have K : W p l e room_1 s m #[Value.ref b] below meth c s₁.heap [] 0 0 (lw_Z below #[Value.ref b] s) (entryFrame m ([Value.ref b] : List Value).toArray 4) := by
      rw [hh0]
      exact whole_start l hbd ⟨B.exec, B.bytes, B.returns, hml, hown, hts, hX, hbl, B.notSynchronized, hgv⟩
    obtain ⟨t, a1, o, b1, b2, b3⟩ := K s₁ rfl X₀
    exact ⟨t, o, a1, b1, b2, b3⟩
theorem lw_pre_spec {args : Array Value} {s : State} (h : (Jvm.Cond.and given_1 narrow_1).before args s = true) (hr : rest_1_c.before args s = true) : ∃ (b : Addr) (xs : List Int32), lw_P b xs args s := by
  have hs := flat_of_before _ h
  have hq := flat_of_before _ hr
  have hc : (Cond.count 1).before args s = true := hs _ (by decide +kernel)
  have harr : (Cond.arrayOf (.arg 0) .int).before args s = true := hs _ (by decide +kernel)
  have hle : (Cond.le (.length (.arg 0)) (.int 1536)).before args s = true := hs _ (by decide +kernel)
  have hlen : (Cond.isInt (.length (.arg 0))).before args s = true := hq _ (by decide +kernel)
  have hall : (Cond.all (.arg 0) (.isInt (.elem (.arg 0) (.index 0)))).before args s = true := hq _ (by decide +kernel)
  obtain ⟨b, xs, hb, hx⟩ := State.ints_of_pre rfl harr hlen hall
  have hsm : xs.length < 2 ^ 31 := hx.choose_spec.2.2.2
  have hev : (Term.length (.arg 0)).eval args s none [] s = some (.int xs.length.toInt32) := hx.length_eval hb
  have hv := Cond.le_ints hev (show (Term.int 1536).eval args s none [] s = some (.int 1536) from rfl)
  have hd : xs.length.toInt32 ≤ 1536 := by
    simpa [Cond.before, Cond.holds, hv] using hle
  have hN : xs.length ≤ 1536 := (Int32.ofNat_le_ofNat hsm (by decide)).mp (show Int32.ofNat xs.length ≤ Int32.ofNat 1536 from hd)
  exact ⟨b, xs, Cond.one_arg hc (show args[0]? = some (.ref b) from hb), hx, hN, h⟩
theorem lw_comes (l : Launch) : Comes l x (Jvm.Cond.code x code maxLocals ret :: tables_1) room_1 (fun tb e args s => Calls_1 tb e args s ∧ rest_1 tb e args s ∧ Pre_1 tb e args s)
    (fun _ _ args s o t => lw_Q args s o t) := by
  intro p e ha hc hk s m args below hf hfit hheap happ hpre
  obtain ⟨b, xs, hP⟩ := lw_pre_spec hpre.2.2 hpre.2.1
  obtain ⟨k, o, h1, h2, h3, hQ⟩ := lw_walk l b xs p e ha hc hk s m args below hf ((Spec.applies_iff_loose hf).mp happ).1 hP trivial
  exact ⟨k, o, h1, h2, h3, hQ⟩
theorem lw_frame {s t : State} {o : Outcome} {args : Array Value} (h : Framed s o t [] 600000 7302250) :
    Framed s o t (fieldLocs frame_1_writes args s ++ arrayLocs frame_1_arrays args s ++ staticLocs frame_1_statics s) 600000 7302250 := h
theorem lw_limb (L : Cond) (hL : ∀ (args : Array Value) (s t : State), L.after args s (.returned (some (.int 1))) t = true) :
    ArmFor flags0 classFile x code maxLocals ret World_1 tables_1 room_1 Calls_1 rest_1 Pre_1
      (fun tb e a s o t => postC L tb e a s o t ∧ Framed s o t (fieldLocs frame_1_writes a s ++ arrayLocs frame_1_arrays a s ++ staticLocs frame_1_statics s) 600000 7302250) := by
  intro l _ _ _ p e ha hc hk s m args below hf hfit hheap happ hpre
  obtain ⟨k, o, h1, h2, h3, rfl, hF⟩ := lw_comes l p e ha hc hk s m args below hf hfit hheap happ hpre
  exact ⟨k, _, h1, h2, h3, hL args s _, lw_frame hF⟩
theorem i_vc : Claimed_1_1 ∧ Claimed_1_2 := ⟨lw_limb limb_1_1 (fun args s t => by simp [limb_1_1, Cond.after, Cond.holds, Cond.value]), lw_limb limb_1_2 (fun args s t => Cond.after_iff.mpr (by
  first | (rw [show limb_1_2 = Cond.eq .result (.int 1) from rfl, Cond.eq_ints (x := 1) (y := 1) rfl rfl]; simp; done) | (simp [limb_1_2, Cond.value, Term.eval]; done)))⟩
end
