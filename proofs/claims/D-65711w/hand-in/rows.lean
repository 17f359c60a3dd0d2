section
-- ===== PART A: goes FIRST, ahead of the names: the tables' words, and 'selects' of the private methods out of them =====
/-- a private method of a class that the tables say can be made, by its rows of tables_1 -/
def lw_okq (q : MethodName × Nat) : Prop := (q.1.cls ≠ "java/lang/invoke/MethodHandle" ∧ q.1.cls ≠ "java/lang/invoke/VarHandle") ∧ Cond.instantiable q.1.cls q.2 ∈ tables_1 ∧ Cond.privateMethod q.1 ∈ tables_1 ∧ Cond.instanceMethod q.1 ∈ tables_1
theorem lw_p0 : lw_okq (⟨"ParityDisks", "barred", "(I)I"⟩, 1) := ⟨⟨by decide +kernel, by decide +kernel⟩, List.mem_of_getElem? (i := 11) (by decide +kernel), List.mem_of_getElem? (i := 48) (by decide +kernel), List.mem_of_getElem? (i := 49) (by decide +kernel)⟩
theorem lw_p1 : lw_okq (⟨"java/lang/Throwable", "fillInStackTrace", "(I)Ljava/lang/Throwable;"⟩, 6) := ⟨⟨by decide +kernel, by decide +kernel⟩, List.mem_of_getElem? (i := 125) (by decide +kernel), List.mem_of_getElem? (i := 123) (by decide +kernel), List.mem_of_getElem? (i := 124) (by decide +kernel)⟩
theorem lw_p2 : lw_okq (⟨"ParityDisks", "has", "(III)J"⟩, 1) := ⟨⟨by decide +kernel, by decide +kernel⟩, List.mem_of_getElem? (i := 11) (by decide +kernel), List.mem_of_getElem? (i := 165) (by decide +kernel), List.mem_of_getElem? (i := 166) (by decide +kernel)⟩
theorem lw_p3 : lw_okq (⟨"ParityDisks", "rows", "(III)[J"⟩, 1) := ⟨⟨by decide +kernel, by decide +kernel⟩, List.mem_of_getElem? (i := 11) (by decide +kernel), List.mem_of_getElem? (i := 231) (by decide +kernel), List.mem_of_getElem? (i := 232) (by decide +kernel)⟩
theorem lw_p4 : lw_okq (⟨"ParityDisksModel", "noPlace", "(II)Z"⟩, 3) := ⟨⟨by decide +kernel, by decide +kernel⟩, List.mem_of_getElem? (i := 253) (by decide +kernel), List.mem_of_getElem? (i := 278) (by decide +kernel), List.mem_of_getElem? (i := 279) (by decide +kernel)⟩
theorem lw_p5 : lw_okq (⟨"ParityDisksModel", "fails", "(ZI)Z"⟩, 3) := ⟨⟨by decide +kernel, by decide +kernel⟩, List.mem_of_getElem? (i := 253) (by decide +kernel), List.mem_of_getElem? (i := 282) (by decide +kernel), List.mem_of_getElem? (i := 283) (by decide +kernel)⟩
theorem lw_p6 : lw_okq (⟨"ParityDisksModel", "gone", "(II)Z"⟩, 3) := ⟨⟨by decide +kernel, by decide +kernel⟩, List.mem_of_getElem? (i := 253) (by decide +kernel), List.mem_of_getElem? (i := 289) (by decide +kernel), List.mem_of_getElem? (i := 290) (by decide +kernel)⟩
theorem lw_p7 : lw_okq (⟨"ParityDisksModel", "usable", "(II)Z"⟩, 3) := ⟨⟨by decide +kernel, by decide +kernel⟩, List.mem_of_getElem? (i := 253) (by decide +kernel), List.mem_of_getElem? (i := 293) (by decide +kernel), List.mem_of_getElem? (i := 294) (by decide +kernel)⟩
theorem lw_p8 : lw_okq (⟨"ParityDisksModel", "has", "(III)J"⟩, 3) := ⟨⟨by decide +kernel, by decide +kernel⟩, List.mem_of_getElem? (i := 253) (by decide +kernel), List.mem_of_getElem? (i := 297) (by decide +kernel), List.mem_of_getElem? (i := 298) (by decide +kernel)⟩
theorem lw_p9 : lw_okq (⟨"ParityDisksModel", "others", "(III)J"⟩, 3) := ⟨⟨by decide +kernel, by decide +kernel⟩, List.mem_of_getElem? (i := 253) (by decide +kernel), List.mem_of_getElem? (i := 304) (by decide +kernel), List.mem_of_getElem? (i := 305) (by decide +kernel)⟩
theorem lw_p10 : lw_okq (⟨"ParityDisksModel", "noBlock", "(III)Z"⟩, 3) := ⟨⟨by decide +kernel, by decide +kernel⟩, List.mem_of_getElem? (i := 253) (by decide +kernel), List.mem_of_getElem? (i := 331) (by decide +kernel), List.mem_of_getElem? (i := 332) (by decide +kernel)⟩
def lw_privs_1 : List (MethodName × Nat) := [(⟨"ParityDisks", "barred", "(I)I"⟩, 1), (⟨"java/lang/Throwable", "fillInStackTrace", "(I)Ljava/lang/Throwable;"⟩, 6), (⟨"ParityDisks", "has", "(III)J"⟩, 1), (⟨"ParityDisks", "rows", "(III)[J"⟩, 1), (⟨"ParityDisksModel", "noPlace", "(II)Z"⟩, 3), (⟨"ParityDisksModel", "fails", "(ZI)Z"⟩, 3), (⟨"ParityDisksModel", "gone", "(II)Z"⟩, 3), (⟨"ParityDisksModel", "usable", "(II)Z"⟩, 3), (⟨"ParityDisksModel", "has", "(III)J"⟩, 3), (⟨"ParityDisksModel", "others", "(III)J"⟩, 3), (⟨"ParityDisksModel", "noBlock", "(III)Z"⟩, 3)]
theorem lw_r1 : ∀ q ∈ lw_privs_1, lw_okq q := List.forall_mem_cons.mpr ⟨lw_p0, List.forall_mem_cons.mpr ⟨lw_p1, List.forall_mem_cons.mpr ⟨lw_p2, List.forall_mem_cons.mpr ⟨lw_p3, List.forall_mem_cons.mpr ⟨lw_p4, List.forall_mem_cons.mpr ⟨lw_p5, List.forall_mem_cons.mpr ⟨lw_p6, List.forall_mem_cons.mpr ⟨lw_p7, List.forall_mem_cons.mpr ⟨lw_p8, List.forall_mem_cons.mpr ⟨lw_p9, List.forall_mem_cons.mpr ⟨lw_p10, fun _ h => absurd h List.not_mem_nil⟩⟩⟩⟩⟩⟩⟩⟩⟩⟩⟩
def lw_privs : List (MethodName × Nat) := lw_privs_1
def lw_tbl : List Cond := k2_sels lw_privs ++ tables_1
theorem lw_privs_ok : ∀ q ∈ lw_privs, lw_okq q := lw_r1
-- ===== names
abbrev y_DK_fail : MethodName := ⟨"ParityDisks$Disk", "fail", "()V"⟩
abbrev y_DK_init : MethodName := ⟨"ParityDisks$Disk", "<init>", "()V"⟩
abbrev y_DK_isUsed : MethodName := ⟨"ParityDisks$Disk", "isUsed", "(I)Z"⟩
abbrev y_DK_replace : MethodName := ⟨"ParityDisks$Disk", "replace", "()V"⟩
abbrev y_DK_state : MethodName := ⟨"ParityDisks$Disk", "state", "()I"⟩
abbrev y_EX_init : MethodName := ⟨"java/lang/Exception", "<init>", "()V"⟩
abbrev y_IA_init : MethodName := ⟨"java/lang/IllegalArgumentException", "<init>", "()V"⟩
abbrev y_IS_init : MethodName := ⟨"java/lang/IllegalStateException", "<init>", "()V"⟩
abbrev y_LW_block : MethodName := ⟨"ParityDisksLaw", "block", "(LParityDisks;III[J)I"⟩
abbrev y_LW_fail : MethodName := ⟨"ParityDisksLaw", "fail", "(LParityDisks;I)I"⟩
abbrev y_LW_flip : MethodName := ⟨"ParityDisksLaw", "flip", "(LParityDisks;IIIJ)I"⟩
abbrev y_LW_read : MethodName := ⟨"ParityDisksLaw", "read", "(LParityDisks;II[J)I"⟩
abbrev y_LW_rebuild : MethodName := ⟨"ParityDisksLaw", "rebuild", "(LParityDisks;II[J)I"⟩
abbrev y_LW_replace : MethodName := ⟨"ParityDisksLaw", "replace", "(LParityDisks;I)I"⟩
abbrev y_LW_state : MethodName := ⟨"ParityDisksLaw", "state", "(LParityDisks;I[J)I"⟩
abbrev y_LW_write : MethodName := ⟨"ParityDisksLaw", "write", "(LParityDisks;IIJ)I"⟩
abbrev y_MO_at : MethodName := ⟨"ParityDisksModel", "at", "(III)I"⟩
abbrev y_MO_block : MethodName := ⟨"ParityDisksModel", "block", "(III)J"⟩
abbrev y_MO_disk : MethodName := ⟨"ParityDisksModel", "disk", "(I)I"⟩
abbrev y_MO_fail : MethodName := ⟨"ParityDisksModel", "fail", "(I)V"⟩
abbrev y_MO_fails : MethodName := ⟨"ParityDisksModel", "fails", "(ZI)Z"⟩
abbrev y_MO_flip : MethodName := ⟨"ParityDisksModel", "flip", "(IIIJ)V"⟩
abbrev y_MO_gone : MethodName := ⟨"ParityDisksModel", "gone", "(II)Z"⟩
abbrev y_MO_has : MethodName := ⟨"ParityDisksModel", "has", "(III)J"⟩
abbrev y_MO_init : MethodName := ⟨"ParityDisksModel", "<init>", "()V"⟩
abbrev y_MO_lost : MethodName := ⟨"ParityDisksModel", "lost", "()I"⟩
abbrev y_MO_noBlock : MethodName := ⟨"ParityDisksModel", "noBlock", "(III)Z"⟩
abbrev y_MO_noPlace : MethodName := ⟨"ParityDisksModel", "noPlace", "(II)Z"⟩
abbrev y_MO_none : MethodName := ⟨"ParityDisksModel", "none", "(I)Z"⟩
abbrev y_MO_others : MethodName := ⟨"ParityDisksModel", "others", "(III)J"⟩
abbrev y_MO_read : MethodName := ⟨"ParityDisksModel", "read", "(II)J"⟩
abbrev y_MO_rebuild : MethodName := ⟨"ParityDisksModel", "rebuild", "(II)I"⟩
abbrev y_MO_replace : MethodName := ⟨"ParityDisksModel", "replace", "(I)V"⟩
abbrev y_MO_scrub : MethodName := ⟨"ParityDisksModel", "scrub", "()I"⟩
abbrev y_MO_state : MethodName := ⟨"ParityDisksModel", "state", "(I)I"⟩
abbrev y_MO_thrown : MethodName := ⟨"ParityDisksModel", "thrown", "()I"⟩
abbrev y_MO_usable : MethodName := ⟨"ParityDisksModel", "usable", "(II)Z"⟩
abbrev y_MO_write : MethodName := ⟨"ParityDisksModel", "write", "(IIJ)V"⟩
abbrev y_OB_init : MethodName := ⟨"java/lang/Object", "<init>", "()V"⟩
abbrev y_PD_barred : MethodName := ⟨"ParityDisks", "barred", "(I)I"⟩
abbrev y_PD_block : MethodName := ⟨"ParityDisks", "block", "(III)J"⟩
abbrev y_PD_diskOf : MethodName := ⟨"ParityDisks", "diskOf", "(I)I"⟩
abbrev y_PD_fail : MethodName := ⟨"ParityDisks", "fail", "(I)V"⟩
abbrev y_PD_flip : MethodName := ⟨"ParityDisks", "flip", "(IIIJ)V"⟩
abbrev y_PD_has : MethodName := ⟨"ParityDisks", "has", "(III)J"⟩
abbrev y_PD_init : MethodName := ⟨"ParityDisks", "<init>", "()V"⟩
abbrev y_PD_isDisk : MethodName := ⟨"ParityDisks", "isDisk", "(I)Z"⟩
abbrev y_PD_isLost : MethodName := ⟨"ParityDisks", "isLost", "(II)Z"⟩
abbrev y_PD_isPlace : MethodName := ⟨"ParityDisks", "isPlace", "(II)Z"⟩
abbrev y_PD_legal : MethodName := ⟨"ParityDisks", "legal", "(Z)V"⟩
abbrev y_PD_lost : MethodName := ⟨"ParityDisks", "lost", "()I"⟩
abbrev y_PD_parityOf : MethodName := ⟨"ParityDisks", "parityOf", "(I)I"⟩
abbrev y_PD_read : MethodName := ⟨"ParityDisks", "read", "(II)J"⟩
abbrev y_PD_rebuild : MethodName := ⟨"ParityDisks", "rebuild", "(II)I"⟩
abbrev y_PD_replace : MethodName := ⟨"ParityDisks", "replace", "(I)V"⟩
abbrev y_PD_rows : MethodName := ⟨"ParityDisks", "rows", "(III)[J"⟩
abbrev y_PD_scrub : MethodName := ⟨"ParityDisks", "scrub", "()I"⟩
abbrev y_PD_state : MethodName := ⟨"ParityDisks", "state", "(I)I"⟩
abbrev y_PD_stripeOf : MethodName := ⟨"ParityDisks", "stripeOf", "(I)I"⟩
abbrev y_PD_write : MethodName := ⟨"ParityDisks", "write", "(IIJ)V"⟩
abbrev y_RT_init : MethodName := ⟨"java/lang/RuntimeException", "<init>", "()V"⟩
abbrev y_TH_fill : MethodName := ⟨"java/lang/Throwable", "fillInStackTrace", "()Ljava/lang/Throwable;"⟩
abbrev y_TH_fill0 : MethodName := ⟨"java/lang/Throwable", "fillInStackTrace", "(I)Ljava/lang/Throwable;"⟩
abbrev y_TH_init : MethodName := ⟨"java/lang/Throwable", "<init>", "()V"⟩
abbrev y_UO_init : MethodName := ⟨"java/lang/UnsupportedOperationException", "<init>", "()V"⟩
abbrev b_PD_init : ByteArray := prog_1_method_1_code
abbrev w_PD_init : Cond := .code y_PD_init b_PD_init 2 none
abbrev b_OB_init : ByteArray := object_method_1_code
abbrev w_OB_init : Cond := .code y_OB_init b_OB_init 1 none
abbrev b_DK_init : ByteArray := prog_2_method_1_code
abbrev w_DK_init : Cond := .code y_DK_init b_DK_init 1 none
abbrev b_PD_scrub : ByteArray := prog_1_method_19_code
abbrev w_PD_scrub : Cond := .code y_PD_scrub b_PD_scrub 8 (some .int)
abbrev b_PD_barred : ByteArray := prog_1_method_8_code
abbrev w_PD_barred : Cond := .code y_PD_barred b_PD_barred 4 (some .int)
abbrev b_DK_isUsed : ByteArray := prog_2_method_2_code
abbrev w_DK_isUsed : Cond := .code y_DK_isUsed b_DK_isUsed 2 (some .boolean)
abbrev b_PD_parityOf : ByteArray := prog_1_method_6_code
abbrev w_PD_parityOf : Cond := .code y_PD_parityOf b_PD_parityOf 1 (some .int)
abbrev b_PD_lost : ByteArray := prog_1_method_21_code
abbrev w_PD_lost : Cond := .code y_PD_lost b_PD_lost 3 (some .int)
abbrev b_PD_diskOf : ByteArray := prog_1_method_7_code
abbrev w_PD_diskOf : Cond := .code y_PD_diskOf b_PD_diskOf 2 (some .int)
abbrev b_PD_stripeOf : ByteArray := prog_1_method_5_code
abbrev w_PD_stripeOf : Cond := .code y_PD_stripeOf b_PD_stripeOf 1 (some .int)
abbrev b_PD_isLost : ByteArray := prog_1_method_9_code
abbrev w_PD_isLost : Cond := .code y_PD_isLost b_PD_isLost 2 (some .boolean)
abbrev b_LW_read : ByteArray := method_3_code
abbrev w_LW_read : Cond := .codeWith y_LW_read b_LW_read 5 (some .int) [(0, 9, 12, 13), (0, 9, 16, 15)]
abbrev b_PD_read : ByteArray := prog_1_method_11_code
abbrev w_PD_read : Cond := .code y_PD_read b_PD_read 5 (some .long)
abbrev b_PD_isPlace : ByteArray := prog_1_method_4_code
abbrev w_PD_isPlace : Cond := .code y_PD_isPlace b_PD_isPlace 2 (some .boolean)
abbrev b_PD_legal : ByteArray := prog_1_method_2_code
abbrev w_PD_legal : Cond := .code y_PD_legal b_PD_legal 1 none
abbrev b_TH_init : ByteArray := prog_9_method_1_code
abbrev w_TH_init : Cond := .code y_TH_init b_TH_init 1 none
abbrev b_TH_fill : ByteArray := prog_9_method_18_code
abbrev w_TH_fill : Cond := .codeSync y_TH_fill b_TH_fill 1 (some (.object "java/lang/Throwable"))
abbrev b_IA_init : ByteArray := prog_6_method_1_code
abbrev w_IA_init : Cond := .code y_IA_init b_IA_init 1 none
abbrev b_RT_init : ByteArray := prog_8_method_1_code
abbrev w_RT_init : Cond := .code y_RT_init b_RT_init 1 none
abbrev b_EX_init : ByteArray := prog_5_method_1_code
abbrev w_EX_init : Cond := .code y_EX_init b_EX_init 1 none
abbrev b_UO_init : ByteArray := prog_10_method_1_code
abbrev w_UO_init : Cond := .code y_UO_init b_UO_init 1 none
abbrev b_PD_has : ByteArray := prog_1_method_10_code
abbrev w_PD_has : Cond := .code y_PD_has b_PD_has 8 (some .long)
abbrev b_LW_write : ByteArray := method_4_code
abbrev w_LW_write : Cond := .codeWith y_LW_write b_LW_write 6 (some .int) [(0, 7, 10, 13), (0, 7, 14, 15)]
abbrev b_PD_write : ByteArray := prog_1_method_12_code
abbrev w_PD_write : Cond := .code y_PD_write b_PD_write 10 none
abbrev b_LW_fail : ByteArray := method_5_code
abbrev w_LW_fail : Cond := .codeWith y_LW_fail b_LW_fail 3 (some .int) [(0, 5, 8, 13)]
abbrev b_PD_fail : ByteArray := prog_1_method_13_code
abbrev w_PD_fail : Cond := .code y_PD_fail b_PD_fail 2 none
abbrev b_PD_isDisk : ByteArray := prog_1_method_3_code
abbrev w_PD_isDisk : Cond := .code y_PD_isDisk b_PD_isDisk 1 (some .boolean)
abbrev b_DK_fail : ByteArray := prog_2_method_3_code
abbrev w_DK_fail : Cond := .code y_DK_fail b_DK_fail 1 none
abbrev b_LW_replace : ByteArray := method_6_code
abbrev w_LW_replace : Cond := .codeWith y_LW_replace b_LW_replace 3 (some .int) [(0, 5, 8, 13), (0, 5, 11, 28)]
abbrev b_PD_replace : ByteArray := prog_1_method_14_code
abbrev w_PD_replace : Cond := .code y_PD_replace b_PD_replace 2 none
abbrev b_IS_init : ByteArray := prog_7_method_1_code
abbrev w_IS_init : Cond := .code y_IS_init b_IS_init 1 none
abbrev b_DK_replace : ByteArray := prog_2_method_4_code
abbrev w_DK_replace : Cond := .code y_DK_replace b_DK_replace 2 none
abbrev b_LW_rebuild : ByteArray := method_7_code
abbrev w_LW_rebuild : Cond := .codeWith y_LW_rebuild b_LW_rebuild 5 (some .int) [(0, 10, 13, 13), (0, 10, 17, 28)]
abbrev b_PD_rebuild : ByteArray := prog_1_method_15_code
abbrev w_PD_rebuild : Cond := .code y_PD_rebuild b_PD_rebuild 6 (some .int)
abbrev b_LW_flip : ByteArray := method_8_code
abbrev w_LW_flip : Cond := .codeWith y_LW_flip b_LW_flip 7 (some .int) [(0, 9, 12, 13), (0, 9, 16, 28)]
abbrev b_PD_flip : ByteArray := prog_1_method_17_code
abbrev w_PD_flip : Cond := .code y_PD_flip b_PD_flip 6 none
abbrev b_PD_rows : ByteArray := prog_1_method_16_code
abbrev w_PD_rows : Cond := .code y_PD_rows b_PD_rows 4 (some (.array .long))
abbrev b_LW_block : ByteArray := method_9_code
abbrev w_LW_block : Cond := .codeWith y_LW_block b_LW_block 6 (some .int) [(0, 11, 14, 13), (0, 11, 18, 28)]
abbrev b_PD_block : ByteArray := prog_1_method_18_code
abbrev w_PD_block : Cond := .code y_PD_block b_PD_block 4 (some .long)
abbrev b_LW_state : ByteArray := method_10_code
abbrev w_LW_state : Cond := .codeWith y_LW_state b_LW_state 4 (some .int) [(0, 9, 12, 13)]
abbrev b_PD_state : ByteArray := prog_1_method_20_code
abbrev w_PD_state : Cond := .code y_PD_state b_PD_state 2 (some .int)
abbrev b_DK_state : ByteArray := prog_2_method_5_code
abbrev w_DK_state : Cond := .code y_DK_state b_DK_state 1 (some .int)
abbrev b_MO_init : ByteArray := prog_4_method_1_code
abbrev w_MO_init : Cond := .code y_MO_init b_MO_init 2 none
abbrev b_MO_thrown : ByteArray := prog_4_method_2_code
abbrev w_MO_thrown : Cond := .code y_MO_thrown b_MO_thrown 1 (some .int)
abbrev b_MO_read : ByteArray := prog_4_method_11_code
abbrev w_MO_read : Cond := .code y_MO_read b_MO_read 5 (some .long)
abbrev b_MO_noPlace : ByteArray := prog_4_method_10_code
abbrev w_MO_noPlace : Cond := .code y_MO_noPlace b_MO_noPlace 3 (some .boolean)
abbrev b_MO_fails : ByteArray := prog_4_method_3_code
abbrev w_MO_fails : Cond := .code y_MO_fails b_MO_fails 3 (some .boolean)
abbrev b_MO_disk : ByteArray := prog_4_method_9_code
abbrev w_MO_disk : Cond := .code y_MO_disk b_MO_disk 3 (some .int)
abbrev b_MO_gone : ByteArray := prog_4_method_6_code
abbrev w_MO_gone : Cond := .code y_MO_gone b_MO_gone 4 (some .boolean)
abbrev b_MO_usable : ByteArray := prog_4_method_5_code
abbrev w_MO_usable : Cond := .code y_MO_usable b_MO_usable 3 (some .boolean)
abbrev b_MO_has : ByteArray := prog_4_method_8_code
abbrev w_MO_has : Cond := .code y_MO_has b_MO_has 4 (some .long)
abbrev b_MO_at : ByteArray := prog_4_method_4_code
abbrev w_MO_at : Cond := .code y_MO_at b_MO_at 3 (some .int)
abbrev b_MO_others : ByteArray := prog_4_method_7_code
abbrev w_MO_others : Cond := .code y_MO_others b_MO_others 7 (some .long)
abbrev b_MO_write : ByteArray := prog_4_method_12_code
abbrev w_MO_write : Cond := .code y_MO_write b_MO_write 10 none
abbrev b_MO_fail : ByteArray := prog_4_method_14_code
abbrev w_MO_fail : Cond := .code y_MO_fail b_MO_fail 2 none
abbrev b_MO_none : ByteArray := prog_4_method_13_code
abbrev w_MO_none : Cond := .code y_MO_none b_MO_none 1 (some .boolean)
abbrev b_MO_replace : ByteArray := prog_4_method_15_code
abbrev w_MO_replace : Cond := .code y_MO_replace b_MO_replace 3 none
abbrev b_MO_rebuild : ByteArray := prog_4_method_16_code
abbrev w_MO_rebuild : Cond := .code y_MO_rebuild b_MO_rebuild 5 (some .int)
abbrev b_MO_flip : ByteArray := prog_4_method_18_code
abbrev w_MO_flip : Cond := .code y_MO_flip b_MO_flip 6 none
abbrev b_MO_noBlock : ByteArray := prog_4_method_17_code
abbrev w_MO_noBlock : Cond := .code y_MO_noBlock b_MO_noBlock 4 (some .boolean)
abbrev b_MO_block : ByteArray := prog_4_method_19_code
abbrev w_MO_block : Cond := .code y_MO_block b_MO_block 4 (some .long)
abbrev b_MO_scrub : ByteArray := prog_4_method_20_code
abbrev w_MO_scrub : Cond := .code y_MO_scrub b_MO_scrub 6 (some .int)
abbrev b_MO_state : ByteArray := prog_4_method_21_code
abbrev w_MO_state : Cond := .code y_MO_state b_MO_state 2 (some .int)
abbrev b_MO_lost : ByteArray := prog_4_method_22_code
abbrev w_MO_lost : Cond := .code y_MO_lost b_MO_lost 3 (some .int)
/-- a word that reads the tables alone and stays true under warmer tables -/
def okWord (w : Cond) : Bool := (w.onTables && w.keepsFace) || (match w with | .arrayClass _ => true | _ => false)
def TB : List Cond := lw_tbl.filter okWord
theorem tb_mem {w : Cond} (i : Nat) (h : lw_tbl[i]? = some w) (ho : okWord w = true) : w ∈ TB := List.mem_filter.mpr ⟨List.mem_of_getElem? h, ho⟩
theorem t_s0 : (Cond.selects "ParityDisks" y_PD_barred y_PD_barred) ∈ TB := tb_mem 0 (by with_unfolding_all rfl) rfl
theorem t_s1 : (Cond.selects "java/lang/Throwable" y_TH_fill0 y_TH_fill0) ∈ TB := tb_mem 1 (by with_unfolding_all rfl) rfl
theorem t_s2 : (Cond.selects "ParityDisks" y_PD_has y_PD_has) ∈ TB := tb_mem 2 (by with_unfolding_all rfl) rfl
theorem t_s3 : (Cond.selects "ParityDisks" y_PD_rows y_PD_rows) ∈ TB := tb_mem 3 (by with_unfolding_all rfl) rfl
theorem t_s4 : (Cond.selects "ParityDisksModel" y_MO_noPlace y_MO_noPlace) ∈ TB := tb_mem 4 (by with_unfolding_all rfl) rfl
theorem t_s5 : (Cond.selects "ParityDisksModel" y_MO_fails y_MO_fails) ∈ TB := tb_mem 5 (by with_unfolding_all rfl) rfl
theorem t_s6 : (Cond.selects "ParityDisksModel" y_MO_gone y_MO_gone) ∈ TB := tb_mem 6 (by with_unfolding_all rfl) rfl
theorem t_s7 : (Cond.selects "ParityDisksModel" y_MO_usable y_MO_usable) ∈ TB := tb_mem 7 (by with_unfolding_all rfl) rfl
theorem t_s8 : (Cond.selects "ParityDisksModel" y_MO_has y_MO_has) ∈ TB := tb_mem 8 (by with_unfolding_all rfl) rfl
theorem t_s9 : (Cond.selects "ParityDisksModel" y_MO_others y_MO_others) ∈ TB := tb_mem 9 (by with_unfolding_all rfl) rfl
theorem t_s10 : (Cond.selects "ParityDisksModel" y_MO_noBlock y_MO_noBlock) ∈ TB := tb_mem 10 (by with_unfolding_all rfl) rfl
theorem t_0 : (Cond.initialized "ParityDisksLaw") ∈ TB := tb_mem 11 (by with_unfolding_all rfl) rfl
theorem t_1 : (Cond.initialized "ParityDisks") ∈ TB := tb_mem 12 (by with_unfolding_all rfl) rfl
theorem t_2 : (Cond.initialized "ParityDisks$Disk") ∈ TB := tb_mem 13 (by with_unfolding_all rfl) rfl
theorem t_3 : (Cond.initialized "ParityDisksModel") ∈ TB := tb_mem 14 (by with_unfolding_all rfl) rfl
theorem t_4 : (Cond.initialized "java/lang/Throwable") ∈ TB := tb_mem 15 (by with_unfolding_all rfl) rfl
theorem t_5 : (Cond.initialized "java/lang/Exception") ∈ TB := tb_mem 16 (by with_unfolding_all rfl) rfl
theorem t_6 : (Cond.initialized "java/lang/RuntimeException") ∈ TB := tb_mem 17 (by with_unfolding_all rfl) rfl
theorem t_7 : (Cond.initialized "java/lang/IllegalArgumentException") ∈ TB := tb_mem 18 (by with_unfolding_all rfl) rfl
theorem t_8 : (Cond.initialized "java/lang/UnsupportedOperationException") ∈ TB := tb_mem 19 (by with_unfolding_all rfl) rfl
theorem t_9 : (Cond.initialized "java/lang/IllegalStateException") ∈ TB := tb_mem 20 (by with_unfolding_all rfl) rfl
theorem t_10 : (Cond.classLink "ParityDisksLaw" 8 "ParityDisks") ∈ TB := tb_mem 21 (by with_unfolding_all rfl) rfl
theorem t_11 : (Cond.instantiable "ParityDisks" 1) ∈ TB := tb_mem 22 (by with_unfolding_all rfl) rfl
theorem t_12 : (Cond.methodLink "ParityDisksLaw" 46 y_PD_init) ∈ TB := tb_mem 23 (by with_unfolding_all rfl) rfl
theorem t_13 : (Cond.instanceMethod y_PD_init) ∈ TB := tb_mem 24 (by with_unfolding_all rfl) rfl
theorem t_14 : w_PD_init ∈ TB := tb_mem 25 (by with_unfolding_all rfl) rfl
theorem t_15 : (Cond.methodLink "ParityDisks" 1 y_OB_init) ∈ TB := tb_mem 26 (by with_unfolding_all rfl) rfl
theorem t_16 : (Cond.instanceMethod y_OB_init) ∈ TB := tb_mem 27 (by with_unfolding_all rfl) rfl
theorem t_17 : w_OB_init ∈ TB := tb_mem 28 (by with_unfolding_all rfl) rfl
theorem t_18 : (Cond.classLink "ParityDisks" 9 "ParityDisks$Disk") ∈ TB := tb_mem 29 (by with_unfolding_all rfl) rfl
theorem t_20 : (Cond.instantiable "ParityDisks$Disk" 3) ∈ TB := tb_mem 31 (by with_unfolding_all rfl) rfl
theorem t_22 : (Cond.instanceMethod y_DK_init) ∈ TB := tb_mem 33 (by with_unfolding_all rfl) rfl
theorem t_23 : w_DK_init ∈ TB := tb_mem 34 (by with_unfolding_all rfl) rfl
theorem t_24 : (Cond.methodLink "ParityDisks$Disk" 3 y_OB_init) ∈ TB := tb_mem 35 (by with_unfolding_all rfl) rfl
theorem t_25 : (Cond.fieldLink "ParityDisks$Disk" 9 "ParityDisks$Disk" "rows" "[J") ∈ TB := tb_mem 36 (by with_unfolding_all rfl) rfl
theorem t_26 : (Cond.fieldLink "ParityDisks" 30 "ParityDisks$Disk" "rows" "[J") ∈ TB := tb_mem 37 (by with_unfolding_all rfl) rfl
theorem t_27 : (Cond.fieldLink "ParityDisks$Disk" 15 "ParityDisks$Disk" "upTo" "I") ∈ TB := tb_mem 38 (by with_unfolding_all rfl) rfl
theorem t_28 : (Cond.fieldLink "ParityDisks" 74 "ParityDisks$Disk" "upTo" "I") ∈ TB := tb_mem 39 (by with_unfolding_all rfl) rfl
theorem t_29 : (Cond.fieldLink "ParityDisks$Disk" 19 "ParityDisks$Disk" "failed" "Z") ∈ TB := tb_mem 40 (by with_unfolding_all rfl) rfl
theorem t_30 : (Cond.fieldLink "ParityDisks" 64 "ParityDisks$Disk" "failed" "Z") ∈ TB := tb_mem 41 (by with_unfolding_all rfl) rfl
theorem t_31 : (Cond.laysFinal "ParityDisks$Disk" "ParityDisks$Disk" "rows" "[J") ∈ TB := tb_mem 42 (by with_unfolding_all rfl) rfl
theorem t_33 : (Cond.lays "ParityDisks$Disk" "ParityDisks$Disk" "upTo" "I") ∈ TB := tb_mem 44 (by with_unfolding_all rfl) rfl
theorem t_35 : (Cond.lays "ParityDisks$Disk" "ParityDisks$Disk" "failed" "Z") ∈ TB := tb_mem 46 (by with_unfolding_all rfl) rfl
theorem t_37 : (Cond.superclass "ParityDisks$Disk" "java/lang/Object") ∈ TB := tb_mem 48 (by with_unfolding_all rfl) rfl
theorem t_38 : (Cond.arrayClass .long) ∈ TB := tb_mem 49 (by with_unfolding_all rfl) rfl
theorem t_39 : (Cond.fieldLink "ParityDisks" 11 "ParityDisks" "disks" "[LParityDisks$Disk;") ∈ TB := tb_mem 50 (by with_unfolding_all rfl) rfl
theorem t_40 : (Cond.laysFinal "ParityDisks" "ParityDisks" "disks" "[LParityDisks$Disk;") ∈ TB := tb_mem 51 (by with_unfolding_all rfl) rfl
theorem t_42 : (Cond.superclass "ParityDisks" "java/lang/Object") ∈ TB := tb_mem 53 (by with_unfolding_all rfl) rfl
theorem t_43 : (Cond.methodLink "ParityDisksLaw" 84 y_PD_scrub) ∈ TB := tb_mem 54 (by with_unfolding_all rfl) rfl
theorem t_44 : (Cond.instanceMethod y_PD_scrub) ∈ TB := tb_mem 55 (by with_unfolding_all rfl) rfl
theorem t_45 : (Cond.selects "ParityDisks" y_PD_scrub y_PD_scrub) ∈ TB := tb_mem 56 (by with_unfolding_all rfl) rfl
theorem t_46 : w_PD_scrub ∈ TB := tb_mem 57 (by with_unfolding_all rfl) rfl
theorem t_47 : (Cond.methodLink "ParityDisks" 45 y_PD_barred) ∈ TB := tb_mem 58 (by with_unfolding_all rfl) rfl
theorem t_49 : (Cond.instanceMethod y_PD_barred) ∈ TB := tb_mem 60 (by with_unfolding_all rfl) rfl
theorem t_50 : w_PD_barred ∈ TB := tb_mem 61 (by with_unfolding_all rfl) rfl
theorem t_51 : (Cond.methodLink "ParityDisks" 26 y_DK_isUsed) ∈ TB := tb_mem 62 (by with_unfolding_all rfl) rfl
theorem t_52 : (Cond.instanceMethod y_DK_isUsed) ∈ TB := tb_mem 63 (by with_unfolding_all rfl) rfl
theorem t_53 : (Cond.selects "ParityDisks$Disk" y_DK_isUsed y_DK_isUsed) ∈ TB := tb_mem 64 (by with_unfolding_all rfl) rfl
theorem t_54 : w_DK_isUsed ∈ TB := tb_mem 65 (by with_unfolding_all rfl) rfl
theorem t_55 : (Cond.methodLink "ParityDisks" 23 y_PD_parityOf) ∈ TB := tb_mem 66 (by with_unfolding_all rfl) rfl
theorem t_56 : (Cond.static y_PD_parityOf) ∈ TB := tb_mem 67 (by with_unfolding_all rfl) rfl
theorem t_57 : w_PD_parityOf ∈ TB := tb_mem 68 (by with_unfolding_all rfl) rfl
theorem t_58 : (Cond.methodLink "ParityDisksLaw" 92 y_PD_lost) ∈ TB := tb_mem 69 (by with_unfolding_all rfl) rfl
theorem t_59 : (Cond.instanceMethod y_PD_lost) ∈ TB := tb_mem 70 (by with_unfolding_all rfl) rfl
theorem t_60 : (Cond.selects "ParityDisks" y_PD_lost y_PD_lost) ∈ TB := tb_mem 71 (by with_unfolding_all rfl) rfl
theorem t_61 : w_PD_lost ∈ TB := tb_mem 72 (by with_unfolding_all rfl) rfl
theorem t_62 : (Cond.methodLink "ParityDisks" 42 y_PD_diskOf) ∈ TB := tb_mem 73 (by with_unfolding_all rfl) rfl
theorem t_63 : (Cond.static y_PD_diskOf) ∈ TB := tb_mem 74 (by with_unfolding_all rfl) rfl
theorem t_64 : w_PD_diskOf ∈ TB := tb_mem 75 (by with_unfolding_all rfl) rfl
theorem t_65 : (Cond.methodLink "ParityDisks" 19 y_PD_stripeOf) ∈ TB := tb_mem 76 (by with_unfolding_all rfl) rfl
theorem t_66 : (Cond.static y_PD_stripeOf) ∈ TB := tb_mem 77 (by with_unfolding_all rfl) rfl
theorem t_67 : w_PD_stripeOf ∈ TB := tb_mem 78 (by with_unfolding_all rfl) rfl
theorem t_68 : (Cond.methodLink "ParityDisks" 48 y_PD_isLost) ∈ TB := tb_mem 79 (by with_unfolding_all rfl) rfl
theorem t_69 : (Cond.static y_PD_isLost) ∈ TB := tb_mem 80 (by with_unfolding_all rfl) rfl
theorem t_70 : w_PD_isLost ∈ TB := tb_mem 81 (by with_unfolding_all rfl) rfl
theorem t_71 : (Cond.methodLink "ParityDisksLaw" 50 y_LW_read) ∈ TB := tb_mem 82 (by with_unfolding_all rfl) rfl
theorem t_72 : (Cond.static y_LW_read) ∈ TB := tb_mem 83 (by with_unfolding_all rfl) rfl
theorem t_73 : w_LW_read ∈ TB := tb_mem 84 (by with_unfolding_all rfl) rfl
theorem t_74 : (Cond.classLink "ParityDisksLaw" 13 "java/lang/IllegalArgumentException") ∈ TB := tb_mem 85 (by with_unfolding_all rfl) rfl
theorem t_75 : (Cond.classLink "ParityDisksLaw" 15 "java/lang/UnsupportedOperationException") ∈ TB := tb_mem 86 (by with_unfolding_all rfl) rfl
theorem t_76 : (Cond.methodLink "ParityDisksLaw" 7 y_PD_read) ∈ TB := tb_mem 87 (by with_unfolding_all rfl) rfl
theorem t_77 : (Cond.instanceMethod y_PD_read) ∈ TB := tb_mem 88 (by with_unfolding_all rfl) rfl
theorem t_78 : (Cond.selects "ParityDisks" y_PD_read y_PD_read) ∈ TB := tb_mem 89 (by with_unfolding_all rfl) rfl
theorem t_79 : w_PD_read ∈ TB := tb_mem 90 (by with_unfolding_all rfl) rfl
theorem t_80 : (Cond.methodLink "ParityDisks" 34 y_PD_isPlace) ∈ TB := tb_mem 91 (by with_unfolding_all rfl) rfl
theorem t_81 : (Cond.static y_PD_isPlace) ∈ TB := tb_mem 92 (by with_unfolding_all rfl) rfl
theorem t_82 : w_PD_isPlace ∈ TB := tb_mem 93 (by with_unfolding_all rfl) rfl
theorem t_83 : (Cond.methodLink "ParityDisks" 38 y_PD_legal) ∈ TB := tb_mem 94 (by with_unfolding_all rfl) rfl
theorem t_84 : (Cond.static y_PD_legal) ∈ TB := tb_mem 95 (by with_unfolding_all rfl) rfl
theorem t_85 : w_PD_legal ∈ TB := tb_mem 96 (by with_unfolding_all rfl) rfl
theorem t_86 : (Cond.classLink "ParityDisks" 16 "java/lang/IllegalArgumentException") ∈ TB := tb_mem 97 (by with_unfolding_all rfl) rfl
theorem t_87 : (Cond.instantiable "java/lang/IllegalArgumentException" 6) ∈ TB := tb_mem 98 (by with_unfolding_all rfl) rfl
theorem t_88 : (Cond.castable "java/lang/IllegalArgumentException" "java/lang/IllegalArgumentException") ∈ TB := tb_mem 99 (by with_unfolding_all rfl) rfl
theorem t_89 : (Cond.declares y_RT_init) ∈ TB := tb_mem 100 (by with_unfolding_all rfl) rfl
theorem t_90 : (Cond.declares ⟨"java/lang/RuntimeException", "<init>", "(Ljava/lang/String;)V"⟩) ∈ TB := tb_mem 101 (by with_unfolding_all rfl) rfl
theorem t_91 : (Cond.declares y_EX_init) ∈ TB := tb_mem 102 (by with_unfolding_all rfl) rfl
theorem t_92 : (Cond.declares ⟨"java/lang/Exception", "<init>", "(Ljava/lang/String;)V"⟩) ∈ TB := tb_mem 103 (by with_unfolding_all rfl) rfl
theorem t_93 : (Cond.declares y_TH_init) ∈ TB := tb_mem 104 (by with_unfolding_all rfl) rfl
theorem t_94 : (Cond.declares ⟨"java/lang/Throwable", "<init>", "(Ljava/lang/String;)V"⟩) ∈ TB := tb_mem 105 (by with_unfolding_all rfl) rfl
theorem t_95 : (Cond.selects "java/lang/IllegalArgumentException" y_TH_fill0 y_TH_fill0) ∈ TB := tb_mem 106 (by with_unfolding_all rfl) rfl
theorem t_96 : (Cond.selects "java/lang/IllegalArgumentException" y_TH_fill y_TH_fill) ∈ TB := tb_mem 107 (by with_unfolding_all rfl) rfl
theorem t_97 : (Cond.lays "java/lang/IllegalArgumentException" "java/lang/Throwable" "cause" "Ljava/lang/Throwable;") ∈ TB := tb_mem 108 (by with_unfolding_all rfl) rfl
theorem t_98 : (Cond.lays "java/lang/Throwable" "java/lang/Throwable" "cause" "Ljava/lang/Throwable;") ∈ TB := tb_mem 109 (by with_unfolding_all rfl) rfl
theorem t_99 : (Cond.lays "java/lang/IllegalArgumentException" "java/lang/Throwable" "stackTrace" "[Ljava/lang/StackTraceElement;") ∈ TB := tb_mem 110 (by with_unfolding_all rfl) rfl
theorem t_100 : (Cond.lays "java/lang/Throwable" "java/lang/Throwable" "stackTrace" "[Ljava/lang/StackTraceElement;") ∈ TB := tb_mem 111 (by with_unfolding_all rfl) rfl
theorem t_101 : (Cond.lays "java/lang/IllegalArgumentException" "java/lang/Throwable" "suppressedExceptions" "Ljava/util/List;") ∈ TB := tb_mem 112 (by with_unfolding_all rfl) rfl
theorem t_102 : (Cond.lays "java/lang/Throwable" "java/lang/Throwable" "suppressedExceptions" "Ljava/util/List;") ∈ TB := tb_mem 113 (by with_unfolding_all rfl) rfl
theorem t_103 : (Cond.lays "java/lang/IllegalArgumentException" "java/lang/Throwable" "detailMessage" "Ljava/lang/String;") ∈ TB := tb_mem 114 (by with_unfolding_all rfl) rfl
theorem t_104 : (Cond.lays "java/lang/Throwable" "java/lang/Throwable" "detailMessage" "Ljava/lang/String;") ∈ TB := tb_mem 115 (by with_unfolding_all rfl) rfl
theorem t_105 : (Cond.lays "java/lang/IllegalArgumentException" "java/lang/Throwable" "backtrace" "Ljava/lang/Object;") ∈ TB := tb_mem 116 (by with_unfolding_all rfl) rfl
theorem t_106 : (Cond.lays "java/lang/Throwable" "java/lang/Throwable" "backtrace" "Ljava/lang/Object;") ∈ TB := tb_mem 117 (by with_unfolding_all rfl) rfl
theorem t_107 : (Cond.fieldLink "java/lang/Throwable" 198 "java/lang/Throwable" "backtrace" "Ljava/lang/Object;") ∈ TB := tb_mem 118 (by with_unfolding_all rfl) rfl
theorem t_108 : (Cond.superclass "java/lang/Throwable" "java/lang/Object") ∈ TB := tb_mem 119 (by with_unfolding_all rfl) rfl
theorem t_109 : (Cond.instanceMethod y_TH_init) ∈ TB := tb_mem 120 (by with_unfolding_all rfl) rfl
theorem t_110 : w_TH_init ∈ TB := tb_mem 121 (by with_unfolding_all rfl) rfl
theorem t_111 : (Cond.methodLink "java/lang/Throwable" 1 y_OB_init) ∈ TB := tb_mem 122 (by with_unfolding_all rfl) rfl
theorem t_112 : (Cond.fieldLink "java/lang/Throwable" 13 "java/lang/Throwable" "UNASSIGNED_STACK" "[Ljava/lang/StackTraceElement;") ∈ TB := tb_mem 123 (by with_unfolding_all rfl) rfl
theorem t_114 : (Cond.fieldLink "java/lang/Throwable" 20 "java/lang/Throwable" "SUPPRESSED_SENTINEL" "Ljava/util/List;") ∈ TB := tb_mem 125 (by with_unfolding_all rfl) rfl
theorem t_116 : (Cond.methodLink "java/lang/Throwable" 27 y_TH_fill) ∈ TB := tb_mem 127 (by with_unfolding_all rfl) rfl
theorem t_117 : (Cond.instanceMethod y_TH_fill) ∈ TB := tb_mem 128 (by with_unfolding_all rfl) rfl
theorem t_118 : (Cond.sameMethod "java/lang/Throwable" "java/lang/Throwable" "fillInStackTrace" "()Ljava/lang/Throwable;") ∈ TB := tb_mem 129 (by with_unfolding_all rfl) rfl
theorem t_119 : (Cond.selects "java/lang/IllegalStateException" y_TH_fill y_TH_fill) ∈ TB := tb_mem 130 (by with_unfolding_all rfl) rfl
theorem t_120 : (Cond.selects "java/lang/UnsupportedOperationException" y_TH_fill y_TH_fill) ∈ TB := tb_mem 131 (by with_unfolding_all rfl) rfl
theorem t_121 : w_TH_fill ∈ TB := tb_mem 132 (by with_unfolding_all rfl) rfl
theorem t_122 : (Cond.methodLink "java/lang/Throwable" 202 y_TH_fill0) ∈ TB := tb_mem 133 (by with_unfolding_all rfl) rfl
theorem t_124 : (Cond.instanceMethod y_TH_fill0) ∈ TB := tb_mem 135 (by with_unfolding_all rfl) rfl
theorem t_125 : (Cond.instantiable "java/lang/Throwable" 6) ∈ TB := tb_mem 136 (by with_unfolding_all rfl) rfl
theorem t_126 : (Cond.native y_TH_fill0) ∈ TB := tb_mem 137 (by with_unfolding_all rfl) rfl
theorem t_127 : (Cond.methodLink "ParityDisks" 18 y_IA_init) ∈ TB := tb_mem 138 (by with_unfolding_all rfl) rfl
theorem t_128 : (Cond.instanceMethod y_IA_init) ∈ TB := tb_mem 139 (by with_unfolding_all rfl) rfl
theorem t_129 : w_IA_init ∈ TB := tb_mem 140 (by with_unfolding_all rfl) rfl
theorem t_130 : (Cond.methodLink "java/lang/IllegalArgumentException" 1 y_RT_init) ∈ TB := tb_mem 141 (by with_unfolding_all rfl) rfl
theorem t_131 : (Cond.instanceMethod y_RT_init) ∈ TB := tb_mem 142 (by with_unfolding_all rfl) rfl
theorem t_132 : w_RT_init ∈ TB := tb_mem 143 (by with_unfolding_all rfl) rfl
theorem t_133 : (Cond.methodLink "java/lang/RuntimeException" 1 y_EX_init) ∈ TB := tb_mem 144 (by with_unfolding_all rfl) rfl
theorem t_134 : (Cond.instanceMethod y_EX_init) ∈ TB := tb_mem 145 (by with_unfolding_all rfl) rfl
theorem t_135 : w_EX_init ∈ TB := tb_mem 146 (by with_unfolding_all rfl) rfl
theorem t_136 : (Cond.methodLink "java/lang/Exception" 1 y_TH_init) ∈ TB := tb_mem 147 (by with_unfolding_all rfl) rfl
theorem t_137 : (Cond.fieldLink "java/lang/Throwable" 198 "java/lang/Throwable" "backtrace" "Ljava/lang/Object;") ∈ TB := tb_mem 148 (by with_unfolding_all rfl) rfl
theorem t_138 : (Cond.fieldLink "java/lang/Throwable" 7 "java/lang/Throwable" "cause" "Ljava/lang/Throwable;") ∈ TB := tb_mem 149 (by with_unfolding_all rfl) rfl
theorem t_139 : (Cond.fieldLink "java/lang/Throwable" 17 "java/lang/Throwable" "stackTrace" "[Ljava/lang/StackTraceElement;") ∈ TB := tb_mem 150 (by with_unfolding_all rfl) rfl
theorem t_140 : (Cond.fieldLink "java/lang/Throwable" 24 "java/lang/Throwable" "suppressedExceptions" "Ljava/util/List;") ∈ TB := tb_mem 151 (by with_unfolding_all rfl) rfl
theorem t_145 : (Cond.lays "java/lang/IllegalArgumentException" "java/lang/Throwable" "depth" "I") ∈ TB := tb_mem 156 (by with_unfolding_all rfl) rfl
theorem t_148 : (Cond.superclass "java/lang/IllegalArgumentException" "java/lang/RuntimeException") ∈ TB := tb_mem 159 (by with_unfolding_all rfl) rfl
theorem t_149 : (Cond.classLink "ParityDisks" 51 "java/lang/UnsupportedOperationException") ∈ TB := tb_mem 160 (by with_unfolding_all rfl) rfl
theorem t_150 : (Cond.instantiable "java/lang/UnsupportedOperationException" 6) ∈ TB := tb_mem 161 (by with_unfolding_all rfl) rfl
theorem t_151 : (Cond.castable "java/lang/UnsupportedOperationException" "java/lang/UnsupportedOperationException") ∈ TB := tb_mem 162 (by with_unfolding_all rfl) rfl
theorem t_152 : (Cond.selects "java/lang/UnsupportedOperationException" y_TH_fill0 y_TH_fill0) ∈ TB := tb_mem 163 (by with_unfolding_all rfl) rfl
theorem t_153 : (Cond.lays "java/lang/UnsupportedOperationException" "java/lang/Throwable" "cause" "Ljava/lang/Throwable;") ∈ TB := tb_mem 164 (by with_unfolding_all rfl) rfl
theorem t_154 : (Cond.lays "java/lang/UnsupportedOperationException" "java/lang/Throwable" "stackTrace" "[Ljava/lang/StackTraceElement;") ∈ TB := tb_mem 165 (by with_unfolding_all rfl) rfl
theorem t_155 : (Cond.lays "java/lang/UnsupportedOperationException" "java/lang/Throwable" "suppressedExceptions" "Ljava/util/List;") ∈ TB := tb_mem 166 (by with_unfolding_all rfl) rfl
theorem t_156 : (Cond.lays "java/lang/UnsupportedOperationException" "java/lang/Throwable" "detailMessage" "Ljava/lang/String;") ∈ TB := tb_mem 167 (by with_unfolding_all rfl) rfl
theorem t_157 : (Cond.lays "java/lang/UnsupportedOperationException" "java/lang/Throwable" "backtrace" "Ljava/lang/Object;") ∈ TB := tb_mem 168 (by with_unfolding_all rfl) rfl
theorem t_158 : (Cond.methodLink "ParityDisks" 53 y_UO_init) ∈ TB := tb_mem 169 (by with_unfolding_all rfl) rfl
theorem t_159 : (Cond.instanceMethod y_UO_init) ∈ TB := tb_mem 170 (by with_unfolding_all rfl) rfl
theorem t_160 : w_UO_init ∈ TB := tb_mem 171 (by with_unfolding_all rfl) rfl
theorem t_161 : (Cond.methodLink "java/lang/UnsupportedOperationException" 1 y_RT_init) ∈ TB := tb_mem 172 (by with_unfolding_all rfl) rfl
theorem t_162 : (Cond.lays "java/lang/UnsupportedOperationException" "java/lang/Throwable" "depth" "I") ∈ TB := tb_mem 173 (by with_unfolding_all rfl) rfl
theorem t_163 : (Cond.superclass "java/lang/UnsupportedOperationException" "java/lang/RuntimeException") ∈ TB := tb_mem 174 (by with_unfolding_all rfl) rfl
theorem t_164 : (Cond.methodLink "ParityDisks" 54 y_PD_has) ∈ TB := tb_mem 175 (by with_unfolding_all rfl) rfl
theorem t_166 : (Cond.instanceMethod y_PD_has) ∈ TB := tb_mem 177 (by with_unfolding_all rfl) rfl
theorem t_167 : w_PD_has ∈ TB := tb_mem 178 (by with_unfolding_all rfl) rfl
theorem t_168 : (Cond.methodLink "ParityDisksLaw" 62 y_LW_write) ∈ TB := tb_mem 179 (by with_unfolding_all rfl) rfl
theorem t_169 : (Cond.static y_LW_write) ∈ TB := tb_mem 180 (by with_unfolding_all rfl) rfl
theorem t_170 : w_LW_write ∈ TB := tb_mem 181 (by with_unfolding_all rfl) rfl
theorem t_171 : (Cond.methodLink "ParityDisksLaw" 17 y_PD_write) ∈ TB := tb_mem 182 (by with_unfolding_all rfl) rfl
theorem t_172 : (Cond.instanceMethod y_PD_write) ∈ TB := tb_mem 183 (by with_unfolding_all rfl) rfl
theorem t_173 : (Cond.selects "ParityDisks" y_PD_write y_PD_write) ∈ TB := tb_mem 184 (by with_unfolding_all rfl) rfl
theorem t_174 : w_PD_write ∈ TB := tb_mem 185 (by with_unfolding_all rfl) rfl
theorem t_175 : (Cond.methodLink "ParityDisksLaw" 66 y_LW_fail) ∈ TB := tb_mem 186 (by with_unfolding_all rfl) rfl
theorem t_176 : (Cond.static y_LW_fail) ∈ TB := tb_mem 187 (by with_unfolding_all rfl) rfl
theorem t_177 : w_LW_fail ∈ TB := tb_mem 188 (by with_unfolding_all rfl) rfl
theorem t_178 : (Cond.methodLink "ParityDisksLaw" 21 y_PD_fail) ∈ TB := tb_mem 189 (by with_unfolding_all rfl) rfl
theorem t_179 : (Cond.instanceMethod y_PD_fail) ∈ TB := tb_mem 190 (by with_unfolding_all rfl) rfl
theorem t_180 : (Cond.selects "ParityDisks" y_PD_fail y_PD_fail) ∈ TB := tb_mem 191 (by with_unfolding_all rfl) rfl
theorem t_181 : w_PD_fail ∈ TB := tb_mem 192 (by with_unfolding_all rfl) rfl
theorem t_182 : (Cond.methodLink "ParityDisks" 58 y_PD_isDisk) ∈ TB := tb_mem 193 (by with_unfolding_all rfl) rfl
theorem t_183 : (Cond.static y_PD_isDisk) ∈ TB := tb_mem 194 (by with_unfolding_all rfl) rfl
theorem t_184 : w_PD_isDisk ∈ TB := tb_mem 195 (by with_unfolding_all rfl) rfl
theorem t_185 : (Cond.methodLink "ParityDisks" 61 y_DK_fail) ∈ TB := tb_mem 196 (by with_unfolding_all rfl) rfl
theorem t_186 : (Cond.instanceMethod y_DK_fail) ∈ TB := tb_mem 197 (by with_unfolding_all rfl) rfl
theorem t_187 : (Cond.selects "ParityDisks$Disk" y_DK_fail y_DK_fail) ∈ TB := tb_mem 198 (by with_unfolding_all rfl) rfl
theorem t_188 : w_DK_fail ∈ TB := tb_mem 199 (by with_unfolding_all rfl) rfl
theorem t_189 : (Cond.methodLink "ParityDisksLaw" 70 y_LW_replace) ∈ TB := tb_mem 200 (by with_unfolding_all rfl) rfl
theorem t_190 : (Cond.static y_LW_replace) ∈ TB := tb_mem 201 (by with_unfolding_all rfl) rfl
theorem t_191 : w_LW_replace ∈ TB := tb_mem 202 (by with_unfolding_all rfl) rfl
theorem t_192 : (Cond.classLink "ParityDisksLaw" 28 "java/lang/IllegalStateException") ∈ TB := tb_mem 203 (by with_unfolding_all rfl) rfl
theorem t_193 : (Cond.methodLink "ParityDisksLaw" 25 y_PD_replace) ∈ TB := tb_mem 204 (by with_unfolding_all rfl) rfl
theorem t_194 : (Cond.instanceMethod y_PD_replace) ∈ TB := tb_mem 205 (by with_unfolding_all rfl) rfl
theorem t_195 : (Cond.selects "ParityDisks" y_PD_replace y_PD_replace) ∈ TB := tb_mem 206 (by with_unfolding_all rfl) rfl
theorem t_196 : w_PD_replace ∈ TB := tb_mem 207 (by with_unfolding_all rfl) rfl
theorem t_197 : (Cond.classLink "ParityDisks" 68 "java/lang/IllegalStateException") ∈ TB := tb_mem 208 (by with_unfolding_all rfl) rfl
theorem t_198 : (Cond.instantiable "java/lang/IllegalStateException" 6) ∈ TB := tb_mem 209 (by with_unfolding_all rfl) rfl
theorem t_199 : (Cond.castable "java/lang/IllegalStateException" "java/lang/IllegalStateException") ∈ TB := tb_mem 210 (by with_unfolding_all rfl) rfl
theorem t_200 : (Cond.selects "java/lang/IllegalStateException" y_TH_fill0 y_TH_fill0) ∈ TB := tb_mem 211 (by with_unfolding_all rfl) rfl
theorem t_201 : (Cond.lays "java/lang/IllegalStateException" "java/lang/Throwable" "cause" "Ljava/lang/Throwable;") ∈ TB := tb_mem 212 (by with_unfolding_all rfl) rfl
theorem t_202 : (Cond.lays "java/lang/IllegalStateException" "java/lang/Throwable" "stackTrace" "[Ljava/lang/StackTraceElement;") ∈ TB := tb_mem 213 (by with_unfolding_all rfl) rfl
theorem t_203 : (Cond.lays "java/lang/IllegalStateException" "java/lang/Throwable" "suppressedExceptions" "Ljava/util/List;") ∈ TB := tb_mem 214 (by with_unfolding_all rfl) rfl
theorem t_204 : (Cond.lays "java/lang/IllegalStateException" "java/lang/Throwable" "detailMessage" "Ljava/lang/String;") ∈ TB := tb_mem 215 (by with_unfolding_all rfl) rfl
theorem t_205 : (Cond.lays "java/lang/IllegalStateException" "java/lang/Throwable" "backtrace" "Ljava/lang/Object;") ∈ TB := tb_mem 216 (by with_unfolding_all rfl) rfl
theorem t_206 : (Cond.methodLink "ParityDisks" 70 y_IS_init) ∈ TB := tb_mem 217 (by with_unfolding_all rfl) rfl
theorem t_207 : (Cond.instanceMethod y_IS_init) ∈ TB := tb_mem 218 (by with_unfolding_all rfl) rfl
theorem t_208 : w_IS_init ∈ TB := tb_mem 219 (by with_unfolding_all rfl) rfl
theorem t_209 : (Cond.methodLink "java/lang/IllegalStateException" 1 y_RT_init) ∈ TB := tb_mem 220 (by with_unfolding_all rfl) rfl
theorem t_210 : (Cond.lays "java/lang/IllegalStateException" "java/lang/Throwable" "depth" "I") ∈ TB := tb_mem 221 (by with_unfolding_all rfl) rfl
theorem t_211 : (Cond.superclass "java/lang/IllegalStateException" "java/lang/RuntimeException") ∈ TB := tb_mem 222 (by with_unfolding_all rfl) rfl
theorem t_212 : (Cond.methodLink "ParityDisks" 71 y_DK_replace) ∈ TB := tb_mem 223 (by with_unfolding_all rfl) rfl
theorem t_213 : (Cond.instanceMethod y_DK_replace) ∈ TB := tb_mem 224 (by with_unfolding_all rfl) rfl
theorem t_214 : (Cond.selects "ParityDisks$Disk" y_DK_replace y_DK_replace) ∈ TB := tb_mem 225 (by with_unfolding_all rfl) rfl
theorem t_215 : w_DK_replace ∈ TB := tb_mem 226 (by with_unfolding_all rfl) rfl
theorem t_216 : (Cond.methodLink "ParityDisksLaw" 73 y_LW_rebuild) ∈ TB := tb_mem 227 (by with_unfolding_all rfl) rfl
theorem t_217 : (Cond.static y_LW_rebuild) ∈ TB := tb_mem 228 (by with_unfolding_all rfl) rfl
theorem t_218 : w_LW_rebuild ∈ TB := tb_mem 229 (by with_unfolding_all rfl) rfl
theorem t_219 : (Cond.methodLink "ParityDisksLaw" 30 y_PD_rebuild) ∈ TB := tb_mem 230 (by with_unfolding_all rfl) rfl
theorem t_220 : (Cond.instanceMethod y_PD_rebuild) ∈ TB := tb_mem 231 (by with_unfolding_all rfl) rfl
theorem t_221 : (Cond.selects "ParityDisks" y_PD_rebuild y_PD_rebuild) ∈ TB := tb_mem 232 (by with_unfolding_all rfl) rfl
theorem t_222 : w_PD_rebuild ∈ TB := tb_mem 233 (by with_unfolding_all rfl) rfl
theorem t_223 : (Cond.methodLink "ParityDisksLaw" 76 y_LW_flip) ∈ TB := tb_mem 234 (by with_unfolding_all rfl) rfl
theorem t_224 : (Cond.static y_LW_flip) ∈ TB := tb_mem 235 (by with_unfolding_all rfl) rfl
theorem t_225 : w_LW_flip ∈ TB := tb_mem 236 (by with_unfolding_all rfl) rfl
theorem t_226 : (Cond.methodLink "ParityDisksLaw" 34 y_PD_flip) ∈ TB := tb_mem 237 (by with_unfolding_all rfl) rfl
theorem t_227 : (Cond.instanceMethod y_PD_flip) ∈ TB := tb_mem 238 (by with_unfolding_all rfl) rfl
theorem t_228 : (Cond.selects "ParityDisks" y_PD_flip y_PD_flip) ∈ TB := tb_mem 239 (by with_unfolding_all rfl) rfl
theorem t_229 : w_PD_flip ∈ TB := tb_mem 240 (by with_unfolding_all rfl) rfl
theorem t_230 : (Cond.methodLink "ParityDisks" 78 y_PD_rows) ∈ TB := tb_mem 241 (by with_unfolding_all rfl) rfl
theorem t_232 : (Cond.instanceMethod y_PD_rows) ∈ TB := tb_mem 243 (by with_unfolding_all rfl) rfl
theorem t_233 : w_PD_rows ∈ TB := tb_mem 244 (by with_unfolding_all rfl) rfl
theorem t_234 : (Cond.methodLink "ParityDisksLaw" 80 y_LW_block) ∈ TB := tb_mem 245 (by with_unfolding_all rfl) rfl
theorem t_235 : (Cond.static y_LW_block) ∈ TB := tb_mem 246 (by with_unfolding_all rfl) rfl
theorem t_236 : w_LW_block ∈ TB := tb_mem 247 (by with_unfolding_all rfl) rfl
theorem t_237 : (Cond.methodLink "ParityDisksLaw" 38 y_PD_block) ∈ TB := tb_mem 248 (by with_unfolding_all rfl) rfl
theorem t_238 : (Cond.instanceMethod y_PD_block) ∈ TB := tb_mem 249 (by with_unfolding_all rfl) rfl
theorem t_239 : (Cond.selects "ParityDisks" y_PD_block y_PD_block) ∈ TB := tb_mem 250 (by with_unfolding_all rfl) rfl
theorem t_240 : w_PD_block ∈ TB := tb_mem 251 (by with_unfolding_all rfl) rfl
theorem t_241 : (Cond.methodLink "ParityDisksLaw" 88 y_LW_state) ∈ TB := tb_mem 252 (by with_unfolding_all rfl) rfl
theorem t_242 : (Cond.static y_LW_state) ∈ TB := tb_mem 253 (by with_unfolding_all rfl) rfl
theorem t_243 : w_LW_state ∈ TB := tb_mem 254 (by with_unfolding_all rfl) rfl
theorem t_244 : (Cond.methodLink "ParityDisksLaw" 42 y_PD_state) ∈ TB := tb_mem 255 (by with_unfolding_all rfl) rfl
theorem t_245 : (Cond.instanceMethod y_PD_state) ∈ TB := tb_mem 256 (by with_unfolding_all rfl) rfl
theorem t_246 : (Cond.selects "ParityDisks" y_PD_state y_PD_state) ∈ TB := tb_mem 257 (by with_unfolding_all rfl) rfl
theorem t_247 : w_PD_state ∈ TB := tb_mem 258 (by with_unfolding_all rfl) rfl
theorem t_248 : (Cond.methodLink "ParityDisks" 81 y_DK_state) ∈ TB := tb_mem 259 (by with_unfolding_all rfl) rfl
theorem t_249 : (Cond.instanceMethod y_DK_state) ∈ TB := tb_mem 260 (by with_unfolding_all rfl) rfl
theorem t_250 : (Cond.selects "ParityDisks$Disk" y_DK_state y_DK_state) ∈ TB := tb_mem 261 (by with_unfolding_all rfl) rfl
theorem t_251 : w_DK_state ∈ TB := tb_mem 262 (by with_unfolding_all rfl) rfl
theorem t_252 : (Cond.classLink "ParityDisksLaw" 47 "ParityDisksModel") ∈ TB := tb_mem 263 (by with_unfolding_all rfl) rfl
theorem t_253 : (Cond.instantiable "ParityDisksModel" 3) ∈ TB := tb_mem 264 (by with_unfolding_all rfl) rfl
theorem t_254 : (Cond.methodLink "ParityDisksLaw" 49 y_MO_init) ∈ TB := tb_mem 265 (by with_unfolding_all rfl) rfl
theorem t_255 : (Cond.instanceMethod y_MO_init) ∈ TB := tb_mem 266 (by with_unfolding_all rfl) rfl
theorem t_256 : w_MO_init ∈ TB := tb_mem 267 (by with_unfolding_all rfl) rfl
theorem t_257 : (Cond.methodLink "ParityDisksModel" 1 y_OB_init) ∈ TB := tb_mem 268 (by with_unfolding_all rfl) rfl
theorem t_258 : (Cond.fieldLink "ParityDisksModel" 17 "ParityDisksModel" "err" "I") ∈ TB := tb_mem 269 (by with_unfolding_all rfl) rfl
theorem t_259 : (Cond.fieldLink "ParityDisksModel" 7 "ParityDisksModel" "stands" "[J") ∈ TB := tb_mem 270 (by with_unfolding_all rfl) rfl
theorem t_260 : (Cond.fieldLink "ParityDisksModel" 13 "ParityDisksModel" "up" "[I") ∈ TB := tb_mem 271 (by with_unfolding_all rfl) rfl
theorem t_261 : (Cond.lays "ParityDisksModel" "ParityDisksModel" "err" "I") ∈ TB := tb_mem 272 (by with_unfolding_all rfl) rfl
theorem t_263 : (Cond.laysFinal "ParityDisksModel" "ParityDisksModel" "stands" "[J") ∈ TB := tb_mem 274 (by with_unfolding_all rfl) rfl
theorem t_265 : (Cond.laysFinal "ParityDisksModel" "ParityDisksModel" "up" "[I") ∈ TB := tb_mem 276 (by with_unfolding_all rfl) rfl
theorem t_267 : (Cond.superclass "ParityDisksModel" "java/lang/Object") ∈ TB := tb_mem 278 (by with_unfolding_all rfl) rfl
theorem t_268 : (Cond.arrayClass .int) ∈ TB := tb_mem 279 (by with_unfolding_all rfl) rfl
theorem t_269 : (Cond.methodLink "ParityDisksLaw" 56 y_MO_thrown) ∈ TB := tb_mem 280 (by with_unfolding_all rfl) rfl
theorem t_270 : (Cond.instanceMethod y_MO_thrown) ∈ TB := tb_mem 281 (by with_unfolding_all rfl) rfl
theorem t_271 : (Cond.selects "ParityDisksModel" y_MO_thrown y_MO_thrown) ∈ TB := tb_mem 282 (by with_unfolding_all rfl) rfl
theorem t_272 : w_MO_thrown ∈ TB := tb_mem 283 (by with_unfolding_all rfl) rfl
theorem t_273 : (Cond.methodLink "ParityDisksLaw" 55 y_MO_read) ∈ TB := tb_mem 284 (by with_unfolding_all rfl) rfl
theorem t_274 : (Cond.instanceMethod y_MO_read) ∈ TB := tb_mem 285 (by with_unfolding_all rfl) rfl
theorem t_275 : (Cond.selects "ParityDisksModel" y_MO_read y_MO_read) ∈ TB := tb_mem 286 (by with_unfolding_all rfl) rfl
theorem t_276 : w_MO_read ∈ TB := tb_mem 287 (by with_unfolding_all rfl) rfl
theorem t_277 : (Cond.methodLink "ParityDisksModel" 33 y_MO_noPlace) ∈ TB := tb_mem 288 (by with_unfolding_all rfl) rfl
theorem t_279 : (Cond.instanceMethod y_MO_noPlace) ∈ TB := tb_mem 290 (by with_unfolding_all rfl) rfl
theorem t_280 : w_MO_noPlace ∈ TB := tb_mem 291 (by with_unfolding_all rfl) rfl
theorem t_281 : (Cond.methodLink "ParityDisksModel" 36 y_MO_fails) ∈ TB := tb_mem 292 (by with_unfolding_all rfl) rfl
theorem t_283 : (Cond.instanceMethod y_MO_fails) ∈ TB := tb_mem 294 (by with_unfolding_all rfl) rfl
theorem t_284 : w_MO_fails ∈ TB := tb_mem 295 (by with_unfolding_all rfl) rfl
theorem t_285 : (Cond.methodLink "ParityDisksModel" 40 y_MO_disk) ∈ TB := tb_mem 296 (by with_unfolding_all rfl) rfl
theorem t_286 : (Cond.static y_MO_disk) ∈ TB := tb_mem 297 (by with_unfolding_all rfl) rfl
theorem t_287 : w_MO_disk ∈ TB := tb_mem 298 (by with_unfolding_all rfl) rfl
theorem t_288 : (Cond.methodLink "ParityDisksModel" 44 y_MO_gone) ∈ TB := tb_mem 299 (by with_unfolding_all rfl) rfl
theorem t_290 : (Cond.instanceMethod y_MO_gone) ∈ TB := tb_mem 301 (by with_unfolding_all rfl) rfl
theorem t_291 : w_MO_gone ∈ TB := tb_mem 302 (by with_unfolding_all rfl) rfl
theorem t_292 : (Cond.methodLink "ParityDisksModel" 21 y_MO_usable) ∈ TB := tb_mem 303 (by with_unfolding_all rfl) rfl
theorem t_294 : (Cond.instanceMethod y_MO_usable) ∈ TB := tb_mem 305 (by with_unfolding_all rfl) rfl
theorem t_295 : w_MO_usable ∈ TB := tb_mem 306 (by with_unfolding_all rfl) rfl
theorem t_296 : (Cond.methodLink "ParityDisksModel" 47 y_MO_has) ∈ TB := tb_mem 307 (by with_unfolding_all rfl) rfl
theorem t_298 : (Cond.instanceMethod y_MO_has) ∈ TB := tb_mem 309 (by with_unfolding_all rfl) rfl
theorem t_299 : w_MO_has ∈ TB := tb_mem 310 (by with_unfolding_all rfl) rfl
theorem t_300 : (Cond.methodLink "ParityDisksModel" 25 y_MO_at) ∈ TB := tb_mem 311 (by with_unfolding_all rfl) rfl
theorem t_301 : (Cond.static y_MO_at) ∈ TB := tb_mem 312 (by with_unfolding_all rfl) rfl
theorem t_302 : w_MO_at ∈ TB := tb_mem 313 (by with_unfolding_all rfl) rfl
theorem t_303 : (Cond.methodLink "ParityDisksModel" 29 y_MO_others) ∈ TB := tb_mem 314 (by with_unfolding_all rfl) rfl
theorem t_305 : (Cond.instanceMethod y_MO_others) ∈ TB := tb_mem 316 (by with_unfolding_all rfl) rfl
theorem t_306 : w_MO_others ∈ TB := tb_mem 317 (by with_unfolding_all rfl) rfl
theorem t_307 : (Cond.methodLink "ParityDisksLaw" 65 y_MO_write) ∈ TB := tb_mem 318 (by with_unfolding_all rfl) rfl
theorem t_308 : (Cond.instanceMethod y_MO_write) ∈ TB := tb_mem 319 (by with_unfolding_all rfl) rfl
theorem t_309 : (Cond.selects "ParityDisksModel" y_MO_write y_MO_write) ∈ TB := tb_mem 320 (by with_unfolding_all rfl) rfl
theorem t_310 : w_MO_write ∈ TB := tb_mem 321 (by with_unfolding_all rfl) rfl
theorem t_311 : (Cond.methodLink "ParityDisksLaw" 69 y_MO_fail) ∈ TB := tb_mem 322 (by with_unfolding_all rfl) rfl
theorem t_312 : (Cond.instanceMethod y_MO_fail) ∈ TB := tb_mem 323 (by with_unfolding_all rfl) rfl
theorem t_313 : (Cond.selects "ParityDisksModel" y_MO_fail y_MO_fail) ∈ TB := tb_mem 324 (by with_unfolding_all rfl) rfl
theorem t_314 : w_MO_fail ∈ TB := tb_mem 325 (by with_unfolding_all rfl) rfl
theorem t_315 : (Cond.methodLink "ParityDisksModel" 50 y_MO_none) ∈ TB := tb_mem 326 (by with_unfolding_all rfl) rfl
theorem t_316 : (Cond.static y_MO_none) ∈ TB := tb_mem 327 (by with_unfolding_all rfl) rfl
theorem t_317 : w_MO_none ∈ TB := tb_mem 328 (by with_unfolding_all rfl) rfl
theorem t_318 : (Cond.methodLink "ParityDisksLaw" 72 y_MO_replace) ∈ TB := tb_mem 329 (by with_unfolding_all rfl) rfl
theorem t_319 : (Cond.instanceMethod y_MO_replace) ∈ TB := tb_mem 330 (by with_unfolding_all rfl) rfl
theorem t_320 : (Cond.selects "ParityDisksModel" y_MO_replace y_MO_replace) ∈ TB := tb_mem 331 (by with_unfolding_all rfl) rfl
theorem t_321 : w_MO_replace ∈ TB := tb_mem 332 (by with_unfolding_all rfl) rfl
theorem t_322 : (Cond.methodLink "ParityDisksLaw" 75 y_MO_rebuild) ∈ TB := tb_mem 333 (by with_unfolding_all rfl) rfl
theorem t_323 : (Cond.instanceMethod y_MO_rebuild) ∈ TB := tb_mem 334 (by with_unfolding_all rfl) rfl
theorem t_324 : (Cond.selects "ParityDisksModel" y_MO_rebuild y_MO_rebuild) ∈ TB := tb_mem 335 (by with_unfolding_all rfl) rfl
theorem t_325 : w_MO_rebuild ∈ TB := tb_mem 336 (by with_unfolding_all rfl) rfl
theorem t_326 : (Cond.methodLink "ParityDisksLaw" 79 y_MO_flip) ∈ TB := tb_mem 337 (by with_unfolding_all rfl) rfl
theorem t_327 : (Cond.instanceMethod y_MO_flip) ∈ TB := tb_mem 338 (by with_unfolding_all rfl) rfl
theorem t_328 : (Cond.selects "ParityDisksModel" y_MO_flip y_MO_flip) ∈ TB := tb_mem 339 (by with_unfolding_all rfl) rfl
theorem t_329 : w_MO_flip ∈ TB := tb_mem 340 (by with_unfolding_all rfl) rfl
theorem t_330 : (Cond.methodLink "ParityDisksModel" 54 y_MO_noBlock) ∈ TB := tb_mem 341 (by with_unfolding_all rfl) rfl
theorem t_332 : (Cond.instanceMethod y_MO_noBlock) ∈ TB := tb_mem 343 (by with_unfolding_all rfl) rfl
theorem t_333 : w_MO_noBlock ∈ TB := tb_mem 344 (by with_unfolding_all rfl) rfl
theorem t_334 : (Cond.methodLink "ParityDisksLaw" 83 y_MO_block) ∈ TB := tb_mem 345 (by with_unfolding_all rfl) rfl
theorem t_335 : (Cond.instanceMethod y_MO_block) ∈ TB := tb_mem 346 (by with_unfolding_all rfl) rfl
theorem t_336 : (Cond.selects "ParityDisksModel" y_MO_block y_MO_block) ∈ TB := tb_mem 347 (by with_unfolding_all rfl) rfl
theorem t_337 : w_MO_block ∈ TB := tb_mem 348 (by with_unfolding_all rfl) rfl
theorem t_338 : (Cond.methodLink "ParityDisksLaw" 87 y_MO_scrub) ∈ TB := tb_mem 349 (by with_unfolding_all rfl) rfl
theorem t_339 : (Cond.instanceMethod y_MO_scrub) ∈ TB := tb_mem 350 (by with_unfolding_all rfl) rfl
theorem t_340 : (Cond.selects "ParityDisksModel" y_MO_scrub y_MO_scrub) ∈ TB := tb_mem 351 (by with_unfolding_all rfl) rfl
theorem t_341 : w_MO_scrub ∈ TB := tb_mem 352 (by with_unfolding_all rfl) rfl
theorem t_342 : (Cond.methodLink "ParityDisksLaw" 91 y_MO_state) ∈ TB := tb_mem 353 (by with_unfolding_all rfl) rfl
theorem t_343 : (Cond.instanceMethod y_MO_state) ∈ TB := tb_mem 354 (by with_unfolding_all rfl) rfl
theorem t_344 : (Cond.selects "ParityDisksModel" y_MO_state y_MO_state) ∈ TB := tb_mem 355 (by with_unfolding_all rfl) rfl
theorem t_345 : w_MO_state ∈ TB := tb_mem 356 (by with_unfolding_all rfl) rfl
theorem t_346 : (Cond.methodLink "ParityDisksLaw" 95 y_MO_lost) ∈ TB := tb_mem 357 (by with_unfolding_all rfl) rfl
theorem t_347 : (Cond.instanceMethod y_MO_lost) ∈ TB := tb_mem 358 (by with_unfolding_all rfl) rfl
theorem t_348 : (Cond.selects "ParityDisksModel" y_MO_lost y_MO_lost) ∈ TB := tb_mem 359 (by with_unfolding_all rfl) rfl
theorem t_349 : w_MO_lost ∈ TB := tb_mem 360 (by with_unfolding_all rfl) rfl
theorem t_350 : (Cond.constantLong "ParityDisksLaw" 60 (4294967295 : Int64)) ∈ TB := tb_mem 361 (by with_unfolding_all rfl) rfl
theorem t_351 : (Cond.sameMethod "java/lang/Throwable" "java/lang/Throwable" "fillInStackTrace" "(I)Ljava/lang/Throwable;") ∈ TB := tb_mem 362 (by with_unfolding_all rfl) rfl
end
section
/-! THE OWN LAYER: a context for all methods, contracts that may throw, calls, thrown and caught exceptions -/
-- the classes whose objects the worlds hold
def F_PD : u_T := fun k => match k with
  | _ => ("ParityDisks", "disks", "[LParityDisks$Disk;", true)
def ft_PD : Nat → FieldType := fun k => match k with
  | _ => .array (.object "ParityDisks$Disk")
def F_DK : u_T := fun k => match k with
  | 0 => ("ParityDisks$Disk", "rows", "[J", true)
  | 1 => ("ParityDisks$Disk", "upTo", "I", false)
  | _ => ("ParityDisks$Disk", "failed", "Z", false)
def ft_DK : Nat → FieldType := fun k => match k with
  | 0 => .array .long
  | 1 => .int
  | _ => .boolean
def F_MO : u_T := fun k => match k with
  | 0 => ("ParityDisksModel", "err", "I", false)
  | 1 => ("ParityDisksModel", "stands", "[J", true)
  | _ => ("ParityDisksModel", "up", "[I", true)
def ft_MO : Nat → FieldType := fun k => match k with
  | 0 => .int
  | 1 => .array .long
  | _ => .array .int
abbrev classes : List vw_C := [("ParityDisks", F_PD, 1), ("ParityDisks$Disk", F_DK, 3), ("ParityDisksModel", F_MO, 3)]
theorem n_PD : ∀ a, a < 1 → ∀ b, b < 1 → a ≠ b → (F_PD a).2.1 ≠ (F_PD b).2.1 := by decide +kernel
theorem ft_PD_ok : ∀ k, k < 1 → parseFieldDescriptor (F_PD k).2.2.1 = some (ft_PD k) := by decide +kernel
theorem n_DK : ∀ a, a < 3 → ∀ b, b < 3 → a ≠ b → (F_DK a).2.1 ≠ (F_DK b).2.1 := by decide +kernel
theorem ft_DK_ok : ∀ k, k < 3 → parseFieldDescriptor (F_DK k).2.2.1 = some (ft_DK k) := by decide +kernel
theorem n_MO : ∀ a, a < 3 → ∀ b, b < 3 → a ≠ b → (F_MO a).2.1 ≠ (F_MO b).2.1 := by decide +kernel
theorem ft_MO_ok : ∀ k, k < 3 → parseFieldDescriptor (F_MO k).2.2.1 = some (ft_MO k) := by decide +kernel
theorem in_PD : ∀ w ∈ u_ws "ParityDisks" F_PD 1, w ∈ TB := by
  intro w hw
  obtain ⟨k, hk, rfl⟩ := List.mem_map.mp hw
  have hk := List.mem_range.mp hk
  rcases (show k = 0 by omega) with rfl
  exact t_40
theorem in_DK : ∀ w ∈ u_ws "ParityDisks$Disk" F_DK 3, w ∈ TB := by
  intro w hw
  obtain ⟨k, hk, rfl⟩ := List.mem_map.mp hw
  have hk := List.mem_range.mp hk
  rcases (show k = 0 ∨ k = 1 ∨ k = 2 by omega) with rfl | rfl | rfl
  · exact t_31
  · exact t_33
  · exact t_35
theorem in_MO : ∀ w ∈ u_ws "ParityDisksModel" F_MO 3, w ∈ TB := by
  intro w hw
  obtain ⟨k, hk, rfl⟩ := List.mem_map.mp hw
  have hk := List.mem_range.mp hk
  rcases (show k = 0 ∨ k = 1 ∨ k = 2 by omega) with rfl | rfl | rfl
  · exact t_261
  · exact t_263
  · exact t_265
theorem tb_warm {args a' : Array Value} {s U : State} (hW : s.WarmedH U.vm) {w : Cond} (hw : w ∈ TB) (h : w.before args s = true) : w.before a' U = true := by
  have ho := (List.mem_filter.mp hw).2
  unfold okWord at ho
  rw [Bool.or_eq_true] at ho
  rcases ho with ho | ho
  · rw [Bool.and_eq_true] at ho
    have h1 : w.before args (s.setVm U.vm) = true := Cond.before_shiftedFace (State.Shifted.of_warmed hW) _ ho.2 h
    exact va_tabs ho.1 (rfl : (s.setVm U.vm).vm = U.vm) h1
  · cases w <;> first | exact word_at hW (Or.inr ⟨_, rfl⟩) h | (simp at ho)
-- the context: classes and arrays by number, where Throwable's statics lie and what they hold
abbrev Gx : Type := va_G × (ClassId × ClassId × ClassId) × (Nat × Cell)
def tyG (G : Gx) : List (ClassId × FieldType) := [(G.2.1.1, .int), (G.2.1.2.1, .long), (G.2.1.2.2, .object "ParityDisks$Disk")]
def nestW : Cond := .methodLinkNest "ParityDisks" 15 y_DK_init "ParityDisks"
def nc1 : Cond := .not (.castable "java/lang/UnsupportedOperationException" "java/lang/IllegalArgumentException")
def nc2 : Cond := .not (.castable "java/lang/IllegalStateException" "java/lang/IllegalArgumentException")
def zAtoms : List Cond := [.laysStatic "java/lang/Throwable" "UNASSIGNED_STACK" "[Ljava/lang/StackTraceElement;", .laysStatic "java/lang/Throwable" "SUPPRESSED_SENTINEL" "Ljava/util/List;", .isRef (.static "java/lang/Throwable" "UNASSIGNED_STACK" "[Ljava/lang/StackTraceElement;"), .isRef (.static "java/lang/Throwable" "SUPPRESSED_SENTINEL" "Ljava/util/List;")]
def zOK (zA : Nat) (zc : Cell) (vm : Vm) : Prop := zc.vm.isStatics = true ∧ ∀ (V : State) (a : Array Value), vm.Alike V.vm → V.heap[zA]? = some zc → ∀ w ∈ zAtoms, w.before a V = true
def CX (G : Gx) (U : State) : Prop := va_K G.1 classes (tyG G) U ∧ (∀ w ∈ TB, w.before #[] U = true) ∧ (va_Nw nestW U ∧ va_AO "ParityDisks$Disk" U) ∧ (nc1.before #[] U = true ∧ nc2.before #[] U = true) ∧ zOK G.2.2.1 G.2.2.2 U.vm
theorem CX.warm {G : Gx} {s U : State} (hW : s.WarmedH U.vm) (h : CX G s) : CX G U := by
  obtain ⟨h1, h2, ⟨h3, h4⟩, ⟨h5, h6⟩, h7, h8⟩ := h
  refine ⟨h1.moved hW.alike, fun w hw => tb_warm hW hw (h2 w hw), ⟨h3.warmM hW, h4.moved hW.alike⟩, ⟨?_, ?_⟩, h7, fun V a hV => h8 V a (hW.alike.trans hV)⟩
  · exact (Cond.before_shiftedCast (State.Shifted.of_warmed hW) nc1 rfl h5 : nc1.before #[] (s.setVm U.vm) = true)
  · exact (Cond.before_shiftedCast (State.Shifted.of_warmed hW) nc2 rfl h6 : nc2.before #[] (s.setVm U.vm) = true)
theorem CX.ts {G : Gx} {s : State} (h : CX G s) (args : Array Value) : ∀ w ∈ TB, w.before args s = true := fun w hw => tb_warm (State.WarmedH.refl s) hw (h.2.1 w hw)
-- a contract's start
def Pq (G : Gx) (av : List Value) (P : Heap → Prop) : Array Value → State → Prop := fun v U => v = av.toArray ∧ CX G U ∧ P U.heap
theorem Pq_blind {G : Gx} {av : List Value} {P : Heap → Prop} : FrameBlind (Pq G av P) := fun a U g mk q => ⟨q.1, q.2.1.warm (U := U.calling g mk a) (State.WarmedH.refl U), q.2.2⟩
-- a contract that may throw
def FrEnd (first t : State) (L : List Loc) (k n : Nat) : Prop := first.WarmedH t.vm ∧ first.sameButNew ({ t with vm := first.vm } : State) L k n
def MetX (l : Launch) (y : MethodName) (ws : List Cond) (rm : Room) (Pc : Array Value → State → Prop) (Qc : Array Value → State → Outcome → State → Prop) (mc ms : Nat) (free : Addr → Prop) : Prop :=
  MetFree l y (headSpec ws rm) Pc (fun _ _ _ _ _ => True) (fun a st o t => Qc a st o t ∧ ∃ L, FrEnd st t L mc ms ∧ ∀ q ∈ L, free q.base)
def MX (below : List Frame) (Qc : Array Value → State → Outcome → State → Prop) (a : Array Value) (s : State) (mc ms : Nat) (free : Addr → Prop) : State → Prop := fun t =>
  ∃ o, t.status = .running ∧ Ended t below o ∧ Qc a s o t ∧ ∃ L, FrEnd s t L mc ms ∧ ∀ q ∈ L, free q.base
abbrev Lv (k c n : Nat) : Room := { frames := k, cells := c, slots := n, locals := 30 * k }
/-- a method that answers v and leaves the heap as it was -/
def RI (l : Launch) (G : Gx) (y : MethodName) (w : Cond) (k : Nat) (av : List Value) (P : Heap → Prop) (v : Value) : Prop :=
  MetX l y [w] (Lv k 0 0) (Pq G av P) (fun _ st o t => o = .returned (some v) ∧ t.heap = st.heap) 0 0 (fun _ => False)
def codeOf (y : MethodName) (maxL : Nat) (w : Cond) : Prop := ∃ (bytes : ByteArray) (ret : Option FieldType), w = .code y bytes maxL ret ∨ ∃ hh, w = .codeWith y bytes maxL ret hh
theorem codeOf.spec {y : MethodName} {maxL : Nat} {w : Cond} (h : codeOf y maxL w) {a : Array Value} {U : State} (hb : w.before a U = true) : ∃ mk meth c, U.methodNamed? y = some mk ∧ U.vm.method? mk = some meth ∧ meth.code = some c ∧ c.maxLocals = maxL ∧ parseMethodDescriptor y.desc = some meth.sig := by
  obtain ⟨bytes, ret, rfl | ⟨hh, rfl⟩⟩ := h
  · obtain ⟨mk, hn⟩ := Cond.code_named hb
    obtain ⟨meth, c, h1, h2, -, h4, -, -, -, h8⟩ := Cond.code_spec hn hb
    exact ⟨mk, meth, c, hn, h1, h2, h4, h8⟩
  · obtain ⟨m9, meth, c, hn9, h1, h2, h3, h4, -, h5, h6, h7⟩ := Cond.codeWith_spec hb
    exact ⟨m9, meth, c, hn9, h1, h2, h4, h7⟩
/-- what a method's walk leans on -/
def Fx (p : Program) (m : MethodId) (c : Code) (cc : ByteArray) (nL : Nat) (s : State) (G : Gx) (own : String) : Prop := p.tables.exec = Jvm.exec ∧ c.code = cc ∧ c.maxLocals = nL ∧ s.vm.findClass own = some m.cls ∧ CX G s
section HD
variable {l : Launch} {y : MethodName} {cc : ByteArray} {maxL : Nat} {ret : Option FieldType} {rm : Room} {G : Gx} {av : List Value} {P : Heap → Prop} {Qc : Array Value → State → Outcome → State → Prop} {mc ms : Nat} {free : Addr → Prop}
theorem hd_code (hy : plainName y.cls = true) (hlen : (lg_sl av).length ≤ maxL)
    (body : ∀ (p : Program) (e : Env) (s : State) (m : MethodId) (below : List Frame) (meth : Method) (c : Code) (ls : Array Slot), Fx p m c cc maxL s G y.cls → meth.sig.returnType = ret → meth.locks = false → c.exceptionTable.toList = [] → meth.name = y.name → l.admits e → P s.heap → lv_has ls maxL (lv_args 0 av) →
      W p l e rm s m av.toArray below meth c s.heap [] 0 0 (MX below Qc av.toArray s mc ms free) (F0 m 0 ls [])) : MetX l y [.code y cc maxL ret] rm (Pq G av P) Qc mc ms free := by
  refine MetFree.of_bodyS (code := cc) (maxLocals := maxL) (ret := ret) hy ?_ ?_
  · intro args s m h hn
    obtain ⟨meth, c, h1, h2, h3, h4, h5, h6, -, -⟩ := Cond.code_spec hn (atoms_spec (ws := [.code y cc maxL ret]) h _ List.mem_cons_self)
    exact ⟨meth, c, h1, h2, h3, h4, h5, h6⟩
  · intro p e s m args below meth c s₁ B hml hP _
    obtain ⟨rfl, hC, hP⟩ := hP
    have hh0 : s₁.heap = s.heap := by rw [B.state]; rfl
    have hw := atoms_spec (ws := [.code y cc maxL ret]) B.pre _ List.mem_cons_self
    have he : c.exceptionTable.toList = [] := by
      have h0 := B.noHandlers hw
      have h1 : c.exceptionTable.size = 0 := by simpa [Array.isEmpty] using h0
      exact List.eq_nil_of_length_eq_zero (by simpa using h1)
    have hl := lv_entry av (n := maxL) hlen
    have K := body p e s m below meth c _ ⟨B.exec, B.bytes, hml, findClass_of_methodNamed B.named, hC⟩ B.returns B.notSynchronized he (name_of_methodNamed B.named B.method).1 B.admits hP hl
    rw [← lg_entry_eq] at K
    obtain ⟨t, a1, o, b1, b2, b3⟩ := K s₁ hh0 (Stand.of_body B)
    exact ⟨t, o, a1, b1, b2, b3⟩
theorem hd_codeW {hh : List (Nat × Nat × Nat × Nat)} (hy : plainName y.cls = true) (hlen : (lg_sl av).length ≤ maxL)
    (body : ∀ (p : Program) (e : Env) (s : State) (m : MethodId) (below : List Frame) (meth : Method) (c : Code) (ls : Array Slot), Fx p m c cc maxL s G y.cls → meth.sig.returnType = ret → meth.locks = false → c.exceptionTable.toList.map (fun h => (h.startPc, h.endPc, h.handlerPc, h.catchType)) = hh → l.admits e → P s.heap → lv_has ls maxL (lv_args 0 av) →
      W p l e rm s m av.toArray below meth c s.heap [] 0 0 (MX below Qc av.toArray s mc ms free) (F0 m 0 ls [])) : MetX l y [.codeWith y cc maxL ret hh] rm (Pq G av P) Qc mc ms free := by
  refine MetFree.of_bodyS (code := cc) (maxLocals := maxL) (ret := ret) hy ?_ ?_
  · intro args s m h hn
    obtain ⟨m9, meth, c, hn9, h1, h2, h3, h4, -, h5, h6, -⟩ := Cond.codeWith_spec (atoms_spec (ws := [.codeWith y cc maxL ret hh]) h _ List.mem_cons_self)
    cases hn.symm.trans hn9
    exact ⟨meth, c, h1, h2, h3, h4, h5, h6⟩
  · intro p e s m args below meth c s₁ B hml hP _
    obtain ⟨rfl, hC, hP⟩ := hP
    have hh0 : s₁.heap = s.heap := by rw [B.state]; rfl
    have hw := atoms_spec (ws := [.codeWith y cc maxL ret hh]) B.pre _ List.mem_cons_self
    have he : c.exceptionTable.toList.map (fun h => (h.startPc, h.endPc, h.handlerPc, h.catchType)) = hh := by
      obtain ⟨m9, meth9, c9, hn9, h1, h2, h3, h4, h5, -⟩ := Cond.codeWith_spec hw
      cases B.named.symm.trans hn9
      cases B.method.symm.trans h1
      cases (Stand.of_body B).code.symm.trans h2
      exact h5
    have hl := lv_entry av (n := maxL) hlen
    have K := body p e s m below meth c _ ⟨B.exec, B.bytes, hml, findClass_of_methodNamed B.named, hC⟩ B.returns B.notSynchronized he B.admits hP hl
    rw [← lg_entry_eq] at K
    obtain ⟨t, a1, o, b1, b2, b3⟩ := K s₁ hh0 (Stand.of_body B)
    exact ⟨t, o, a1, b1, b2, b3⟩
end HD
section GO
variable {p : Program} {l : Launch} {e : Env} {R : Room} {s : State} {m : MethodId} {args : Array Value} {below : List Frame} {meth : Method} {c : Code} {T : State} {locs : List Loc} {cells slots : Nat}
variable {y : MethodName} {w : Cond} {rm : Room} {Pc : Array Value → State → Prop} {Qc : Array Value → State → Outcome → State → Prop} {mc ms maxL : Nat} {free : Addr → Prop}
/-- what a call comes to: back, or thrown -/
def Came2 (p : Program) (l : Launch) (e : Env) (R : Room) (s : State) (m : MethodId) (args : Array Value) (below : List Frame) (meth : Method) (c : Code) (H : Heap) (locs : List Loc) (cells slots : Nat) (free : Addr → Prop) (Qa : State → Outcome → State → Prop) (U : State) (g : JFrame) (len : Nat) (rest : List Value) : Prop :=
  ∃ (o : Outcome) (st t T' : State) (L : List Loc), st.heap = H ∧ Qa st o t ∧ Stand p l e R s m args below meth c T' (locs ++ L) cells slots ∧ (∀ q ∈ L, free q.base) ∧ T'.heap = t.heap ∧ T'.vm = t.vm ∧
    ((∃ v, o = .returned v ∧ ∀ tg, Steps p.tables e below (T'.setTop { g with pc := g.pc + len, stack := v.toList ++ rest }) tg → Steps p.tables e below U tg) ∨
     (∃ x, o = .threw x ∧ ∀ tg, Steps p.tables e below ((T'.setTop { g with stack := rest }).pushFrame (.throwing x)) tg → Steps p.tables e below U tg))
theorem go_call (X : Stand p l e R s m args below meth c T locs cells slots) (hw : codeOf y maxL w) (hM : MetX l y [w] rm Pc Qc mc ms free) (hbl : FrameBlind Pc) (hrc : rm.cells = mc) (hrs : rm.slots = ms)
    (hfr : rm.frames + 1 ≤ R.frames) (hlo : 8 + (maxL + 11) + rm.locals ≤ R.locals) (hok : ∀ a' U, s.WarmedH U.vm → w.before a' U = true) (hini : ∀ a' U, s.WarmedH U.vm → (Cond.initialized y.cls).before a' U = true)
    {g : JFrame} {ig : Instr} {len : Nat} {mk : MethodId} {a : Array Value} (hg : g.method = m) (hsize : g.locals.size = c.maxLocals) (hdg : decode c.code g.pc = .ok (ig, len)) (hW : 2 * g.monitorRoom + (g.stack.map fun v => v.category).sum ≤ 8)
    (hn : T.methodNamed? y = some mk) (hp : Pc a T) (hcl : cells + mc ≤ R.cells) (hsl : slots + ms ≤ R.slots) :
    Came2 p l e R s m args below meth c T.heap locs (cells + mc) (slots + ms) free (Qc a) (doInvoke e (T.setTop g) [] mk a).1 g len g.stack := by
  obtain ⟨mk9, methY, cY, hn9, hmY, hcY, hlY, -⟩ := hw.spec (hok a T X.warmed)
  cases hn.symm.trans hn9
  obtain ⟨kY, hkY, -⟩ := className_of_methodNamed hn
  have hinitY : kY.init = .initialized := Cond.initialized_spec (findClass_of_methodNamed hn) hkY (hini a T X.warmed)
  have h : At T g.method c below := by rw [hg]; exact X.here
  have hpre : (headSpec [w] rm).pre.before a T = true := atoms_intro fun v hv => by rw [List.mem_singleton.mp hv]; exact hok a T X.warmed
  have happ : (headSpec [w] rm).appliesLoose y e.platform (T.calling g mk a) = true :=
    Spec.appliesLoose_calling (g := g) h hdg hn hkY hinitY
      (X.room_calling (g := g) (R' := rm) hsize hmY hcY hfr (by rw [hlY]; omega) (by rw [hrc]; exact hcl) (by rw [hrs]; exact hsl)) hpre
  obtain ⟨mid, hmid⟩ := h.above
  have hfrm : (T.setTop g).frames = (.java g :: mid) ++ below := by rw [State.frames_setTop' g h.top, hmid]; rfl
  obtain ⟨o, s₂, hsteps, -, hend, hq⟩ := Steps.callFree hM p X.admits X.cas X.clock (acts := []) hfrm happ (hbl a T g mk hp) trivial
  rw [State.frames_setTop' g h.top, X.tail] at hend
  obtain ⟨hq1, L, ⟨hW2, hsame⟩, hL⟩ := hq
  cases o with
  | returned v =>
    obtain ⟨T', X', -, -, ht⟩ := X.outOf hg hdg hend hW2 hsame
    refine ⟨.returned v, T.calling g mk a, s₂, T', L, rfl, hq1, X', hL, by rw [ht]; rfl, by rw [ht]; rfl, Or.inl ⟨v, rfl, fun tg h9 => ?_⟩⟩
    rw [ht] at hsteps
    exact hsteps.trans h9
  | threw x =>
    obtain ⟨T', X', -, -, ht⟩ := X.outOfThrown hg hend hW2 hsame
    refine ⟨.threw x, T.calling g mk a, s₂, T', L, rfl, hq1, X', hL, by rw [ht]; rfl, by rw [ht]; rfl, Or.inr ⟨x, rfl, fun tg h9 => ?_⟩⟩
    rw [ht] at hsteps
    exact hsteps.trans h9
end GO
end
section
/-! calls by site; throwing and catching -/
def SiteS (own : String) (idx : Nat) (y : MethodName) (w : Cond) (maxL n : Nat) : Prop := Cond.methodLink own idx y ∈ TB ∧ Cond.static y ∈ TB ∧ Cond.initialized y.cls ∈ TB ∧ w ∈ TB ∧ codeOf y maxL w ∧ (y.cls ≠ "java/lang/invoke/MethodHandle" ∧ y.cls ≠ "java/lang/invoke/VarHandle") ∧ (parseMethodDescriptor y.desc).map (fun d => d.parameters.length) = some n
def SiteV (own : String) (idx : Nat) (y : MethodName) (w : Cond) (maxL n : Nat) : Prop := Cond.methodLink own idx y ∈ TB ∧ Cond.instanceMethod y ∈ TB ∧ Cond.selects y.cls y y ∈ TB ∧ Cond.initialized y.cls ∈ TB ∧ w ∈ TB ∧ codeOf y maxL w ∧ (y.cls ≠ "java/lang/invoke/MethodHandle" ∧ y.cls ≠ "java/lang/invoke/VarHandle") ∧ (parseMethodDescriptor y.desc).map (fun d => d.parameters.length) = some n
section GS
variable {p : Program} {l : Launch} {e : Env} {R : Room} {s : State} {m : MethodId} {args : Array Value} {below : List Frame} {meth : Method} {c : Code} {T : State} {locs : List Loc} {cells slots : Nat}
variable {y : MethodName} {w : Cond} {rm : Room} {Pc : Array Value → State → Prop} {Qc : Array Value → State → Outcome → State → Prop} {mc ms maxL n idx : Nat} {free : Addr → Prop} {own : String}
theorem go_S (X : Stand p l e R s m args below meth c T locs cells slots) (hx : p.tables.exec = Jvm.exec) (hts : ∀ w ∈ TB, w.before args s = true) (hown : s.vm.findClass own = some m.cls) (hs : SiteS own idx y w maxL n) (hM : MetX l y [w] rm Pc Qc mc ms free) (hbl : FrameBlind Pc) (hrc : rm.cells = mc) (hrs : rm.slots = ms)
    (hfr : rm.frames + 1 ≤ R.frames) (hlo : 8 + (maxL + 11) + rm.locals ≤ R.locals) {g : JFrame} (hg : g.method = m) (hsize : g.locals.size = c.maxLocals) {argsL rest : List Value} (hn : argsL.length = n) (hstack : g.stack = argsL.reverse ++ rest)
    (hW : 2 * g.monitorRoom + (rest.map fun v => v.category).sum ≤ 8) (hdg : decode c.code g.pc = .ok (.invokestatic idx, 3)) (hp : ∀ U : State, U.heap = T.heap → s.WarmedH U.vm → Pc argsL.toArray U) (hcl : cells + mc ≤ R.cells) (hsl : slots + ms ≤ R.slots) :
    Came2 p l e R s m args below meth c T.heap locs (cells + mc) (slots + ms) free (Qc argsL.toArray) (T.setTop g) g 3 rest := by
  obtain ⟨h1, h2, h3, h4, h5, h6, h7⟩ := hs
  obtain ⟨mk, methM, cM, hnamed, hmethM, -, -, hsigM⟩ := h5.spec (hts _ h4)
  have hstatic := Cond.static_spec hnamed hmethM (hts _ h2)
  obtain ⟨kP, hkP, -⟩ := className_of_methodNamed hnamed
  have hinitP : kP.init = .initialized := Cond.initialized_spec (findClass_of_methodNamed hnamed) hkP (hts _ h3)
  have hlen : argsL.length = methM.sig.parameters.length := by
    rw [hsigM] at h7
    exact hn.trans (Option.some.inj h7).symm
  obtain ⟨vm₁, X₁, hstep₁⟩ := X.invokestatic hx hown (hts _ h1) hnamed hmethM hstatic hkP hinitP h6 (g := g) hg (argsL := argsL) (rest := rest) hlen hstack hdg
  obtain ⟨o, st, t, T', L, e1, q, X', hL, e2, e3, hh⟩ := go_call X₁ h5 hM hbl hrc hrs hfr hlo (fun a' U hU => tb_warm hU h4 (hts _ h4)) (fun a' U hU => tb_warm hU h3 (hts _ h3)) (g := { g with stack := rest }) (ig := .invokestatic idx) (len := 3) (mk := mk) (a := argsL.toArray) hg hsize hdg hW (X₁.named hnamed) (hp _ rfl X₁.warmed) hcl hsl
  refine ⟨o, st, t, T', L, e1, q, X', hL, e2, e3, ?_⟩
  rcases hh with ⟨v, rfl, st2⟩ | ⟨x, rfl, st2⟩
  · exact Or.inl ⟨v, rfl, fun tg h9 => hstep₁ _ fun acts => by rw [doInvoke_state]; exact st2 tg h9⟩
  · exact Or.inr ⟨x, rfl, fun tg h9 => hstep₁ _ fun acts => by rw [doInvoke_state]; exact st2 tg h9⟩
theorem go_V (X : Stand p l e R s m args below meth c T locs cells slots) (hx : p.tables.exec = Jvm.exec) (hts : ∀ w ∈ TB, w.before args s = true) (hown : s.vm.findClass own = some m.cls) (hs : SiteV own idx y w maxL n) (hM : MetX l y [w] rm Pc Qc mc ms free) (hbl : FrameBlind Pc) (hrc : rm.cells = mc) (hrs : rm.slots = ms)
    (hfr : rm.frames + 1 ≤ R.frames) (hlo : 8 + (maxL + 11) + rm.locals ≤ R.locals) {b : Addr} {cellB : Cell} (hcell : T.heap[b]? = some cellB) (hobj : cellB.vm.isStatics = false) (hcls : s.vm.findClass y.cls = some cellB.cls)
    {g : JFrame} (hg : g.method = m) (hsize : g.locals.size = c.maxLocals) {argsL rest : List Value} (hn : argsL.length = n) (hstack : g.stack = argsL.reverse ++ .ref b :: rest)
    (hW : 2 * g.monitorRoom + (rest.map fun v => v.category).sum ≤ 8) (hdg : decode c.code g.pc = .ok (.invokevirtual idx, 3)) (hp : ∀ U : State, U.heap = T.heap → s.WarmedH U.vm → Pc (Value.ref b :: argsL).toArray U) (hcl : cells + mc ≤ R.cells) (hsl : slots + ms ≤ R.slots) :
    Came2 p l e R s m args below meth c T.heap locs (cells + mc) (slots + ms) free (Qc (Value.ref b :: argsL).toArray) (T.setTop g) g 3 rest := by
  obtain ⟨h1, h2, h2s, h3, h4, h5, h6, h7⟩ := hs
  obtain ⟨mk, methM, hnamed, hmethM, hstM, habM⟩ := Cond.instanceMethod_spec (hts _ h2)
  obtain ⟨mk9, methM9, cM, hnamed9, hmethM9, -, -, hsigM⟩ := h5.spec (hts _ h4)
  cases hnamed.symm.trans hnamed9
  cases hmethM.symm.trans hmethM9
  obtain ⟨c2, r2, m2, q1, q2, q3, q4, kP, hkP, hkPi⟩ := Cond.selects_spec (hts _ h2s)
  cases hcls.symm.trans q1
  cases (State.methodFound?_of_named hnamed h6).symm.trans q2
  cases hnamed.symm.trans q3
  have hselP : selectMethod e.platform s.vm cellB.cls mk = .method mk := by rw [Launch.admits_selectMethod X.admits]; exact q4
  have hlen : argsL.length = methM.sig.parameters.length := by
    rw [hsigM] at h7
    exact hn.trans (Option.some.inj h7).symm
  obtain ⟨vm₁, X₁, hstep₁⟩ := X.invokevirtual hx hown (hts _ h1) hnamed hmethM hstM hkP hkPi h6 (a := b) (cell := cellB) hcell
    (fun z h => by rw [h] at hobj; cases hobj) hselP hmethM habM hkP hkPi (g := g) hg (argsL := argsL) (rest := rest) hlen hstack hdg
  obtain ⟨o, st, t, T', L, e1, q, X', hL, e2, e3, hh⟩ := go_call X₁ h5 hM hbl hrc hrs hfr hlo (fun a' U hU => tb_warm hU h4 (hts _ h4)) (fun a' U hU => tb_warm hU h3 (hts _ h3)) (g := { g with stack := rest }) (ig := .invokevirtual idx) (len := 3) (mk := mk) (a := (Value.ref b :: argsL).toArray) hg hsize hdg hW (X₁.named hnamed) (hp _ rfl X₁.warmed) hcl hsl
  refine ⟨o, st, t, T', L, e1, q, X', hL, e2, e3, ?_⟩
  rcases hh with ⟨v, rfl, st2⟩ | ⟨x, rfl, st2⟩
  · exact Or.inl ⟨v, rfl, fun tg h9 => hstep₁ _ fun acts => by rw [doInvoke_state]; exact st2 tg h9⟩
  · exact Or.inr ⟨x, rfl, fun tg h9 => hstep₁ _ fun acts => by rw [doInvoke_state]; exact st2 tg h9⟩
/-- a constructor; 'nest': a private one of a nest mate -/
def SiteI (own : String) (idx : Nat) (y : MethodName) (w : Cond) (maxL n : Nat) : Prop := Cond.instanceMethod y ∈ TB ∧ y.name = "<init>" ∧ Cond.initialized y.cls ∈ TB ∧ w ∈ TB ∧ (∃ bytes, w = .code y bytes maxL none) ∧ (y.cls ≠ "java/lang/invoke/MethodHandle" ∧ y.cls ≠ "java/lang/invoke/VarHandle") ∧ (parseMethodDescriptor y.desc).map (fun d => d.parameters.length) = some n
theorem go_I {nest : Bool} {host : String} (X : Stand p l e R s m args below meth c T locs cells slots) (hx : p.tables.exec = Jvm.exec) (hts : ∀ w ∈ TB, w.before args s = true) (hown : s.vm.findClass own = some m.cls) (hs : SiteI own idx y w maxL n)
    (hlk : if nest = true then (Cond.methodLinkNest own idx y host).before args s = true else (Cond.methodLink own idx y).before args s = true) (hM : MetX l y [w] rm Pc Qc mc ms free) (hbl : FrameBlind Pc) (hrc : rm.cells = mc) (hrs : rm.slots = ms)
    (hfr : rm.frames + 1 ≤ R.frames) (hlo : 8 + (maxL + 11) + rm.locals ≤ R.locals) {b : Addr}
    {g : JFrame} (hg : g.method = m) (hsize : g.locals.size = c.maxLocals) {argsL rest : List Value} (hn : argsL.length = n) (hstack : g.stack = argsL.reverse ++ .ref b :: rest)
    (hW : 2 * g.monitorRoom + (rest.map fun v => v.category).sum ≤ 8) (hdg : decode c.code g.pc = .ok (.invokespecial idx, 3)) (hp : ∀ U : State, U.heap = T.heap → s.WarmedH U.vm → Pc (Value.ref b :: argsL).toArray U) (hcl : cells + mc ≤ R.cells) (hsl : slots + ms ≤ R.slots) :
    Came2 p l e R s m args below meth c T.heap locs (cells + mc) (slots + ms) free (Qc (Value.ref b :: argsL).toArray) (T.setTop g) g 3 rest := by
  obtain ⟨h2, hy1, h3, h4, ⟨bytes, hwe⟩, h6, h7⟩ := hs
  have h5 : codeOf y maxL w := ⟨bytes, none, Or.inl hwe⟩
  subst hg
  have hpl : e.platform.magicAccessors = ({} : Platform).magicAccessors := by rw [X.admits.platform]
  have hcode : (Cond.code y bytes maxL none).before args s = true := by rw [← hwe]; exact hts _ h4
  have hlen : ∀ sig, parseMethodDescriptor y.desc = some sig → argsL.length = sig.parameters.length := fun sig h => by
    rw [h] at h7
    exact hn.trans (Option.some.inj h7).symm
  have key : ∃ (mk : MethodId) (vm₁ : Vm), s.methodNamed? y = some mk ∧ s.WarmedH vm₁ ∧ ∀ target, (∀ acts, Steps p.tables e below (doInvoke e ((T.setVm vm₁).setTop { g with stack := rest }) acts mk (Value.ref b :: argsL).toArray).1 target) → Steps p.tables e below (T.setTop g) target := by
    cases nest with
    | true =>
      obtain ⟨mk, methM, cM, kP, vm₁, hnamed, hmethM, hcodeM, -, hlocalsM, -, hkP, -, hW₁, hstep₁⟩ := Steps.initColdArgsNest (e := e) X.here hx X.warmed hpl hown hy1 h6 hlk (hts _ h2) hcode (f := g) rfl hlen hstack hdg
      exact ⟨mk, vm₁, hnamed, hW₁, hstep₁⟩
    | false =>
      obtain ⟨mk, methM, cM, kP, vm₁, hnamed, hmethM, hcodeM, -, hlocalsM, -, hkP, -, hW₁, hstep₁⟩ := Steps.initColdArgs (e := e) X.here hx X.warmed hpl hown hy1 h6 hlk (hts _ h2) hcode (f := g) rfl hlen hstack hdg
      exact ⟨mk, vm₁, hnamed, hW₁, hstep₁⟩
  obtain ⟨mk, vm₁, hnamed, hW₁, hstep₁⟩ := key
  have X₁ := X.noted hW₁
  obtain ⟨o, st, t, T', L, e1, q, X', hL, e2, e3, hh⟩ := go_call X₁ h5 hM hbl hrc hrs hfr hlo (fun a' U hU => tb_warm hU h4 (hts _ h4)) (fun a' U hU => tb_warm hU h3 (hts _ h3)) (g := { g with stack := rest }) (ig := .invokespecial idx) (len := 3) (mk := mk) (a := (Value.ref b :: argsL).toArray) rfl hsize hdg hW (X₁.named hnamed) (hp _ rfl X₁.warmed) hcl hsl
  refine ⟨o, st, t, T', L, e1, q, X', hL, e2, e3, ?_⟩
  rcases hh with ⟨v, rfl, st2⟩ | ⟨x, rfl, st2⟩
  · exact Or.inl ⟨v, rfl, fun tg h9 => hstep₁ _ fun acts => by rw [doInvoke_state]; exact st2 tg h9⟩
  · exact Or.inr ⟨x, rfl, fun tg h9 => hstep₁ _ fun acts => by rw [doInvoke_state]; exact st2 tg h9⟩
end GS
section WW
variable {p : Program} {l : Launch} {e : Env} {R : Room} {s : State} {m : MethodId} {args : Array Value} {below : List Frame} {meth : Method} {c : Code} {H : Heap} {locs : List Loc} {cells slots : Nat} {Q : State → Prop}
/-- the same judgement where x is being thrown over the frame g -/
def WT (p : Program) (l : Launch) (e : Env) (R : Room) (s : State) (m : MethodId) (args : Array Value) (below : List Frame) (meth : Method) (c : Code) (H : Heap) (locs : List Loc) (cells slots : Nat) (Q : State → Prop) (g : JFrame) (x : Addr) : Prop :=
  ∀ T : State, T.heap = H → Stand p l e R s m args below meth c T locs cells slots → ∃ t, Steps p.tables e below ((T.setTop g).pushFrame (.throwing x)) t ∧ Q t
theorem W.toX {Qc : Array Value → State → Outcome → State → Prop} {mc ms : Nat} {free : Addr → Prop} {g : JFrame} (k : W p l e R s m args below meth c H locs cells slots (MQ below Qc args s mc ms free) g) : W p l e R s m args below meth c H locs cells slots (MX below Qc args s mc ms free) g := by
  intro T hT X
  obtain ⟨t, a, o, h1, h2, h3, L, ⟨-, h4⟩, h5⟩ := k T hT X
  exact ⟨t, a, o, h1, h2, h3, L, h4, h5⟩
variable {cc : ByteArray} {nL pc idx maxL n : Nat} {ls : Array Slot} {G : Gx} {own : String} {y : MethodName} {w : Cond} {rm : Room} {As rest st0 : List Value} {P : Heap → Prop} {Qc : Array Value → State → Outcome → State → Prop} {mc ms : Nat} {free : Addr → Prop} {b : Addr} {v : Value} {k : Nat}
theorem came_W {Qa : State → Outcome → State → Prop} (hc : ∀ T : State, T.heap = H → Stand p l e R s m args below meth c T locs cells slots → Came2 p l e R s m args below meth c H locs (cells + mc) (slots + ms) free Qa (T.setTop (F0 m pc ls st0)) (F0 m pc ls st0) 3 rest)
    (kr : ∀ (v : Option Value) (st t : State) (L : List Loc), st.heap = H → s.WarmedH t.vm → Qa st (.returned v) t → (∀ q ∈ L, free q.base) → W p l e R s m args below meth c t.heap (locs ++ L) (cells + mc) (slots + ms) Q (F0 m (pc + 3) ls (v.toList ++ rest)))
    (kt : ∀ (x : Addr) (st t : State) (L : List Loc), st.heap = H → s.WarmedH t.vm → Qa st (.threw x) t → (∀ q ∈ L, free q.base) → WT p l e R s m args below meth c t.heap (locs ++ L) (cells + mc) (slots + ms) Q (F0 m pc ls rest) x) :
    W p l e R s m args below meth c H locs cells slots Q (F0 m pc ls st0) := by
  intro T hT X
  obtain ⟨o, st, t, T', L, e1, q, X', hL, e2, e3, hh⟩ := hc T hT X
  have hWt : s.WarmedH t.vm := by rw [← e3]; exact X'.warmed
  rcases hh with ⟨v, rfl, st2⟩ | ⟨x, rfl, st2⟩
  · obtain ⟨t2, a1, b1⟩ := kr v st t L e1 hWt q hL T' e2 X'
    exact ⟨t2, st2 t2 a1, b1⟩
  · obtain ⟨t2, a1, b1⟩ := kt x st t L e1 hWt q hL T' e2 X'
    exact ⟨t2, st2 t2 a1, b1⟩
theorem cS (hF : Fx p m c cc nL s G own) (hs : SiteS own idx y w maxL n) (hM : MetX l y [w] rm (Pq G As P) Qc mc ms free) (hP : P H) (hrm : rm.cells = mc ∧ rm.slots = ms ∧ rm.frames + 1 ≤ R.frames ∧ 8 + (maxL + 11) + rm.locals ≤ R.locals)
    (hn : As.length = n) (hst : st0 = As.reverse ++ rest) (hls : ls.size = nL) (hW : (rest.map fun v => v.category).sum ≤ 8) (hd : decode cc pc = .ok (.invokestatic idx, 3)) (hcl : cells + mc ≤ R.cells ∧ slots + ms ≤ R.slots)
    (kr : ∀ (v : Option Value) (st t : State) (L : List Loc), st.heap = H → s.WarmedH t.vm → Qc As.toArray st (.returned v) t → (∀ q ∈ L, free q.base) → W p l e R s m args below meth c t.heap (locs ++ L) (cells + mc) (slots + ms) Q (F0 m (pc + 3) ls (v.toList ++ rest)))
    (kt : ∀ (x : Addr) (st t : State) (L : List Loc), st.heap = H → s.WarmedH t.vm → Qc As.toArray st (.threw x) t → (∀ q ∈ L, free q.base) → WT p l e R s m args below meth c t.heap (locs ++ L) (cells + mc) (slots + ms) Q (F0 m pc ls rest) x) :
    W p l e R s m args below meth c H locs cells slots Q (F0 m pc ls st0) := by
  obtain ⟨hx, hb, hml, hown, hC⟩ := hF
  refine came_W (fun T hT X => ?_) kr kt
  have K := go_S X hx (hC.ts args) hown hs hM Pq_blind hrm.1 hrm.2.1 hrm.2.2.1 hrm.2.2.2 (g := F0 m pc ls st0) rfl (hls.trans hml.symm) hn hst (lv_room (m := m) (pc := pc) (ls := ls) (rest := st0) hW) (by rw [hb]; exact hd) (fun U hU hWU => ⟨rfl, hC.warm hWU, by rw [hU, hT]; exact hP⟩) hcl.1 hcl.2
  rw [hT] at K
  exact K
theorem cV (hF : Fx p m c cc nL s G own) (hs : SiteV own idx y w maxL n) (hM : MetX l y [w] rm (Pq G (.ref b :: As) P) Qc mc ms free) (hP : P H) (hob : ∃ cell : Cell, H[b]? = some cell ∧ cell.vm.isStatics = false ∧ s.vm.findClass y.cls = some cell.cls) (hrm : rm.cells = mc ∧ rm.slots = ms ∧ rm.frames + 1 ≤ R.frames ∧ 8 + (maxL + 11) + rm.locals ≤ R.locals)
    (hn : As.length = n) (hst : st0 = As.reverse ++ .ref b :: rest) (hls : ls.size = nL) (hW : (rest.map fun v => v.category).sum ≤ 8) (hd : decode cc pc = .ok (.invokevirtual idx, 3)) (hcl : cells + mc ≤ R.cells ∧ slots + ms ≤ R.slots)
    (kr : ∀ (v : Option Value) (st t : State) (L : List Loc), st.heap = H → s.WarmedH t.vm → Qc (Value.ref b :: As).toArray st (.returned v) t → (∀ q ∈ L, free q.base) → W p l e R s m args below meth c t.heap (locs ++ L) (cells + mc) (slots + ms) Q (F0 m (pc + 3) ls (v.toList ++ rest)))
    (kt : ∀ (x : Addr) (st t : State) (L : List Loc), st.heap = H → s.WarmedH t.vm → Qc (Value.ref b :: As).toArray st (.threw x) t → (∀ q ∈ L, free q.base) → WT p l e R s m args below meth c t.heap (locs ++ L) (cells + mc) (slots + ms) Q (F0 m pc ls rest) x) :
    W p l e R s m args below meth c H locs cells slots Q (F0 m pc ls st0) := by
  obtain ⟨hx, hb, hml, hown, hC⟩ := hF
  obtain ⟨cell, hc1, hc2, hc3⟩ := hob
  refine came_W (fun T hT X => ?_) kr kt
  have K := go_V X hx (hC.ts args) hown hs hM Pq_blind hrm.1 hrm.2.1 hrm.2.2.1 hrm.2.2.2 (b := b) (cellB := cell) (by rw [hT]; exact hc1) hc2 hc3 (g := F0 m pc ls st0) rfl (hls.trans hml.symm) hn hst (lv_room (m := m) (pc := pc) (ls := ls) (rest := st0) hW) (by rw [hb]; exact hd) (fun U hU hWU => ⟨rfl, hC.warm hWU, by rw [hU, hT]; exact hP⟩) hcl.1 hcl.2
  rw [hT] at K
  exact K
theorem cI {nest : Bool} {host : String} (hF : Fx p m c cc nL s G own) (hs : SiteI own idx y w maxL n) (hlk : if nest = true then (Cond.methodLinkNest own idx y host).before args s = true else (Cond.methodLink own idx y).before args s = true) (hM : MetX l y [w] rm (Pq G (.ref b :: As) P) Qc mc ms free) (hP : P H) (hrm : rm.cells = mc ∧ rm.slots = ms ∧ rm.frames + 1 ≤ R.frames ∧ 8 + (maxL + 11) + rm.locals ≤ R.locals)
    (hn : As.length = n) (hst : st0 = As.reverse ++ .ref b :: rest) (hls : ls.size = nL) (hW : (rest.map fun v => v.category).sum ≤ 8) (hd : decode cc pc = .ok (.invokespecial idx, 3)) (hcl : cells + mc ≤ R.cells ∧ slots + ms ≤ R.slots)
    (kr : ∀ (v : Option Value) (st t : State) (L : List Loc), st.heap = H → s.WarmedH t.vm → Qc (Value.ref b :: As).toArray st (.returned v) t → (∀ q ∈ L, free q.base) → W p l e R s m args below meth c t.heap (locs ++ L) (cells + mc) (slots + ms) Q (F0 m (pc + 3) ls (v.toList ++ rest)))
    (kt : ∀ (x : Addr) (st t : State) (L : List Loc), st.heap = H → s.WarmedH t.vm → Qc (Value.ref b :: As).toArray st (.threw x) t → (∀ q ∈ L, free q.base) → WT p l e R s m args below meth c t.heap (locs ++ L) (cells + mc) (slots + ms) Q (F0 m pc ls rest) x) :
    W p l e R s m args below meth c H locs cells slots Q (F0 m pc ls st0) := by
  obtain ⟨hx, hb, hml, hown, hC⟩ := hF
  refine came_W (fun T hT X => ?_) kr kt
  have K := go_I (nest := nest) (host := host) X hx (hC.ts args) hown hs hlk hM Pq_blind hrm.1 hrm.2.1 hrm.2.2.1 hrm.2.2.2 (b := b) (g := F0 m pc ls st0) rfl (hls.trans hml.symm) hn hst (lv_room (m := m) (pc := pc) (ls := ls) (rest := st0) hW) (by rw [hb]; exact hd) (fun U hU hWU => ⟨rfl, hC.warm hWU, by rw [hU, hT]; exact hP⟩) hcl.1 hcl.2
  rw [hT] at K
  exact K
/-- a call that reads alone: the value comes, the heap stays -/
theorem ro_W {Qa : State → Outcome → State → Prop} (hq : ∀ st o t, Qa st o t → o = .returned (some v) ∧ t.heap = st.heap) (hc : ∀ T : State, T.heap = H → Stand p l e R s m args below meth c T locs cells slots → Came2 p l e R s m args below meth c H locs (cells + 0) (slots + 0) (fun _ => False) Qa (T.setTop (F0 m pc ls st0)) (F0 m pc ls st0) 3 rest)
    (kk : W p l e R s m args below meth c H locs cells slots Q (F0 m (pc + 3) ls (v :: rest))) : W p l e R s m args below meth c H locs cells slots Q (F0 m pc ls st0) := by
  intro T hT X
  obtain ⟨o, st, t, T', L, e1, q, X', hL, e2, e3, hh⟩ := hc T hT X
  obtain ⟨q1, q2⟩ := hq st o t q
  subst q1
  have X2 := Stand.forget X' (fun q h => (hL q h).elim)
  rcases hh with ⟨v2, h2, st2⟩ | ⟨x, h2, st2⟩
  · cases h2
    obtain ⟨t2, a1, b1⟩ := kk T' (by rw [e2, q2, e1]) X2
    exact ⟨t2, st2 t2 a1, b1⟩
  · cases h2
theorem rS (hF : Fx p m c cc nL s G own) (hs : SiteS own idx y w maxL n) (hM : RI l G y w k As P v) (hP : P H) (hR : k + 1 ≤ R.frames ∧ 8 + (maxL + 11) + 30 * k ≤ R.locals) (hn : As.length = n) (hst : st0 = As.reverse ++ rest) (hls : ls.size = nL) (hW : (rest.map fun v => v.category).sum ≤ 8) (hd : decode cc pc = .ok (.invokestatic idx, 3)) (hcl : cells ≤ R.cells ∧ slots ≤ R.slots)
    (kk : W p l e R s m args below meth c H locs cells slots Q (F0 m (pc + 3) ls (v :: rest))) : W p l e R s m args below meth c H locs cells slots Q (F0 m pc ls st0) := by
  obtain ⟨hx, hb, hml, hown, hC⟩ := hF
  refine ro_W (rest := rest) (Qa := fun st o t => o = .returned (some v) ∧ t.heap = st.heap) (fun _ _ _ h => h) (fun T hT X => ?_) kk
  have K := go_S X hx (hC.ts args) hown hs hM Pq_blind rfl rfl hR.1 hR.2 (g := F0 m pc ls st0) rfl (hls.trans hml.symm) hn hst (lv_room (m := m) (pc := pc) (ls := ls) (rest := st0) hW) (by rw [hb]; exact hd) (fun U hU hWU => ⟨rfl, hC.warm hWU, by rw [hU, hT]; exact hP⟩) hcl.1 hcl.2
  rw [hT] at K
  exact K
theorem rV (hF : Fx p m c cc nL s G own) (hs : SiteV own idx y w maxL n) (hM : RI l G y w k (.ref b :: As) P v) (hP : P H) (hob : ∃ cell : Cell, H[b]? = some cell ∧ cell.vm.isStatics = false ∧ s.vm.findClass y.cls = some cell.cls) (hR : k + 1 ≤ R.frames ∧ 8 + (maxL + 11) + 30 * k ≤ R.locals) (hn : As.length = n) (hst : st0 = As.reverse ++ .ref b :: rest) (hls : ls.size = nL) (hW : (rest.map fun v => v.category).sum ≤ 8) (hd : decode cc pc = .ok (.invokevirtual idx, 3)) (hcl : cells ≤ R.cells ∧ slots ≤ R.slots)
    (kk : W p l e R s m args below meth c H locs cells slots Q (F0 m (pc + 3) ls (v :: rest))) : W p l e R s m args below meth c H locs cells slots Q (F0 m pc ls st0) := by
  obtain ⟨hx, hb, hml, hown, hC⟩ := hF
  obtain ⟨cell, hc1, hc2, hc3⟩ := hob
  refine ro_W (rest := rest) (Qa := fun st o t => o = .returned (some v) ∧ t.heap = st.heap) (fun _ _ _ h => h) (fun T hT X => ?_) kk
  have K := go_V X hx (hC.ts args) hown hs hM Pq_blind rfl rfl hR.1 hR.2 (b := b) (cellB := cell) (by rw [hT]; exact hc1) hc2 hc3 (g := F0 m pc ls st0) rfl (hls.trans hml.symm) hn hst (lv_room (m := m) (pc := pc) (ls := ls) (rest := st0) hW) (by rw [hb]; exact hd) (fun U hU hWU => ⟨rfl, hC.warm hWU, by rw [hU, hT]; exact hP⟩) hcl.1 hcl.2
  rw [hT] at K
  exact K
-- ends of a method that reads alone
abbrev QR (v : Value) : Array Value → State → Outcome → State → Prop := fun _ st o t => o = .returned (some v) ∧ t.heap = st.heap
theorem ri_i {x z : Int32} (hF : Fx p m c cc nL s G own) (hr : meth.sig.returnType = some .int) (hlocks : meth.locks = false) (hv : x = z) (hd : decode cc pc = .ok (.ireturn, 1)) : W p l e R s m args below meth c s.heap [] 0 0 (MX below (QR (.int z)) args s 0 0 (fun _ => False)) (F0 m pc ls [.int x]) := by
  subst hv
  exact W.toX (W.iret hF.1 hF.2.1 hr (fun t ht _ => ⟨rfl, ht⟩) (fun q h => by cases h) hd hlocks)
theorem ri_z {x z : Int32} (hF : Fx p m c cc nL s G own) (hr : meth.sig.returnType = some .boolean) (hlocks : meth.locks = false) (hv : x = z) (h01 : z = 0 ∨ z = 1) (hd : decode cc pc = .ok (.ireturn, 1)) : W p l e R s m args below meth c s.heap [] 0 0 (MX below (QR (.int z)) args s 0 0 (fun _ => False)) (F0 m pc ls [.int x]) := by
  subst hv
  exact W.toX (W.zret hF.1 hF.2.1 hr (by rcases h01 with rfl | rfl <;> rfl) (fun t ht _ => ⟨rfl, ht⟩) (fun q h => by cases h) hd hlocks)
theorem ri_l {x z : Int64} (hF : Fx p m c cc nL s G own) (hr : meth.sig.returnType = some .long) (hlocks : meth.locks = false) (hv : x = z) (hd : decode cc pc = .ok (.lreturn, 1)) : W p l e R s m args below meth c s.heap [] 0 0 (MX below (QR (.long z)) args s 0 0 (fun _ => False)) (F0 m pc ls [.long x]) := by
  subst hv
  exact W.toX (W.lret hF.1 hF.2.1 hr (fun t ht _ => ⟨rfl, ht⟩) (fun q h => by cases h) hd hlocks)
-- throwing
theorem WT.leave {x : Addr} (hlocks : meth.locks = false) (hex : c.exceptionTable.toList = []) (hq : ∀ t : State, t.heap = H → s.WarmedH t.vm → Qc args s (.threw x) t) (hf : ∀ q ∈ locs, free q.base) : WT p l e R s m args below meth c H locs cells slots (MX below Qc args s cells slots free) (F0 m pc ls rest) x := by
  intro T hT X
  obtain ⟨h1, h2, h3, h4, h5⟩ := X.leaveThrown x (g := F0 m pc ls rest) rfl rfl rfl (by rw [hex]; intro z hz; cases hz) hlocks
  exact ⟨_, h1, .threw x, h2, h3, hq _ hT h4, locs, ⟨h4, h5⟩, hf⟩
theorem WT.widen {g : JFrame} {x : Addr} {k n : Nat} (h1 : cells ≤ k) (h2 : slots ≤ n) (kk : WT p l e R s m args below meth c H locs k n Q g x) : WT p l e R s m args below meth c H locs cells slots Q g x := fun T hT X => kk T hT (stand_widen X h1 h2)
theorem same_nil {st t : State} {k n : Nat} (h : st.sameButNew t [] k n) : ∀ q : Nat, q < st.heap.size → t.heap[q]? = st.heap[q]? := by
  intro q hq
  have hc : st.heap[q]? = some st.heap[q] := Array.getElem?_eq_getElem hq
  obtain ⟨c', h1, h2, h3, h4⟩ := h.2.2.2.2.2 q _ hc
  rw [h1, hc, h2]
  have h5 : c'.slots = (st.heap[q]).slots := Array.ext_getElem? (fun i => h4 i (by simp))
  rw [h5]
end WW
end
section
/-! the three exceptions: made, thrown, caught -/
abbrev xIA : String := "java/lang/IllegalArgumentException"
abbrev xUO : String := "java/lang/UnsupportedOperationException"
abbrev xIS : String := "java/lang/IllegalStateException"
abbrev xnames : List String := ["java/lang/RuntimeException", "java/lang/Exception"]
def InT (L : List Cond) : Prop := ∀ a ∈ L, a ∈ TB ∨ a ∈ zAtoms
theorem in_nil : InT [] := fun _ h => by cases h
theorem in_cons {a : Cond} {L : List Cond} (h : a ∈ TB ∨ a ∈ zAtoms) (hL : InT L) : InT (a :: L) := List.forall_mem_cons.mpr ⟨h, hL⟩
theorem in_app {A B : List Cond} (ha : InT A) (hb : InT B) : InT (A ++ B) := fun x hx => (List.mem_append.mp hx).elim (ha x) (hb x)
theorem in_thr : InT Bundle.throwableAtoms := in_cons (Or.inl t_4) (in_cons (Or.inl t_108) (in_cons (Or.inl t_117) (in_cons (Or.inl t_121) (in_cons (Or.inl t_124) (in_cons (Or.inl t_126) (in_cons (Or.inl t_109) (in_cons (Or.inl t_110) (in_cons (Or.inl t_16) (in_cons (Or.inl t_17) (in_cons (Or.inl t_111) (in_cons (Or.inl t_116) (in_cons (Or.inl t_122) (in_cons (Or.inl t_138) (in_cons (Or.inl t_98) (in_cons (Or.inl t_139) (in_cons (Or.inl t_100) (in_cons (Or.inl t_140) (in_cons (Or.inl t_102) (in_cons (Or.inl t_112) (in_cons (Or.inr (List.mem_of_getElem? (i := 0) rfl)) (in_cons (Or.inl t_114) (in_cons (Or.inr (List.mem_of_getElem? (i := 1) rfl)) (in_cons (Or.inl t_104) (in_nil))))))))))))))))))))))))
theorem in_chIA : InT (Bundle.chain0Atoms xIA xnames) := in_app (in_cons (Or.inl t_128) (in_cons (Or.inl t_129) (in_cons (Or.inl t_130) (in_cons (Or.inl t_131) (in_cons (Or.inl t_89) (in_nil)))))) (in_app (in_cons (Or.inl t_131) (in_cons (Or.inl t_132) (in_cons (Or.inl t_133) (in_cons (Or.inl t_134) (in_cons (Or.inl t_91) (in_nil)))))) (in_cons (Or.inl t_134) (in_cons (Or.inl t_135) (in_cons (Or.inl t_136) (in_cons (Or.inl t_109) (in_cons (Or.inl t_93) (in_nil)))))))
theorem in_owIA : InT (Bundle.ownAtoms0 "ParityDisks" 18 xIA xnames) := in_app (in_app in_thr in_chIA) (in_cons (Or.inl t_127) (in_cons (Or.inl t_87) (in_cons (Or.inl t_88) (in_cons (Or.inl t_95) (in_cons (Or.inl t_96) (in_cons (Or.inl t_97) (in_cons (Or.inl t_99) (in_cons (Or.inl t_101) (in_cons (Or.inl t_103) (in_cons (Or.inr (List.mem_of_getElem? (i := 2) rfl)) (in_cons (Or.inr (List.mem_of_getElem? (i := 3) rfl)) (in_cons (Or.inl t_107) (in_cons (Or.inl t_106) (in_cons (Or.inl t_105) (in_nil)))))))))))))))
theorem in_chUO : InT (Bundle.chain0Atoms xUO xnames) := in_app (in_cons (Or.inl t_159) (in_cons (Or.inl t_160) (in_cons (Or.inl t_161) (in_cons (Or.inl t_131) (in_cons (Or.inl t_89) (in_nil)))))) (in_app (in_cons (Or.inl t_131) (in_cons (Or.inl t_132) (in_cons (Or.inl t_133) (in_cons (Or.inl t_134) (in_cons (Or.inl t_91) (in_nil)))))) (in_cons (Or.inl t_134) (in_cons (Or.inl t_135) (in_cons (Or.inl t_136) (in_cons (Or.inl t_109) (in_cons (Or.inl t_93) (in_nil)))))))
theorem in_owUO : InT (Bundle.ownAtoms0 "ParityDisks" 53 xUO xnames) := in_app (in_app in_thr in_chUO) (in_cons (Or.inl t_158) (in_cons (Or.inl t_150) (in_cons (Or.inl t_151) (in_cons (Or.inl t_152) (in_cons (Or.inl t_120) (in_cons (Or.inl t_153) (in_cons (Or.inl t_154) (in_cons (Or.inl t_155) (in_cons (Or.inl t_156) (in_cons (Or.inr (List.mem_of_getElem? (i := 2) rfl)) (in_cons (Or.inr (List.mem_of_getElem? (i := 3) rfl)) (in_cons (Or.inl t_107) (in_cons (Or.inl t_106) (in_cons (Or.inl t_157) (in_nil)))))))))))))))
theorem in_chIS : InT (Bundle.chain0Atoms xIS xnames) := in_app (in_cons (Or.inl t_207) (in_cons (Or.inl t_208) (in_cons (Or.inl t_209) (in_cons (Or.inl t_131) (in_cons (Or.inl t_89) (in_nil)))))) (in_app (in_cons (Or.inl t_131) (in_cons (Or.inl t_132) (in_cons (Or.inl t_133) (in_cons (Or.inl t_134) (in_cons (Or.inl t_91) (in_nil)))))) (in_cons (Or.inl t_134) (in_cons (Or.inl t_135) (in_cons (Or.inl t_136) (in_cons (Or.inl t_109) (in_cons (Or.inl t_93) (in_nil)))))))
theorem in_owIS : InT (Bundle.ownAtoms0 "ParityDisks" 70 xIS xnames) := in_app (in_app in_thr in_chIS) (in_cons (Or.inl t_206) (in_cons (Or.inl t_198) (in_cons (Or.inl t_199) (in_cons (Or.inl t_200) (in_cons (Or.inl t_119) (in_cons (Or.inl t_201) (in_cons (Or.inl t_202) (in_cons (Or.inl t_203) (in_cons (Or.inl t_204) (in_cons (Or.inr (List.mem_of_getElem? (i := 2) rfl)) (in_cons (Or.inr (List.mem_of_getElem? (i := 3) rfl)) (in_cons (Or.inl t_107) (in_cons (Or.inl t_106) (in_cons (Or.inl t_205) (in_nil)))))))))))))))
def ExS (X : String) (ix ic : Nat) : Prop := InT (Bundle.ownAtoms0 "ParityDisks" ic X xnames) ∧ Cond.classLink "ParityDisks" ix X ∈ TB ∧ Cond.instantiable X 6 ∈ TB ∧ Cond.initialized X ∈ TB ∧ Bundle.fit X = true
theorem ex_IA : ExS xIA 16 18 := ⟨in_owIA, t_86, t_87, t_7, by decide +kernel⟩
theorem ex_UO : ExS xUO 51 53 := ⟨in_owUO, t_149, t_150, t_8, by decide +kernel⟩
theorem ex_IS : ExS xIS 68 70 := ⟨in_owIS, t_197, t_198, t_9, by decide +kernel⟩
theorem fit_names : ∀ n ∈ xnames, Bundle.fit n = true := by decide +kernel
/-- x is a new exception of the class X; what was there in h0 stays -/
def Exc (h0 : Heap) (X : String) (x : Addr) (t : State) : Prop := h0.size ≤ x ∧ h0.size ≤ t.heap.size ∧ (∀ q : Nat, q < h0.size → t.heap[q]? = h0[q]?) ∧ ∃ ce : Cell, t.heap[x]? = some ce ∧ ce.vm = .none ∧ t.vm.findClass X = some ce.cls
theorem Exc.moved {h0 : Heap} {X : String} {x : Addr} {s t t' : State} (h : Exc h0 X x t) (e : t'.heap = t.heap) (h1 : s.WarmedH t.vm) (h2 : s.WarmedH t'.vm) : Exc h0 X x t' := by
  obtain ⟨a, b, c, ce, d1, d2, d3⟩ := h
  refine ⟨a, by rw [e]; exact b, fun q hq => by rw [e]; exact c q hq, ce, by rw [e]; exact d1, d2, ?_⟩
  rw [h2.alike.findClass, ← h1.alike.findClass]
  exact d3
/-- the end of a method that answers, or throws the first exception (1) or the second (2) -/
def QE (er : Nat) (X2 : String) (ok : State → Option Value → State → Prop) : Array Value → State → Outcome → State → Prop := fun _ st o t => match o with
  | .returned v => er = 0 ∧ ok st v t
  | .threw x => ∃ X, ((er = 1 ∧ X = xIA) ∨ (er = 2 ∧ X = X2)) ∧ Exc st.heap X x t
section TN
variable {p : Program} {l : Launch} {e : Env} {R : Room} {s : State} {m : MethodId} {args : Array Value} {below : List Frame} {meth : Method} {c : Code} {H : Heap} {locs : List Loc} {cells slots : Nat} {Q : State → Prop}
variable {cc : ByteArray} {nL pc : Nat} {ls : Array Slot} {G : Gx} {own : String} {rest : List Value} {Qc : Array Value → State → Outcome → State → Prop} {free : Addr → Prop}
theorem zatoms (hC : CX G s) (hz : s.heap[G.2.2.1]? = some G.2.2.2) (args : Array Value) {L : List Cond} (h : InT L) : ∀ a ∈ L, a.before args s = true := fun a ha => by
  rcases h a ha with h1 | h1
  · exact hC.ts args a h1
  · exact hC.2.2.2.2.2 s args (Vm.Alike.refl s.vm) hz a h1
set_option maxHeartbeats 1000000 in
theorem W.throwNew {X : String} {ix ic : Nat} (hE : ExS X ix ic) (hF : Fx p m c cc nL s G "ParityDisks") (hfl : l.flags = flags0) (had : l.admits e) (hlocks : meth.locks = false) (hex : c.exceptionTable.toList = []) (hls : ls.size = nL) (hz : s.heap[G.2.2.1]? = some G.2.2.2)
    (hd0 : decode cc pc = .ok (.new ix, 3)) (hd1 : decode cc (pc + 3) = .ok (.dup, 1)) (hd2 : decode cc (pc + 3 + 1) = .ok (.invokespecial ic, 3)) (hd3 : decode cc (pc + 3 + 1 + 3) = .ok (.athrow, 1)) (hR : 6 ≤ R.frames ∧ 81 ≤ R.locals) (hcl : cells + 1 ≤ R.cells ∧ slots + 6 ≤ R.slots)
    (hq : ∀ (x : Addr) (t : State), s.WarmedH t.vm → Exc s.heap X x t → Qc args s (.threw x) t) :
    W p l e R s m args below meth c s.heap [] cells slots (MX below Qc args s (cells + 1) (slots + 6) free) (F0 m pc ls []) := by
  obtain ⟨hx, hb, hml, hown, hC⟩ := hF
  obtain ⟨hA, h1, h2, h3, h4⟩ := hE
  have hts := hC.ts args
  refine W.newc hx hb hown (hts _ h1) (hts _ h2) (hts _ h3) rfl hd0 hcl.1 hcl.2 (fun cC kC f1 f2 f3 f4 => ?_)
  refine lv_dup hx hb hd1 rfl ?_
  intro T hT X9
  obtain ⟨U, hst, hrun, hend, hW, hsame, ce, hce, hcell⟩ := X9.ctorThrow0 hx (Launch.traces_off hfl had) hown h4 fit_names (zatoms hC hz args hA) (fun x h => by cases h) f1 f2 (a := s.heap.size) (by rw [hT]; exact State.heap_pushCell_size s _) (Nat.le_refl _) (g := F0 m (pc + 3 + 1) ls [.ref s.heap.size, .ref s.heap.size]) rfl (hls.trans hml.symm) rfl rfl (rest := []) rfl (by rw [hb]; exact hd2) (by rw [hb]; exact hd3) (by rw [hex]; intro z hz; cases hz) (by show 2 + 3 < R.frames; omega) (by show 2 * 0 + (1 + 0) + (13 * (2 + 1) + 41) ≤ R.locals; omega) hlocks
  refine ⟨U, hst, .threw s.heap.size, hrun, hend, hq _ U hW ⟨Nat.le_refl _, hsame.2.1, fun q hq9 => same_nil hsame q hq9, ce, hce, hcell.vm, ?_⟩, [], ⟨hW, hsame⟩, fun q h => by cases h⟩
  rw [hW.alike.findClass]
  exact hcell.cls
-- the search for a clause, its class resolved or not
theorem fh_link {Q : Handler → Pre} {E : CtlPost} {d : Bool} {acts : List Action} {S : State} {f : JFrame} {a : Addr} {x : ExceptionTableEntry} {t : List ExceptionTableEntry} {cT : ClassId} {cell : Cell} (hx : covers x f.pc = true) (h0 : x.catchType ≠ 0)
    (hl : S.vm.ClassLinks e.platform f.method.cls x.catchType cT) (hcell : S.heap[a]? = some cell) (hobj : ∀ k, cell.vm ≠ .statics k) (hk : ∃ k, S.vm.classes[cell.cls]? = some k) (hc : ∃ k, S.vm.classes[cT]? = some k) :
    wp (findHandler.go f a (x :: t)) Q E e d acts S ↔
      if S.vm.assignable cell.cls cT = true then Q (.found x.handlerPc) d acts (S.setVm (S.vm.noted f.method.cls x.catchType (.cls cT))) else wp (findHandler.go f a t) Q E e d acts (S.setVm (S.vm.noted f.method.cls x.catchType (.cls cT))) := by
  simp only [covers] at hx
  obtain ⟨ha, ht⟩ := (resolveClass_links e.toSetting hl).op (op := VmOp.resolveClass f.method.cls x.catchType) rfl
  have hal : S.vm.Alike (S.vm.noted f.method.cls x.catchType (.cls cT)) := (Vm.Alike.refl S.vm).noted _ _ _
  obtain ⟨k1, hk1⟩ := hk
  obtain ⟨k2, hk2⟩ := hc
  obtain ⟨k1', hk1', -⟩ := hal.2.2 _ _ hk1
  obtain ⟨k2', hk2', -⟩ := hal.2.2 _ _ hk2
  have hfit' : (S.vm.noted f.method.cls x.catchType (.cls cT)).assignable cell.cls cT = S.vm.assignable cell.cls cT := hal.assignable _ _
  cases hfit : S.vm.assignable cell.cls cT <;> rw [hfit] at hfit' <;>
    simp [findHandler.go, hx, h0, ha, ht, hcell, hobj, hk1', hk2', hfit', VmOp.dirties, VmOp.acts]
theorem catch_steps {tb : Tables} {S target : State} {g : JFrame} {c : Code} {below : List Frame} {a : Addr} (h : At S g.method c below) {hp : Nat} {vm' : Vm}
    (hfind : ∀ (Q : Handler → Pre) (E : CtlPost) (d : Bool) (acts : List Action), wp (findHandler g a) Q E e d acts ((S.setTop g).pushFrame (.throwing a)) ↔ Q (.found hp) d acts (((S.setTop g).pushFrame (.throwing a)).setVm vm'))
    (hrest : Steps tb e below ((S.setVm vm').setTop { g with pc := hp, stack := [.ref a] }) target) : Steps tb e below ((S.setTop g).pushFrame (.throwing a)) target := by
  obtain ⟨hgo, hw⟩ := h.throwing a
  refine Steps.head hgo hw ?_
  have key : ∀ r : List Frame, (stepThrowing e ((S.setTop g).pushFrame (.throwing a)) a (.java g :: r)).1 = (((S.setTop g).pushFrame (.throwing a)).setVm vm').setFrames (.java { g with pc := hp, stack := [.ref a] } :: r) := by
    intro r
    simp only [stepThrowing, searchFrame, vmDo]
    generalize hr : Sem.go _ e false [] ((S.setTop g).pushFrame (.throwing a)) = res
    obtain ⟨as, rfl, ha⟩ := Sem.eq_ok_of hr (a := Handler.found hp) (s' := ((S.setTop g).pushFrame (.throwing a)).setVm vm') (acts' := []) (by simp [hfind _ _ _ _])
    rfl
  rw [stepThread_throwing (frames_entered h.top _), key]
  obtain ⟨g₀, hg⟩ := Option.isSome_iff_exists.mp h.top
  obtain ⟨r, hr⟩ := State.topJava?_eq_some.mp hg
  have hr' : (S.setVm vm').frames = .java g₀ :: r := hr
  have h1 : ∀ (u : State) (F G : List Frame), ((u.setFrames F).setVm vm').setFrames G = (u.setVm vm').setFrames G := fun u F G => by
    have h2 : (u.setFrames F).setVm vm' = (u.setVm vm').setFrames F := rfl
    rw [h2, State.setFrames_setFrames]
  rw [State.setTop_of_frames _ hr'] at hrest
  rw [hr, List.tail_cons, State.pushFrame, h1, State.setTop_of_frames _ hr, h1]
  exact hrest
/-- the entry names the class N; it covers pc; is the exception's class one of it? -/
def Ent (own : String) (x : ExceptionTableEntry) (pc : Nat) (N : String) : Prop := covers x pc = true ∧ x.catchType ≠ 0 ∧ Cond.classLink own x.catchType N ∈ TB
theorem ent_link {T : State} (X : Stand p l e R s m args below meth c T locs cells slots) (hC : CX G s) (hown : s.vm.findClass own = some m.cls) {x : ExceptionTableEntry} {N : String} (hE : Ent own x pc N) : ∃ cT, s.vm.findClass N = some cT ∧ T.vm.ClassLinks e.platform m.cls x.catchType cT ∧ s.WarmedH (T.vm.noted m.cls x.catchType (.cls cT)) ∧ ∃ k, T.vm.classes[cT]? = some k := by
  have hpl : e.platform.magicAccessors = ({} : Platform).magicAccessors := by rw [X.admits.platform]
  obtain ⟨c', hc', hcl⟩ := Cond.classLink_spec hown (hC.ts args _ hE.2.2) e.platform hpl
  obtain ⟨dk, _, _, kt, hd, _, _, _, _, hkt, _, hopen⟩ := hcl.here
  have hal := X.warmed.alike
  obtain ⟨kt', hkt', -⟩ := hal.2.2 _ _ hkt
  exact ⟨c', hc', X.warmed.classLinks hcl, X.warmed.noted hd hopen (State.rightAt_cls hcl), kt', hkt'⟩
set_option maxHeartbeats 1000000 in
theorem WT.catch1 {x : Addr} {X N : String} {E1 : ExceptionTableEntry} {Es : List ExceptionTableEntry} {ce : Cell} (hF : Fx p m c cc nL s G own) (hex : c.exceptionTable.toList = E1 :: Es) (h1 : Ent own E1 pc N) (hce : H[x]? = some ce) (hv : ce.vm = .none) (hX : s.vm.findClass X = some ce.cls) (hcast : Cond.castable X N ∈ TB)
    (k : W p l e R s m args below meth c H locs cells slots Q (F0 m E1.handlerPc ls [.ref x])) : WT p l e R s m args below meth c H locs cells slots Q (F0 m pc ls rest) x := by
  obtain ⟨hx, hb, hml, hown, hC⟩ := hF
  intro T hT X9
  obtain ⟨cT, hcT, hl, hW, k2, hk2⟩ := ent_link X9 hC hown h1
  obtain ⟨c3, c4, hc3, hc4, hasg⟩ := Cond.castable_spec (hC.ts args _ hcast)
  cases hX.symm.trans hc3
  cases hcT.symm.trans hc4
  have hfit : T.vm.assignable ce.cls cT = true := by rw [X9.warmed.alike.assignable]; exact hasg
  obtain ⟨t, a1, b1⟩ := k (T.setVm (T.vm.noted m.cls E1.catchType (.cls cT))) hT (X9.noted hW)
  refine ⟨t, catch_steps (g := F0 m pc ls rest) X9.here (hp := E1.handlerPc) (vm' := T.vm.noted m.cls E1.catchType (.cls cT)) (fun Q E d acts => ?_) a1, b1⟩
  rw [Jvm.W.findHandler_eq (s := (T.setTop (F0 m pc ls rest)).pushFrame (.throwing x)) (f := F0 m pc ls rest) (meth := meth) (code := c) X9.method' X9.code, hex]
  have K := fh_link (e := e) (Q := Q) (E := E) (d := d) (acts := acts) (S := (T.setTop (F0 m pc ls rest)).pushFrame (.throwing x)) (f := F0 m pc ls rest) (a := x) (x := E1) (t := Es) (cT := cT) (cell := ce) h1.1 h1.2.1 hl (by show T.heap[x]? = some ce; rw [hT]; exact hce) (by rw [hv]; intro k h; cases h) (Vm.classAt_of_assignable hfit ⟨k2, hk2⟩) ⟨k2, hk2⟩
  rw [K, if_pos (show ((T.setTop (F0 m pc ls rest)).pushFrame (.throwing x)).vm.assignable ce.cls cT = true from hfit)]
  exact Iff.rfl
set_option maxHeartbeats 1000000 in
theorem WT.catch2 {x : Addr} {X N1 N : String} {E1 E2 : ExceptionTableEntry} {Es : List ExceptionTableEntry} {ce : Cell} (hF : Fx p m c cc nL s G own) (hex : c.exceptionTable.toList = E1 :: E2 :: Es) (h1 : Ent own E1 pc N1) (h2 : Ent own E2 pc N) (hce : H[x]? = some ce) (hv : ce.vm = .none) (hX : s.vm.findClass X = some ce.cls) (hnot : (Cond.not (.castable X N1)).before #[] s = true) (hcast : Cond.castable X N ∈ TB)
    (k : W p l e R s m args below meth c H locs cells slots Q (F0 m E2.handlerPc ls [.ref x])) : WT p l e R s m args below meth c H locs cells slots Q (F0 m pc ls rest) x := by
  obtain ⟨hx, hb, hml, hown, hC⟩ := hF
  intro T hT X9
  obtain ⟨c1, hc1, hl1, hW1, k1, hk1⟩ := ent_link X9 hC hown h1
  have X8 := X9.noted hW1
  obtain ⟨cT, hcT, hl, hW, k2, hk2⟩ := ent_link X8 hC hown h2
  obtain ⟨c3, c4, hc3, hc4, hasg⟩ := Cond.castable_spec (hC.ts args _ hcast)
  cases hX.symm.trans hc3
  cases hcT.symm.trans hc4
  have hno : s.vm.assignable ce.cls c1 = false := by
    simp only [Cond.before, Cond.holds, Cond.value, hX, hc1] at hnot
    simpa using hnot
  have hfit : (T.vm.noted m.cls E1.catchType (.cls c1)).assignable ce.cls cT = true := (X8.warmed.alike.assignable _ _).trans hasg
  have hno' : T.vm.assignable ce.cls c1 = false := by rw [X9.warmed.alike.assignable]; exact hno
  obtain ⟨t, a1, b1⟩ := k ((T.setVm (T.vm.noted m.cls E1.catchType (.cls c1))).setVm ((T.vm.noted m.cls E1.catchType (.cls c1)).noted m.cls E2.catchType (.cls cT))) hT (X8.noted hW)
  have hkc : ∃ k, (T.vm.noted m.cls E1.catchType (.cls c1)).classes[ce.cls]? = some k := Vm.classAt_of_assignable hfit ⟨k2, hk2⟩
  have hkc0 : ∃ k, T.vm.classes[ce.cls]? = some k := by
    obtain ⟨z, hz⟩ := hkc
    have hal : s.vm.Alike T.vm := X9.warmed.alike
    have hal2 : s.vm.Alike (T.vm.noted m.cls E1.catchType (.cls c1)) := X8.warmed.alike
    obtain ⟨z', hz', -⟩ := (hal2.symm.trans hal).2.2 _ _ hz
    exact ⟨z', hz'⟩
  refine ⟨t, catch_steps (g := F0 m pc ls rest) X9.here (hp := E2.handlerPc) (vm' := (T.vm.noted m.cls E1.catchType (.cls c1)).noted m.cls E2.catchType (.cls cT)) (fun Q E d acts => ?_) a1, b1⟩
  rw [Jvm.W.findHandler_eq (s := (T.setTop (F0 m pc ls rest)).pushFrame (.throwing x)) (f := F0 m pc ls rest) (meth := meth) (code := c) X9.method' X9.code, hex]
  have K := fh_link (e := e) (Q := Q) (E := E) (d := d) (acts := acts) (S := (T.setTop (F0 m pc ls rest)).pushFrame (.throwing x)) (f := F0 m pc ls rest) (a := x) (x := E1) (t := E2 :: Es) (cT := c1) (cell := ce) h1.1 h1.2.1 hl1 (by show T.heap[x]? = some ce; rw [hT]; exact hce) (by rw [hv]; intro k h; cases h) hkc0 ⟨k1, hk1⟩
  rw [K, if_neg (by show ¬ T.vm.assignable ce.cls c1 = true; rw [hno']; decide)]
  have K2 := fh_link (e := e) (Q := Q) (E := E) (d := d) (acts := acts) (S := ((T.setTop (F0 m pc ls rest)).pushFrame (.throwing x)).setVm (T.vm.noted m.cls E1.catchType (.cls c1))) (f := F0 m pc ls rest) (a := x) (x := E2) (t := Es) (cT := cT) (cell := ce) h2.1 h2.2.1 hl (by show T.heap[x]? = some ce; rw [hT]; exact hce) (by rw [hv]; intro k h; cases h) hkc ⟨k2, hk2⟩
  refine Iff.trans K2 ?_
  rw [if_pos (show (((T.setTop (F0 m pc ls rest)).pushFrame (.throwing x)).setVm (T.vm.noted m.cls E1.catchType (.cls c1))).vm.assignable ce.cls cT = true from hfit)]
  exact Iff.rfl
end TN
end
section
theorem d_PD_init_0 : decode b_PD_init 0 = .ok (.aload_n 0, 1) := by decide +kernel
theorem d_PD_init_1 : decode b_PD_init 1 = .ok (.invokespecial 1, 3) := by decide +kernel
theorem d_PD_init_4 : decode b_PD_init 4 = .ok (.aload_n 0, 1) := by decide +kernel
theorem d_PD_init_5 : decode b_PD_init 5 = .ok (.iconst 5, 1) := by decide +kernel
theorem d_PD_init_6 : decode b_PD_init 6 = .ok (.anewarray 9, 3) := by decide +kernel
theorem d_PD_init_9 : decode b_PD_init 9 = .ok (.putfield 11, 3) := by decide +kernel
theorem d_PD_init_12 : decode b_PD_init 12 = .ok (.iconst 0, 1) := by decide +kernel
theorem d_PD_init_13 : decode b_PD_init 13 = .ok (.istore_n 1, 1) := by decide +kernel
theorem d_PD_init_14 : decode b_PD_init 14 = .ok (.iload_n 1, 1) := by decide +kernel
theorem d_PD_init_15 : decode b_PD_init 15 = .ok (.iconst 5, 1) := by decide +kernel
theorem d_PD_init_16 : decode b_PD_init 16 = .ok (.if_icmp .ge 22, 3) := by decide +kernel
theorem d_PD_init_19 : decode b_PD_init 19 = .ok (.aload_n 0, 1) := by decide +kernel
theorem d_PD_init_20 : decode b_PD_init 20 = .ok (.getfield 11, 3) := by decide +kernel
theorem d_PD_init_23 : decode b_PD_init 23 = .ok (.iload_n 1, 1) := by decide +kernel
theorem d_PD_init_24 : decode b_PD_init 24 = .ok (.new 9, 3) := by decide +kernel
theorem d_PD_init_27 : decode b_PD_init 27 = .ok (.dup, 1) := by decide +kernel
theorem d_PD_init_28 : decode b_PD_init 28 = .ok (.invokespecial 15, 3) := by decide +kernel
theorem d_PD_init_31 : decode b_PD_init 31 = .ok (.aastore, 1) := by decide +kernel
theorem d_PD_init_32 : decode b_PD_init 32 = .ok (.iinc 1 1, 3) := by decide +kernel
theorem d_PD_init_35 : decode b_PD_init 35 = .ok (.goto (-21), 3) := by decide +kernel
theorem d_PD_init_38 : decode b_PD_init 38 = .ok (.return_, 1) := by decide +kernel
theorem d_PD_legal_0 : decode b_PD_legal 0 = .ok (.iload_n 0, 1) := by decide +kernel
theorem d_PD_legal_1 : decode b_PD_legal 1 = .ok (.ifCond .ne 11, 3) := by decide +kernel
theorem d_PD_legal_4 : decode b_PD_legal 4 = .ok (.new 16, 3) := by decide +kernel
theorem d_PD_legal_7 : decode b_PD_legal 7 = .ok (.dup, 1) := by decide +kernel
theorem d_PD_legal_8 : decode b_PD_legal 8 = .ok (.invokespecial 18, 3) := by decide +kernel
theorem d_PD_legal_11 : decode b_PD_legal 11 = .ok (.athrow, 1) := by decide +kernel
theorem d_PD_legal_12 : decode b_PD_legal 12 = .ok (.return_, 1) := by decide +kernel
theorem d_PD_isDisk_0 : decode b_PD_isDisk 0 = .ok (.iload_n 0, 1) := by decide +kernel
theorem d_PD_isDisk_1 : decode b_PD_isDisk 1 = .ok (.ifCond .lt 12, 3) := by decide +kernel
theorem d_PD_isDisk_4 : decode b_PD_isDisk 4 = .ok (.iload_n 0, 1) := by decide +kernel
theorem d_PD_isDisk_5 : decode b_PD_isDisk 5 = .ok (.iconst 5, 1) := by decide +kernel
theorem d_PD_isDisk_6 : decode b_PD_isDisk 6 = .ok (.if_icmp .ge 7, 3) := by decide +kernel
theorem d_PD_isDisk_9 : decode b_PD_isDisk 9 = .ok (.iconst 1, 1) := by decide +kernel
theorem d_PD_isDisk_10 : decode b_PD_isDisk 10 = .ok (.goto 4, 3) := by decide +kernel
theorem d_PD_isDisk_13 : decode b_PD_isDisk 13 = .ok (.iconst 0, 1) := by decide +kernel
theorem d_PD_isDisk_14 : decode b_PD_isDisk 14 = .ok (.ireturn, 1) := by decide +kernel
theorem d_PD_isPlace_0 : decode b_PD_isPlace 0 = .ok (.iload_n 0, 1) := by decide +kernel
theorem d_PD_isPlace_1 : decode b_PD_isPlace 1 = .ok (.ifCond .lt 23, 3) := by decide +kernel
theorem d_PD_isPlace_4 : decode b_PD_isPlace 4 = .ok (.iload_n 0, 1) := by decide +kernel
theorem d_PD_isPlace_5 : decode b_PD_isPlace 5 = .ok (.sipush 400, 3) := by decide +kernel
theorem d_PD_isPlace_8 : decode b_PD_isPlace 8 = .ok (.if_icmp .ge 16, 3) := by decide +kernel
theorem d_PD_isPlace_11 : decode b_PD_isPlace 11 = .ok (.iload_n 1, 1) := by decide +kernel
theorem d_PD_isPlace_12 : decode b_PD_isPlace 12 = .ok (.ifCond .eq 8, 3) := by decide +kernel
theorem d_PD_isPlace_15 : decode b_PD_isPlace 15 = .ok (.iload_n 1, 1) := by decide +kernel
theorem d_PD_isPlace_16 : decode b_PD_isPlace 16 = .ok (.iconst 1, 1) := by decide +kernel
theorem d_PD_isPlace_17 : decode b_PD_isPlace 17 = .ok (.if_icmp .ne 7, 3) := by decide +kernel
theorem d_PD_isPlace_20 : decode b_PD_isPlace 20 = .ok (.iconst 1, 1) := by decide +kernel
theorem d_PD_isPlace_21 : decode b_PD_isPlace 21 = .ok (.goto 4, 3) := by decide +kernel
theorem d_PD_isPlace_24 : decode b_PD_isPlace 24 = .ok (.iconst 0, 1) := by decide +kernel
theorem d_PD_isPlace_25 : decode b_PD_isPlace 25 = .ok (.ireturn, 1) := by decide +kernel
theorem d_PD_stripeOf_0 : decode b_PD_stripeOf 0 = .ok (.iload_n 0, 1) := by decide +kernel
theorem d_PD_stripeOf_1 : decode b_PD_stripeOf 1 = .ok (.iconst 2, 1) := by decide +kernel
theorem d_PD_stripeOf_2 : decode b_PD_stripeOf 2 = .ok (.ishr, 1) := by decide +kernel
theorem d_PD_stripeOf_3 : decode b_PD_stripeOf 3 = .ok (.ireturn, 1) := by decide +kernel
theorem d_PD_parityOf_0 : decode b_PD_parityOf 0 = .ok (.iload_n 0, 1) := by decide +kernel
theorem d_PD_parityOf_1 : decode b_PD_parityOf 1 = .ok (.iconst 5, 1) := by decide +kernel
theorem d_PD_parityOf_2 : decode b_PD_parityOf 2 = .ok (.irem, 1) := by decide +kernel
theorem d_PD_parityOf_3 : decode b_PD_parityOf 3 = .ok (.ireturn, 1) := by decide +kernel
theorem d_PD_diskOf_0 : decode b_PD_diskOf 0 = .ok (.iload_n 0, 1) := by decide +kernel
theorem d_PD_diskOf_1 : decode b_PD_diskOf 1 = .ok (.iconst 3, 1) := by decide +kernel
theorem d_PD_diskOf_2 : decode b_PD_diskOf 2 = .ok (.iand, 1) := by decide +kernel
theorem d_PD_diskOf_3 : decode b_PD_diskOf 3 = .ok (.istore_n 1, 1) := by decide +kernel
theorem d_PD_diskOf_4 : decode b_PD_diskOf 4 = .ok (.iload_n 1, 1) := by decide +kernel
theorem d_PD_diskOf_5 : decode b_PD_diskOf 5 = .ok (.iload_n 0, 1) := by decide +kernel
theorem d_PD_diskOf_6 : decode b_PD_diskOf 6 = .ok (.invokestatic 19, 3) := by decide +kernel
theorem d_PD_diskOf_9 : decode b_PD_diskOf 9 = .ok (.invokestatic 23, 3) := by decide +kernel
theorem d_PD_diskOf_12 : decode b_PD_diskOf 12 = .ok (.if_icmp .ge 7, 3) := by decide +kernel
theorem d_PD_diskOf_15 : decode b_PD_diskOf 15 = .ok (.iload_n 1, 1) := by decide +kernel
theorem d_PD_diskOf_16 : decode b_PD_diskOf 16 = .ok (.goto 6, 3) := by decide +kernel
theorem d_PD_diskOf_19 : decode b_PD_diskOf 19 = .ok (.iload_n 1, 1) := by decide +kernel
theorem d_PD_diskOf_20 : decode b_PD_diskOf 20 = .ok (.iconst 1, 1) := by decide +kernel
theorem d_PD_diskOf_21 : decode b_PD_diskOf 21 = .ok (.iadd, 1) := by decide +kernel
theorem d_PD_diskOf_22 : decode b_PD_diskOf 22 = .ok (.ireturn, 1) := by decide +kernel
theorem d_PD_barred_0 : decode b_PD_barred 0 = .ok (.iconst 0, 1) := by decide +kernel
theorem d_PD_barred_1 : decode b_PD_barred 1 = .ok (.istore_n 2, 1) := by decide +kernel
theorem d_PD_barred_2 : decode b_PD_barred 2 = .ok (.iconst 0, 1) := by decide +kernel
theorem d_PD_barred_3 : decode b_PD_barred 3 = .ok (.istore_n 3, 1) := by decide +kernel
theorem d_PD_barred_4 : decode b_PD_barred 4 = .ok (.iload_n 3, 1) := by decide +kernel
theorem d_PD_barred_5 : decode b_PD_barred 5 = .ok (.iconst 5, 1) := by decide +kernel
theorem d_PD_barred_6 : decode b_PD_barred 6 = .ok (.if_icmp .ge 28, 3) := by decide +kernel
theorem d_PD_barred_9 : decode b_PD_barred 9 = .ok (.aload_n 0, 1) := by decide +kernel
theorem d_PD_barred_10 : decode b_PD_barred 10 = .ok (.getfield 11, 3) := by decide +kernel
theorem d_PD_barred_13 : decode b_PD_barred 13 = .ok (.iload_n 3, 1) := by decide +kernel
theorem d_PD_barred_14 : decode b_PD_barred 14 = .ok (.aaload, 1) := by decide +kernel
theorem d_PD_barred_15 : decode b_PD_barred 15 = .ok (.iload_n 1, 1) := by decide +kernel
theorem d_PD_barred_16 : decode b_PD_barred 16 = .ok (.invokevirtual 26, 3) := by decide +kernel
theorem d_PD_barred_19 : decode b_PD_barred 19 = .ok (.ifCond .ne 9, 3) := by decide +kernel
theorem d_PD_barred_22 : decode b_PD_barred 22 = .ok (.iload_n 2, 1) := by decide +kernel
theorem d_PD_barred_23 : decode b_PD_barred 23 = .ok (.iconst 1, 1) := by decide +kernel
theorem d_PD_barred_24 : decode b_PD_barred 24 = .ok (.iload_n 3, 1) := by decide +kernel
theorem d_PD_barred_25 : decode b_PD_barred 25 = .ok (.ishl, 1) := by decide +kernel
theorem d_PD_barred_26 : decode b_PD_barred 26 = .ok (.ior, 1) := by decide +kernel
theorem d_PD_barred_27 : decode b_PD_barred 27 = .ok (.istore_n 2, 1) := by decide +kernel
theorem d_PD_barred_28 : decode b_PD_barred 28 = .ok (.iinc 3 1, 3) := by decide +kernel
theorem d_PD_barred_31 : decode b_PD_barred 31 = .ok (.goto (-27), 3) := by decide +kernel
theorem d_PD_barred_34 : decode b_PD_barred 34 = .ok (.iload_n 2, 1) := by decide +kernel
theorem d_PD_barred_35 : decode b_PD_barred 35 = .ok (.ireturn, 1) := by decide +kernel
theorem d_PD_isLost_0 : decode b_PD_isLost 0 = .ok (.iload_n 1, 1) := by decide +kernel
theorem d_PD_isLost_1 : decode b_PD_isLost 1 = .ok (.iload_n 0, 1) := by decide +kernel
theorem d_PD_isLost_2 : decode b_PD_isLost 2 = .ok (.ishr, 1) := by decide +kernel
theorem d_PD_isLost_3 : decode b_PD_isLost 3 = .ok (.iconst 1, 1) := by decide +kernel
theorem d_PD_isLost_4 : decode b_PD_isLost 4 = .ok (.iand, 1) := by decide +kernel
theorem d_PD_isLost_5 : decode b_PD_isLost 5 = .ok (.ifCond .eq 14, 3) := by decide +kernel
theorem d_PD_isLost_8 : decode b_PD_isLost 8 = .ok (.iload_n 1, 1) := by decide +kernel
theorem d_PD_isLost_9 : decode b_PD_isLost 9 = .ok (.iconst 1, 1) := by decide +kernel
theorem d_PD_isLost_10 : decode b_PD_isLost 10 = .ok (.iload_n 0, 1) := by decide +kernel
theorem d_PD_isLost_11 : decode b_PD_isLost 11 = .ok (.ishl, 1) := by decide +kernel
theorem d_PD_isLost_12 : decode b_PD_isLost 12 = .ok (.if_icmp .eq 7, 3) := by decide +kernel
theorem d_PD_isLost_15 : decode b_PD_isLost 15 = .ok (.iconst 1, 1) := by decide +kernel
theorem d_PD_isLost_16 : decode b_PD_isLost 16 = .ok (.goto 4, 3) := by decide +kernel
theorem d_PD_isLost_19 : decode b_PD_isLost 19 = .ok (.iconst 0, 1) := by decide +kernel
theorem d_PD_isLost_20 : decode b_PD_isLost 20 = .ok (.ireturn, 1) := by decide +kernel
theorem d_PD_has_0 : decode b_PD_has 0 = .ok (.iconst 2, 1) := by decide +kernel
theorem d_PD_has_1 : decode b_PD_has 1 = .ok (.iload_n 2, 1) := by decide +kernel
theorem d_PD_has_2 : decode b_PD_has 2 = .ok (.imul, 1) := by decide +kernel
theorem d_PD_has_3 : decode b_PD_has 3 = .ok (.iload_n 3, 1) := by decide +kernel
theorem d_PD_has_4 : decode b_PD_has 4 = .ok (.iadd, 1) := by decide +kernel
theorem d_PD_has_5 : decode b_PD_has 5 = .ok (.istore 4, 2) := by decide +kernel
theorem d_PD_has_7 : decode b_PD_has 7 = .ok (.aload_n 0, 1) := by decide +kernel
theorem d_PD_has_8 : decode b_PD_has 8 = .ok (.getfield 11, 3) := by decide +kernel
theorem d_PD_has_11 : decode b_PD_has 11 = .ok (.iload_n 1, 1) := by decide +kernel
theorem d_PD_has_12 : decode b_PD_has 12 = .ok (.aaload, 1) := by decide +kernel
theorem d_PD_has_13 : decode b_PD_has 13 = .ok (.iload_n 2, 1) := by decide +kernel
theorem d_PD_has_14 : decode b_PD_has 14 = .ok (.invokevirtual 26, 3) := by decide +kernel
theorem d_PD_has_17 : decode b_PD_has 17 = .ok (.ifCond .eq 16, 3) := by decide +kernel
theorem d_PD_has_20 : decode b_PD_has 20 = .ok (.aload_n 0, 1) := by decide +kernel
theorem d_PD_has_21 : decode b_PD_has 21 = .ok (.getfield 11, 3) := by decide +kernel
theorem d_PD_has_24 : decode b_PD_has 24 = .ok (.iload_n 1, 1) := by decide +kernel
theorem d_PD_has_25 : decode b_PD_has 25 = .ok (.aaload, 1) := by decide +kernel
theorem d_PD_has_26 : decode b_PD_has 26 = .ok (.getfield 30, 3) := by decide +kernel
theorem d_PD_has_29 : decode b_PD_has 29 = .ok (.iload 4, 2) := by decide +kernel
theorem d_PD_has_31 : decode b_PD_has 31 = .ok (.laload, 1) := by decide +kernel
theorem d_PD_has_32 : decode b_PD_has 32 = .ok (.lreturn, 1) := by decide +kernel
theorem d_PD_has_33 : decode b_PD_has 33 = .ok (.lconst 0, 1) := by decide +kernel
theorem d_PD_has_34 : decode b_PD_has 34 = .ok (.lstore 5, 2) := by decide +kernel
theorem d_PD_has_36 : decode b_PD_has 36 = .ok (.iconst 0, 1) := by decide +kernel
theorem d_PD_has_37 : decode b_PD_has 37 = .ok (.istore 7, 2) := by decide +kernel
theorem d_PD_has_39 : decode b_PD_has 39 = .ok (.iload 7, 2) := by decide +kernel
theorem d_PD_has_41 : decode b_PD_has 41 = .ok (.iconst 5, 1) := by decide +kernel
theorem d_PD_has_42 : decode b_PD_has 42 = .ok (.if_icmp .ge 33, 3) := by decide +kernel
theorem d_PD_has_45 : decode b_PD_has 45 = .ok (.iload 7, 2) := by decide +kernel
theorem d_PD_has_47 : decode b_PD_has 47 = .ok (.iload_n 1, 1) := by decide +kernel
theorem d_PD_has_48 : decode b_PD_has 48 = .ok (.if_icmp .eq 21, 3) := by decide +kernel
theorem d_PD_has_51 : decode b_PD_has 51 = .ok (.lload 5, 2) := by decide +kernel
theorem d_PD_has_53 : decode b_PD_has 53 = .ok (.aload_n 0, 1) := by decide +kernel
theorem d_PD_has_54 : decode b_PD_has 54 = .ok (.getfield 11, 3) := by decide +kernel
theorem d_PD_has_57 : decode b_PD_has 57 = .ok (.iload 7, 2) := by decide +kernel
theorem d_PD_has_59 : decode b_PD_has 59 = .ok (.aaload, 1) := by decide +kernel
theorem d_PD_has_60 : decode b_PD_has 60 = .ok (.getfield 30, 3) := by decide +kernel
theorem d_PD_has_63 : decode b_PD_has 63 = .ok (.iload 4, 2) := by decide +kernel
theorem d_PD_has_65 : decode b_PD_has 65 = .ok (.laload, 1) := by decide +kernel
theorem d_PD_has_66 : decode b_PD_has 66 = .ok (.lxor, 1) := by decide +kernel
theorem d_PD_has_67 : decode b_PD_has 67 = .ok (.lstore 5, 2) := by decide +kernel
theorem d_PD_has_69 : decode b_PD_has 69 = .ok (.iinc 7 1, 3) := by decide +kernel
theorem d_PD_has_72 : decode b_PD_has 72 = .ok (.goto (-33), 3) := by decide +kernel
theorem d_PD_has_75 : decode b_PD_has 75 = .ok (.lload 5, 2) := by decide +kernel
theorem d_PD_has_77 : decode b_PD_has 77 = .ok (.lreturn, 1) := by decide +kernel
theorem d_PD_read_0 : decode b_PD_read 0 = .ok (.iload_n 1, 1) := by decide +kernel
theorem d_PD_read_1 : decode b_PD_read 1 = .ok (.iload_n 2, 1) := by decide +kernel
theorem d_PD_read_2 : decode b_PD_read 2 = .ok (.invokestatic 34, 3) := by decide +kernel
theorem d_PD_read_5 : decode b_PD_read 5 = .ok (.invokestatic 38, 3) := by decide +kernel
theorem d_PD_read_8 : decode b_PD_read 8 = .ok (.iload_n 1, 1) := by decide +kernel
theorem d_PD_read_9 : decode b_PD_read 9 = .ok (.invokestatic 19, 3) := by decide +kernel
theorem d_PD_read_12 : decode b_PD_read 12 = .ok (.istore_n 3, 1) := by decide +kernel
theorem d_PD_read_13 : decode b_PD_read 13 = .ok (.iload_n 1, 1) := by decide +kernel
theorem d_PD_read_14 : decode b_PD_read 14 = .ok (.invokestatic 42, 3) := by decide +kernel
theorem d_PD_read_17 : decode b_PD_read 17 = .ok (.istore 4, 2) := by decide +kernel
theorem d_PD_read_19 : decode b_PD_read 19 = .ok (.iload 4, 2) := by decide +kernel
theorem d_PD_read_21 : decode b_PD_read 21 = .ok (.aload_n 0, 1) := by decide +kernel
theorem d_PD_read_22 : decode b_PD_read 22 = .ok (.iload_n 3, 1) := by decide +kernel
theorem d_PD_read_23 : decode b_PD_read 23 = .ok (.invokevirtual 45, 3) := by decide +kernel
theorem d_PD_read_26 : decode b_PD_read 26 = .ok (.invokestatic 48, 3) := by decide +kernel
theorem d_PD_read_29 : decode b_PD_read 29 = .ok (.ifCond .eq 11, 3) := by decide +kernel
theorem d_PD_read_32 : decode b_PD_read 32 = .ok (.new 51, 3) := by decide +kernel
theorem d_PD_read_35 : decode b_PD_read 35 = .ok (.dup, 1) := by decide +kernel
theorem d_PD_read_36 : decode b_PD_read 36 = .ok (.invokespecial 53, 3) := by decide +kernel
theorem d_PD_read_39 : decode b_PD_read 39 = .ok (.athrow, 1) := by decide +kernel
theorem d_PD_read_40 : decode b_PD_read 40 = .ok (.aload_n 0, 1) := by decide +kernel
theorem d_PD_read_41 : decode b_PD_read 41 = .ok (.iload 4, 2) := by decide +kernel
theorem d_PD_read_43 : decode b_PD_read 43 = .ok (.iload_n 3, 1) := by decide +kernel
theorem d_PD_read_44 : decode b_PD_read 44 = .ok (.iload_n 2, 1) := by decide +kernel
theorem d_PD_read_45 : decode b_PD_read 45 = .ok (.invokevirtual 54, 3) := by decide +kernel
theorem d_PD_read_48 : decode b_PD_read 48 = .ok (.lreturn, 1) := by decide +kernel
theorem d_PD_write_0 : decode b_PD_write 0 = .ok (.iload_n 1, 1) := by decide +kernel
theorem d_PD_write_1 : decode b_PD_write 1 = .ok (.iload_n 2, 1) := by decide +kernel
theorem d_PD_write_2 : decode b_PD_write 2 = .ok (.invokestatic 34, 3) := by decide +kernel
theorem d_PD_write_5 : decode b_PD_write 5 = .ok (.invokestatic 38, 3) := by decide +kernel
theorem d_PD_write_8 : decode b_PD_write 8 = .ok (.iload_n 1, 1) := by decide +kernel
theorem d_PD_write_9 : decode b_PD_write 9 = .ok (.invokestatic 19, 3) := by decide +kernel
theorem d_PD_write_12 : decode b_PD_write 12 = .ok (.istore 5, 2) := by decide +kernel
theorem d_PD_write_14 : decode b_PD_write 14 = .ok (.iload_n 1, 1) := by decide +kernel
theorem d_PD_write_15 : decode b_PD_write 15 = .ok (.invokestatic 42, 3) := by decide +kernel
theorem d_PD_write_18 : decode b_PD_write 18 = .ok (.istore 6, 2) := by decide +kernel
theorem d_PD_write_20 : decode b_PD_write 20 = .ok (.iload 5, 2) := by decide +kernel
theorem d_PD_write_22 : decode b_PD_write 22 = .ok (.invokestatic 23, 3) := by decide +kernel
theorem d_PD_write_25 : decode b_PD_write 25 = .ok (.istore 7, 2) := by decide +kernel
theorem d_PD_write_27 : decode b_PD_write 27 = .ok (.iload 6, 2) := by decide +kernel
theorem d_PD_write_29 : decode b_PD_write 29 = .ok (.aload_n 0, 1) := by decide +kernel
theorem d_PD_write_30 : decode b_PD_write 30 = .ok (.iload 5, 2) := by decide +kernel
theorem d_PD_write_32 : decode b_PD_write 32 = .ok (.invokevirtual 45, 3) := by decide +kernel
theorem d_PD_write_35 : decode b_PD_write 35 = .ok (.invokestatic 48, 3) := by decide +kernel
theorem d_PD_write_38 : decode b_PD_write 38 = .ok (.ifCond .eq 11, 3) := by decide +kernel
theorem d_PD_write_41 : decode b_PD_write 41 = .ok (.new 51, 3) := by decide +kernel
theorem d_PD_write_44 : decode b_PD_write 44 = .ok (.dup, 1) := by decide +kernel
theorem d_PD_write_45 : decode b_PD_write 45 = .ok (.invokespecial 53, 3) := by decide +kernel
theorem d_PD_write_48 : decode b_PD_write 48 = .ok (.athrow, 1) := by decide +kernel
theorem d_PD_write_49 : decode b_PD_write 49 = .ok (.aload_n 0, 1) := by decide +kernel
theorem d_PD_write_50 : decode b_PD_write 50 = .ok (.iload 6, 2) := by decide +kernel
theorem d_PD_write_52 : decode b_PD_write 52 = .ok (.iload 5, 2) := by decide +kernel
theorem d_PD_write_54 : decode b_PD_write 54 = .ok (.iload_n 2, 1) := by decide +kernel
theorem d_PD_write_55 : decode b_PD_write 55 = .ok (.invokevirtual 54, 3) := by decide +kernel
theorem d_PD_write_58 : decode b_PD_write 58 = .ok (.lload_n 3, 1) := by decide +kernel
theorem d_PD_write_59 : decode b_PD_write 59 = .ok (.lxor, 1) := by decide +kernel
theorem d_PD_write_60 : decode b_PD_write 60 = .ok (.lstore 8, 2) := by decide +kernel
theorem d_PD_write_62 : decode b_PD_write 62 = .ok (.aload_n 0, 1) := by decide +kernel
theorem d_PD_write_63 : decode b_PD_write 63 = .ok (.getfield 11, 3) := by decide +kernel
theorem d_PD_write_66 : decode b_PD_write 66 = .ok (.iload 7, 2) := by decide +kernel
theorem d_PD_write_68 : decode b_PD_write 68 = .ok (.aaload, 1) := by decide +kernel
theorem d_PD_write_69 : decode b_PD_write 69 = .ok (.iload 5, 2) := by decide +kernel
theorem d_PD_write_71 : decode b_PD_write 71 = .ok (.invokevirtual 26, 3) := by decide +kernel
theorem d_PD_write_74 : decode b_PD_write 74 = .ok (.ifCond .eq 25, 3) := by decide +kernel
theorem d_PD_write_77 : decode b_PD_write 77 = .ok (.aload_n 0, 1) := by decide +kernel
theorem d_PD_write_78 : decode b_PD_write 78 = .ok (.getfield 11, 3) := by decide +kernel
theorem d_PD_write_81 : decode b_PD_write 81 = .ok (.iload 7, 2) := by decide +kernel
theorem d_PD_write_83 : decode b_PD_write 83 = .ok (.aaload, 1) := by decide +kernel
theorem d_PD_write_84 : decode b_PD_write 84 = .ok (.getfield 30, 3) := by decide +kernel
theorem d_PD_write_87 : decode b_PD_write 87 = .ok (.iconst 2, 1) := by decide +kernel
theorem d_PD_write_88 : decode b_PD_write 88 = .ok (.iload 5, 2) := by decide +kernel
theorem d_PD_write_90 : decode b_PD_write 90 = .ok (.imul, 1) := by decide +kernel
theorem d_PD_write_91 : decode b_PD_write 91 = .ok (.iload_n 2, 1) := by decide +kernel
theorem d_PD_write_92 : decode b_PD_write 92 = .ok (.iadd, 1) := by decide +kernel
theorem d_PD_write_93 : decode b_PD_write 93 = .ok (.dup2, 1) := by decide +kernel
theorem d_PD_write_94 : decode b_PD_write 94 = .ok (.laload, 1) := by decide +kernel
theorem d_PD_write_95 : decode b_PD_write 95 = .ok (.lload 8, 2) := by decide +kernel
theorem d_PD_write_97 : decode b_PD_write 97 = .ok (.lxor, 1) := by decide +kernel
theorem d_PD_write_98 : decode b_PD_write 98 = .ok (.lastore, 1) := by decide +kernel
theorem d_PD_write_99 : decode b_PD_write 99 = .ok (.aload_n 0, 1) := by decide +kernel
theorem d_PD_write_100 : decode b_PD_write 100 = .ok (.getfield 11, 3) := by decide +kernel
theorem d_PD_write_103 : decode b_PD_write 103 = .ok (.iload 6, 2) := by decide +kernel
theorem d_PD_write_105 : decode b_PD_write 105 = .ok (.aaload, 1) := by decide +kernel
theorem d_PD_write_106 : decode b_PD_write 106 = .ok (.iload 5, 2) := by decide +kernel
theorem d_PD_write_108 : decode b_PD_write 108 = .ok (.invokevirtual 26, 3) := by decide +kernel
theorem d_PD_write_111 : decode b_PD_write 111 = .ok (.ifCond .eq 21, 3) := by decide +kernel
theorem d_PD_write_114 : decode b_PD_write 114 = .ok (.aload_n 0, 1) := by decide +kernel
theorem d_PD_write_115 : decode b_PD_write 115 = .ok (.getfield 11, 3) := by decide +kernel
theorem d_PD_write_118 : decode b_PD_write 118 = .ok (.iload 6, 2) := by decide +kernel
theorem d_PD_write_120 : decode b_PD_write 120 = .ok (.aaload, 1) := by decide +kernel
theorem d_PD_write_121 : decode b_PD_write 121 = .ok (.getfield 30, 3) := by decide +kernel
theorem d_PD_write_124 : decode b_PD_write 124 = .ok (.iconst 2, 1) := by decide +kernel
theorem d_PD_write_125 : decode b_PD_write 125 = .ok (.iload 5, 2) := by decide +kernel
theorem d_PD_write_127 : decode b_PD_write 127 = .ok (.imul, 1) := by decide +kernel
theorem d_PD_write_128 : decode b_PD_write 128 = .ok (.iload_n 2, 1) := by decide +kernel
theorem d_PD_write_129 : decode b_PD_write 129 = .ok (.iadd, 1) := by decide +kernel
theorem d_PD_write_130 : decode b_PD_write 130 = .ok (.lload_n 3, 1) := by decide +kernel
theorem d_PD_write_131 : decode b_PD_write 131 = .ok (.lastore, 1) := by decide +kernel
theorem d_PD_write_132 : decode b_PD_write 132 = .ok (.return_, 1) := by decide +kernel
theorem d_PD_fail_0 : decode b_PD_fail 0 = .ok (.iload_n 1, 1) := by decide +kernel
theorem d_PD_fail_1 : decode b_PD_fail 1 = .ok (.invokestatic 58, 3) := by decide +kernel
theorem d_PD_fail_4 : decode b_PD_fail 4 = .ok (.invokestatic 38, 3) := by decide +kernel
theorem d_PD_fail_7 : decode b_PD_fail 7 = .ok (.aload_n 0, 1) := by decide +kernel
theorem d_PD_fail_8 : decode b_PD_fail 8 = .ok (.getfield 11, 3) := by decide +kernel
theorem d_PD_fail_11 : decode b_PD_fail 11 = .ok (.iload_n 1, 1) := by decide +kernel
theorem d_PD_fail_12 : decode b_PD_fail 12 = .ok (.aaload, 1) := by decide +kernel
theorem d_PD_fail_13 : decode b_PD_fail 13 = .ok (.invokevirtual 61, 3) := by decide +kernel
theorem d_PD_fail_16 : decode b_PD_fail 16 = .ok (.return_, 1) := by decide +kernel
theorem d_PD_replace_0 : decode b_PD_replace 0 = .ok (.iload_n 1, 1) := by decide +kernel
theorem d_PD_replace_1 : decode b_PD_replace 1 = .ok (.invokestatic 58, 3) := by decide +kernel
theorem d_PD_replace_4 : decode b_PD_replace 4 = .ok (.invokestatic 38, 3) := by decide +kernel
theorem d_PD_replace_7 : decode b_PD_replace 7 = .ok (.aload_n 0, 1) := by decide +kernel
theorem d_PD_replace_8 : decode b_PD_replace 8 = .ok (.getfield 11, 3) := by decide +kernel
theorem d_PD_replace_11 : decode b_PD_replace 11 = .ok (.iload_n 1, 1) := by decide +kernel
theorem d_PD_replace_12 : decode b_PD_replace 12 = .ok (.aaload, 1) := by decide +kernel
theorem d_PD_replace_13 : decode b_PD_replace 13 = .ok (.getfield 64, 3) := by decide +kernel
theorem d_PD_replace_16 : decode b_PD_replace 16 = .ok (.ifCond .ne 11, 3) := by decide +kernel
theorem d_PD_replace_19 : decode b_PD_replace 19 = .ok (.new 68, 3) := by decide +kernel
theorem d_PD_replace_22 : decode b_PD_replace 22 = .ok (.dup, 1) := by decide +kernel
theorem d_PD_replace_23 : decode b_PD_replace 23 = .ok (.invokespecial 70, 3) := by decide +kernel
theorem d_PD_replace_26 : decode b_PD_replace 26 = .ok (.athrow, 1) := by decide +kernel
theorem d_PD_replace_27 : decode b_PD_replace 27 = .ok (.aload_n 0, 1) := by decide +kernel
theorem d_PD_replace_28 : decode b_PD_replace 28 = .ok (.getfield 11, 3) := by decide +kernel
theorem d_PD_replace_31 : decode b_PD_replace 31 = .ok (.iload_n 1, 1) := by decide +kernel
theorem d_PD_replace_32 : decode b_PD_replace 32 = .ok (.aaload, 1) := by decide +kernel
theorem d_PD_replace_33 : decode b_PD_replace 33 = .ok (.invokevirtual 71, 3) := by decide +kernel
theorem d_PD_replace_36 : decode b_PD_replace 36 = .ok (.return_, 1) := by decide +kernel
theorem d_PD_rebuild_0 : decode b_PD_rebuild 0 = .ok (.iload_n 1, 1) := by decide +kernel
theorem d_PD_rebuild_1 : decode b_PD_rebuild 1 = .ok (.invokestatic 58, 3) := by decide +kernel
theorem d_PD_rebuild_4 : decode b_PD_rebuild 4 = .ok (.ifCond .eq 11, 3) := by decide +kernel
theorem d_PD_rebuild_7 : decode b_PD_rebuild 7 = .ok (.iload_n 2, 1) := by decide +kernel
theorem d_PD_rebuild_8 : decode b_PD_rebuild 8 = .ok (.ifCond .lt 7, 3) := by decide +kernel
theorem d_PD_rebuild_11 : decode b_PD_rebuild 11 = .ok (.iconst 1, 1) := by decide +kernel
theorem d_PD_rebuild_12 : decode b_PD_rebuild 12 = .ok (.goto 4, 3) := by decide +kernel
theorem d_PD_rebuild_15 : decode b_PD_rebuild 15 = .ok (.iconst 0, 1) := by decide +kernel
theorem d_PD_rebuild_16 : decode b_PD_rebuild 16 = .ok (.invokestatic 38, 3) := by decide +kernel
theorem d_PD_rebuild_19 : decode b_PD_rebuild 19 = .ok (.aload_n 0, 1) := by decide +kernel
theorem d_PD_rebuild_20 : decode b_PD_rebuild 20 = .ok (.getfield 11, 3) := by decide +kernel
theorem d_PD_rebuild_23 : decode b_PD_rebuild 23 = .ok (.iload_n 1, 1) := by decide +kernel
theorem d_PD_rebuild_24 : decode b_PD_rebuild 24 = .ok (.aaload, 1) := by decide +kernel
theorem d_PD_rebuild_25 : decode b_PD_rebuild 25 = .ok (.astore_n 3, 1) := by decide +kernel
theorem d_PD_rebuild_26 : decode b_PD_rebuild 26 = .ok (.aload_n 3, 1) := by decide +kernel
theorem d_PD_rebuild_27 : decode b_PD_rebuild 27 = .ok (.getfield 64, 3) := by decide +kernel
theorem d_PD_rebuild_30 : decode b_PD_rebuild 30 = .ok (.ifCond .ne 12, 3) := by decide +kernel
theorem d_PD_rebuild_33 : decode b_PD_rebuild 33 = .ok (.aload_n 3, 1) := by decide +kernel
theorem d_PD_rebuild_34 : decode b_PD_rebuild 34 = .ok (.getfield 74, 3) := by decide +kernel
theorem d_PD_rebuild_37 : decode b_PD_rebuild 37 = .ok (.bipush 100, 2) := by decide +kernel
theorem d_PD_rebuild_39 : decode b_PD_rebuild 39 = .ok (.if_icmp .ne 11, 3) := by decide +kernel
theorem d_PD_rebuild_42 : decode b_PD_rebuild 42 = .ok (.new 68, 3) := by decide +kernel
theorem d_PD_rebuild_45 : decode b_PD_rebuild 45 = .ok (.dup, 1) := by decide +kernel
theorem d_PD_rebuild_46 : decode b_PD_rebuild 46 = .ok (.invokespecial 70, 3) := by decide +kernel
theorem d_PD_rebuild_49 : decode b_PD_rebuild 49 = .ok (.athrow, 1) := by decide +kernel
theorem d_PD_rebuild_50 : decode b_PD_rebuild 50 = .ok (.iconst 0, 1) := by decide +kernel
theorem d_PD_rebuild_51 : decode b_PD_rebuild 51 = .ok (.istore 4, 2) := by decide +kernel
theorem d_PD_rebuild_53 : decode b_PD_rebuild 53 = .ok (.iload 4, 2) := by decide +kernel
theorem d_PD_rebuild_55 : decode b_PD_rebuild 55 = .ok (.iload_n 2, 1) := by decide +kernel
theorem d_PD_rebuild_56 : decode b_PD_rebuild 56 = .ok (.if_icmp .ge 83, 3) := by decide +kernel
theorem d_PD_rebuild_59 : decode b_PD_rebuild 59 = .ok (.aload_n 3, 1) := by decide +kernel
theorem d_PD_rebuild_60 : decode b_PD_rebuild 60 = .ok (.getfield 74, 3) := by decide +kernel
theorem d_PD_rebuild_63 : decode b_PD_rebuild 63 = .ok (.bipush 100, 2) := by decide +kernel
theorem d_PD_rebuild_65 : decode b_PD_rebuild 65 = .ok (.if_icmp .ge 74, 3) := by decide +kernel
theorem d_PD_rebuild_68 : decode b_PD_rebuild 68 = .ok (.iload_n 1, 1) := by decide +kernel
theorem d_PD_rebuild_69 : decode b_PD_rebuild 69 = .ok (.aload_n 0, 1) := by decide +kernel
theorem d_PD_rebuild_70 : decode b_PD_rebuild 70 = .ok (.aload_n 3, 1) := by decide +kernel
theorem d_PD_rebuild_71 : decode b_PD_rebuild 71 = .ok (.getfield 74, 3) := by decide +kernel
theorem d_PD_rebuild_74 : decode b_PD_rebuild 74 = .ok (.invokevirtual 45, 3) := by decide +kernel
theorem d_PD_rebuild_77 : decode b_PD_rebuild 77 = .ok (.invokestatic 48, 3) := by decide +kernel
theorem d_PD_rebuild_80 : decode b_PD_rebuild 80 = .ok (.ifCond .ne 59, 3) := by decide +kernel
theorem d_PD_rebuild_83 : decode b_PD_rebuild 83 = .ok (.iconst 0, 1) := by decide +kernel
theorem d_PD_rebuild_84 : decode b_PD_rebuild 84 = .ok (.istore 5, 2) := by decide +kernel
theorem d_PD_rebuild_86 : decode b_PD_rebuild 86 = .ok (.iload 5, 2) := by decide +kernel
theorem d_PD_rebuild_88 : decode b_PD_rebuild 88 = .ok (.iconst 2, 1) := by decide +kernel
theorem d_PD_rebuild_89 : decode b_PD_rebuild 89 = .ok (.if_icmp .ge 34, 3) := by decide +kernel
theorem d_PD_rebuild_92 : decode b_PD_rebuild 92 = .ok (.aload_n 3, 1) := by decide +kernel
theorem d_PD_rebuild_93 : decode b_PD_rebuild 93 = .ok (.getfield 30, 3) := by decide +kernel
theorem d_PD_rebuild_96 : decode b_PD_rebuild 96 = .ok (.iconst 2, 1) := by decide +kernel
theorem d_PD_rebuild_97 : decode b_PD_rebuild 97 = .ok (.aload_n 3, 1) := by decide +kernel
theorem d_PD_rebuild_98 : decode b_PD_rebuild 98 = .ok (.getfield 74, 3) := by decide +kernel
theorem d_PD_rebuild_101 : decode b_PD_rebuild 101 = .ok (.imul, 1) := by decide +kernel
theorem d_PD_rebuild_102 : decode b_PD_rebuild 102 = .ok (.iload 5, 2) := by decide +kernel
theorem d_PD_rebuild_104 : decode b_PD_rebuild 104 = .ok (.iadd, 1) := by decide +kernel
theorem d_PD_rebuild_105 : decode b_PD_rebuild 105 = .ok (.aload_n 0, 1) := by decide +kernel
theorem d_PD_rebuild_106 : decode b_PD_rebuild 106 = .ok (.iload_n 1, 1) := by decide +kernel
theorem d_PD_rebuild_107 : decode b_PD_rebuild 107 = .ok (.aload_n 3, 1) := by decide +kernel
theorem d_PD_rebuild_108 : decode b_PD_rebuild 108 = .ok (.getfield 74, 3) := by decide +kernel
theorem d_PD_rebuild_111 : decode b_PD_rebuild 111 = .ok (.iload 5, 2) := by decide +kernel
theorem d_PD_rebuild_113 : decode b_PD_rebuild 113 = .ok (.invokevirtual 54, 3) := by decide +kernel
theorem d_PD_rebuild_116 : decode b_PD_rebuild 116 = .ok (.lastore, 1) := by decide +kernel
theorem d_PD_rebuild_117 : decode b_PD_rebuild 117 = .ok (.iinc 5 1, 3) := by decide +kernel
theorem d_PD_rebuild_120 : decode b_PD_rebuild 120 = .ok (.goto (-34), 3) := by decide +kernel
theorem d_PD_rebuild_123 : decode b_PD_rebuild 123 = .ok (.aload_n 3, 1) := by decide +kernel
theorem d_PD_rebuild_124 : decode b_PD_rebuild 124 = .ok (.dup, 1) := by decide +kernel
theorem d_PD_rebuild_125 : decode b_PD_rebuild 125 = .ok (.getfield 74, 3) := by decide +kernel
theorem d_PD_rebuild_128 : decode b_PD_rebuild 128 = .ok (.iconst 1, 1) := by decide +kernel
theorem d_PD_rebuild_129 : decode b_PD_rebuild 129 = .ok (.iadd, 1) := by decide +kernel
theorem d_PD_rebuild_130 : decode b_PD_rebuild 130 = .ok (.putfield 74, 3) := by decide +kernel
theorem d_PD_rebuild_133 : decode b_PD_rebuild 133 = .ok (.iinc 4 1, 3) := by decide +kernel
theorem d_PD_rebuild_136 : decode b_PD_rebuild 136 = .ok (.goto (-83), 3) := by decide +kernel
theorem d_PD_rebuild_139 : decode b_PD_rebuild 139 = .ok (.aload_n 3, 1) := by decide +kernel
theorem d_PD_rebuild_140 : decode b_PD_rebuild 140 = .ok (.getfield 74, 3) := by decide +kernel
theorem d_PD_rebuild_143 : decode b_PD_rebuild 143 = .ok (.ireturn, 1) := by decide +kernel
theorem d_PD_rows_0 : decode b_PD_rows 0 = .ok (.iload_n 1, 1) := by decide +kernel
theorem d_PD_rows_1 : decode b_PD_rows 1 = .ok (.invokestatic 58, 3) := by decide +kernel
theorem d_PD_rows_4 : decode b_PD_rows 4 = .ok (.ifCond .eq 26, 3) := by decide +kernel
theorem d_PD_rows_7 : decode b_PD_rows 7 = .ok (.iload_n 2, 1) := by decide +kernel
theorem d_PD_rows_8 : decode b_PD_rows 8 = .ok (.ifCond .lt 22, 3) := by decide +kernel
theorem d_PD_rows_11 : decode b_PD_rows 11 = .ok (.iload_n 2, 1) := by decide +kernel
theorem d_PD_rows_12 : decode b_PD_rows 12 = .ok (.bipush 100, 2) := by decide +kernel
theorem d_PD_rows_14 : decode b_PD_rows 14 = .ok (.if_icmp .ge 16, 3) := by decide +kernel
theorem d_PD_rows_17 : decode b_PD_rows 17 = .ok (.iload_n 3, 1) := by decide +kernel
theorem d_PD_rows_18 : decode b_PD_rows 18 = .ok (.ifCond .eq 8, 3) := by decide +kernel
theorem d_PD_rows_21 : decode b_PD_rows 21 = .ok (.iload_n 3, 1) := by decide +kernel
theorem d_PD_rows_22 : decode b_PD_rows 22 = .ok (.iconst 1, 1) := by decide +kernel
theorem d_PD_rows_23 : decode b_PD_rows 23 = .ok (.if_icmp .ne 7, 3) := by decide +kernel
theorem d_PD_rows_26 : decode b_PD_rows 26 = .ok (.iconst 1, 1) := by decide +kernel
theorem d_PD_rows_27 : decode b_PD_rows 27 = .ok (.goto 4, 3) := by decide +kernel
theorem d_PD_rows_30 : decode b_PD_rows 30 = .ok (.iconst 0, 1) := by decide +kernel
theorem d_PD_rows_31 : decode b_PD_rows 31 = .ok (.invokestatic 38, 3) := by decide +kernel
theorem d_PD_rows_34 : decode b_PD_rows 34 = .ok (.aload_n 0, 1) := by decide +kernel
theorem d_PD_rows_35 : decode b_PD_rows 35 = .ok (.getfield 11, 3) := by decide +kernel
theorem d_PD_rows_38 : decode b_PD_rows 38 = .ok (.iload_n 1, 1) := by decide +kernel
theorem d_PD_rows_39 : decode b_PD_rows 39 = .ok (.aaload, 1) := by decide +kernel
theorem d_PD_rows_40 : decode b_PD_rows 40 = .ok (.getfield 64, 3) := by decide +kernel
theorem d_PD_rows_43 : decode b_PD_rows 43 = .ok (.ifCond .eq 11, 3) := by decide +kernel
theorem d_PD_rows_46 : decode b_PD_rows 46 = .ok (.new 68, 3) := by decide +kernel
theorem d_PD_rows_49 : decode b_PD_rows 49 = .ok (.dup, 1) := by decide +kernel
theorem d_PD_rows_50 : decode b_PD_rows 50 = .ok (.invokespecial 70, 3) := by decide +kernel
theorem d_PD_rows_53 : decode b_PD_rows 53 = .ok (.athrow, 1) := by decide +kernel
theorem d_PD_rows_54 : decode b_PD_rows 54 = .ok (.aload_n 0, 1) := by decide +kernel
theorem d_PD_rows_55 : decode b_PD_rows 55 = .ok (.getfield 11, 3) := by decide +kernel
theorem d_PD_rows_58 : decode b_PD_rows 58 = .ok (.iload_n 1, 1) := by decide +kernel
theorem d_PD_rows_59 : decode b_PD_rows 59 = .ok (.aaload, 1) := by decide +kernel
theorem d_PD_rows_60 : decode b_PD_rows 60 = .ok (.getfield 30, 3) := by decide +kernel
theorem d_PD_rows_63 : decode b_PD_rows 63 = .ok (.areturn, 1) := by decide +kernel
theorem d_PD_flip_0 : decode b_PD_flip 0 = .ok (.aload_n 0, 1) := by decide +kernel
theorem d_PD_flip_1 : decode b_PD_flip 1 = .ok (.iload_n 1, 1) := by decide +kernel
theorem d_PD_flip_2 : decode b_PD_flip 2 = .ok (.iload_n 2, 1) := by decide +kernel
theorem d_PD_flip_3 : decode b_PD_flip 3 = .ok (.iload_n 3, 1) := by decide +kernel
theorem d_PD_flip_4 : decode b_PD_flip 4 = .ok (.invokevirtual 78, 3) := by decide +kernel
theorem d_PD_flip_7 : decode b_PD_flip 7 = .ok (.iconst 2, 1) := by decide +kernel
theorem d_PD_flip_8 : decode b_PD_flip 8 = .ok (.iload_n 2, 1) := by decide +kernel
theorem d_PD_flip_9 : decode b_PD_flip 9 = .ok (.imul, 1) := by decide +kernel
theorem d_PD_flip_10 : decode b_PD_flip 10 = .ok (.iload_n 3, 1) := by decide +kernel
theorem d_PD_flip_11 : decode b_PD_flip 11 = .ok (.iadd, 1) := by decide +kernel
theorem d_PD_flip_12 : decode b_PD_flip 12 = .ok (.dup2, 1) := by decide +kernel
theorem d_PD_flip_13 : decode b_PD_flip 13 = .ok (.laload, 1) := by decide +kernel
theorem d_PD_flip_14 : decode b_PD_flip 14 = .ok (.lload 4, 2) := by decide +kernel
theorem d_PD_flip_16 : decode b_PD_flip 16 = .ok (.lxor, 1) := by decide +kernel
theorem d_PD_flip_17 : decode b_PD_flip 17 = .ok (.lastore, 1) := by decide +kernel
theorem d_PD_flip_18 : decode b_PD_flip 18 = .ok (.return_, 1) := by decide +kernel
theorem d_PD_block_0 : decode b_PD_block 0 = .ok (.aload_n 0, 1) := by decide +kernel
theorem d_PD_block_1 : decode b_PD_block 1 = .ok (.iload_n 1, 1) := by decide +kernel
theorem d_PD_block_2 : decode b_PD_block 2 = .ok (.iload_n 2, 1) := by decide +kernel
theorem d_PD_block_3 : decode b_PD_block 3 = .ok (.iload_n 3, 1) := by decide +kernel
theorem d_PD_block_4 : decode b_PD_block 4 = .ok (.invokevirtual 78, 3) := by decide +kernel
theorem d_PD_block_7 : decode b_PD_block 7 = .ok (.iconst 2, 1) := by decide +kernel
theorem d_PD_block_8 : decode b_PD_block 8 = .ok (.iload_n 2, 1) := by decide +kernel
theorem d_PD_block_9 : decode b_PD_block 9 = .ok (.imul, 1) := by decide +kernel
theorem d_PD_block_10 : decode b_PD_block 10 = .ok (.iload_n 3, 1) := by decide +kernel
theorem d_PD_block_11 : decode b_PD_block 11 = .ok (.iadd, 1) := by decide +kernel
theorem d_PD_block_12 : decode b_PD_block 12 = .ok (.laload, 1) := by decide +kernel
theorem d_PD_block_13 : decode b_PD_block 13 = .ok (.lreturn, 1) := by decide +kernel
theorem d_PD_scrub_0 : decode b_PD_scrub 0 = .ok (.iconst 0, 1) := by decide +kernel
theorem d_PD_scrub_1 : decode b_PD_scrub 1 = .ok (.istore_n 1, 1) := by decide +kernel
theorem d_PD_scrub_2 : decode b_PD_scrub 2 = .ok (.iconst 0, 1) := by decide +kernel
theorem d_PD_scrub_3 : decode b_PD_scrub 3 = .ok (.istore_n 2, 1) := by decide +kernel
theorem d_PD_scrub_4 : decode b_PD_scrub 4 = .ok (.iload_n 2, 1) := by decide +kernel
theorem d_PD_scrub_5 : decode b_PD_scrub 5 = .ok (.bipush 100, 2) := by decide +kernel
theorem d_PD_scrub_7 : decode b_PD_scrub 7 = .ok (.if_icmp .ge 123, 3) := by decide +kernel
theorem d_PD_scrub_10 : decode b_PD_scrub 10 = .ok (.aload_n 0, 1) := by decide +kernel
theorem d_PD_scrub_11 : decode b_PD_scrub 11 = .ok (.iload_n 2, 1) := by decide +kernel
theorem d_PD_scrub_12 : decode b_PD_scrub 12 = .ok (.invokevirtual 45, 3) := by decide +kernel
theorem d_PD_scrub_15 : decode b_PD_scrub 15 = .ok (.ifCond .eq 6, 3) := by decide +kernel
theorem d_PD_scrub_18 : decode b_PD_scrub 18 = .ok (.goto 106, 3) := by decide +kernel
theorem d_PD_scrub_21 : decode b_PD_scrub 21 = .ok (.iconst 0, 1) := by decide +kernel
theorem d_PD_scrub_22 : decode b_PD_scrub 22 = .ok (.istore_n 3, 1) := by decide +kernel
theorem d_PD_scrub_23 : decode b_PD_scrub 23 = .ok (.iconst 0, 1) := by decide +kernel
theorem d_PD_scrub_24 : decode b_PD_scrub 24 = .ok (.istore 4, 2) := by decide +kernel
theorem d_PD_scrub_26 : decode b_PD_scrub 26 = .ok (.iload 4, 2) := by decide +kernel
theorem d_PD_scrub_28 : decode b_PD_scrub 28 = .ok (.iconst 2, 1) := by decide +kernel
theorem d_PD_scrub_29 : decode b_PD_scrub 29 = .ok (.if_icmp .ge 88, 3) := by decide +kernel
theorem d_PD_scrub_32 : decode b_PD_scrub 32 = .ok (.lconst 0, 1) := by decide +kernel
theorem d_PD_scrub_33 : decode b_PD_scrub 33 = .ok (.lstore 5, 2) := by decide +kernel
theorem d_PD_scrub_35 : decode b_PD_scrub 35 = .ok (.iconst 0, 1) := by decide +kernel
theorem d_PD_scrub_36 : decode b_PD_scrub 36 = .ok (.istore 7, 2) := by decide +kernel
theorem d_PD_scrub_38 : decode b_PD_scrub 38 = .ok (.iload 7, 2) := by decide +kernel
theorem d_PD_scrub_40 : decode b_PD_scrub 40 = .ok (.iconst 5, 1) := by decide +kernel
theorem d_PD_scrub_41 : decode b_PD_scrub 41 = .ok (.if_icmp .ge 31, 3) := by decide +kernel
theorem d_PD_scrub_44 : decode b_PD_scrub 44 = .ok (.lload 5, 2) := by decide +kernel
theorem d_PD_scrub_46 : decode b_PD_scrub 46 = .ok (.aload_n 0, 1) := by decide +kernel
theorem d_PD_scrub_47 : decode b_PD_scrub 47 = .ok (.getfield 11, 3) := by decide +kernel
theorem d_PD_scrub_50 : decode b_PD_scrub 50 = .ok (.iload 7, 2) := by decide +kernel
theorem d_PD_scrub_52 : decode b_PD_scrub 52 = .ok (.aaload, 1) := by decide +kernel
theorem d_PD_scrub_53 : decode b_PD_scrub 53 = .ok (.getfield 30, 3) := by decide +kernel
theorem d_PD_scrub_56 : decode b_PD_scrub 56 = .ok (.iconst 2, 1) := by decide +kernel
theorem d_PD_scrub_57 : decode b_PD_scrub 57 = .ok (.iload_n 2, 1) := by decide +kernel
theorem d_PD_scrub_58 : decode b_PD_scrub 58 = .ok (.imul, 1) := by decide +kernel
theorem d_PD_scrub_59 : decode b_PD_scrub 59 = .ok (.iload 4, 2) := by decide +kernel
theorem d_PD_scrub_61 : decode b_PD_scrub 61 = .ok (.iadd, 1) := by decide +kernel
theorem d_PD_scrub_62 : decode b_PD_scrub 62 = .ok (.laload, 1) := by decide +kernel
theorem d_PD_scrub_63 : decode b_PD_scrub 63 = .ok (.lxor, 1) := by decide +kernel
theorem d_PD_scrub_64 : decode b_PD_scrub 64 = .ok (.lstore 5, 2) := by decide +kernel
theorem d_PD_scrub_66 : decode b_PD_scrub 66 = .ok (.iinc 7 1, 3) := by decide +kernel
theorem d_PD_scrub_69 : decode b_PD_scrub 69 = .ok (.goto (-31), 3) := by decide +kernel
theorem d_PD_scrub_72 : decode b_PD_scrub 72 = .ok (.aload_n 0, 1) := by decide +kernel
theorem d_PD_scrub_73 : decode b_PD_scrub 73 = .ok (.getfield 11, 3) := by decide +kernel
theorem d_PD_scrub_76 : decode b_PD_scrub 76 = .ok (.iload_n 2, 1) := by decide +kernel
theorem d_PD_scrub_77 : decode b_PD_scrub 77 = .ok (.invokestatic 23, 3) := by decide +kernel
theorem d_PD_scrub_80 : decode b_PD_scrub 80 = .ok (.aaload, 1) := by decide +kernel
theorem d_PD_scrub_81 : decode b_PD_scrub 81 = .ok (.getfield 30, 3) := by decide +kernel
theorem d_PD_scrub_84 : decode b_PD_scrub 84 = .ok (.iconst 2, 1) := by decide +kernel
theorem d_PD_scrub_85 : decode b_PD_scrub 85 = .ok (.iload_n 2, 1) := by decide +kernel
theorem d_PD_scrub_86 : decode b_PD_scrub 86 = .ok (.imul, 1) := by decide +kernel
theorem d_PD_scrub_87 : decode b_PD_scrub 87 = .ok (.iload 4, 2) := by decide +kernel
theorem d_PD_scrub_89 : decode b_PD_scrub 89 = .ok (.iadd, 1) := by decide +kernel
theorem d_PD_scrub_90 : decode b_PD_scrub 90 = .ok (.dup2, 1) := by decide +kernel
theorem d_PD_scrub_91 : decode b_PD_scrub 91 = .ok (.laload, 1) := by decide +kernel
theorem d_PD_scrub_92 : decode b_PD_scrub 92 = .ok (.lload 5, 2) := by decide +kernel
theorem d_PD_scrub_94 : decode b_PD_scrub 94 = .ok (.lxor, 1) := by decide +kernel
theorem d_PD_scrub_95 : decode b_PD_scrub 95 = .ok (.lastore, 1) := by decide +kernel
theorem d_PD_scrub_96 : decode b_PD_scrub 96 = .ok (.iload_n 3, 1) := by decide +kernel
theorem d_PD_scrub_97 : decode b_PD_scrub 97 = .ok (.lload 5, 2) := by decide +kernel
theorem d_PD_scrub_99 : decode b_PD_scrub 99 = .ok (.lconst 0, 1) := by decide +kernel
theorem d_PD_scrub_100 : decode b_PD_scrub 100 = .ok (.lcmp, 1) := by decide +kernel
theorem d_PD_scrub_101 : decode b_PD_scrub 101 = .ok (.ifCond .eq 7, 3) := by decide +kernel
theorem d_PD_scrub_104 : decode b_PD_scrub 104 = .ok (.iconst 1, 1) := by decide +kernel
theorem d_PD_scrub_105 : decode b_PD_scrub 105 = .ok (.goto 4, 3) := by decide +kernel
theorem d_PD_scrub_108 : decode b_PD_scrub 108 = .ok (.iconst 0, 1) := by decide +kernel
theorem d_PD_scrub_109 : decode b_PD_scrub 109 = .ok (.ior, 1) := by decide +kernel
theorem d_PD_scrub_110 : decode b_PD_scrub 110 = .ok (.istore_n 3, 1) := by decide +kernel
theorem d_PD_scrub_111 : decode b_PD_scrub 111 = .ok (.iinc 4 1, 3) := by decide +kernel
theorem d_PD_scrub_114 : decode b_PD_scrub 114 = .ok (.goto (-88), 3) := by decide +kernel
theorem d_PD_scrub_117 : decode b_PD_scrub 117 = .ok (.iload_n 3, 1) := by decide +kernel
theorem d_PD_scrub_118 : decode b_PD_scrub 118 = .ok (.ifCond .eq 6, 3) := by decide +kernel
theorem d_PD_scrub_121 : decode b_PD_scrub 121 = .ok (.iinc 1 1, 3) := by decide +kernel
theorem d_PD_scrub_124 : decode b_PD_scrub 124 = .ok (.iinc 2 1, 3) := by decide +kernel
theorem d_PD_scrub_127 : decode b_PD_scrub 127 = .ok (.goto (-123), 3) := by decide +kernel
theorem d_PD_scrub_130 : decode b_PD_scrub 130 = .ok (.iload_n 1, 1) := by decide +kernel
theorem d_PD_scrub_131 : decode b_PD_scrub 131 = .ok (.ireturn, 1) := by decide +kernel
theorem d_PD_state_0 : decode b_PD_state 0 = .ok (.iload_n 1, 1) := by decide +kernel
theorem d_PD_state_1 : decode b_PD_state 1 = .ok (.invokestatic 58, 3) := by decide +kernel
theorem d_PD_state_4 : decode b_PD_state 4 = .ok (.invokestatic 38, 3) := by decide +kernel
theorem d_PD_state_7 : decode b_PD_state 7 = .ok (.aload_n 0, 1) := by decide +kernel
theorem d_PD_state_8 : decode b_PD_state 8 = .ok (.getfield 11, 3) := by decide +kernel
theorem d_PD_state_11 : decode b_PD_state 11 = .ok (.iload_n 1, 1) := by decide +kernel
theorem d_PD_state_12 : decode b_PD_state 12 = .ok (.aaload, 1) := by decide +kernel
theorem d_PD_state_13 : decode b_PD_state 13 = .ok (.invokevirtual 81, 3) := by decide +kernel
theorem d_PD_state_16 : decode b_PD_state 16 = .ok (.ireturn, 1) := by decide +kernel
theorem d_PD_lost_0 : decode b_PD_lost 0 = .ok (.iconst 0, 1) := by decide +kernel
theorem d_PD_lost_1 : decode b_PD_lost 1 = .ok (.istore_n 1, 1) := by decide +kernel
theorem d_PD_lost_2 : decode b_PD_lost 2 = .ok (.iconst 0, 1) := by decide +kernel
theorem d_PD_lost_3 : decode b_PD_lost 3 = .ok (.istore_n 2, 1) := by decide +kernel
theorem d_PD_lost_4 : decode b_PD_lost 4 = .ok (.iload_n 2, 1) := by decide +kernel
theorem d_PD_lost_5 : decode b_PD_lost 5 = .ok (.sipush 400, 3) := by decide +kernel
theorem d_PD_lost_8 : decode b_PD_lost 8 = .ok (.if_icmp .ge 30, 3) := by decide +kernel
theorem d_PD_lost_11 : decode b_PD_lost 11 = .ok (.iload_n 2, 1) := by decide +kernel
theorem d_PD_lost_12 : decode b_PD_lost 12 = .ok (.invokestatic 42, 3) := by decide +kernel
theorem d_PD_lost_15 : decode b_PD_lost 15 = .ok (.aload_n 0, 1) := by decide +kernel
theorem d_PD_lost_16 : decode b_PD_lost 16 = .ok (.iload_n 2, 1) := by decide +kernel
theorem d_PD_lost_17 : decode b_PD_lost 17 = .ok (.invokestatic 19, 3) := by decide +kernel
theorem d_PD_lost_20 : decode b_PD_lost 20 = .ok (.invokevirtual 45, 3) := by decide +kernel
theorem d_PD_lost_23 : decode b_PD_lost 23 = .ok (.invokestatic 48, 3) := by decide +kernel
theorem d_PD_lost_26 : decode b_PD_lost 26 = .ok (.ifCond .eq 6, 3) := by decide +kernel
theorem d_PD_lost_29 : decode b_PD_lost 29 = .ok (.iinc 1 1, 3) := by decide +kernel
theorem d_PD_lost_32 : decode b_PD_lost 32 = .ok (.iinc 2 1, 3) := by decide +kernel
theorem d_PD_lost_35 : decode b_PD_lost 35 = .ok (.goto (-31), 3) := by decide +kernel
theorem d_PD_lost_38 : decode b_PD_lost 38 = .ok (.iload_n 1, 1) := by decide +kernel
theorem d_PD_lost_39 : decode b_PD_lost 39 = .ok (.ireturn, 1) := by decide +kernel
theorem d_MO_init_0 : decode b_MO_init 0 = .ok (.aload_n 0, 1) := by decide +kernel
theorem d_MO_init_1 : decode b_MO_init 1 = .ok (.invokespecial 1, 3) := by decide +kernel
theorem d_MO_init_4 : decode b_MO_init 4 = .ok (.aload_n 0, 1) := by decide +kernel
theorem d_MO_init_5 : decode b_MO_init 5 = .ok (.sipush 1000, 3) := by decide +kernel
theorem d_MO_init_8 : decode b_MO_init 8 = .ok (.newarray .long, 2) := by decide +kernel
theorem d_MO_init_10 : decode b_MO_init 10 = .ok (.putfield 7, 3) := by decide +kernel
theorem d_MO_init_13 : decode b_MO_init 13 = .ok (.aload_n 0, 1) := by decide +kernel
theorem d_MO_init_14 : decode b_MO_init 14 = .ok (.iconst 5, 1) := by decide +kernel
theorem d_MO_init_15 : decode b_MO_init 15 = .ok (.newarray .int, 2) := by decide +kernel
theorem d_MO_init_17 : decode b_MO_init 17 = .ok (.putfield 13, 3) := by decide +kernel
theorem d_MO_init_20 : decode b_MO_init 20 = .ok (.iconst 0, 1) := by decide +kernel
theorem d_MO_init_21 : decode b_MO_init 21 = .ok (.istore_n 1, 1) := by decide +kernel
theorem d_MO_init_22 : decode b_MO_init 22 = .ok (.iload_n 1, 1) := by decide +kernel
theorem d_MO_init_23 : decode b_MO_init 23 = .ok (.iconst 5, 1) := by decide +kernel
theorem d_MO_init_24 : decode b_MO_init 24 = .ok (.if_icmp .ge 17, 3) := by decide +kernel
theorem d_MO_init_27 : decode b_MO_init 27 = .ok (.aload_n 0, 1) := by decide +kernel
theorem d_MO_init_28 : decode b_MO_init 28 = .ok (.getfield 13, 3) := by decide +kernel
theorem d_MO_init_31 : decode b_MO_init 31 = .ok (.iload_n 1, 1) := by decide +kernel
theorem d_MO_init_32 : decode b_MO_init 32 = .ok (.bipush 100, 2) := by decide +kernel
theorem d_MO_init_34 : decode b_MO_init 34 = .ok (.iastore, 1) := by decide +kernel
theorem d_MO_init_35 : decode b_MO_init 35 = .ok (.iinc 1 1, 3) := by decide +kernel
theorem d_MO_init_38 : decode b_MO_init 38 = .ok (.goto (-16), 3) := by decide +kernel
theorem d_MO_init_41 : decode b_MO_init 41 = .ok (.return_, 1) := by decide +kernel
theorem d_MO_thrown_0 : decode b_MO_thrown 0 = .ok (.aload_n 0, 1) := by decide +kernel
theorem d_MO_thrown_1 : decode b_MO_thrown 1 = .ok (.getfield 17, 3) := by decide +kernel
theorem d_MO_thrown_4 : decode b_MO_thrown 4 = .ok (.ireturn, 1) := by decide +kernel
theorem d_MO_fails_0 : decode b_MO_fails 0 = .ok (.aload_n 0, 1) := by decide +kernel
theorem d_MO_fails_1 : decode b_MO_fails 1 = .ok (.iload_n 1, 1) := by decide +kernel
theorem d_MO_fails_2 : decode b_MO_fails 2 = .ok (.ifCond .eq 7, 3) := by decide +kernel
theorem d_MO_fails_5 : decode b_MO_fails 5 = .ok (.iload_n 2, 1) := by decide +kernel
theorem d_MO_fails_6 : decode b_MO_fails 6 = .ok (.goto 4, 3) := by decide +kernel
theorem d_MO_fails_9 : decode b_MO_fails 9 = .ok (.iconst 0, 1) := by decide +kernel
theorem d_MO_fails_10 : decode b_MO_fails 10 = .ok (.putfield 17, 3) := by decide +kernel
theorem d_MO_fails_13 : decode b_MO_fails 13 = .ok (.iload_n 1, 1) := by decide +kernel
theorem d_MO_fails_14 : decode b_MO_fails 14 = .ok (.ireturn, 1) := by decide +kernel
theorem d_MO_at_0 : decode b_MO_at 0 = .ok (.iload_n 0, 1) := by decide +kernel
theorem d_MO_at_1 : decode b_MO_at 1 = .ok (.bipush 100, 2) := by decide +kernel
theorem d_MO_at_3 : decode b_MO_at 3 = .ok (.imul, 1) := by decide +kernel
theorem d_MO_at_4 : decode b_MO_at 4 = .ok (.iload_n 1, 1) := by decide +kernel
theorem d_MO_at_5 : decode b_MO_at 5 = .ok (.iadd, 1) := by decide +kernel
theorem d_MO_at_6 : decode b_MO_at 6 = .ok (.iconst 2, 1) := by decide +kernel
theorem d_MO_at_7 : decode b_MO_at 7 = .ok (.imul, 1) := by decide +kernel
theorem d_MO_at_8 : decode b_MO_at 8 = .ok (.iload_n 2, 1) := by decide +kernel
theorem d_MO_at_9 : decode b_MO_at 9 = .ok (.iadd, 1) := by decide +kernel
theorem d_MO_at_10 : decode b_MO_at 10 = .ok (.ireturn, 1) := by decide +kernel
theorem d_MO_usable_0 : decode b_MO_usable 0 = .ok (.aload_n 0, 1) := by decide +kernel
theorem d_MO_usable_1 : decode b_MO_usable 1 = .ok (.getfield 13, 3) := by decide +kernel
theorem d_MO_usable_4 : decode b_MO_usable 4 = .ok (.iload_n 1, 1) := by decide +kernel
theorem d_MO_usable_5 : decode b_MO_usable 5 = .ok (.iaload, 1) := by decide +kernel
theorem d_MO_usable_6 : decode b_MO_usable 6 = .ok (.iload_n 2, 1) := by decide +kernel
theorem d_MO_usable_7 : decode b_MO_usable 7 = .ok (.if_icmp .le 7, 3) := by decide +kernel
theorem d_MO_usable_10 : decode b_MO_usable 10 = .ok (.iconst 1, 1) := by decide +kernel
theorem d_MO_usable_11 : decode b_MO_usable 11 = .ok (.goto 4, 3) := by decide +kernel
theorem d_MO_usable_14 : decode b_MO_usable 14 = .ok (.iconst 0, 1) := by decide +kernel
theorem d_MO_usable_15 : decode b_MO_usable 15 = .ok (.ireturn, 1) := by decide +kernel
theorem d_MO_gone_0 : decode b_MO_gone 0 = .ok (.aload_n 0, 1) := by decide +kernel
theorem d_MO_gone_1 : decode b_MO_gone 1 = .ok (.iload_n 1, 1) := by decide +kernel
theorem d_MO_gone_2 : decode b_MO_gone 2 = .ok (.iload_n 2, 1) := by decide +kernel
theorem d_MO_gone_3 : decode b_MO_gone 3 = .ok (.invokevirtual 21, 3) := by decide +kernel
theorem d_MO_gone_6 : decode b_MO_gone 6 = .ok (.ifCond .eq 5, 3) := by decide +kernel
theorem d_MO_gone_9 : decode b_MO_gone 9 = .ok (.iconst 0, 1) := by decide +kernel
theorem d_MO_gone_10 : decode b_MO_gone 10 = .ok (.ireturn, 1) := by decide +kernel
theorem d_MO_gone_11 : decode b_MO_gone 11 = .ok (.iconst 0, 1) := by decide +kernel
theorem d_MO_gone_12 : decode b_MO_gone 12 = .ok (.istore_n 3, 1) := by decide +kernel
theorem d_MO_gone_13 : decode b_MO_gone 13 = .ok (.iload_n 3, 1) := by decide +kernel
theorem d_MO_gone_14 : decode b_MO_gone 14 = .ok (.iconst 5, 1) := by decide +kernel
theorem d_MO_gone_15 : decode b_MO_gone 15 = .ok (.if_icmp .ge 25, 3) := by decide +kernel
theorem d_MO_gone_18 : decode b_MO_gone 18 = .ok (.iload_n 3, 1) := by decide +kernel
theorem d_MO_gone_19 : decode b_MO_gone 19 = .ok (.iload_n 1, 1) := by decide +kernel
theorem d_MO_gone_20 : decode b_MO_gone 20 = .ok (.if_icmp .eq 14, 3) := by decide +kernel
theorem d_MO_gone_23 : decode b_MO_gone 23 = .ok (.aload_n 0, 1) := by decide +kernel
theorem d_MO_gone_24 : decode b_MO_gone 24 = .ok (.iload_n 3, 1) := by decide +kernel
theorem d_MO_gone_25 : decode b_MO_gone 25 = .ok (.iload_n 2, 1) := by decide +kernel
theorem d_MO_gone_26 : decode b_MO_gone 26 = .ok (.invokevirtual 21, 3) := by decide +kernel
theorem d_MO_gone_29 : decode b_MO_gone 29 = .ok (.ifCond .ne 5, 3) := by decide +kernel
theorem d_MO_gone_32 : decode b_MO_gone 32 = .ok (.iconst 1, 1) := by decide +kernel
theorem d_MO_gone_33 : decode b_MO_gone 33 = .ok (.ireturn, 1) := by decide +kernel
theorem d_MO_gone_34 : decode b_MO_gone 34 = .ok (.iinc 3 1, 3) := by decide +kernel
theorem d_MO_gone_37 : decode b_MO_gone 37 = .ok (.goto (-24), 3) := by decide +kernel
theorem d_MO_gone_40 : decode b_MO_gone 40 = .ok (.iconst 0, 1) := by decide +kernel
theorem d_MO_gone_41 : decode b_MO_gone 41 = .ok (.ireturn, 1) := by decide +kernel
theorem d_MO_others_0 : decode b_MO_others 0 = .ok (.lconst 0, 1) := by decide +kernel
theorem d_MO_others_1 : decode b_MO_others 1 = .ok (.lstore 4, 2) := by decide +kernel
theorem d_MO_others_3 : decode b_MO_others 3 = .ok (.iconst 0, 1) := by decide +kernel
theorem d_MO_others_4 : decode b_MO_others 4 = .ok (.istore 6, 2) := by decide +kernel
theorem d_MO_others_6 : decode b_MO_others 6 = .ok (.iload 6, 2) := by decide +kernel
theorem d_MO_others_8 : decode b_MO_others 8 = .ok (.iconst 5, 1) := by decide +kernel
theorem d_MO_others_9 : decode b_MO_others 9 = .ok (.if_icmp .ge 32, 3) := by decide +kernel
theorem d_MO_others_12 : decode b_MO_others 12 = .ok (.iload 6, 2) := by decide +kernel
theorem d_MO_others_14 : decode b_MO_others 14 = .ok (.iload_n 1, 1) := by decide +kernel
theorem d_MO_others_15 : decode b_MO_others 15 = .ok (.if_icmp .eq 20, 3) := by decide +kernel
theorem d_MO_others_18 : decode b_MO_others 18 = .ok (.lload 4, 2) := by decide +kernel
theorem d_MO_others_20 : decode b_MO_others 20 = .ok (.aload_n 0, 1) := by decide +kernel
theorem d_MO_others_21 : decode b_MO_others 21 = .ok (.getfield 7, 3) := by decide +kernel
theorem d_MO_others_24 : decode b_MO_others 24 = .ok (.iload 6, 2) := by decide +kernel
theorem d_MO_others_26 : decode b_MO_others 26 = .ok (.iload_n 2, 1) := by decide +kernel
theorem d_MO_others_27 : decode b_MO_others 27 = .ok (.iload_n 3, 1) := by decide +kernel
theorem d_MO_others_28 : decode b_MO_others 28 = .ok (.invokestatic 25, 3) := by decide +kernel
theorem d_MO_others_31 : decode b_MO_others 31 = .ok (.laload, 1) := by decide +kernel
theorem d_MO_others_32 : decode b_MO_others 32 = .ok (.lxor, 1) := by decide +kernel
theorem d_MO_others_33 : decode b_MO_others 33 = .ok (.lstore 4, 2) := by decide +kernel
theorem d_MO_others_35 : decode b_MO_others 35 = .ok (.iinc 6 1, 3) := by decide +kernel
theorem d_MO_others_38 : decode b_MO_others 38 = .ok (.goto (-32), 3) := by decide +kernel
theorem d_MO_others_41 : decode b_MO_others 41 = .ok (.lload 4, 2) := by decide +kernel
theorem d_MO_others_43 : decode b_MO_others 43 = .ok (.lreturn, 1) := by decide +kernel
theorem d_MO_has_0 : decode b_MO_has 0 = .ok (.aload_n 0, 1) := by decide +kernel
theorem d_MO_has_1 : decode b_MO_has 1 = .ok (.iload_n 1, 1) := by decide +kernel
theorem d_MO_has_2 : decode b_MO_has 2 = .ok (.iload_n 2, 1) := by decide +kernel
theorem d_MO_has_3 : decode b_MO_has 3 = .ok (.invokevirtual 21, 3) := by decide +kernel
theorem d_MO_has_6 : decode b_MO_has 6 = .ok (.ifCond .eq 17, 3) := by decide +kernel
theorem d_MO_has_9 : decode b_MO_has 9 = .ok (.aload_n 0, 1) := by decide +kernel
theorem d_MO_has_10 : decode b_MO_has 10 = .ok (.getfield 7, 3) := by decide +kernel
theorem d_MO_has_13 : decode b_MO_has 13 = .ok (.iload_n 1, 1) := by decide +kernel
theorem d_MO_has_14 : decode b_MO_has 14 = .ok (.iload_n 2, 1) := by decide +kernel
theorem d_MO_has_15 : decode b_MO_has 15 = .ok (.iload_n 3, 1) := by decide +kernel
theorem d_MO_has_16 : decode b_MO_has 16 = .ok (.invokestatic 25, 3) := by decide +kernel
theorem d_MO_has_19 : decode b_MO_has 19 = .ok (.laload, 1) := by decide +kernel
theorem d_MO_has_20 : decode b_MO_has 20 = .ok (.goto 10, 3) := by decide +kernel
theorem d_MO_has_23 : decode b_MO_has 23 = .ok (.aload_n 0, 1) := by decide +kernel
theorem d_MO_has_24 : decode b_MO_has 24 = .ok (.iload_n 1, 1) := by decide +kernel
theorem d_MO_has_25 : decode b_MO_has 25 = .ok (.iload_n 2, 1) := by decide +kernel
theorem d_MO_has_26 : decode b_MO_has 26 = .ok (.iload_n 3, 1) := by decide +kernel
theorem d_MO_has_27 : decode b_MO_has 27 = .ok (.invokevirtual 29, 3) := by decide +kernel
theorem d_MO_has_30 : decode b_MO_has 30 = .ok (.lreturn, 1) := by decide +kernel
theorem d_MO_disk_0 : decode b_MO_disk 0 = .ok (.iload_n 0, 1) := by decide +kernel
theorem d_MO_disk_1 : decode b_MO_disk 1 = .ok (.iconst 4, 1) := by decide +kernel
theorem d_MO_disk_2 : decode b_MO_disk 2 = .ok (.irem, 1) := by decide +kernel
theorem d_MO_disk_3 : decode b_MO_disk 3 = .ok (.istore_n 1, 1) := by decide +kernel
theorem d_MO_disk_4 : decode b_MO_disk 4 = .ok (.iload_n 0, 1) := by decide +kernel
theorem d_MO_disk_5 : decode b_MO_disk 5 = .ok (.iconst 4, 1) := by decide +kernel
theorem d_MO_disk_6 : decode b_MO_disk 6 = .ok (.idiv, 1) := by decide +kernel
theorem d_MO_disk_7 : decode b_MO_disk 7 = .ok (.iconst 5, 1) := by decide +kernel
theorem d_MO_disk_8 : decode b_MO_disk 8 = .ok (.irem, 1) := by decide +kernel
theorem d_MO_disk_9 : decode b_MO_disk 9 = .ok (.istore_n 2, 1) := by decide +kernel
theorem d_MO_disk_10 : decode b_MO_disk 10 = .ok (.iload_n 1, 1) := by decide +kernel
theorem d_MO_disk_11 : decode b_MO_disk 11 = .ok (.iload_n 2, 1) := by decide +kernel
theorem d_MO_disk_12 : decode b_MO_disk 12 = .ok (.if_icmp .ge 7, 3) := by decide +kernel
theorem d_MO_disk_15 : decode b_MO_disk 15 = .ok (.iload_n 1, 1) := by decide +kernel
theorem d_MO_disk_16 : decode b_MO_disk 16 = .ok (.goto 6, 3) := by decide +kernel
theorem d_MO_disk_19 : decode b_MO_disk 19 = .ok (.iload_n 1, 1) := by decide +kernel
theorem d_MO_disk_20 : decode b_MO_disk 20 = .ok (.iconst 1, 1) := by decide +kernel
theorem d_MO_disk_21 : decode b_MO_disk 21 = .ok (.iadd, 1) := by decide +kernel
theorem d_MO_disk_22 : decode b_MO_disk 22 = .ok (.ireturn, 1) := by decide +kernel
theorem d_MO_noPlace_0 : decode b_MO_noPlace 0 = .ok (.iload_n 1, 1) := by decide +kernel
theorem d_MO_noPlace_1 : decode b_MO_noPlace 1 = .ok (.ifCond .lt 19, 3) := by decide +kernel
theorem d_MO_noPlace_4 : decode b_MO_noPlace 4 = .ok (.iload_n 1, 1) := by decide +kernel
theorem d_MO_noPlace_5 : decode b_MO_noPlace 5 = .ok (.sipush 400, 3) := by decide +kernel
theorem d_MO_noPlace_8 : decode b_MO_noPlace 8 = .ok (.if_icmp .ge 12, 3) := by decide +kernel
theorem d_MO_noPlace_11 : decode b_MO_noPlace 11 = .ok (.iload_n 2, 1) := by decide +kernel
theorem d_MO_noPlace_12 : decode b_MO_noPlace 12 = .ok (.ifCond .lt 8, 3) := by decide +kernel
theorem d_MO_noPlace_15 : decode b_MO_noPlace 15 = .ok (.iload_n 2, 1) := by decide +kernel
theorem d_MO_noPlace_16 : decode b_MO_noPlace 16 = .ok (.iconst 1, 1) := by decide +kernel
theorem d_MO_noPlace_17 : decode b_MO_noPlace 17 = .ok (.if_icmp .le 7, 3) := by decide +kernel
theorem d_MO_noPlace_20 : decode b_MO_noPlace 20 = .ok (.iconst 1, 1) := by decide +kernel
theorem d_MO_noPlace_21 : decode b_MO_noPlace 21 = .ok (.goto 4, 3) := by decide +kernel
theorem d_MO_noPlace_24 : decode b_MO_noPlace 24 = .ok (.iconst 0, 1) := by decide +kernel
theorem d_MO_noPlace_25 : decode b_MO_noPlace 25 = .ok (.ireturn, 1) := by decide +kernel
theorem d_MO_read_0 : decode b_MO_read 0 = .ok (.aload_n 0, 1) := by decide +kernel
theorem d_MO_read_1 : decode b_MO_read 1 = .ok (.aload_n 0, 1) := by decide +kernel
theorem d_MO_read_2 : decode b_MO_read 2 = .ok (.iload_n 1, 1) := by decide +kernel
theorem d_MO_read_3 : decode b_MO_read 3 = .ok (.iload_n 2, 1) := by decide +kernel
theorem d_MO_read_4 : decode b_MO_read 4 = .ok (.invokevirtual 33, 3) := by decide +kernel
theorem d_MO_read_7 : decode b_MO_read 7 = .ok (.iconst 1, 1) := by decide +kernel
theorem d_MO_read_8 : decode b_MO_read 8 = .ok (.invokevirtual 36, 3) := by decide +kernel
theorem d_MO_read_11 : decode b_MO_read 11 = .ok (.ifCond .eq 5, 3) := by decide +kernel
theorem d_MO_read_14 : decode b_MO_read 14 = .ok (.lconst 0, 1) := by decide +kernel
theorem d_MO_read_15 : decode b_MO_read 15 = .ok (.lreturn, 1) := by decide +kernel
theorem d_MO_read_16 : decode b_MO_read 16 = .ok (.iload_n 1, 1) := by decide +kernel
theorem d_MO_read_17 : decode b_MO_read 17 = .ok (.invokestatic 40, 3) := by decide +kernel
theorem d_MO_read_20 : decode b_MO_read 20 = .ok (.istore_n 3, 1) := by decide +kernel
theorem d_MO_read_21 : decode b_MO_read 21 = .ok (.iload_n 1, 1) := by decide +kernel
theorem d_MO_read_22 : decode b_MO_read 22 = .ok (.iconst 4, 1) := by decide +kernel
theorem d_MO_read_23 : decode b_MO_read 23 = .ok (.idiv, 1) := by decide +kernel
theorem d_MO_read_24 : decode b_MO_read 24 = .ok (.istore 4, 2) := by decide +kernel
theorem d_MO_read_26 : decode b_MO_read 26 = .ok (.aload_n 0, 1) := by decide +kernel
theorem d_MO_read_27 : decode b_MO_read 27 = .ok (.aload_n 0, 1) := by decide +kernel
theorem d_MO_read_28 : decode b_MO_read 28 = .ok (.iload_n 3, 1) := by decide +kernel
theorem d_MO_read_29 : decode b_MO_read 29 = .ok (.iload 4, 2) := by decide +kernel
theorem d_MO_read_31 : decode b_MO_read 31 = .ok (.invokevirtual 44, 3) := by decide +kernel
theorem d_MO_read_34 : decode b_MO_read 34 = .ok (.iconst 2, 1) := by decide +kernel
theorem d_MO_read_35 : decode b_MO_read 35 = .ok (.invokevirtual 36, 3) := by decide +kernel
theorem d_MO_read_38 : decode b_MO_read 38 = .ok (.ifCond .eq 7, 3) := by decide +kernel
theorem d_MO_read_41 : decode b_MO_read 41 = .ok (.lconst 0, 1) := by decide +kernel
theorem d_MO_read_42 : decode b_MO_read 42 = .ok (.goto 11, 3) := by decide +kernel
theorem d_MO_read_45 : decode b_MO_read 45 = .ok (.aload_n 0, 1) := by decide +kernel
theorem d_MO_read_46 : decode b_MO_read 46 = .ok (.iload_n 3, 1) := by decide +kernel
theorem d_MO_read_47 : decode b_MO_read 47 = .ok (.iload 4, 2) := by decide +kernel
theorem d_MO_read_49 : decode b_MO_read 49 = .ok (.iload_n 2, 1) := by decide +kernel
theorem d_MO_read_50 : decode b_MO_read 50 = .ok (.invokevirtual 47, 3) := by decide +kernel
theorem d_MO_read_53 : decode b_MO_read 53 = .ok (.lreturn, 1) := by decide +kernel
theorem d_MO_write_0 : decode b_MO_write 0 = .ok (.aload_n 0, 1) := by decide +kernel
theorem d_MO_write_1 : decode b_MO_write 1 = .ok (.aload_n 0, 1) := by decide +kernel
theorem d_MO_write_2 : decode b_MO_write 2 = .ok (.iload_n 1, 1) := by decide +kernel
theorem d_MO_write_3 : decode b_MO_write 3 = .ok (.iload_n 2, 1) := by decide +kernel
theorem d_MO_write_4 : decode b_MO_write 4 = .ok (.invokevirtual 33, 3) := by decide +kernel
theorem d_MO_write_7 : decode b_MO_write 7 = .ok (.iconst 1, 1) := by decide +kernel
theorem d_MO_write_8 : decode b_MO_write 8 = .ok (.invokevirtual 36, 3) := by decide +kernel
theorem d_MO_write_11 : decode b_MO_write 11 = .ok (.ifCond .eq 4, 3) := by decide +kernel
theorem d_MO_write_14 : decode b_MO_write 14 = .ok (.return_, 1) := by decide +kernel
theorem d_MO_write_15 : decode b_MO_write 15 = .ok (.iload_n 1, 1) := by decide +kernel
theorem d_MO_write_16 : decode b_MO_write 16 = .ok (.invokestatic 40, 3) := by decide +kernel
theorem d_MO_write_19 : decode b_MO_write 19 = .ok (.istore 5, 2) := by decide +kernel
theorem d_MO_write_21 : decode b_MO_write 21 = .ok (.iload_n 1, 1) := by decide +kernel
theorem d_MO_write_22 : decode b_MO_write 22 = .ok (.iconst 4, 1) := by decide +kernel
theorem d_MO_write_23 : decode b_MO_write 23 = .ok (.idiv, 1) := by decide +kernel
theorem d_MO_write_24 : decode b_MO_write 24 = .ok (.istore 6, 2) := by decide +kernel
theorem d_MO_write_26 : decode b_MO_write 26 = .ok (.iload 6, 2) := by decide +kernel
theorem d_MO_write_28 : decode b_MO_write 28 = .ok (.iconst 5, 1) := by decide +kernel
theorem d_MO_write_29 : decode b_MO_write 29 = .ok (.irem, 1) := by decide +kernel
theorem d_MO_write_30 : decode b_MO_write 30 = .ok (.istore 7, 2) := by decide +kernel
theorem d_MO_write_32 : decode b_MO_write 32 = .ok (.aload_n 0, 1) := by decide +kernel
theorem d_MO_write_33 : decode b_MO_write 33 = .ok (.aload_n 0, 1) := by decide +kernel
theorem d_MO_write_34 : decode b_MO_write 34 = .ok (.iload 5, 2) := by decide +kernel
theorem d_MO_write_36 : decode b_MO_write 36 = .ok (.iload 6, 2) := by decide +kernel
theorem d_MO_write_38 : decode b_MO_write 38 = .ok (.invokevirtual 44, 3) := by decide +kernel
theorem d_MO_write_41 : decode b_MO_write 41 = .ok (.ifCond .ne 25, 3) := by decide +kernel
theorem d_MO_write_44 : decode b_MO_write 44 = .ok (.aload_n 0, 1) := by decide +kernel
theorem d_MO_write_45 : decode b_MO_write 45 = .ok (.iload 5, 2) := by decide +kernel
theorem d_MO_write_47 : decode b_MO_write 47 = .ok (.iload 6, 2) := by decide +kernel
theorem d_MO_write_49 : decode b_MO_write 49 = .ok (.invokevirtual 21, 3) := by decide +kernel
theorem d_MO_write_52 : decode b_MO_write 52 = .ok (.ifCond .ne 18, 3) := by decide +kernel
theorem d_MO_write_55 : decode b_MO_write 55 = .ok (.aload_n 0, 1) := by decide +kernel
theorem d_MO_write_56 : decode b_MO_write 56 = .ok (.iload 7, 2) := by decide +kernel
theorem d_MO_write_58 : decode b_MO_write 58 = .ok (.iload 6, 2) := by decide +kernel
theorem d_MO_write_60 : decode b_MO_write 60 = .ok (.invokevirtual 21, 3) := by decide +kernel
theorem d_MO_write_63 : decode b_MO_write 63 = .ok (.ifCond .ne 7, 3) := by decide +kernel
theorem d_MO_write_66 : decode b_MO_write 66 = .ok (.iconst 1, 1) := by decide +kernel
theorem d_MO_write_67 : decode b_MO_write 67 = .ok (.goto 4, 3) := by decide +kernel
theorem d_MO_write_70 : decode b_MO_write 70 = .ok (.iconst 0, 1) := by decide +kernel
theorem d_MO_write_71 : decode b_MO_write 71 = .ok (.iconst 2, 1) := by decide +kernel
theorem d_MO_write_72 : decode b_MO_write 72 = .ok (.invokevirtual 36, 3) := by decide +kernel
theorem d_MO_write_75 : decode b_MO_write 75 = .ok (.ifCond .eq 4, 3) := by decide +kernel
theorem d_MO_write_78 : decode b_MO_write 78 = .ok (.return_, 1) := by decide +kernel
theorem d_MO_write_79 : decode b_MO_write 79 = .ok (.aload_n 0, 1) := by decide +kernel
theorem d_MO_write_80 : decode b_MO_write 80 = .ok (.iload 5, 2) := by decide +kernel
theorem d_MO_write_82 : decode b_MO_write 82 = .ok (.iload 6, 2) := by decide +kernel
theorem d_MO_write_84 : decode b_MO_write 84 = .ok (.iload_n 2, 1) := by decide +kernel
theorem d_MO_write_85 : decode b_MO_write 85 = .ok (.invokevirtual 47, 3) := by decide +kernel
theorem d_MO_write_88 : decode b_MO_write 88 = .ok (.lstore 8, 2) := by decide +kernel
theorem d_MO_write_90 : decode b_MO_write 90 = .ok (.aload_n 0, 1) := by decide +kernel
theorem d_MO_write_91 : decode b_MO_write 91 = .ok (.iload 7, 2) := by decide +kernel
theorem d_MO_write_93 : decode b_MO_write 93 = .ok (.iload 6, 2) := by decide +kernel
theorem d_MO_write_95 : decode b_MO_write 95 = .ok (.invokevirtual 21, 3) := by decide +kernel
theorem d_MO_write_98 : decode b_MO_write 98 = .ok (.ifCond .eq 23, 3) := by decide +kernel
theorem d_MO_write_101 : decode b_MO_write 101 = .ok (.aload_n 0, 1) := by decide +kernel
theorem d_MO_write_102 : decode b_MO_write 102 = .ok (.getfield 7, 3) := by decide +kernel
theorem d_MO_write_105 : decode b_MO_write 105 = .ok (.iload 7, 2) := by decide +kernel
theorem d_MO_write_107 : decode b_MO_write 107 = .ok (.iload 6, 2) := by decide +kernel
theorem d_MO_write_109 : decode b_MO_write 109 = .ok (.iload_n 2, 1) := by decide +kernel
theorem d_MO_write_110 : decode b_MO_write 110 = .ok (.invokestatic 25, 3) := by decide +kernel
theorem d_MO_write_113 : decode b_MO_write 113 = .ok (.dup2, 1) := by decide +kernel
theorem d_MO_write_114 : decode b_MO_write 114 = .ok (.laload, 1) := by decide +kernel
theorem d_MO_write_115 : decode b_MO_write 115 = .ok (.lload 8, 2) := by decide +kernel
theorem d_MO_write_117 : decode b_MO_write 117 = .ok (.lload_n 3, 1) := by decide +kernel
theorem d_MO_write_118 : decode b_MO_write 118 = .ok (.lxor, 1) := by decide +kernel
theorem d_MO_write_119 : decode b_MO_write 119 = .ok (.lxor, 1) := by decide +kernel
theorem d_MO_write_120 : decode b_MO_write 120 = .ok (.lastore, 1) := by decide +kernel
theorem d_MO_write_121 : decode b_MO_write 121 = .ok (.aload_n 0, 1) := by decide +kernel
theorem d_MO_write_122 : decode b_MO_write 122 = .ok (.iload 5, 2) := by decide +kernel
theorem d_MO_write_124 : decode b_MO_write 124 = .ok (.iload 6, 2) := by decide +kernel
theorem d_MO_write_126 : decode b_MO_write 126 = .ok (.invokevirtual 21, 3) := by decide +kernel
theorem d_MO_write_129 : decode b_MO_write 129 = .ok (.ifCond .eq 17, 3) := by decide +kernel
theorem d_MO_write_132 : decode b_MO_write 132 = .ok (.aload_n 0, 1) := by decide +kernel
theorem d_MO_write_133 : decode b_MO_write 133 = .ok (.getfield 7, 3) := by decide +kernel
theorem d_MO_write_136 : decode b_MO_write 136 = .ok (.iload 5, 2) := by decide +kernel
theorem d_MO_write_138 : decode b_MO_write 138 = .ok (.iload 6, 2) := by decide +kernel
theorem d_MO_write_140 : decode b_MO_write 140 = .ok (.iload_n 2, 1) := by decide +kernel
theorem d_MO_write_141 : decode b_MO_write 141 = .ok (.invokestatic 25, 3) := by decide +kernel
theorem d_MO_write_144 : decode b_MO_write 144 = .ok (.lload_n 3, 1) := by decide +kernel
theorem d_MO_write_145 : decode b_MO_write 145 = .ok (.lastore, 1) := by decide +kernel
theorem d_MO_write_146 : decode b_MO_write 146 = .ok (.return_, 1) := by decide +kernel
theorem d_MO_none_0 : decode b_MO_none 0 = .ok (.iload_n 0, 1) := by decide +kernel
theorem d_MO_none_1 : decode b_MO_none 1 = .ok (.ifCond .lt 8, 3) := by decide +kernel
theorem d_MO_none_4 : decode b_MO_none 4 = .ok (.iload_n 0, 1) := by decide +kernel
theorem d_MO_none_5 : decode b_MO_none 5 = .ok (.iconst 5, 1) := by decide +kernel
theorem d_MO_none_6 : decode b_MO_none 6 = .ok (.if_icmp .lt 7, 3) := by decide +kernel
theorem d_MO_none_9 : decode b_MO_none 9 = .ok (.iconst 1, 1) := by decide +kernel
theorem d_MO_none_10 : decode b_MO_none 10 = .ok (.goto 4, 3) := by decide +kernel
theorem d_MO_none_13 : decode b_MO_none 13 = .ok (.iconst 0, 1) := by decide +kernel
theorem d_MO_none_14 : decode b_MO_none 14 = .ok (.ireturn, 1) := by decide +kernel
theorem d_MO_fail_0 : decode b_MO_fail 0 = .ok (.aload_n 0, 1) := by decide +kernel
theorem d_MO_fail_1 : decode b_MO_fail 1 = .ok (.iload_n 1, 1) := by decide +kernel
theorem d_MO_fail_2 : decode b_MO_fail 2 = .ok (.invokestatic 50, 3) := by decide +kernel
theorem d_MO_fail_5 : decode b_MO_fail 5 = .ok (.iconst 1, 1) := by decide +kernel
theorem d_MO_fail_6 : decode b_MO_fail 6 = .ok (.invokevirtual 36, 3) := by decide +kernel
theorem d_MO_fail_9 : decode b_MO_fail 9 = .ok (.ifCond .eq 4, 3) := by decide +kernel
theorem d_MO_fail_12 : decode b_MO_fail 12 = .ok (.return_, 1) := by decide +kernel
theorem d_MO_fail_13 : decode b_MO_fail 13 = .ok (.aload_n 0, 1) := by decide +kernel
theorem d_MO_fail_14 : decode b_MO_fail 14 = .ok (.getfield 13, 3) := by decide +kernel
theorem d_MO_fail_17 : decode b_MO_fail 17 = .ok (.iload_n 1, 1) := by decide +kernel
theorem d_MO_fail_18 : decode b_MO_fail 18 = .ok (.iconst (-1), 1) := by decide +kernel
theorem d_MO_fail_19 : decode b_MO_fail 19 = .ok (.iastore, 1) := by decide +kernel
theorem d_MO_fail_20 : decode b_MO_fail 20 = .ok (.return_, 1) := by decide +kernel
theorem d_MO_replace_0 : decode b_MO_replace 0 = .ok (.aload_n 0, 1) := by decide +kernel
theorem d_MO_replace_1 : decode b_MO_replace 1 = .ok (.iload_n 1, 1) := by decide +kernel
theorem d_MO_replace_2 : decode b_MO_replace 2 = .ok (.invokestatic 50, 3) := by decide +kernel
theorem d_MO_replace_5 : decode b_MO_replace 5 = .ok (.iconst 1, 1) := by decide +kernel
theorem d_MO_replace_6 : decode b_MO_replace 6 = .ok (.invokevirtual 36, 3) := by decide +kernel
theorem d_MO_replace_9 : decode b_MO_replace 9 = .ok (.ifCond .eq 4, 3) := by decide +kernel
theorem d_MO_replace_12 : decode b_MO_replace 12 = .ok (.return_, 1) := by decide +kernel
theorem d_MO_replace_13 : decode b_MO_replace 13 = .ok (.aload_n 0, 1) := by decide +kernel
theorem d_MO_replace_14 : decode b_MO_replace 14 = .ok (.aload_n 0, 1) := by decide +kernel
theorem d_MO_replace_15 : decode b_MO_replace 15 = .ok (.getfield 13, 3) := by decide +kernel
theorem d_MO_replace_18 : decode b_MO_replace 18 = .ok (.iload_n 1, 1) := by decide +kernel
theorem d_MO_replace_19 : decode b_MO_replace 19 = .ok (.iaload, 1) := by decide +kernel
theorem d_MO_replace_20 : decode b_MO_replace 20 = .ok (.ifCond .lt 7, 3) := by decide +kernel
theorem d_MO_replace_23 : decode b_MO_replace 23 = .ok (.iconst 1, 1) := by decide +kernel
theorem d_MO_replace_24 : decode b_MO_replace 24 = .ok (.goto 4, 3) := by decide +kernel
theorem d_MO_replace_27 : decode b_MO_replace 27 = .ok (.iconst 0, 1) := by decide +kernel
theorem d_MO_replace_28 : decode b_MO_replace 28 = .ok (.iconst 2, 1) := by decide +kernel
theorem d_MO_replace_29 : decode b_MO_replace 29 = .ok (.invokevirtual 36, 3) := by decide +kernel
theorem d_MO_replace_32 : decode b_MO_replace 32 = .ok (.ifCond .eq 4, 3) := by decide +kernel
theorem d_MO_replace_35 : decode b_MO_replace 35 = .ok (.return_, 1) := by decide +kernel
theorem d_MO_replace_36 : decode b_MO_replace 36 = .ok (.aload_n 0, 1) := by decide +kernel
theorem d_MO_replace_37 : decode b_MO_replace 37 = .ok (.getfield 13, 3) := by decide +kernel
theorem d_MO_replace_40 : decode b_MO_replace 40 = .ok (.iload_n 1, 1) := by decide +kernel
theorem d_MO_replace_41 : decode b_MO_replace 41 = .ok (.iconst 0, 1) := by decide +kernel
theorem d_MO_replace_42 : decode b_MO_replace 42 = .ok (.iastore, 1) := by decide +kernel
theorem d_MO_replace_43 : decode b_MO_replace 43 = .ok (.iconst 0, 1) := by decide +kernel
theorem d_MO_replace_44 : decode b_MO_replace 44 = .ok (.istore_n 2, 1) := by decide +kernel
theorem d_MO_replace_45 : decode b_MO_replace 45 = .ok (.iload_n 2, 1) := by decide +kernel
theorem d_MO_replace_46 : decode b_MO_replace 46 = .ok (.bipush 100, 2) := by decide +kernel
theorem d_MO_replace_48 : decode b_MO_replace 48 = .ok (.if_icmp .ge 33, 3) := by decide +kernel
theorem d_MO_replace_51 : decode b_MO_replace 51 = .ok (.aload_n 0, 1) := by decide +kernel
theorem d_MO_replace_52 : decode b_MO_replace 52 = .ok (.getfield 7, 3) := by decide +kernel
theorem d_MO_replace_55 : decode b_MO_replace 55 = .ok (.iload_n 1, 1) := by decide +kernel
theorem d_MO_replace_56 : decode b_MO_replace 56 = .ok (.iload_n 2, 1) := by decide +kernel
theorem d_MO_replace_57 : decode b_MO_replace 57 = .ok (.iconst 0, 1) := by decide +kernel
theorem d_MO_replace_58 : decode b_MO_replace 58 = .ok (.invokestatic 25, 3) := by decide +kernel
theorem d_MO_replace_61 : decode b_MO_replace 61 = .ok (.lconst 0, 1) := by decide +kernel
theorem d_MO_replace_62 : decode b_MO_replace 62 = .ok (.lastore, 1) := by decide +kernel
theorem d_MO_replace_63 : decode b_MO_replace 63 = .ok (.aload_n 0, 1) := by decide +kernel
theorem d_MO_replace_64 : decode b_MO_replace 64 = .ok (.getfield 7, 3) := by decide +kernel
theorem d_MO_replace_67 : decode b_MO_replace 67 = .ok (.iload_n 1, 1) := by decide +kernel
theorem d_MO_replace_68 : decode b_MO_replace 68 = .ok (.iload_n 2, 1) := by decide +kernel
theorem d_MO_replace_69 : decode b_MO_replace 69 = .ok (.iconst 1, 1) := by decide +kernel
theorem d_MO_replace_70 : decode b_MO_replace 70 = .ok (.invokestatic 25, 3) := by decide +kernel
theorem d_MO_replace_73 : decode b_MO_replace 73 = .ok (.lconst 0, 1) := by decide +kernel
theorem d_MO_replace_74 : decode b_MO_replace 74 = .ok (.lastore, 1) := by decide +kernel
theorem d_MO_replace_75 : decode b_MO_replace 75 = .ok (.iinc 2 1, 3) := by decide +kernel
theorem d_MO_replace_78 : decode b_MO_replace 78 = .ok (.goto (-33), 3) := by decide +kernel
theorem d_MO_replace_81 : decode b_MO_replace 81 = .ok (.return_, 1) := by decide +kernel
theorem d_MO_rebuild_0 : decode b_MO_rebuild 0 = .ok (.aload_n 0, 1) := by decide +kernel
theorem d_MO_rebuild_1 : decode b_MO_rebuild 1 = .ok (.iload_n 1, 1) := by decide +kernel
theorem d_MO_rebuild_2 : decode b_MO_rebuild 2 = .ok (.invokestatic 50, 3) := by decide +kernel
theorem d_MO_rebuild_5 : decode b_MO_rebuild 5 = .ok (.ifCond .ne 7, 3) := by decide +kernel
theorem d_MO_rebuild_8 : decode b_MO_rebuild 8 = .ok (.iload_n 2, 1) := by decide +kernel
theorem d_MO_rebuild_9 : decode b_MO_rebuild 9 = .ok (.ifCond .ge 7, 3) := by decide +kernel
theorem d_MO_rebuild_12 : decode b_MO_rebuild 12 = .ok (.iconst 1, 1) := by decide +kernel
theorem d_MO_rebuild_13 : decode b_MO_rebuild 13 = .ok (.goto 4, 3) := by decide +kernel
theorem d_MO_rebuild_16 : decode b_MO_rebuild 16 = .ok (.iconst 0, 1) := by decide +kernel
theorem d_MO_rebuild_17 : decode b_MO_rebuild 17 = .ok (.iconst 1, 1) := by decide +kernel
theorem d_MO_rebuild_18 : decode b_MO_rebuild 18 = .ok (.invokevirtual 36, 3) := by decide +kernel
theorem d_MO_rebuild_21 : decode b_MO_rebuild 21 = .ok (.ifCond .eq 5, 3) := by decide +kernel
theorem d_MO_rebuild_24 : decode b_MO_rebuild 24 = .ok (.iconst 0, 1) := by decide +kernel
theorem d_MO_rebuild_25 : decode b_MO_rebuild 25 = .ok (.ireturn, 1) := by decide +kernel
theorem d_MO_rebuild_26 : decode b_MO_rebuild 26 = .ok (.aload_n 0, 1) := by decide +kernel
theorem d_MO_rebuild_27 : decode b_MO_rebuild 27 = .ok (.aload_n 0, 1) := by decide +kernel
theorem d_MO_rebuild_28 : decode b_MO_rebuild 28 = .ok (.getfield 13, 3) := by decide +kernel
theorem d_MO_rebuild_31 : decode b_MO_rebuild 31 = .ok (.iload_n 1, 1) := by decide +kernel
theorem d_MO_rebuild_32 : decode b_MO_rebuild 32 = .ok (.iaload, 1) := by decide +kernel
theorem d_MO_rebuild_33 : decode b_MO_rebuild 33 = .ok (.ifCond .lt 14, 3) := by decide +kernel
theorem d_MO_rebuild_36 : decode b_MO_rebuild 36 = .ok (.aload_n 0, 1) := by decide +kernel
theorem d_MO_rebuild_37 : decode b_MO_rebuild 37 = .ok (.getfield 13, 3) := by decide +kernel
theorem d_MO_rebuild_40 : decode b_MO_rebuild 40 = .ok (.iload_n 1, 1) := by decide +kernel
theorem d_MO_rebuild_41 : decode b_MO_rebuild 41 = .ok (.iaload, 1) := by decide +kernel
theorem d_MO_rebuild_42 : decode b_MO_rebuild 42 = .ok (.bipush 100, 2) := by decide +kernel
theorem d_MO_rebuild_44 : decode b_MO_rebuild 44 = .ok (.if_icmp .ne 7, 3) := by decide +kernel
theorem d_MO_rebuild_47 : decode b_MO_rebuild 47 = .ok (.iconst 1, 1) := by decide +kernel
theorem d_MO_rebuild_48 : decode b_MO_rebuild 48 = .ok (.goto 4, 3) := by decide +kernel
theorem d_MO_rebuild_51 : decode b_MO_rebuild 51 = .ok (.iconst 0, 1) := by decide +kernel
theorem d_MO_rebuild_52 : decode b_MO_rebuild 52 = .ok (.iconst 2, 1) := by decide +kernel
theorem d_MO_rebuild_53 : decode b_MO_rebuild 53 = .ok (.invokevirtual 36, 3) := by decide +kernel
theorem d_MO_rebuild_56 : decode b_MO_rebuild 56 = .ok (.ifCond .eq 5, 3) := by decide +kernel
theorem d_MO_rebuild_59 : decode b_MO_rebuild 59 = .ok (.iconst 0, 1) := by decide +kernel
theorem d_MO_rebuild_60 : decode b_MO_rebuild 60 = .ok (.ireturn, 1) := by decide +kernel
theorem d_MO_rebuild_61 : decode b_MO_rebuild 61 = .ok (.iconst 0, 1) := by decide +kernel
theorem d_MO_rebuild_62 : decode b_MO_rebuild 62 = .ok (.istore_n 3, 1) := by decide +kernel
theorem d_MO_rebuild_63 : decode b_MO_rebuild 63 = .ok (.iload_n 3, 1) := by decide +kernel
theorem d_MO_rebuild_64 : decode b_MO_rebuild 64 = .ok (.iload_n 2, 1) := by decide +kernel
theorem d_MO_rebuild_65 : decode b_MO_rebuild 65 = .ok (.if_icmp .ge 89, 3) := by decide +kernel
theorem d_MO_rebuild_68 : decode b_MO_rebuild 68 = .ok (.aload_n 0, 1) := by decide +kernel
theorem d_MO_rebuild_69 : decode b_MO_rebuild 69 = .ok (.getfield 13, 3) := by decide +kernel
theorem d_MO_rebuild_72 : decode b_MO_rebuild 72 = .ok (.iload_n 1, 1) := by decide +kernel
theorem d_MO_rebuild_73 : decode b_MO_rebuild 73 = .ok (.iaload, 1) := by decide +kernel
theorem d_MO_rebuild_74 : decode b_MO_rebuild 74 = .ok (.bipush 100, 2) := by decide +kernel
theorem d_MO_rebuild_76 : decode b_MO_rebuild 76 = .ok (.if_icmp .ge 78, 3) := by decide +kernel
theorem d_MO_rebuild_79 : decode b_MO_rebuild 79 = .ok (.aload_n 0, 1) := by decide +kernel
theorem d_MO_rebuild_80 : decode b_MO_rebuild 80 = .ok (.iload_n 1, 1) := by decide +kernel
theorem d_MO_rebuild_81 : decode b_MO_rebuild 81 = .ok (.aload_n 0, 1) := by decide +kernel
theorem d_MO_rebuild_82 : decode b_MO_rebuild 82 = .ok (.getfield 13, 3) := by decide +kernel
theorem d_MO_rebuild_85 : decode b_MO_rebuild 85 = .ok (.iload_n 1, 1) := by decide +kernel
theorem d_MO_rebuild_86 : decode b_MO_rebuild 86 = .ok (.iaload, 1) := by decide +kernel
theorem d_MO_rebuild_87 : decode b_MO_rebuild 87 = .ok (.invokevirtual 44, 3) := by decide +kernel
theorem d_MO_rebuild_90 : decode b_MO_rebuild 90 = .ok (.ifCond .ne 64, 3) := by decide +kernel
theorem d_MO_rebuild_93 : decode b_MO_rebuild 93 = .ok (.iconst 0, 1) := by decide +kernel
theorem d_MO_rebuild_94 : decode b_MO_rebuild 94 = .ok (.istore 4, 2) := by decide +kernel
theorem d_MO_rebuild_96 : decode b_MO_rebuild 96 = .ok (.iload 4, 2) := by decide +kernel
theorem d_MO_rebuild_98 : decode b_MO_rebuild 98 = .ok (.iconst 2, 1) := by decide +kernel
theorem d_MO_rebuild_99 : decode b_MO_rebuild 99 = .ok (.if_icmp .ge 39, 3) := by decide +kernel
theorem d_MO_rebuild_102 : decode b_MO_rebuild 102 = .ok (.aload_n 0, 1) := by decide +kernel
theorem d_MO_rebuild_103 : decode b_MO_rebuild 103 = .ok (.getfield 7, 3) := by decide +kernel
theorem d_MO_rebuild_106 : decode b_MO_rebuild 106 = .ok (.iload_n 1, 1) := by decide +kernel
theorem d_MO_rebuild_107 : decode b_MO_rebuild 107 = .ok (.aload_n 0, 1) := by decide +kernel
theorem d_MO_rebuild_108 : decode b_MO_rebuild 108 = .ok (.getfield 13, 3) := by decide +kernel
theorem d_MO_rebuild_111 : decode b_MO_rebuild 111 = .ok (.iload_n 1, 1) := by decide +kernel
theorem d_MO_rebuild_112 : decode b_MO_rebuild 112 = .ok (.iaload, 1) := by decide +kernel
theorem d_MO_rebuild_113 : decode b_MO_rebuild 113 = .ok (.iload 4, 2) := by decide +kernel
theorem d_MO_rebuild_115 : decode b_MO_rebuild 115 = .ok (.invokestatic 25, 3) := by decide +kernel
theorem d_MO_rebuild_118 : decode b_MO_rebuild 118 = .ok (.aload_n 0, 1) := by decide +kernel
theorem d_MO_rebuild_119 : decode b_MO_rebuild 119 = .ok (.iload_n 1, 1) := by decide +kernel
theorem d_MO_rebuild_120 : decode b_MO_rebuild 120 = .ok (.aload_n 0, 1) := by decide +kernel
theorem d_MO_rebuild_121 : decode b_MO_rebuild 121 = .ok (.getfield 13, 3) := by decide +kernel
theorem d_MO_rebuild_124 : decode b_MO_rebuild 124 = .ok (.iload_n 1, 1) := by decide +kernel
theorem d_MO_rebuild_125 : decode b_MO_rebuild 125 = .ok (.iaload, 1) := by decide +kernel
theorem d_MO_rebuild_126 : decode b_MO_rebuild 126 = .ok (.iload 4, 2) := by decide +kernel
theorem d_MO_rebuild_128 : decode b_MO_rebuild 128 = .ok (.invokevirtual 29, 3) := by decide +kernel
theorem d_MO_rebuild_131 : decode b_MO_rebuild 131 = .ok (.lastore, 1) := by decide +kernel
theorem d_MO_rebuild_132 : decode b_MO_rebuild 132 = .ok (.iinc 4 1, 3) := by decide +kernel
theorem d_MO_rebuild_135 : decode b_MO_rebuild 135 = .ok (.goto (-39), 3) := by decide +kernel
theorem d_MO_rebuild_138 : decode b_MO_rebuild 138 = .ok (.aload_n 0, 1) := by decide +kernel
theorem d_MO_rebuild_139 : decode b_MO_rebuild 139 = .ok (.getfield 13, 3) := by decide +kernel
theorem d_MO_rebuild_142 : decode b_MO_rebuild 142 = .ok (.iload_n 1, 1) := by decide +kernel
theorem d_MO_rebuild_143 : decode b_MO_rebuild 143 = .ok (.dup2, 1) := by decide +kernel
theorem d_MO_rebuild_144 : decode b_MO_rebuild 144 = .ok (.iaload, 1) := by decide +kernel
theorem d_MO_rebuild_145 : decode b_MO_rebuild 145 = .ok (.iconst 1, 1) := by decide +kernel
theorem d_MO_rebuild_146 : decode b_MO_rebuild 146 = .ok (.iadd, 1) := by decide +kernel
theorem d_MO_rebuild_147 : decode b_MO_rebuild 147 = .ok (.iastore, 1) := by decide +kernel
theorem d_MO_rebuild_148 : decode b_MO_rebuild 148 = .ok (.iinc 3 1, 3) := by decide +kernel
theorem d_MO_rebuild_151 : decode b_MO_rebuild 151 = .ok (.goto (-88), 3) := by decide +kernel
theorem d_MO_rebuild_154 : decode b_MO_rebuild 154 = .ok (.aload_n 0, 1) := by decide +kernel
theorem d_MO_rebuild_155 : decode b_MO_rebuild 155 = .ok (.getfield 13, 3) := by decide +kernel
theorem d_MO_rebuild_158 : decode b_MO_rebuild 158 = .ok (.iload_n 1, 1) := by decide +kernel
theorem d_MO_rebuild_159 : decode b_MO_rebuild 159 = .ok (.iaload, 1) := by decide +kernel
theorem d_MO_rebuild_160 : decode b_MO_rebuild 160 = .ok (.ireturn, 1) := by decide +kernel
theorem d_MO_noBlock_0 : decode b_MO_noBlock 0 = .ok (.iload_n 1, 1) := by decide +kernel
theorem d_MO_noBlock_1 : decode b_MO_noBlock 1 = .ok (.invokestatic 50, 3) := by decide +kernel
theorem d_MO_noBlock_4 : decode b_MO_noBlock 4 = .ok (.ifCond .ne 22, 3) := by decide +kernel
theorem d_MO_noBlock_7 : decode b_MO_noBlock 7 = .ok (.iload_n 2, 1) := by decide +kernel
theorem d_MO_noBlock_8 : decode b_MO_noBlock 8 = .ok (.ifCond .lt 18, 3) := by decide +kernel
theorem d_MO_noBlock_11 : decode b_MO_noBlock 11 = .ok (.iload_n 2, 1) := by decide +kernel
theorem d_MO_noBlock_12 : decode b_MO_noBlock 12 = .ok (.bipush 100, 2) := by decide +kernel
theorem d_MO_noBlock_14 : decode b_MO_noBlock 14 = .ok (.if_icmp .ge 12, 3) := by decide +kernel
theorem d_MO_noBlock_17 : decode b_MO_noBlock 17 = .ok (.iload_n 3, 1) := by decide +kernel
theorem d_MO_noBlock_18 : decode b_MO_noBlock 18 = .ok (.ifCond .lt 8, 3) := by decide +kernel
theorem d_MO_noBlock_21 : decode b_MO_noBlock 21 = .ok (.iload_n 3, 1) := by decide +kernel
theorem d_MO_noBlock_22 : decode b_MO_noBlock 22 = .ok (.iconst 1, 1) := by decide +kernel
theorem d_MO_noBlock_23 : decode b_MO_noBlock 23 = .ok (.if_icmp .le 7, 3) := by decide +kernel
theorem d_MO_noBlock_26 : decode b_MO_noBlock 26 = .ok (.iconst 1, 1) := by decide +kernel
theorem d_MO_noBlock_27 : decode b_MO_noBlock 27 = .ok (.goto 4, 3) := by decide +kernel
theorem d_MO_noBlock_30 : decode b_MO_noBlock 30 = .ok (.iconst 0, 1) := by decide +kernel
theorem d_MO_noBlock_31 : decode b_MO_noBlock 31 = .ok (.ireturn, 1) := by decide +kernel
theorem d_MO_flip_0 : decode b_MO_flip 0 = .ok (.aload_n 0, 1) := by decide +kernel
theorem d_MO_flip_1 : decode b_MO_flip 1 = .ok (.aload_n 0, 1) := by decide +kernel
theorem d_MO_flip_2 : decode b_MO_flip 2 = .ok (.iload_n 1, 1) := by decide +kernel
theorem d_MO_flip_3 : decode b_MO_flip 3 = .ok (.iload_n 2, 1) := by decide +kernel
theorem d_MO_flip_4 : decode b_MO_flip 4 = .ok (.iload_n 3, 1) := by decide +kernel
theorem d_MO_flip_5 : decode b_MO_flip 5 = .ok (.invokevirtual 54, 3) := by decide +kernel
theorem d_MO_flip_8 : decode b_MO_flip 8 = .ok (.iconst 1, 1) := by decide +kernel
theorem d_MO_flip_9 : decode b_MO_flip 9 = .ok (.invokevirtual 36, 3) := by decide +kernel
theorem d_MO_flip_12 : decode b_MO_flip 12 = .ok (.ifCond .eq 4, 3) := by decide +kernel
theorem d_MO_flip_15 : decode b_MO_flip 15 = .ok (.return_, 1) := by decide +kernel
theorem d_MO_flip_16 : decode b_MO_flip 16 = .ok (.aload_n 0, 1) := by decide +kernel
theorem d_MO_flip_17 : decode b_MO_flip 17 = .ok (.aload_n 0, 1) := by decide +kernel
theorem d_MO_flip_18 : decode b_MO_flip 18 = .ok (.getfield 13, 3) := by decide +kernel
theorem d_MO_flip_21 : decode b_MO_flip 21 = .ok (.iload_n 1, 1) := by decide +kernel
theorem d_MO_flip_22 : decode b_MO_flip 22 = .ok (.iaload, 1) := by decide +kernel
theorem d_MO_flip_23 : decode b_MO_flip 23 = .ok (.ifCond .ge 7, 3) := by decide +kernel
theorem d_MO_flip_26 : decode b_MO_flip 26 = .ok (.iconst 1, 1) := by decide +kernel
theorem d_MO_flip_27 : decode b_MO_flip 27 = .ok (.goto 4, 3) := by decide +kernel
theorem d_MO_flip_30 : decode b_MO_flip 30 = .ok (.iconst 0, 1) := by decide +kernel
theorem d_MO_flip_31 : decode b_MO_flip 31 = .ok (.iconst 2, 1) := by decide +kernel
theorem d_MO_flip_32 : decode b_MO_flip 32 = .ok (.invokevirtual 36, 3) := by decide +kernel
theorem d_MO_flip_35 : decode b_MO_flip 35 = .ok (.ifCond .eq 4, 3) := by decide +kernel
theorem d_MO_flip_38 : decode b_MO_flip 38 = .ok (.return_, 1) := by decide +kernel
theorem d_MO_flip_39 : decode b_MO_flip 39 = .ok (.aload_n 0, 1) := by decide +kernel
theorem d_MO_flip_40 : decode b_MO_flip 40 = .ok (.getfield 7, 3) := by decide +kernel
theorem d_MO_flip_43 : decode b_MO_flip 43 = .ok (.iload_n 1, 1) := by decide +kernel
theorem d_MO_flip_44 : decode b_MO_flip 44 = .ok (.iload_n 2, 1) := by decide +kernel
theorem d_MO_flip_45 : decode b_MO_flip 45 = .ok (.iload_n 3, 1) := by decide +kernel
theorem d_MO_flip_46 : decode b_MO_flip 46 = .ok (.invokestatic 25, 3) := by decide +kernel
theorem d_MO_flip_49 : decode b_MO_flip 49 = .ok (.dup2, 1) := by decide +kernel
theorem d_MO_flip_50 : decode b_MO_flip 50 = .ok (.laload, 1) := by decide +kernel
theorem d_MO_flip_51 : decode b_MO_flip 51 = .ok (.lload 4, 2) := by decide +kernel
theorem d_MO_flip_53 : decode b_MO_flip 53 = .ok (.lxor, 1) := by decide +kernel
theorem d_MO_flip_54 : decode b_MO_flip 54 = .ok (.lastore, 1) := by decide +kernel
theorem d_MO_flip_55 : decode b_MO_flip 55 = .ok (.return_, 1) := by decide +kernel
theorem d_MO_block_0 : decode b_MO_block 0 = .ok (.aload_n 0, 1) := by decide +kernel
theorem d_MO_block_1 : decode b_MO_block 1 = .ok (.aload_n 0, 1) := by decide +kernel
theorem d_MO_block_2 : decode b_MO_block 2 = .ok (.iload_n 1, 1) := by decide +kernel
theorem d_MO_block_3 : decode b_MO_block 3 = .ok (.iload_n 2, 1) := by decide +kernel
theorem d_MO_block_4 : decode b_MO_block 4 = .ok (.iload_n 3, 1) := by decide +kernel
theorem d_MO_block_5 : decode b_MO_block 5 = .ok (.invokevirtual 54, 3) := by decide +kernel
theorem d_MO_block_8 : decode b_MO_block 8 = .ok (.iconst 1, 1) := by decide +kernel
theorem d_MO_block_9 : decode b_MO_block 9 = .ok (.invokevirtual 36, 3) := by decide +kernel
theorem d_MO_block_12 : decode b_MO_block 12 = .ok (.ifCond .eq 5, 3) := by decide +kernel
theorem d_MO_block_15 : decode b_MO_block 15 = .ok (.lconst 0, 1) := by decide +kernel
theorem d_MO_block_16 : decode b_MO_block 16 = .ok (.lreturn, 1) := by decide +kernel
theorem d_MO_block_17 : decode b_MO_block 17 = .ok (.aload_n 0, 1) := by decide +kernel
theorem d_MO_block_18 : decode b_MO_block 18 = .ok (.aload_n 0, 1) := by decide +kernel
theorem d_MO_block_19 : decode b_MO_block 19 = .ok (.getfield 13, 3) := by decide +kernel
theorem d_MO_block_22 : decode b_MO_block 22 = .ok (.iload_n 1, 1) := by decide +kernel
theorem d_MO_block_23 : decode b_MO_block 23 = .ok (.iaload, 1) := by decide +kernel
theorem d_MO_block_24 : decode b_MO_block 24 = .ok (.ifCond .ge 7, 3) := by decide +kernel
theorem d_MO_block_27 : decode b_MO_block 27 = .ok (.iconst 1, 1) := by decide +kernel
theorem d_MO_block_28 : decode b_MO_block 28 = .ok (.goto 4, 3) := by decide +kernel
theorem d_MO_block_31 : decode b_MO_block 31 = .ok (.iconst 0, 1) := by decide +kernel
theorem d_MO_block_32 : decode b_MO_block 32 = .ok (.iconst 2, 1) := by decide +kernel
theorem d_MO_block_33 : decode b_MO_block 33 = .ok (.invokevirtual 36, 3) := by decide +kernel
theorem d_MO_block_36 : decode b_MO_block 36 = .ok (.ifCond .eq 7, 3) := by decide +kernel
theorem d_MO_block_39 : decode b_MO_block 39 = .ok (.lconst 0, 1) := by decide +kernel
theorem d_MO_block_40 : decode b_MO_block 40 = .ok (.goto 14, 3) := by decide +kernel
theorem d_MO_block_43 : decode b_MO_block 43 = .ok (.aload_n 0, 1) := by decide +kernel
theorem d_MO_block_44 : decode b_MO_block 44 = .ok (.getfield 7, 3) := by decide +kernel
theorem d_MO_block_47 : decode b_MO_block 47 = .ok (.iload_n 1, 1) := by decide +kernel
theorem d_MO_block_48 : decode b_MO_block 48 = .ok (.iload_n 2, 1) := by decide +kernel
theorem d_MO_block_49 : decode b_MO_block 49 = .ok (.iload_n 3, 1) := by decide +kernel
theorem d_MO_block_50 : decode b_MO_block 50 = .ok (.invokestatic 25, 3) := by decide +kernel
theorem d_MO_block_53 : decode b_MO_block 53 = .ok (.laload, 1) := by decide +kernel
theorem d_MO_block_54 : decode b_MO_block 54 = .ok (.lreturn, 1) := by decide +kernel
theorem d_MO_scrub_0 : decode b_MO_scrub 0 = .ok (.aload_n 0, 1) := by decide +kernel
theorem d_MO_scrub_1 : decode b_MO_scrub 1 = .ok (.iconst 0, 1) := by decide +kernel
theorem d_MO_scrub_2 : decode b_MO_scrub 2 = .ok (.putfield 17, 3) := by decide +kernel
theorem d_MO_scrub_5 : decode b_MO_scrub 5 = .ok (.iconst 0, 1) := by decide +kernel
theorem d_MO_scrub_6 : decode b_MO_scrub 6 = .ok (.istore_n 1, 1) := by decide +kernel
theorem d_MO_scrub_7 : decode b_MO_scrub 7 = .ok (.iconst 0, 1) := by decide +kernel
theorem d_MO_scrub_8 : decode b_MO_scrub 8 = .ok (.istore_n 2, 1) := by decide +kernel
theorem d_MO_scrub_9 : decode b_MO_scrub 9 = .ok (.iload_n 2, 1) := by decide +kernel
theorem d_MO_scrub_10 : decode b_MO_scrub 10 = .ok (.bipush 100, 2) := by decide +kernel
theorem d_MO_scrub_12 : decode b_MO_scrub 12 = .ok (.if_icmp .ge 135, 3) := by decide +kernel
theorem d_MO_scrub_15 : decode b_MO_scrub 15 = .ok (.iload_n 2, 1) := by decide +kernel
theorem d_MO_scrub_16 : decode b_MO_scrub 16 = .ok (.iconst 5, 1) := by decide +kernel
theorem d_MO_scrub_17 : decode b_MO_scrub 17 = .ok (.irem, 1) := by decide +kernel
theorem d_MO_scrub_18 : decode b_MO_scrub 18 = .ok (.istore_n 3, 1) := by decide +kernel
theorem d_MO_scrub_19 : decode b_MO_scrub 19 = .ok (.iconst 1, 1) := by decide +kernel
theorem d_MO_scrub_20 : decode b_MO_scrub 20 = .ok (.istore 4, 2) := by decide +kernel
theorem d_MO_scrub_22 : decode b_MO_scrub 22 = .ok (.iconst 0, 1) := by decide +kernel
theorem d_MO_scrub_23 : decode b_MO_scrub 23 = .ok (.istore 5, 2) := by decide +kernel
theorem d_MO_scrub_25 : decode b_MO_scrub 25 = .ok (.iload 5, 2) := by decide +kernel
theorem d_MO_scrub_27 : decode b_MO_scrub 27 = .ok (.iconst 5, 1) := by decide +kernel
theorem d_MO_scrub_28 : decode b_MO_scrub 28 = .ok (.if_icmp .ge 22, 3) := by decide +kernel
theorem d_MO_scrub_31 : decode b_MO_scrub 31 = .ok (.aload_n 0, 1) := by decide +kernel
theorem d_MO_scrub_32 : decode b_MO_scrub 32 = .ok (.iload 5, 2) := by decide +kernel
theorem d_MO_scrub_34 : decode b_MO_scrub 34 = .ok (.iload_n 2, 1) := by decide +kernel
theorem d_MO_scrub_35 : decode b_MO_scrub 35 = .ok (.invokevirtual 21, 3) := by decide +kernel
theorem d_MO_scrub_38 : decode b_MO_scrub 38 = .ok (.ifCond .ne 6, 3) := by decide +kernel
theorem d_MO_scrub_41 : decode b_MO_scrub 41 = .ok (.iconst 0, 1) := by decide +kernel
theorem d_MO_scrub_42 : decode b_MO_scrub 42 = .ok (.istore 4, 2) := by decide +kernel
theorem d_MO_scrub_44 : decode b_MO_scrub 44 = .ok (.iinc 5 1, 3) := by decide +kernel
theorem d_MO_scrub_47 : decode b_MO_scrub 47 = .ok (.goto (-22), 3) := by decide +kernel
theorem d_MO_scrub_50 : decode b_MO_scrub 50 = .ok (.iload 4, 2) := by decide +kernel
theorem d_MO_scrub_52 : decode b_MO_scrub 52 = .ok (.ifCond .eq 89, 3) := by decide +kernel
theorem d_MO_scrub_55 : decode b_MO_scrub 55 = .ok (.aload_n 0, 1) := by decide +kernel
theorem d_MO_scrub_56 : decode b_MO_scrub 56 = .ok (.iload_n 3, 1) := by decide +kernel
theorem d_MO_scrub_57 : decode b_MO_scrub 57 = .ok (.iload_n 2, 1) := by decide +kernel
theorem d_MO_scrub_58 : decode b_MO_scrub 58 = .ok (.iconst 0, 1) := by decide +kernel
theorem d_MO_scrub_59 : decode b_MO_scrub 59 = .ok (.invokevirtual 29, 3) := by decide +kernel
theorem d_MO_scrub_62 : decode b_MO_scrub 62 = .ok (.aload_n 0, 1) := by decide +kernel
theorem d_MO_scrub_63 : decode b_MO_scrub 63 = .ok (.getfield 7, 3) := by decide +kernel
theorem d_MO_scrub_66 : decode b_MO_scrub 66 = .ok (.iload_n 3, 1) := by decide +kernel
theorem d_MO_scrub_67 : decode b_MO_scrub 67 = .ok (.iload_n 2, 1) := by decide +kernel
theorem d_MO_scrub_68 : decode b_MO_scrub 68 = .ok (.iconst 0, 1) := by decide +kernel
theorem d_MO_scrub_69 : decode b_MO_scrub 69 = .ok (.invokestatic 25, 3) := by decide +kernel
theorem d_MO_scrub_72 : decode b_MO_scrub 72 = .ok (.laload, 1) := by decide +kernel
theorem d_MO_scrub_73 : decode b_MO_scrub 73 = .ok (.lcmp, 1) := by decide +kernel
theorem d_MO_scrub_74 : decode b_MO_scrub 74 = .ok (.ifCond .ne 28, 3) := by decide +kernel
theorem d_MO_scrub_77 : decode b_MO_scrub 77 = .ok (.aload_n 0, 1) := by decide +kernel
theorem d_MO_scrub_78 : decode b_MO_scrub 78 = .ok (.iload_n 3, 1) := by decide +kernel
theorem d_MO_scrub_79 : decode b_MO_scrub 79 = .ok (.iload_n 2, 1) := by decide +kernel
theorem d_MO_scrub_80 : decode b_MO_scrub 80 = .ok (.iconst 1, 1) := by decide +kernel
theorem d_MO_scrub_81 : decode b_MO_scrub 81 = .ok (.invokevirtual 29, 3) := by decide +kernel
theorem d_MO_scrub_84 : decode b_MO_scrub 84 = .ok (.aload_n 0, 1) := by decide +kernel
theorem d_MO_scrub_85 : decode b_MO_scrub 85 = .ok (.getfield 7, 3) := by decide +kernel
theorem d_MO_scrub_88 : decode b_MO_scrub 88 = .ok (.iload_n 3, 1) := by decide +kernel
theorem d_MO_scrub_89 : decode b_MO_scrub 89 = .ok (.iload_n 2, 1) := by decide +kernel
theorem d_MO_scrub_90 : decode b_MO_scrub 90 = .ok (.iconst 1, 1) := by decide +kernel
theorem d_MO_scrub_91 : decode b_MO_scrub 91 = .ok (.invokestatic 25, 3) := by decide +kernel
theorem d_MO_scrub_94 : decode b_MO_scrub 94 = .ok (.laload, 1) := by decide +kernel
theorem d_MO_scrub_95 : decode b_MO_scrub 95 = .ok (.lcmp, 1) := by decide +kernel
theorem d_MO_scrub_96 : decode b_MO_scrub 96 = .ok (.ifCond .ne 6, 3) := by decide +kernel
theorem d_MO_scrub_99 : decode b_MO_scrub 99 = .ok (.goto 42, 3) := by decide +kernel
theorem d_MO_scrub_102 : decode b_MO_scrub 102 = .ok (.iinc 1 1, 3) := by decide +kernel
theorem d_MO_scrub_105 : decode b_MO_scrub 105 = .ok (.aload_n 0, 1) := by decide +kernel
theorem d_MO_scrub_106 : decode b_MO_scrub 106 = .ok (.getfield 7, 3) := by decide +kernel
theorem d_MO_scrub_109 : decode b_MO_scrub 109 = .ok (.iload_n 3, 1) := by decide +kernel
theorem d_MO_scrub_110 : decode b_MO_scrub 110 = .ok (.iload_n 2, 1) := by decide +kernel
theorem d_MO_scrub_111 : decode b_MO_scrub 111 = .ok (.iconst 0, 1) := by decide +kernel
theorem d_MO_scrub_112 : decode b_MO_scrub 112 = .ok (.invokestatic 25, 3) := by decide +kernel
theorem d_MO_scrub_115 : decode b_MO_scrub 115 = .ok (.aload_n 0, 1) := by decide +kernel
theorem d_MO_scrub_116 : decode b_MO_scrub 116 = .ok (.iload_n 3, 1) := by decide +kernel
theorem d_MO_scrub_117 : decode b_MO_scrub 117 = .ok (.iload_n 2, 1) := by decide +kernel
theorem d_MO_scrub_118 : decode b_MO_scrub 118 = .ok (.iconst 0, 1) := by decide +kernel
theorem d_MO_scrub_119 : decode b_MO_scrub 119 = .ok (.invokevirtual 29, 3) := by decide +kernel
theorem d_MO_scrub_122 : decode b_MO_scrub 122 = .ok (.lastore, 1) := by decide +kernel
theorem d_MO_scrub_123 : decode b_MO_scrub 123 = .ok (.aload_n 0, 1) := by decide +kernel
theorem d_MO_scrub_124 : decode b_MO_scrub 124 = .ok (.getfield 7, 3) := by decide +kernel
theorem d_MO_scrub_127 : decode b_MO_scrub 127 = .ok (.iload_n 3, 1) := by decide +kernel
theorem d_MO_scrub_128 : decode b_MO_scrub 128 = .ok (.iload_n 2, 1) := by decide +kernel
theorem d_MO_scrub_129 : decode b_MO_scrub 129 = .ok (.iconst 1, 1) := by decide +kernel
theorem d_MO_scrub_130 : decode b_MO_scrub 130 = .ok (.invokestatic 25, 3) := by decide +kernel
theorem d_MO_scrub_133 : decode b_MO_scrub 133 = .ok (.aload_n 0, 1) := by decide +kernel
theorem d_MO_scrub_134 : decode b_MO_scrub 134 = .ok (.iload_n 3, 1) := by decide +kernel
theorem d_MO_scrub_135 : decode b_MO_scrub 135 = .ok (.iload_n 2, 1) := by decide +kernel
theorem d_MO_scrub_136 : decode b_MO_scrub 136 = .ok (.iconst 1, 1) := by decide +kernel
theorem d_MO_scrub_137 : decode b_MO_scrub 137 = .ok (.invokevirtual 29, 3) := by decide +kernel
theorem d_MO_scrub_140 : decode b_MO_scrub 140 = .ok (.lastore, 1) := by decide +kernel
theorem d_MO_scrub_141 : decode b_MO_scrub 141 = .ok (.iinc 2 1, 3) := by decide +kernel
theorem d_MO_scrub_144 : decode b_MO_scrub 144 = .ok (.goto (-135), 3) := by decide +kernel
theorem d_MO_scrub_147 : decode b_MO_scrub 147 = .ok (.iload_n 1, 1) := by decide +kernel
theorem d_MO_scrub_148 : decode b_MO_scrub 148 = .ok (.ireturn, 1) := by decide +kernel
theorem d_MO_state_0 : decode b_MO_state 0 = .ok (.aload_n 0, 1) := by decide +kernel
theorem d_MO_state_1 : decode b_MO_state 1 = .ok (.iload_n 1, 1) := by decide +kernel
theorem d_MO_state_2 : decode b_MO_state 2 = .ok (.invokestatic 50, 3) := by decide +kernel
theorem d_MO_state_5 : decode b_MO_state 5 = .ok (.iconst 1, 1) := by decide +kernel
theorem d_MO_state_6 : decode b_MO_state 6 = .ok (.invokevirtual 36, 3) := by decide +kernel
theorem d_MO_state_9 : decode b_MO_state 9 = .ok (.ifCond .eq 5, 3) := by decide +kernel
theorem d_MO_state_12 : decode b_MO_state 12 = .ok (.iconst 0, 1) := by decide +kernel
theorem d_MO_state_13 : decode b_MO_state 13 = .ok (.ireturn, 1) := by decide +kernel
theorem d_MO_state_14 : decode b_MO_state 14 = .ok (.aload_n 0, 1) := by decide +kernel
theorem d_MO_state_15 : decode b_MO_state 15 = .ok (.getfield 13, 3) := by decide +kernel
theorem d_MO_state_18 : decode b_MO_state 18 = .ok (.iload_n 1, 1) := by decide +kernel
theorem d_MO_state_19 : decode b_MO_state 19 = .ok (.iaload, 1) := by decide +kernel
theorem d_MO_state_20 : decode b_MO_state 20 = .ok (.bipush 100, 2) := by decide +kernel
theorem d_MO_state_22 : decode b_MO_state 22 = .ok (.if_icmp .ne 7, 3) := by decide +kernel
theorem d_MO_state_25 : decode b_MO_state 25 = .ok (.iconst 0, 1) := by decide +kernel
theorem d_MO_state_26 : decode b_MO_state 26 = .ok (.goto 24, 3) := by decide +kernel
theorem d_MO_state_29 : decode b_MO_state 29 = .ok (.aload_n 0, 1) := by decide +kernel
theorem d_MO_state_30 : decode b_MO_state 30 = .ok (.getfield 13, 3) := by decide +kernel
theorem d_MO_state_33 : decode b_MO_state 33 = .ok (.iload_n 1, 1) := by decide +kernel
theorem d_MO_state_34 : decode b_MO_state 34 = .ok (.iaload, 1) := by decide +kernel
theorem d_MO_state_35 : decode b_MO_state 35 = .ok (.ifCond .ge 7, 3) := by decide +kernel
theorem d_MO_state_38 : decode b_MO_state 38 = .ok (.iconst 1, 1) := by decide +kernel
theorem d_MO_state_39 : decode b_MO_state 39 = .ok (.goto 11, 3) := by decide +kernel
theorem d_MO_state_42 : decode b_MO_state 42 = .ok (.iconst 2, 1) := by decide +kernel
theorem d_MO_state_43 : decode b_MO_state 43 = .ok (.aload_n 0, 1) := by decide +kernel
theorem d_MO_state_44 : decode b_MO_state 44 = .ok (.getfield 13, 3) := by decide +kernel
theorem d_MO_state_47 : decode b_MO_state 47 = .ok (.iload_n 1, 1) := by decide +kernel
theorem d_MO_state_48 : decode b_MO_state 48 = .ok (.iaload, 1) := by decide +kernel
theorem d_MO_state_49 : decode b_MO_state 49 = .ok (.iadd, 1) := by decide +kernel
theorem d_MO_state_50 : decode b_MO_state 50 = .ok (.ireturn, 1) := by decide +kernel
theorem d_MO_lost_0 : decode b_MO_lost 0 = .ok (.aload_n 0, 1) := by decide +kernel
theorem d_MO_lost_1 : decode b_MO_lost 1 = .ok (.iconst 0, 1) := by decide +kernel
theorem d_MO_lost_2 : decode b_MO_lost 2 = .ok (.putfield 17, 3) := by decide +kernel
theorem d_MO_lost_5 : decode b_MO_lost 5 = .ok (.iconst 0, 1) := by decide +kernel
theorem d_MO_lost_6 : decode b_MO_lost 6 = .ok (.istore_n 1, 1) := by decide +kernel
theorem d_MO_lost_7 : decode b_MO_lost 7 = .ok (.iconst 0, 1) := by decide +kernel
theorem d_MO_lost_8 : decode b_MO_lost 8 = .ok (.istore_n 2, 1) := by decide +kernel
theorem d_MO_lost_9 : decode b_MO_lost 9 = .ok (.iload_n 2, 1) := by decide +kernel
theorem d_MO_lost_10 : decode b_MO_lost 10 = .ok (.sipush 400, 3) := by decide +kernel
theorem d_MO_lost_13 : decode b_MO_lost 13 = .ok (.if_icmp .ge 26, 3) := by decide +kernel
theorem d_MO_lost_16 : decode b_MO_lost 16 = .ok (.aload_n 0, 1) := by decide +kernel
theorem d_MO_lost_17 : decode b_MO_lost 17 = .ok (.iload_n 2, 1) := by decide +kernel
theorem d_MO_lost_18 : decode b_MO_lost 18 = .ok (.invokestatic 40, 3) := by decide +kernel
theorem d_MO_lost_21 : decode b_MO_lost 21 = .ok (.iload_n 2, 1) := by decide +kernel
theorem d_MO_lost_22 : decode b_MO_lost 22 = .ok (.iconst 4, 1) := by decide +kernel
theorem d_MO_lost_23 : decode b_MO_lost 23 = .ok (.idiv, 1) := by decide +kernel
theorem d_MO_lost_24 : decode b_MO_lost 24 = .ok (.invokevirtual 44, 3) := by decide +kernel
theorem d_MO_lost_27 : decode b_MO_lost 27 = .ok (.ifCond .eq 6, 3) := by decide +kernel
theorem d_MO_lost_30 : decode b_MO_lost 30 = .ok (.iinc 1 1, 3) := by decide +kernel
theorem d_MO_lost_33 : decode b_MO_lost 33 = .ok (.iinc 2 1, 3) := by decide +kernel
theorem d_MO_lost_36 : decode b_MO_lost 36 = .ok (.goto (-27), 3) := by decide +kernel
theorem d_MO_lost_39 : decode b_MO_lost 39 = .ok (.iload_n 1, 1) := by decide +kernel
theorem d_MO_lost_40 : decode b_MO_lost 40 = .ok (.ireturn, 1) := by decide +kernel
theorem d_DK_init_0 : decode b_DK_init 0 = .ok (.aload_n 0, 1) := by decide +kernel
theorem d_DK_init_1 : decode b_DK_init 1 = .ok (.invokespecial 3, 3) := by decide +kernel
theorem d_DK_init_4 : decode b_DK_init 4 = .ok (.aload_n 0, 1) := by decide +kernel
theorem d_DK_init_5 : decode b_DK_init 5 = .ok (.sipush 200, 3) := by decide +kernel
theorem d_DK_init_8 : decode b_DK_init 8 = .ok (.newarray .long, 2) := by decide +kernel
theorem d_DK_init_10 : decode b_DK_init 10 = .ok (.putfield 9, 3) := by decide +kernel
theorem d_DK_init_13 : decode b_DK_init 13 = .ok (.aload_n 0, 1) := by decide +kernel
theorem d_DK_init_14 : decode b_DK_init 14 = .ok (.bipush 100, 2) := by decide +kernel
theorem d_DK_init_16 : decode b_DK_init 16 = .ok (.putfield 15, 3) := by decide +kernel
theorem d_DK_init_19 : decode b_DK_init 19 = .ok (.return_, 1) := by decide +kernel
theorem d_DK_isUsed_0 : decode b_DK_isUsed 0 = .ok (.iload_n 1, 1) := by decide +kernel
theorem d_DK_isUsed_1 : decode b_DK_isUsed 1 = .ok (.aload_n 0, 1) := by decide +kernel
theorem d_DK_isUsed_2 : decode b_DK_isUsed 2 = .ok (.getfield 15, 3) := by decide +kernel
theorem d_DK_isUsed_5 : decode b_DK_isUsed 5 = .ok (.if_icmp .ge 7, 3) := by decide +kernel
theorem d_DK_isUsed_8 : decode b_DK_isUsed 8 = .ok (.iconst 1, 1) := by decide +kernel
theorem d_DK_isUsed_9 : decode b_DK_isUsed 9 = .ok (.goto 4, 3) := by decide +kernel
theorem d_DK_isUsed_12 : decode b_DK_isUsed 12 = .ok (.iconst 0, 1) := by decide +kernel
theorem d_DK_isUsed_13 : decode b_DK_isUsed 13 = .ok (.ireturn, 1) := by decide +kernel
theorem d_DK_fail_0 : decode b_DK_fail 0 = .ok (.aload_n 0, 1) := by decide +kernel
theorem d_DK_fail_1 : decode b_DK_fail 1 = .ok (.iconst 1, 1) := by decide +kernel
theorem d_DK_fail_2 : decode b_DK_fail 2 = .ok (.putfield 19, 3) := by decide +kernel
theorem d_DK_fail_5 : decode b_DK_fail 5 = .ok (.aload_n 0, 1) := by decide +kernel
theorem d_DK_fail_6 : decode b_DK_fail 6 = .ok (.iconst 0, 1) := by decide +kernel
theorem d_DK_fail_7 : decode b_DK_fail 7 = .ok (.putfield 15, 3) := by decide +kernel
theorem d_DK_fail_10 : decode b_DK_fail 10 = .ok (.return_, 1) := by decide +kernel
theorem d_DK_replace_0 : decode b_DK_replace 0 = .ok (.aload_n 0, 1) := by decide +kernel
theorem d_DK_replace_1 : decode b_DK_replace 1 = .ok (.iconst 0, 1) := by decide +kernel
theorem d_DK_replace_2 : decode b_DK_replace 2 = .ok (.putfield 19, 3) := by decide +kernel
theorem d_DK_replace_5 : decode b_DK_replace 5 = .ok (.iconst 0, 1) := by decide +kernel
theorem d_DK_replace_6 : decode b_DK_replace 6 = .ok (.istore_n 1, 1) := by decide +kernel
theorem d_DK_replace_7 : decode b_DK_replace 7 = .ok (.iload_n 1, 1) := by decide +kernel
theorem d_DK_replace_8 : decode b_DK_replace 8 = .ok (.aload_n 0, 1) := by decide +kernel
theorem d_DK_replace_9 : decode b_DK_replace 9 = .ok (.getfield 9, 3) := by decide +kernel
theorem d_DK_replace_12 : decode b_DK_replace 12 = .ok (.arraylength, 1) := by decide +kernel
theorem d_DK_replace_13 : decode b_DK_replace 13 = .ok (.if_icmp .ge 16, 3) := by decide +kernel
theorem d_DK_replace_16 : decode b_DK_replace 16 = .ok (.aload_n 0, 1) := by decide +kernel
theorem d_DK_replace_17 : decode b_DK_replace 17 = .ok (.getfield 9, 3) := by decide +kernel
theorem d_DK_replace_20 : decode b_DK_replace 20 = .ok (.iload_n 1, 1) := by decide +kernel
theorem d_DK_replace_21 : decode b_DK_replace 21 = .ok (.lconst 0, 1) := by decide +kernel
theorem d_DK_replace_22 : decode b_DK_replace 22 = .ok (.lastore, 1) := by decide +kernel
theorem d_DK_replace_23 : decode b_DK_replace 23 = .ok (.iinc 1 1, 3) := by decide +kernel
theorem d_DK_replace_26 : decode b_DK_replace 26 = .ok (.goto (-19), 3) := by decide +kernel
theorem d_DK_replace_29 : decode b_DK_replace 29 = .ok (.return_, 1) := by decide +kernel
theorem d_DK_state_0 : decode b_DK_state 0 = .ok (.aload_n 0, 1) := by decide +kernel
theorem d_DK_state_1 : decode b_DK_state 1 = .ok (.getfield 19, 3) := by decide +kernel
theorem d_DK_state_4 : decode b_DK_state 4 = .ok (.ifCond .eq 7, 3) := by decide +kernel
theorem d_DK_state_7 : decode b_DK_state 7 = .ok (.iconst 1, 1) := by decide +kernel
theorem d_DK_state_8 : decode b_DK_state 8 = .ok (.goto 22, 3) := by decide +kernel
theorem d_DK_state_11 : decode b_DK_state 11 = .ok (.aload_n 0, 1) := by decide +kernel
theorem d_DK_state_12 : decode b_DK_state 12 = .ok (.getfield 15, 3) := by decide +kernel
theorem d_DK_state_15 : decode b_DK_state 15 = .ok (.bipush 100, 2) := by decide +kernel
theorem d_DK_state_17 : decode b_DK_state 17 = .ok (.if_icmp .ne 7, 3) := by decide +kernel
theorem d_DK_state_20 : decode b_DK_state 20 = .ok (.iconst 0, 1) := by decide +kernel
theorem d_DK_state_21 : decode b_DK_state 21 = .ok (.goto 9, 3) := by decide +kernel
theorem d_DK_state_24 : decode b_DK_state 24 = .ok (.iconst 2, 1) := by decide +kernel
theorem d_DK_state_25 : decode b_DK_state 25 = .ok (.aload_n 0, 1) := by decide +kernel
theorem d_DK_state_26 : decode b_DK_state 26 = .ok (.getfield 15, 3) := by decide +kernel
theorem d_DK_state_29 : decode b_DK_state 29 = .ok (.iadd, 1) := by decide +kernel
theorem d_DK_state_30 : decode b_DK_state 30 = .ok (.ireturn, 1) := by decide +kernel
theorem d_LW_read_0 : decode b_LW_read 0 = .ok (.aload_n 3, 1) := by decide +kernel
theorem d_LW_read_1 : decode b_LW_read 1 = .ok (.iconst 0, 1) := by decide +kernel
theorem d_LW_read_2 : decode b_LW_read 2 = .ok (.aload_n 0, 1) := by decide +kernel
theorem d_LW_read_3 : decode b_LW_read 3 = .ok (.iload_n 1, 1) := by decide +kernel
theorem d_LW_read_4 : decode b_LW_read 4 = .ok (.iload_n 2, 1) := by decide +kernel
theorem d_LW_read_5 : decode b_LW_read 5 = .ok (.invokevirtual 7, 3) := by decide +kernel
theorem d_LW_read_8 : decode b_LW_read 8 = .ok (.lastore, 1) := by decide +kernel
theorem d_LW_read_9 : decode b_LW_read 9 = .ok (.goto 11, 3) := by decide +kernel
theorem d_LW_read_12 : decode b_LW_read 12 = .ok (.astore 4, 2) := by decide +kernel
theorem d_LW_read_14 : decode b_LW_read 14 = .ok (.iconst 1, 1) := by decide +kernel
theorem d_LW_read_15 : decode b_LW_read 15 = .ok (.ireturn, 1) := by decide +kernel
theorem d_LW_read_16 : decode b_LW_read 16 = .ok (.astore 4, 2) := by decide +kernel
theorem d_LW_read_18 : decode b_LW_read 18 = .ok (.iconst 2, 1) := by decide +kernel
theorem d_LW_read_19 : decode b_LW_read 19 = .ok (.ireturn, 1) := by decide +kernel
theorem d_LW_read_20 : decode b_LW_read 20 = .ok (.iconst 0, 1) := by decide +kernel
theorem d_LW_read_21 : decode b_LW_read 21 = .ok (.ireturn, 1) := by decide +kernel
theorem d_LW_write_0 : decode b_LW_write 0 = .ok (.aload_n 0, 1) := by decide +kernel
theorem d_LW_write_1 : decode b_LW_write 1 = .ok (.iload_n 1, 1) := by decide +kernel
theorem d_LW_write_2 : decode b_LW_write 2 = .ok (.iload_n 2, 1) := by decide +kernel
theorem d_LW_write_3 : decode b_LW_write 3 = .ok (.lload_n 3, 1) := by decide +kernel
theorem d_LW_write_4 : decode b_LW_write 4 = .ok (.invokevirtual 17, 3) := by decide +kernel
theorem d_LW_write_7 : decode b_LW_write 7 = .ok (.goto 11, 3) := by decide +kernel
theorem d_LW_write_10 : decode b_LW_write 10 = .ok (.astore 5, 2) := by decide +kernel
theorem d_LW_write_12 : decode b_LW_write 12 = .ok (.iconst 1, 1) := by decide +kernel
theorem d_LW_write_13 : decode b_LW_write 13 = .ok (.ireturn, 1) := by decide +kernel
theorem d_LW_write_14 : decode b_LW_write 14 = .ok (.astore 5, 2) := by decide +kernel
theorem d_LW_write_16 : decode b_LW_write 16 = .ok (.iconst 2, 1) := by decide +kernel
theorem d_LW_write_17 : decode b_LW_write 17 = .ok (.ireturn, 1) := by decide +kernel
theorem d_LW_write_18 : decode b_LW_write 18 = .ok (.iconst 0, 1) := by decide +kernel
theorem d_LW_write_19 : decode b_LW_write 19 = .ok (.ireturn, 1) := by decide +kernel
theorem d_LW_fail_0 : decode b_LW_fail 0 = .ok (.aload_n 0, 1) := by decide +kernel
theorem d_LW_fail_1 : decode b_LW_fail 1 = .ok (.iload_n 1, 1) := by decide +kernel
theorem d_LW_fail_2 : decode b_LW_fail 2 = .ok (.invokevirtual 21, 3) := by decide +kernel
theorem d_LW_fail_5 : decode b_LW_fail 5 = .ok (.goto 6, 3) := by decide +kernel
theorem d_LW_fail_8 : decode b_LW_fail 8 = .ok (.astore_n 2, 1) := by decide +kernel
theorem d_LW_fail_9 : decode b_LW_fail 9 = .ok (.iconst 1, 1) := by decide +kernel
theorem d_LW_fail_10 : decode b_LW_fail 10 = .ok (.ireturn, 1) := by decide +kernel
theorem d_LW_fail_11 : decode b_LW_fail 11 = .ok (.iconst 0, 1) := by decide +kernel
theorem d_LW_fail_12 : decode b_LW_fail 12 = .ok (.ireturn, 1) := by decide +kernel
theorem d_LW_replace_0 : decode b_LW_replace 0 = .ok (.aload_n 0, 1) := by decide +kernel
theorem d_LW_replace_1 : decode b_LW_replace 1 = .ok (.iload_n 1, 1) := by decide +kernel
theorem d_LW_replace_2 : decode b_LW_replace 2 = .ok (.invokevirtual 25, 3) := by decide +kernel
theorem d_LW_replace_5 : decode b_LW_replace 5 = .ok (.goto 9, 3) := by decide +kernel
theorem d_LW_replace_8 : decode b_LW_replace 8 = .ok (.astore_n 2, 1) := by decide +kernel
theorem d_LW_replace_9 : decode b_LW_replace 9 = .ok (.iconst 1, 1) := by decide +kernel
theorem d_LW_replace_10 : decode b_LW_replace 10 = .ok (.ireturn, 1) := by decide +kernel
theorem d_LW_replace_11 : decode b_LW_replace 11 = .ok (.astore_n 2, 1) := by decide +kernel
theorem d_LW_replace_12 : decode b_LW_replace 12 = .ok (.iconst 2, 1) := by decide +kernel
theorem d_LW_replace_13 : decode b_LW_replace 13 = .ok (.ireturn, 1) := by decide +kernel
theorem d_LW_replace_14 : decode b_LW_replace 14 = .ok (.iconst 0, 1) := by decide +kernel
theorem d_LW_replace_15 : decode b_LW_replace 15 = .ok (.ireturn, 1) := by decide +kernel
theorem d_LW_rebuild_0 : decode b_LW_rebuild 0 = .ok (.aload_n 3, 1) := by decide +kernel
theorem d_LW_rebuild_1 : decode b_LW_rebuild 1 = .ok (.iconst 0, 1) := by decide +kernel
theorem d_LW_rebuild_2 : decode b_LW_rebuild 2 = .ok (.aload_n 0, 1) := by decide +kernel
theorem d_LW_rebuild_3 : decode b_LW_rebuild 3 = .ok (.iload_n 1, 1) := by decide +kernel
theorem d_LW_rebuild_4 : decode b_LW_rebuild 4 = .ok (.iload_n 2, 1) := by decide +kernel
theorem d_LW_rebuild_5 : decode b_LW_rebuild 5 = .ok (.invokevirtual 30, 3) := by decide +kernel
theorem d_LW_rebuild_8 : decode b_LW_rebuild 8 = .ok (.i2l, 1) := by decide +kernel
theorem d_LW_rebuild_9 : decode b_LW_rebuild 9 = .ok (.lastore, 1) := by decide +kernel
theorem d_LW_rebuild_10 : decode b_LW_rebuild 10 = .ok (.goto 11, 3) := by decide +kernel
theorem d_LW_rebuild_13 : decode b_LW_rebuild 13 = .ok (.astore 4, 2) := by decide +kernel
theorem d_LW_rebuild_15 : decode b_LW_rebuild 15 = .ok (.iconst 1, 1) := by decide +kernel
theorem d_LW_rebuild_16 : decode b_LW_rebuild 16 = .ok (.ireturn, 1) := by decide +kernel
theorem d_LW_rebuild_17 : decode b_LW_rebuild 17 = .ok (.astore 4, 2) := by decide +kernel
theorem d_LW_rebuild_19 : decode b_LW_rebuild 19 = .ok (.iconst 2, 1) := by decide +kernel
theorem d_LW_rebuild_20 : decode b_LW_rebuild 20 = .ok (.ireturn, 1) := by decide +kernel
theorem d_LW_rebuild_21 : decode b_LW_rebuild 21 = .ok (.iconst 0, 1) := by decide +kernel
theorem d_LW_rebuild_22 : decode b_LW_rebuild 22 = .ok (.ireturn, 1) := by decide +kernel
theorem d_LW_flip_0 : decode b_LW_flip 0 = .ok (.aload_n 0, 1) := by decide +kernel
theorem d_LW_flip_1 : decode b_LW_flip 1 = .ok (.iload_n 1, 1) := by decide +kernel
theorem d_LW_flip_2 : decode b_LW_flip 2 = .ok (.iload_n 2, 1) := by decide +kernel
theorem d_LW_flip_3 : decode b_LW_flip 3 = .ok (.iload_n 3, 1) := by decide +kernel
theorem d_LW_flip_4 : decode b_LW_flip 4 = .ok (.lload 4, 2) := by decide +kernel
theorem d_LW_flip_6 : decode b_LW_flip 6 = .ok (.invokevirtual 34, 3) := by decide +kernel
theorem d_LW_flip_9 : decode b_LW_flip 9 = .ok (.goto 11, 3) := by decide +kernel
theorem d_LW_flip_12 : decode b_LW_flip 12 = .ok (.astore 6, 2) := by decide +kernel
theorem d_LW_flip_14 : decode b_LW_flip 14 = .ok (.iconst 1, 1) := by decide +kernel
theorem d_LW_flip_15 : decode b_LW_flip 15 = .ok (.ireturn, 1) := by decide +kernel
theorem d_LW_flip_16 : decode b_LW_flip 16 = .ok (.astore 6, 2) := by decide +kernel
theorem d_LW_flip_18 : decode b_LW_flip 18 = .ok (.iconst 2, 1) := by decide +kernel
theorem d_LW_flip_19 : decode b_LW_flip 19 = .ok (.ireturn, 1) := by decide +kernel
theorem d_LW_flip_20 : decode b_LW_flip 20 = .ok (.iconst 0, 1) := by decide +kernel
theorem d_LW_flip_21 : decode b_LW_flip 21 = .ok (.ireturn, 1) := by decide +kernel
theorem d_LW_block_0 : decode b_LW_block 0 = .ok (.aload 4, 2) := by decide +kernel
theorem d_LW_block_2 : decode b_LW_block 2 = .ok (.iconst 0, 1) := by decide +kernel
theorem d_LW_block_3 : decode b_LW_block 3 = .ok (.aload_n 0, 1) := by decide +kernel
theorem d_LW_block_4 : decode b_LW_block 4 = .ok (.iload_n 1, 1) := by decide +kernel
theorem d_LW_block_5 : decode b_LW_block 5 = .ok (.iload_n 2, 1) := by decide +kernel
theorem d_LW_block_6 : decode b_LW_block 6 = .ok (.iload_n 3, 1) := by decide +kernel
theorem d_LW_block_7 : decode b_LW_block 7 = .ok (.invokevirtual 38, 3) := by decide +kernel
theorem d_LW_block_10 : decode b_LW_block 10 = .ok (.lastore, 1) := by decide +kernel
theorem d_LW_block_11 : decode b_LW_block 11 = .ok (.goto 11, 3) := by decide +kernel
theorem d_LW_block_14 : decode b_LW_block 14 = .ok (.astore 5, 2) := by decide +kernel
theorem d_LW_block_16 : decode b_LW_block 16 = .ok (.iconst 1, 1) := by decide +kernel
theorem d_LW_block_17 : decode b_LW_block 17 = .ok (.ireturn, 1) := by decide +kernel
theorem d_LW_block_18 : decode b_LW_block 18 = .ok (.astore 5, 2) := by decide +kernel
theorem d_LW_block_20 : decode b_LW_block 20 = .ok (.iconst 2, 1) := by decide +kernel
theorem d_LW_block_21 : decode b_LW_block 21 = .ok (.ireturn, 1) := by decide +kernel
theorem d_LW_block_22 : decode b_LW_block 22 = .ok (.iconst 0, 1) := by decide +kernel
theorem d_LW_block_23 : decode b_LW_block 23 = .ok (.ireturn, 1) := by decide +kernel
theorem d_LW_state_0 : decode b_LW_state 0 = .ok (.aload_n 2, 1) := by decide +kernel
theorem d_LW_state_1 : decode b_LW_state 1 = .ok (.iconst 0, 1) := by decide +kernel
theorem d_LW_state_2 : decode b_LW_state 2 = .ok (.aload_n 0, 1) := by decide +kernel
theorem d_LW_state_3 : decode b_LW_state 3 = .ok (.iload_n 1, 1) := by decide +kernel
theorem d_LW_state_4 : decode b_LW_state 4 = .ok (.invokevirtual 42, 3) := by decide +kernel
theorem d_LW_state_7 : decode b_LW_state 7 = .ok (.i2l, 1) := by decide +kernel
theorem d_LW_state_8 : decode b_LW_state 8 = .ok (.lastore, 1) := by decide +kernel
theorem d_LW_state_9 : decode b_LW_state 9 = .ok (.goto 6, 3) := by decide +kernel
theorem d_LW_state_12 : decode b_LW_state 12 = .ok (.astore_n 3, 1) := by decide +kernel
theorem d_LW_state_13 : decode b_LW_state 13 = .ok (.iconst 1, 1) := by decide +kernel
theorem d_LW_state_14 : decode b_LW_state 14 = .ok (.ireturn, 1) := by decide +kernel
theorem d_LW_state_15 : decode b_LW_state 15 = .ok (.iconst 0, 1) := by decide +kernel
theorem d_LW_state_16 : decode b_LW_state 16 = .ok (.ireturn, 1) := by decide +kernel
theorem sI_PD_15 : SiteI "ParityDisks" 15 y_DK_init w_DK_init 1 0 := ⟨t_22, rfl, t_2, t_23, ⟨b_DK_init, rfl⟩, by decide +kernel, by decide +kernel⟩
theorem sS_PD_19 : SiteS "ParityDisks" 19 y_PD_stripeOf w_PD_stripeOf 1 1 := ⟨t_65, t_66, t_1, t_67, ⟨b_PD_stripeOf, (some .int), Or.inl rfl⟩, by decide +kernel, by decide +kernel⟩
theorem sS_PD_23 : SiteS "ParityDisks" 23 y_PD_parityOf w_PD_parityOf 1 1 := ⟨t_55, t_56, t_1, t_57, ⟨b_PD_parityOf, (some .int), Or.inl rfl⟩, by decide +kernel, by decide +kernel⟩
theorem sV_PD_26 : SiteV "ParityDisks" 26 y_DK_isUsed w_DK_isUsed 2 1 := ⟨t_51, t_52, t_53, t_2, t_54, ⟨b_DK_isUsed, (some .boolean), Or.inl rfl⟩, by decide +kernel, by decide +kernel⟩
theorem sS_PD_34 : SiteS "ParityDisks" 34 y_PD_isPlace w_PD_isPlace 2 2 := ⟨t_80, t_81, t_1, t_82, ⟨b_PD_isPlace, (some .boolean), Or.inl rfl⟩, by decide +kernel, by decide +kernel⟩
theorem sS_PD_38 : SiteS "ParityDisks" 38 y_PD_legal w_PD_legal 1 1 := ⟨t_83, t_84, t_1, t_85, ⟨b_PD_legal, none, Or.inl rfl⟩, by decide +kernel, by decide +kernel⟩
theorem sS_PD_42 : SiteS "ParityDisks" 42 y_PD_diskOf w_PD_diskOf 2 1 := ⟨t_62, t_63, t_1, t_64, ⟨b_PD_diskOf, (some .int), Or.inl rfl⟩, by decide +kernel, by decide +kernel⟩
theorem sV_PD_45 : SiteV "ParityDisks" 45 y_PD_barred w_PD_barred 4 1 := ⟨t_47, t_49, t_s0, t_1, t_50, ⟨b_PD_barred, (some .int), Or.inl rfl⟩, by decide +kernel, by decide +kernel⟩
theorem sS_PD_48 : SiteS "ParityDisks" 48 y_PD_isLost w_PD_isLost 2 2 := ⟨t_68, t_69, t_1, t_70, ⟨b_PD_isLost, (some .boolean), Or.inl rfl⟩, by decide +kernel, by decide +kernel⟩
theorem sV_PD_54 : SiteV "ParityDisks" 54 y_PD_has w_PD_has 8 3 := ⟨t_164, t_166, t_s2, t_1, t_167, ⟨b_PD_has, (some .long), Or.inl rfl⟩, by decide +kernel, by decide +kernel⟩
theorem sS_PD_58 : SiteS "ParityDisks" 58 y_PD_isDisk w_PD_isDisk 1 1 := ⟨t_182, t_183, t_1, t_184, ⟨b_PD_isDisk, (some .boolean), Or.inl rfl⟩, by decide +kernel, by decide +kernel⟩
theorem sV_PD_61 : SiteV "ParityDisks" 61 y_DK_fail w_DK_fail 1 0 := ⟨t_185, t_186, t_187, t_2, t_188, ⟨b_DK_fail, none, Or.inl rfl⟩, by decide +kernel, by decide +kernel⟩
theorem sV_PD_71 : SiteV "ParityDisks" 71 y_DK_replace w_DK_replace 2 0 := ⟨t_212, t_213, t_214, t_2, t_215, ⟨b_DK_replace, none, Or.inl rfl⟩, by decide +kernel, by decide +kernel⟩
theorem sV_PD_78 : SiteV "ParityDisks" 78 y_PD_rows w_PD_rows 4 3 := ⟨t_230, t_232, t_s3, t_1, t_233, ⟨b_PD_rows, (some (.array .long)), Or.inl rfl⟩, by decide +kernel, by decide +kernel⟩
theorem sV_PD_81 : SiteV "ParityDisks" 81 y_DK_state w_DK_state 1 0 := ⟨t_248, t_249, t_250, t_2, t_251, ⟨b_DK_state, (some .int), Or.inl rfl⟩, by decide +kernel, by decide +kernel⟩
theorem sV_MO_21 : SiteV "ParityDisksModel" 21 y_MO_usable w_MO_usable 3 2 := ⟨t_292, t_294, t_s7, t_3, t_295, ⟨b_MO_usable, (some .boolean), Or.inl rfl⟩, by decide +kernel, by decide +kernel⟩
theorem sS_MO_25 : SiteS "ParityDisksModel" 25 y_MO_at w_MO_at 3 3 := ⟨t_300, t_301, t_3, t_302, ⟨b_MO_at, (some .int), Or.inl rfl⟩, by decide +kernel, by decide +kernel⟩
theorem sV_MO_29 : SiteV "ParityDisksModel" 29 y_MO_others w_MO_others 7 3 := ⟨t_303, t_305, t_s9, t_3, t_306, ⟨b_MO_others, (some .long), Or.inl rfl⟩, by decide +kernel, by decide +kernel⟩
theorem sV_MO_33 : SiteV "ParityDisksModel" 33 y_MO_noPlace w_MO_noPlace 3 2 := ⟨t_277, t_279, t_s4, t_3, t_280, ⟨b_MO_noPlace, (some .boolean), Or.inl rfl⟩, by decide +kernel, by decide +kernel⟩
theorem sV_MO_36 : SiteV "ParityDisksModel" 36 y_MO_fails w_MO_fails 3 2 := ⟨t_281, t_283, t_s5, t_3, t_284, ⟨b_MO_fails, (some .boolean), Or.inl rfl⟩, by decide +kernel, by decide +kernel⟩
theorem sS_MO_40 : SiteS "ParityDisksModel" 40 y_MO_disk w_MO_disk 3 1 := ⟨t_285, t_286, t_3, t_287, ⟨b_MO_disk, (some .int), Or.inl rfl⟩, by decide +kernel, by decide +kernel⟩
theorem sV_MO_44 : SiteV "ParityDisksModel" 44 y_MO_gone w_MO_gone 4 2 := ⟨t_288, t_290, t_s6, t_3, t_291, ⟨b_MO_gone, (some .boolean), Or.inl rfl⟩, by decide +kernel, by decide +kernel⟩
theorem sV_MO_47 : SiteV "ParityDisksModel" 47 y_MO_has w_MO_has 4 3 := ⟨t_296, t_298, t_s8, t_3, t_299, ⟨b_MO_has, (some .long), Or.inl rfl⟩, by decide +kernel, by decide +kernel⟩
theorem sS_MO_50 : SiteS "ParityDisksModel" 50 y_MO_none w_MO_none 1 1 := ⟨t_315, t_316, t_3, t_317, ⟨b_MO_none, (some .boolean), Or.inl rfl⟩, by decide +kernel, by decide +kernel⟩
theorem sV_MO_54 : SiteV "ParityDisksModel" 54 y_MO_noBlock w_MO_noBlock 4 3 := ⟨t_330, t_332, t_s10, t_3, t_333, ⟨b_MO_noBlock, (some .boolean), Or.inl rfl⟩, by decide +kernel, by decide +kernel⟩
theorem sV_LW_7 : SiteV "ParityDisksLaw" 7 y_PD_read w_PD_read 5 2 := ⟨t_76, t_77, t_78, t_1, t_79, ⟨b_PD_read, (some .long), Or.inl rfl⟩, by decide +kernel, by decide +kernel⟩
theorem sV_LW_17 : SiteV "ParityDisksLaw" 17 y_PD_write w_PD_write 10 3 := ⟨t_171, t_172, t_173, t_1, t_174, ⟨b_PD_write, none, Or.inl rfl⟩, by decide +kernel, by decide +kernel⟩
theorem sV_LW_21 : SiteV "ParityDisksLaw" 21 y_PD_fail w_PD_fail 2 1 := ⟨t_178, t_179, t_180, t_1, t_181, ⟨b_PD_fail, none, Or.inl rfl⟩, by decide +kernel, by decide +kernel⟩
theorem sV_LW_25 : SiteV "ParityDisksLaw" 25 y_PD_replace w_PD_replace 2 1 := ⟨t_193, t_194, t_195, t_1, t_196, ⟨b_PD_replace, none, Or.inl rfl⟩, by decide +kernel, by decide +kernel⟩
theorem sV_LW_30 : SiteV "ParityDisksLaw" 30 y_PD_rebuild w_PD_rebuild 6 2 := ⟨t_219, t_220, t_221, t_1, t_222, ⟨b_PD_rebuild, (some .int), Or.inl rfl⟩, by decide +kernel, by decide +kernel⟩
theorem sV_LW_34 : SiteV "ParityDisksLaw" 34 y_PD_flip w_PD_flip 6 4 := ⟨t_226, t_227, t_228, t_1, t_229, ⟨b_PD_flip, none, Or.inl rfl⟩, by decide +kernel, by decide +kernel⟩
theorem sV_LW_38 : SiteV "ParityDisksLaw" 38 y_PD_block w_PD_block 4 3 := ⟨t_237, t_238, t_239, t_1, t_240, ⟨b_PD_block, (some .long), Or.inl rfl⟩, by decide +kernel, by decide +kernel⟩
theorem sV_LW_42 : SiteV "ParityDisksLaw" 42 y_PD_state w_PD_state 2 1 := ⟨t_244, t_245, t_246, t_1, t_247, ⟨b_PD_state, (some .int), Or.inl rfl⟩, by decide +kernel, by decide +kernel⟩
theorem sI_LW_46 : SiteI "ParityDisksLaw" 46 y_PD_init w_PD_init 2 0 := ⟨t_13, rfl, t_1, t_14, ⟨b_PD_init, rfl⟩, by decide +kernel, by decide +kernel⟩
theorem sI_LW_49 : SiteI "ParityDisksLaw" 49 y_MO_init w_MO_init 2 0 := ⟨t_255, rfl, t_3, t_256, ⟨b_MO_init, rfl⟩, by decide +kernel, by decide +kernel⟩
theorem sS_LW_50 : SiteS "ParityDisksLaw" 50 y_LW_read w_LW_read 5 4 := ⟨t_71, t_72, t_0, t_73, ⟨b_LW_read, (some .int), Or.inr ⟨_, rfl⟩⟩, by decide +kernel, by decide +kernel⟩
theorem sV_LW_55 : SiteV "ParityDisksLaw" 55 y_MO_read w_MO_read 5 2 := ⟨t_273, t_274, t_275, t_3, t_276, ⟨b_MO_read, (some .long), Or.inl rfl⟩, by decide +kernel, by decide +kernel⟩
theorem sV_LW_56 : SiteV "ParityDisksLaw" 56 y_MO_thrown w_MO_thrown 1 0 := ⟨t_269, t_270, t_271, t_3, t_272, ⟨b_MO_thrown, (some .int), Or.inl rfl⟩, by decide +kernel, by decide +kernel⟩
theorem sS_LW_62 : SiteS "ParityDisksLaw" 62 y_LW_write w_LW_write 6 4 := ⟨t_168, t_169, t_0, t_170, ⟨b_LW_write, (some .int), Or.inr ⟨_, rfl⟩⟩, by decide +kernel, by decide +kernel⟩
theorem sV_LW_65 : SiteV "ParityDisksLaw" 65 y_MO_write w_MO_write 10 3 := ⟨t_307, t_308, t_309, t_3, t_310, ⟨b_MO_write, none, Or.inl rfl⟩, by decide +kernel, by decide +kernel⟩
theorem sS_LW_66 : SiteS "ParityDisksLaw" 66 y_LW_fail w_LW_fail 3 2 := ⟨t_175, t_176, t_0, t_177, ⟨b_LW_fail, (some .int), Or.inr ⟨_, rfl⟩⟩, by decide +kernel, by decide +kernel⟩
theorem sV_LW_69 : SiteV "ParityDisksLaw" 69 y_MO_fail w_MO_fail 2 1 := ⟨t_311, t_312, t_313, t_3, t_314, ⟨b_MO_fail, none, Or.inl rfl⟩, by decide +kernel, by decide +kernel⟩
theorem sS_LW_70 : SiteS "ParityDisksLaw" 70 y_LW_replace w_LW_replace 3 2 := ⟨t_189, t_190, t_0, t_191, ⟨b_LW_replace, (some .int), Or.inr ⟨_, rfl⟩⟩, by decide +kernel, by decide +kernel⟩
theorem sV_LW_72 : SiteV "ParityDisksLaw" 72 y_MO_replace w_MO_replace 3 1 := ⟨t_318, t_319, t_320, t_3, t_321, ⟨b_MO_replace, none, Or.inl rfl⟩, by decide +kernel, by decide +kernel⟩
theorem sS_LW_73 : SiteS "ParityDisksLaw" 73 y_LW_rebuild w_LW_rebuild 5 4 := ⟨t_216, t_217, t_0, t_218, ⟨b_LW_rebuild, (some .int), Or.inr ⟨_, rfl⟩⟩, by decide +kernel, by decide +kernel⟩
theorem sV_LW_75 : SiteV "ParityDisksLaw" 75 y_MO_rebuild w_MO_rebuild 5 2 := ⟨t_322, t_323, t_324, t_3, t_325, ⟨b_MO_rebuild, (some .int), Or.inl rfl⟩, by decide +kernel, by decide +kernel⟩
theorem sS_LW_76 : SiteS "ParityDisksLaw" 76 y_LW_flip w_LW_flip 7 5 := ⟨t_223, t_224, t_0, t_225, ⟨b_LW_flip, (some .int), Or.inr ⟨_, rfl⟩⟩, by decide +kernel, by decide +kernel⟩
theorem sV_LW_79 : SiteV "ParityDisksLaw" 79 y_MO_flip w_MO_flip 6 4 := ⟨t_326, t_327, t_328, t_3, t_329, ⟨b_MO_flip, none, Or.inl rfl⟩, by decide +kernel, by decide +kernel⟩
theorem sS_LW_80 : SiteS "ParityDisksLaw" 80 y_LW_block w_LW_block 6 5 := ⟨t_234, t_235, t_0, t_236, ⟨b_LW_block, (some .int), Or.inr ⟨_, rfl⟩⟩, by decide +kernel, by decide +kernel⟩
theorem sV_LW_83 : SiteV "ParityDisksLaw" 83 y_MO_block w_MO_block 4 3 := ⟨t_334, t_335, t_336, t_3, t_337, ⟨b_MO_block, (some .long), Or.inl rfl⟩, by decide +kernel, by decide +kernel⟩
theorem sV_LW_84 : SiteV "ParityDisksLaw" 84 y_PD_scrub w_PD_scrub 8 0 := ⟨t_43, t_44, t_45, t_1, t_46, ⟨b_PD_scrub, (some .int), Or.inl rfl⟩, by decide +kernel, by decide +kernel⟩
theorem sV_LW_87 : SiteV "ParityDisksLaw" 87 y_MO_scrub w_MO_scrub 6 0 := ⟨t_338, t_339, t_340, t_3, t_341, ⟨b_MO_scrub, (some .int), Or.inl rfl⟩, by decide +kernel, by decide +kernel⟩
theorem sS_LW_88 : SiteS "ParityDisksLaw" 88 y_LW_state w_LW_state 4 3 := ⟨t_241, t_242, t_0, t_243, ⟨b_LW_state, (some .int), Or.inr ⟨_, rfl⟩⟩, by decide +kernel, by decide +kernel⟩
theorem sV_LW_91 : SiteV "ParityDisksLaw" 91 y_MO_state w_MO_state 2 1 := ⟨t_342, t_343, t_344, t_3, t_345, ⟨b_MO_state, (some .int), Or.inl rfl⟩, by decide +kernel, by decide +kernel⟩
theorem sV_LW_92 : SiteV "ParityDisksLaw" 92 y_PD_lost w_PD_lost 3 0 := ⟨t_58, t_59, t_60, t_1, t_61, ⟨b_PD_lost, (some .int), Or.inl rfl⟩, by decide +kernel, by decide +kernel⟩
theorem sV_LW_95 : SiteV "ParityDisksLaw" 95 y_MO_lost w_MO_lost 3 0 := ⟨t_346, t_347, t_348, t_3, t_349, ⟨b_MO_lost, (some .int), Or.inl rfl⟩, by decide +kernel, by decide +kernel⟩
end
section
theorem d_LW_law_0 : decode code 0 = .ok (.new 8, 3) := by decide +kernel
theorem d_LW_law_3 : decode code 3 = .ok (.dup, 1) := by decide +kernel
theorem d_LW_law_4 : decode code 4 = .ok (.invokespecial 46, 3) := by decide +kernel
theorem d_LW_law_7 : decode code 7 = .ok (.astore_n 1, 1) := by decide +kernel
theorem d_LW_law_8 : decode code 8 = .ok (.new 47, 3) := by decide +kernel
theorem d_LW_law_11 : decode code 11 = .ok (.dup, 1) := by decide +kernel
theorem d_LW_law_12 : decode code 12 = .ok (.invokespecial 49, 3) := by decide +kernel
theorem d_LW_law_15 : decode code 15 = .ok (.astore_n 2, 1) := by decide +kernel
theorem d_LW_law_16 : decode code 16 = .ok (.iconst 1, 1) := by decide +kernel
theorem d_LW_law_17 : decode code 17 = .ok (.newarray .long, 2) := by decide +kernel
theorem d_LW_law_19 : decode code 19 = .ok (.astore_n 3, 1) := by decide +kernel
theorem d_LW_law_20 : decode code 20 = .ok (.iconst 0, 1) := by decide +kernel
theorem d_LW_law_21 : decode code 21 = .ok (.istore 4, 2) := by decide +kernel
theorem d_LW_law_23 : decode code 23 = .ok (.iload 4, 2) := by decide +kernel
theorem d_LW_law_25 : decode code 25 = .ok (.aload_n 0, 1) := by decide +kernel
theorem d_LW_law_26 : decode code 26 = .ok (.arraylength, 1) := by decide +kernel
theorem d_LW_law_27 : decode code 27 = .ok (.bipush 6, 2) := by decide +kernel
theorem d_LW_law_29 : decode code 29 = .ok (.isub, 1) := by decide +kernel
theorem d_LW_law_30 : decode code 30 = .ok (.if_icmp .gt 636, 3) := by decide +kernel
theorem d_LW_law_33 : decode code 33 = .ok (.aload_n 0, 1) := by decide +kernel
theorem d_LW_law_34 : decode code 34 = .ok (.iload 4, 2) := by decide +kernel
theorem d_LW_law_36 : decode code 36 = .ok (.iaload, 1) := by decide +kernel
theorem d_LW_law_37 : decode code 37 = .ok (.bipush 15, 2) := by decide +kernel
theorem d_LW_law_39 : decode code 39 = .ok (.iand, 1) := by decide +kernel
theorem d_LW_law_40 : decode code 40 = .ok (.tableswitch 620 0 9 #[56, 123, 215, 251, 287, 355, 459, 538, 551, 607], 56) := by decide +kernel
theorem d_LW_law_96 : decode code 96 = .ok (.aload_n 1, 1) := by decide +kernel
theorem d_LW_law_97 : decode code 97 = .ok (.aload_n 0, 1) := by decide +kernel
theorem d_LW_law_98 : decode code 98 = .ok (.iload 4, 2) := by decide +kernel
theorem d_LW_law_100 : decode code 100 = .ok (.iconst 1, 1) := by decide +kernel
theorem d_LW_law_101 : decode code 101 = .ok (.iadd, 1) := by decide +kernel
theorem d_LW_law_102 : decode code 102 = .ok (.iaload, 1) := by decide +kernel
theorem d_LW_law_103 : decode code 103 = .ok (.aload_n 0, 1) := by decide +kernel
theorem d_LW_law_104 : decode code 104 = .ok (.iload 4, 2) := by decide +kernel
theorem d_LW_law_106 : decode code 106 = .ok (.iconst 2, 1) := by decide +kernel
theorem d_LW_law_107 : decode code 107 = .ok (.iadd, 1) := by decide +kernel
theorem d_LW_law_108 : decode code 108 = .ok (.iaload, 1) := by decide +kernel
theorem d_LW_law_109 : decode code 109 = .ok (.aload_n 3, 1) := by decide +kernel
theorem d_LW_law_110 : decode code 110 = .ok (.invokestatic 50, 3) := by decide +kernel
theorem d_LW_law_113 : decode code 113 = .ok (.istore 5, 2) := by decide +kernel
theorem d_LW_law_115 : decode code 115 = .ok (.aload_n 2, 1) := by decide +kernel
theorem d_LW_law_116 : decode code 116 = .ok (.aload_n 0, 1) := by decide +kernel
theorem d_LW_law_117 : decode code 117 = .ok (.iload 4, 2) := by decide +kernel
theorem d_LW_law_119 : decode code 119 = .ok (.iconst 1, 1) := by decide +kernel
theorem d_LW_law_120 : decode code 120 = .ok (.iadd, 1) := by decide +kernel
theorem d_LW_law_121 : decode code 121 = .ok (.iaload, 1) := by decide +kernel
theorem d_LW_law_122 : decode code 122 = .ok (.aload_n 0, 1) := by decide +kernel
theorem d_LW_law_123 : decode code 123 = .ok (.iload 4, 2) := by decide +kernel
theorem d_LW_law_125 : decode code 125 = .ok (.iconst 2, 1) := by decide +kernel
theorem d_LW_law_126 : decode code 126 = .ok (.iadd, 1) := by decide +kernel
theorem d_LW_law_127 : decode code 127 = .ok (.iaload, 1) := by decide +kernel
theorem d_LW_law_128 : decode code 128 = .ok (.invokevirtual 55, 3) := by decide +kernel
theorem d_LW_law_131 : decode code 131 = .ok (.lstore 6, 2) := by decide +kernel
theorem d_LW_law_133 : decode code 133 = .ok (.aload_n 2, 1) := by decide +kernel
theorem d_LW_law_134 : decode code 134 = .ok (.invokevirtual 56, 3) := by decide +kernel
theorem d_LW_law_137 : decode code 137 = .ok (.iload 5, 2) := by decide +kernel
theorem d_LW_law_139 : decode code 139 = .ok (.if_icmp .eq 5, 3) := by decide +kernel
theorem d_LW_law_142 : decode code 142 = .ok (.iconst 0, 1) := by decide +kernel
theorem d_LW_law_143 : decode code 143 = .ok (.ireturn, 1) := by decide +kernel
theorem d_LW_law_144 : decode code 144 = .ok (.iload 5, 2) := by decide +kernel
theorem d_LW_law_146 : decode code 146 = .ok (.ifCond .ne 14, 3) := by decide +kernel
theorem d_LW_law_149 : decode code 149 = .ok (.aload_n 3, 1) := by decide +kernel
theorem d_LW_law_150 : decode code 150 = .ok (.iconst 0, 1) := by decide +kernel
theorem d_LW_law_151 : decode code 151 = .ok (.laload, 1) := by decide +kernel
theorem d_LW_law_152 : decode code 152 = .ok (.lload 6, 2) := by decide +kernel
theorem d_LW_law_154 : decode code 154 = .ok (.lcmp, 1) := by decide +kernel
theorem d_LW_law_155 : decode code 155 = .ok (.ifCond .eq 5, 3) := by decide +kernel
theorem d_LW_law_158 : decode code 158 = .ok (.iconst 0, 1) := by decide +kernel
theorem d_LW_law_159 : decode code 159 = .ok (.ireturn, 1) := by decide +kernel
theorem d_LW_law_160 : decode code 160 = .ok (.goto 500, 3) := by decide +kernel
theorem d_LW_law_163 : decode code 163 = .ok (.aload_n 1, 1) := by decide +kernel
theorem d_LW_law_164 : decode code 164 = .ok (.aload_n 0, 1) := by decide +kernel
theorem d_LW_law_165 : decode code 165 = .ok (.iload 4, 2) := by decide +kernel
theorem d_LW_law_167 : decode code 167 = .ok (.iconst 1, 1) := by decide +kernel
theorem d_LW_law_168 : decode code 168 = .ok (.iadd, 1) := by decide +kernel
theorem d_LW_law_169 : decode code 169 = .ok (.iaload, 1) := by decide +kernel
theorem d_LW_law_170 : decode code 170 = .ok (.aload_n 0, 1) := by decide +kernel
theorem d_LW_law_171 : decode code 171 = .ok (.iload 4, 2) := by decide +kernel
theorem d_LW_law_173 : decode code 173 = .ok (.iconst 2, 1) := by decide +kernel
theorem d_LW_law_174 : decode code 174 = .ok (.iadd, 1) := by decide +kernel
theorem d_LW_law_175 : decode code 175 = .ok (.iaload, 1) := by decide +kernel
theorem d_LW_law_176 : decode code 176 = .ok (.aload_n 0, 1) := by decide +kernel
theorem d_LW_law_177 : decode code 177 = .ok (.iload 4, 2) := by decide +kernel
theorem d_LW_law_179 : decode code 179 = .ok (.iconst 3, 1) := by decide +kernel
theorem d_LW_law_180 : decode code 180 = .ok (.iadd, 1) := by decide +kernel
theorem d_LW_law_181 : decode code 181 = .ok (.iaload, 1) := by decide +kernel
theorem d_LW_law_182 : decode code 182 = .ok (.i2l, 1) := by decide +kernel
theorem d_LW_law_183 : decode code 183 = .ok (.bipush 32, 2) := by decide +kernel
theorem d_LW_law_185 : decode code 185 = .ok (.lshl, 1) := by decide +kernel
theorem d_LW_law_186 : decode code 186 = .ok (.aload_n 0, 1) := by decide +kernel
theorem d_LW_law_187 : decode code 187 = .ok (.iload 4, 2) := by decide +kernel
theorem d_LW_law_189 : decode code 189 = .ok (.iconst 4, 1) := by decide +kernel
theorem d_LW_law_190 : decode code 190 = .ok (.iadd, 1) := by decide +kernel
theorem d_LW_law_191 : decode code 191 = .ok (.iaload, 1) := by decide +kernel
theorem d_LW_law_192 : decode code 192 = .ok (.i2l, 1) := by decide +kernel
theorem d_LW_law_193 : decode code 193 = .ok (.ldc2_w 60, 3) := by decide +kernel
theorem d_LW_law_196 : decode code 196 = .ok (.land, 1) := by decide +kernel
theorem d_LW_law_197 : decode code 197 = .ok (.lor, 1) := by decide +kernel
theorem d_LW_law_198 : decode code 198 = .ok (.invokestatic 62, 3) := by decide +kernel
theorem d_LW_law_201 : decode code 201 = .ok (.istore 5, 2) := by decide +kernel
theorem d_LW_law_203 : decode code 203 = .ok (.aload_n 2, 1) := by decide +kernel
theorem d_LW_law_204 : decode code 204 = .ok (.aload_n 0, 1) := by decide +kernel
theorem d_LW_law_205 : decode code 205 = .ok (.iload 4, 2) := by decide +kernel
theorem d_LW_law_207 : decode code 207 = .ok (.iconst 1, 1) := by decide +kernel
theorem d_LW_law_208 : decode code 208 = .ok (.iadd, 1) := by decide +kernel
theorem d_LW_law_209 : decode code 209 = .ok (.iaload, 1) := by decide +kernel
theorem d_LW_law_210 : decode code 210 = .ok (.aload_n 0, 1) := by decide +kernel
theorem d_LW_law_211 : decode code 211 = .ok (.iload 4, 2) := by decide +kernel
theorem d_LW_law_213 : decode code 213 = .ok (.iconst 2, 1) := by decide +kernel
theorem d_LW_law_214 : decode code 214 = .ok (.iadd, 1) := by decide +kernel
theorem d_LW_law_215 : decode code 215 = .ok (.iaload, 1) := by decide +kernel
theorem d_LW_law_216 : decode code 216 = .ok (.aload_n 0, 1) := by decide +kernel
theorem d_LW_law_217 : decode code 217 = .ok (.iload 4, 2) := by decide +kernel
theorem d_LW_law_219 : decode code 219 = .ok (.iconst 3, 1) := by decide +kernel
theorem d_LW_law_220 : decode code 220 = .ok (.iadd, 1) := by decide +kernel
theorem d_LW_law_221 : decode code 221 = .ok (.iaload, 1) := by decide +kernel
theorem d_LW_law_222 : decode code 222 = .ok (.i2l, 1) := by decide +kernel
theorem d_LW_law_223 : decode code 223 = .ok (.bipush 32, 2) := by decide +kernel
theorem d_LW_law_225 : decode code 225 = .ok (.lshl, 1) := by decide +kernel
theorem d_LW_law_226 : decode code 226 = .ok (.aload_n 0, 1) := by decide +kernel
theorem d_LW_law_227 : decode code 227 = .ok (.iload 4, 2) := by decide +kernel
theorem d_LW_law_229 : decode code 229 = .ok (.iconst 4, 1) := by decide +kernel
theorem d_LW_law_230 : decode code 230 = .ok (.iadd, 1) := by decide +kernel
theorem d_LW_law_231 : decode code 231 = .ok (.iaload, 1) := by decide +kernel
theorem d_LW_law_232 : decode code 232 = .ok (.i2l, 1) := by decide +kernel
theorem d_LW_law_233 : decode code 233 = .ok (.ldc2_w 60, 3) := by decide +kernel
theorem d_LW_law_236 : decode code 236 = .ok (.land, 1) := by decide +kernel
theorem d_LW_law_237 : decode code 237 = .ok (.lor, 1) := by decide +kernel
theorem d_LW_law_238 : decode code 238 = .ok (.invokevirtual 65, 3) := by decide +kernel
theorem d_LW_law_241 : decode code 241 = .ok (.aload_n 2, 1) := by decide +kernel
theorem d_LW_law_242 : decode code 242 = .ok (.invokevirtual 56, 3) := by decide +kernel
theorem d_LW_law_245 : decode code 245 = .ok (.iload 5, 2) := by decide +kernel
theorem d_LW_law_247 : decode code 247 = .ok (.if_icmp .eq 5, 3) := by decide +kernel
theorem d_LW_law_250 : decode code 250 = .ok (.iconst 0, 1) := by decide +kernel
theorem d_LW_law_251 : decode code 251 = .ok (.ireturn, 1) := by decide +kernel
theorem d_LW_law_252 : decode code 252 = .ok (.goto 408, 3) := by decide +kernel
theorem d_LW_law_255 : decode code 255 = .ok (.aload_n 1, 1) := by decide +kernel
theorem d_LW_law_256 : decode code 256 = .ok (.aload_n 0, 1) := by decide +kernel
theorem d_LW_law_257 : decode code 257 = .ok (.iload 4, 2) := by decide +kernel
theorem d_LW_law_259 : decode code 259 = .ok (.iconst 1, 1) := by decide +kernel
theorem d_LW_law_260 : decode code 260 = .ok (.iadd, 1) := by decide +kernel
theorem d_LW_law_261 : decode code 261 = .ok (.iaload, 1) := by decide +kernel
theorem d_LW_law_262 : decode code 262 = .ok (.invokestatic 66, 3) := by decide +kernel
theorem d_LW_law_265 : decode code 265 = .ok (.istore 5, 2) := by decide +kernel
theorem d_LW_law_267 : decode code 267 = .ok (.aload_n 2, 1) := by decide +kernel
theorem d_LW_law_268 : decode code 268 = .ok (.aload_n 0, 1) := by decide +kernel
theorem d_LW_law_269 : decode code 269 = .ok (.iload 4, 2) := by decide +kernel
theorem d_LW_law_271 : decode code 271 = .ok (.iconst 1, 1) := by decide +kernel
theorem d_LW_law_272 : decode code 272 = .ok (.iadd, 1) := by decide +kernel
theorem d_LW_law_273 : decode code 273 = .ok (.iaload, 1) := by decide +kernel
theorem d_LW_law_274 : decode code 274 = .ok (.invokevirtual 69, 3) := by decide +kernel
theorem d_LW_law_277 : decode code 277 = .ok (.aload_n 2, 1) := by decide +kernel
theorem d_LW_law_278 : decode code 278 = .ok (.invokevirtual 56, 3) := by decide +kernel
theorem d_LW_law_281 : decode code 281 = .ok (.iload 5, 2) := by decide +kernel
theorem d_LW_law_283 : decode code 283 = .ok (.if_icmp .eq 5, 3) := by decide +kernel
theorem d_LW_law_286 : decode code 286 = .ok (.iconst 0, 1) := by decide +kernel
theorem d_LW_law_287 : decode code 287 = .ok (.ireturn, 1) := by decide +kernel
theorem d_LW_law_288 : decode code 288 = .ok (.goto 372, 3) := by decide +kernel
theorem d_LW_law_291 : decode code 291 = .ok (.aload_n 1, 1) := by decide +kernel
theorem d_LW_law_292 : decode code 292 = .ok (.aload_n 0, 1) := by decide +kernel
theorem d_LW_law_293 : decode code 293 = .ok (.iload 4, 2) := by decide +kernel
theorem d_LW_law_295 : decode code 295 = .ok (.iconst 1, 1) := by decide +kernel
theorem d_LW_law_296 : decode code 296 = .ok (.iadd, 1) := by decide +kernel
theorem d_LW_law_297 : decode code 297 = .ok (.iaload, 1) := by decide +kernel
theorem d_LW_law_298 : decode code 298 = .ok (.invokestatic 70, 3) := by decide +kernel
theorem d_LW_law_301 : decode code 301 = .ok (.istore 5, 2) := by decide +kernel
theorem d_LW_law_303 : decode code 303 = .ok (.aload_n 2, 1) := by decide +kernel
theorem d_LW_law_304 : decode code 304 = .ok (.aload_n 0, 1) := by decide +kernel
theorem d_LW_law_305 : decode code 305 = .ok (.iload 4, 2) := by decide +kernel
theorem d_LW_law_307 : decode code 307 = .ok (.iconst 1, 1) := by decide +kernel
theorem d_LW_law_308 : decode code 308 = .ok (.iadd, 1) := by decide +kernel
theorem d_LW_law_309 : decode code 309 = .ok (.iaload, 1) := by decide +kernel
theorem d_LW_law_310 : decode code 310 = .ok (.invokevirtual 72, 3) := by decide +kernel
theorem d_LW_law_313 : decode code 313 = .ok (.aload_n 2, 1) := by decide +kernel
theorem d_LW_law_314 : decode code 314 = .ok (.invokevirtual 56, 3) := by decide +kernel
theorem d_LW_law_317 : decode code 317 = .ok (.iload 5, 2) := by decide +kernel
theorem d_LW_law_319 : decode code 319 = .ok (.if_icmp .eq 5, 3) := by decide +kernel
theorem d_LW_law_322 : decode code 322 = .ok (.iconst 0, 1) := by decide +kernel
theorem d_LW_law_323 : decode code 323 = .ok (.ireturn, 1) := by decide +kernel
theorem d_LW_law_324 : decode code 324 = .ok (.goto 336, 3) := by decide +kernel
theorem d_LW_law_327 : decode code 327 = .ok (.aload_n 1, 1) := by decide +kernel
theorem d_LW_law_328 : decode code 328 = .ok (.aload_n 0, 1) := by decide +kernel
theorem d_LW_law_329 : decode code 329 = .ok (.iload 4, 2) := by decide +kernel
theorem d_LW_law_331 : decode code 331 = .ok (.iconst 1, 1) := by decide +kernel
theorem d_LW_law_332 : decode code 332 = .ok (.iadd, 1) := by decide +kernel
theorem d_LW_law_333 : decode code 333 = .ok (.iaload, 1) := by decide +kernel
theorem d_LW_law_334 : decode code 334 = .ok (.aload_n 0, 1) := by decide +kernel
theorem d_LW_law_335 : decode code 335 = .ok (.iload 4, 2) := by decide +kernel
theorem d_LW_law_337 : decode code 337 = .ok (.iconst 2, 1) := by decide +kernel
theorem d_LW_law_338 : decode code 338 = .ok (.iadd, 1) := by decide +kernel
theorem d_LW_law_339 : decode code 339 = .ok (.iaload, 1) := by decide +kernel
theorem d_LW_law_340 : decode code 340 = .ok (.aload_n 3, 1) := by decide +kernel
theorem d_LW_law_341 : decode code 341 = .ok (.invokestatic 73, 3) := by decide +kernel
theorem d_LW_law_344 : decode code 344 = .ok (.istore 5, 2) := by decide +kernel
theorem d_LW_law_346 : decode code 346 = .ok (.aload_n 2, 1) := by decide +kernel
theorem d_LW_law_347 : decode code 347 = .ok (.aload_n 0, 1) := by decide +kernel
theorem d_LW_law_348 : decode code 348 = .ok (.iload 4, 2) := by decide +kernel
theorem d_LW_law_350 : decode code 350 = .ok (.iconst 1, 1) := by decide +kernel
theorem d_LW_law_351 : decode code 351 = .ok (.iadd, 1) := by decide +kernel
theorem d_LW_law_352 : decode code 352 = .ok (.iaload, 1) := by decide +kernel
theorem d_LW_law_353 : decode code 353 = .ok (.aload_n 0, 1) := by decide +kernel
theorem d_LW_law_354 : decode code 354 = .ok (.iload 4, 2) := by decide +kernel
theorem d_LW_law_356 : decode code 356 = .ok (.iconst 2, 1) := by decide +kernel
theorem d_LW_law_357 : decode code 357 = .ok (.iadd, 1) := by decide +kernel
theorem d_LW_law_358 : decode code 358 = .ok (.iaload, 1) := by decide +kernel
theorem d_LW_law_359 : decode code 359 = .ok (.invokevirtual 75, 3) := by decide +kernel
theorem d_LW_law_362 : decode code 362 = .ok (.istore 6, 2) := by decide +kernel
theorem d_LW_law_364 : decode code 364 = .ok (.aload_n 2, 1) := by decide +kernel
theorem d_LW_law_365 : decode code 365 = .ok (.invokevirtual 56, 3) := by decide +kernel
theorem d_LW_law_368 : decode code 368 = .ok (.iload 5, 2) := by decide +kernel
theorem d_LW_law_370 : decode code 370 = .ok (.if_icmp .eq 5, 3) := by decide +kernel
theorem d_LW_law_373 : decode code 373 = .ok (.iconst 0, 1) := by decide +kernel
theorem d_LW_law_374 : decode code 374 = .ok (.ireturn, 1) := by decide +kernel
theorem d_LW_law_375 : decode code 375 = .ok (.iload 5, 2) := by decide +kernel
theorem d_LW_law_377 : decode code 377 = .ok (.ifCond .ne 15, 3) := by decide +kernel
theorem d_LW_law_380 : decode code 380 = .ok (.aload_n 3, 1) := by decide +kernel
theorem d_LW_law_381 : decode code 381 = .ok (.iconst 0, 1) := by decide +kernel
theorem d_LW_law_382 : decode code 382 = .ok (.laload, 1) := by decide +kernel
theorem d_LW_law_383 : decode code 383 = .ok (.iload 6, 2) := by decide +kernel
theorem d_LW_law_385 : decode code 385 = .ok (.i2l, 1) := by decide +kernel
theorem d_LW_law_386 : decode code 386 = .ok (.lcmp, 1) := by decide +kernel
theorem d_LW_law_387 : decode code 387 = .ok (.ifCond .eq 5, 3) := by decide +kernel
theorem d_LW_law_390 : decode code 390 = .ok (.iconst 0, 1) := by decide +kernel
theorem d_LW_law_391 : decode code 391 = .ok (.ireturn, 1) := by decide +kernel
theorem d_LW_law_392 : decode code 392 = .ok (.goto 268, 3) := by decide +kernel
theorem d_LW_law_395 : decode code 395 = .ok (.aload_n 1, 1) := by decide +kernel
theorem d_LW_law_396 : decode code 396 = .ok (.aload_n 0, 1) := by decide +kernel
theorem d_LW_law_397 : decode code 397 = .ok (.iload 4, 2) := by decide +kernel
theorem d_LW_law_399 : decode code 399 = .ok (.iconst 1, 1) := by decide +kernel
theorem d_LW_law_400 : decode code 400 = .ok (.iadd, 1) := by decide +kernel
theorem d_LW_law_401 : decode code 401 = .ok (.iaload, 1) := by decide +kernel
theorem d_LW_law_402 : decode code 402 = .ok (.aload_n 0, 1) := by decide +kernel
theorem d_LW_law_403 : decode code 403 = .ok (.iload 4, 2) := by decide +kernel
theorem d_LW_law_405 : decode code 405 = .ok (.iconst 2, 1) := by decide +kernel
theorem d_LW_law_406 : decode code 406 = .ok (.iadd, 1) := by decide +kernel
theorem d_LW_law_407 : decode code 407 = .ok (.iaload, 1) := by decide +kernel
theorem d_LW_law_408 : decode code 408 = .ok (.aload_n 0, 1) := by decide +kernel
theorem d_LW_law_409 : decode code 409 = .ok (.iload 4, 2) := by decide +kernel
theorem d_LW_law_411 : decode code 411 = .ok (.iconst 3, 1) := by decide +kernel
theorem d_LW_law_412 : decode code 412 = .ok (.iadd, 1) := by decide +kernel
theorem d_LW_law_413 : decode code 413 = .ok (.iaload, 1) := by decide +kernel
theorem d_LW_law_414 : decode code 414 = .ok (.aload_n 0, 1) := by decide +kernel
theorem d_LW_law_415 : decode code 415 = .ok (.iload 4, 2) := by decide +kernel
theorem d_LW_law_417 : decode code 417 = .ok (.iconst 4, 1) := by decide +kernel
theorem d_LW_law_418 : decode code 418 = .ok (.iadd, 1) := by decide +kernel
theorem d_LW_law_419 : decode code 419 = .ok (.iaload, 1) := by decide +kernel
theorem d_LW_law_420 : decode code 420 = .ok (.i2l, 1) := by decide +kernel
theorem d_LW_law_421 : decode code 421 = .ok (.bipush 32, 2) := by decide +kernel
theorem d_LW_law_423 : decode code 423 = .ok (.lshl, 1) := by decide +kernel
theorem d_LW_law_424 : decode code 424 = .ok (.aload_n 0, 1) := by decide +kernel
theorem d_LW_law_425 : decode code 425 = .ok (.iload 4, 2) := by decide +kernel
theorem d_LW_law_427 : decode code 427 = .ok (.iconst 5, 1) := by decide +kernel
theorem d_LW_law_428 : decode code 428 = .ok (.iadd, 1) := by decide +kernel
theorem d_LW_law_429 : decode code 429 = .ok (.iaload, 1) := by decide +kernel
theorem d_LW_law_430 : decode code 430 = .ok (.i2l, 1) := by decide +kernel
theorem d_LW_law_431 : decode code 431 = .ok (.ldc2_w 60, 3) := by decide +kernel
theorem d_LW_law_434 : decode code 434 = .ok (.land, 1) := by decide +kernel
theorem d_LW_law_435 : decode code 435 = .ok (.lor, 1) := by decide +kernel
theorem d_LW_law_436 : decode code 436 = .ok (.invokestatic 76, 3) := by decide +kernel
theorem d_LW_law_439 : decode code 439 = .ok (.istore 5, 2) := by decide +kernel
theorem d_LW_law_441 : decode code 441 = .ok (.aload_n 2, 1) := by decide +kernel
theorem d_LW_law_442 : decode code 442 = .ok (.aload_n 0, 1) := by decide +kernel
theorem d_LW_law_443 : decode code 443 = .ok (.iload 4, 2) := by decide +kernel
theorem d_LW_law_445 : decode code 445 = .ok (.iconst 1, 1) := by decide +kernel
theorem d_LW_law_446 : decode code 446 = .ok (.iadd, 1) := by decide +kernel
theorem d_LW_law_447 : decode code 447 = .ok (.iaload, 1) := by decide +kernel
theorem d_LW_law_448 : decode code 448 = .ok (.aload_n 0, 1) := by decide +kernel
theorem d_LW_law_449 : decode code 449 = .ok (.iload 4, 2) := by decide +kernel
theorem d_LW_law_451 : decode code 451 = .ok (.iconst 2, 1) := by decide +kernel
theorem d_LW_law_452 : decode code 452 = .ok (.iadd, 1) := by decide +kernel
theorem d_LW_law_453 : decode code 453 = .ok (.iaload, 1) := by decide +kernel
theorem d_LW_law_454 : decode code 454 = .ok (.aload_n 0, 1) := by decide +kernel
theorem d_LW_law_455 : decode code 455 = .ok (.iload 4, 2) := by decide +kernel
theorem d_LW_law_457 : decode code 457 = .ok (.iconst 3, 1) := by decide +kernel
theorem d_LW_law_458 : decode code 458 = .ok (.iadd, 1) := by decide +kernel
theorem d_LW_law_459 : decode code 459 = .ok (.iaload, 1) := by decide +kernel
theorem d_LW_law_460 : decode code 460 = .ok (.aload_n 0, 1) := by decide +kernel
theorem d_LW_law_461 : decode code 461 = .ok (.iload 4, 2) := by decide +kernel
theorem d_LW_law_463 : decode code 463 = .ok (.iconst 4, 1) := by decide +kernel
theorem d_LW_law_464 : decode code 464 = .ok (.iadd, 1) := by decide +kernel
theorem d_LW_law_465 : decode code 465 = .ok (.iaload, 1) := by decide +kernel
theorem d_LW_law_466 : decode code 466 = .ok (.i2l, 1) := by decide +kernel
theorem d_LW_law_467 : decode code 467 = .ok (.bipush 32, 2) := by decide +kernel
theorem d_LW_law_469 : decode code 469 = .ok (.lshl, 1) := by decide +kernel
theorem d_LW_law_470 : decode code 470 = .ok (.aload_n 0, 1) := by decide +kernel
theorem d_LW_law_471 : decode code 471 = .ok (.iload 4, 2) := by decide +kernel
theorem d_LW_law_473 : decode code 473 = .ok (.iconst 5, 1) := by decide +kernel
theorem d_LW_law_474 : decode code 474 = .ok (.iadd, 1) := by decide +kernel
theorem d_LW_law_475 : decode code 475 = .ok (.iaload, 1) := by decide +kernel
theorem d_LW_law_476 : decode code 476 = .ok (.i2l, 1) := by decide +kernel
theorem d_LW_law_477 : decode code 477 = .ok (.ldc2_w 60, 3) := by decide +kernel
theorem d_LW_law_480 : decode code 480 = .ok (.land, 1) := by decide +kernel
theorem d_LW_law_481 : decode code 481 = .ok (.lor, 1) := by decide +kernel
theorem d_LW_law_482 : decode code 482 = .ok (.invokevirtual 79, 3) := by decide +kernel
theorem d_LW_law_485 : decode code 485 = .ok (.aload_n 2, 1) := by decide +kernel
theorem d_LW_law_486 : decode code 486 = .ok (.invokevirtual 56, 3) := by decide +kernel
theorem d_LW_law_489 : decode code 489 = .ok (.iload 5, 2) := by decide +kernel
theorem d_LW_law_491 : decode code 491 = .ok (.if_icmp .eq 5, 3) := by decide +kernel
theorem d_LW_law_494 : decode code 494 = .ok (.iconst 0, 1) := by decide +kernel
theorem d_LW_law_495 : decode code 495 = .ok (.ireturn, 1) := by decide +kernel
theorem d_LW_law_496 : decode code 496 = .ok (.goto 164, 3) := by decide +kernel
theorem d_LW_law_499 : decode code 499 = .ok (.aload_n 1, 1) := by decide +kernel
theorem d_LW_law_500 : decode code 500 = .ok (.aload_n 0, 1) := by decide +kernel
theorem d_LW_law_501 : decode code 501 = .ok (.iload 4, 2) := by decide +kernel
theorem d_LW_law_503 : decode code 503 = .ok (.iconst 1, 1) := by decide +kernel
theorem d_LW_law_504 : decode code 504 = .ok (.iadd, 1) := by decide +kernel
theorem d_LW_law_505 : decode code 505 = .ok (.iaload, 1) := by decide +kernel
theorem d_LW_law_506 : decode code 506 = .ok (.aload_n 0, 1) := by decide +kernel
theorem d_LW_law_507 : decode code 507 = .ok (.iload 4, 2) := by decide +kernel
theorem d_LW_law_509 : decode code 509 = .ok (.iconst 2, 1) := by decide +kernel
theorem d_LW_law_510 : decode code 510 = .ok (.iadd, 1) := by decide +kernel
theorem d_LW_law_511 : decode code 511 = .ok (.iaload, 1) := by decide +kernel
theorem d_LW_law_512 : decode code 512 = .ok (.aload_n 0, 1) := by decide +kernel
theorem d_LW_law_513 : decode code 513 = .ok (.iload 4, 2) := by decide +kernel
theorem d_LW_law_515 : decode code 515 = .ok (.iconst 3, 1) := by decide +kernel
theorem d_LW_law_516 : decode code 516 = .ok (.iadd, 1) := by decide +kernel
theorem d_LW_law_517 : decode code 517 = .ok (.iaload, 1) := by decide +kernel
theorem d_LW_law_518 : decode code 518 = .ok (.aload_n 3, 1) := by decide +kernel
theorem d_LW_law_519 : decode code 519 = .ok (.invokestatic 80, 3) := by decide +kernel
theorem d_LW_law_522 : decode code 522 = .ok (.istore 5, 2) := by decide +kernel
theorem d_LW_law_524 : decode code 524 = .ok (.aload_n 2, 1) := by decide +kernel
theorem d_LW_law_525 : decode code 525 = .ok (.aload_n 0, 1) := by decide +kernel
theorem d_LW_law_526 : decode code 526 = .ok (.iload 4, 2) := by decide +kernel
theorem d_LW_law_528 : decode code 528 = .ok (.iconst 1, 1) := by decide +kernel
theorem d_LW_law_529 : decode code 529 = .ok (.iadd, 1) := by decide +kernel
theorem d_LW_law_530 : decode code 530 = .ok (.iaload, 1) := by decide +kernel
theorem d_LW_law_531 : decode code 531 = .ok (.aload_n 0, 1) := by decide +kernel
theorem d_LW_law_532 : decode code 532 = .ok (.iload 4, 2) := by decide +kernel
theorem d_LW_law_534 : decode code 534 = .ok (.iconst 2, 1) := by decide +kernel
theorem d_LW_law_535 : decode code 535 = .ok (.iadd, 1) := by decide +kernel
theorem d_LW_law_536 : decode code 536 = .ok (.iaload, 1) := by decide +kernel
theorem d_LW_law_537 : decode code 537 = .ok (.aload_n 0, 1) := by decide +kernel
theorem d_LW_law_538 : decode code 538 = .ok (.iload 4, 2) := by decide +kernel
theorem d_LW_law_540 : decode code 540 = .ok (.iconst 3, 1) := by decide +kernel
theorem d_LW_law_541 : decode code 541 = .ok (.iadd, 1) := by decide +kernel
theorem d_LW_law_542 : decode code 542 = .ok (.iaload, 1) := by decide +kernel
theorem d_LW_law_543 : decode code 543 = .ok (.invokevirtual 83, 3) := by decide +kernel
theorem d_LW_law_546 : decode code 546 = .ok (.lstore 6, 2) := by decide +kernel
theorem d_LW_law_548 : decode code 548 = .ok (.aload_n 2, 1) := by decide +kernel
theorem d_LW_law_549 : decode code 549 = .ok (.invokevirtual 56, 3) := by decide +kernel
theorem d_LW_law_552 : decode code 552 = .ok (.iload 5, 2) := by decide +kernel
theorem d_LW_law_554 : decode code 554 = .ok (.if_icmp .eq 5, 3) := by decide +kernel
theorem d_LW_law_557 : decode code 557 = .ok (.iconst 0, 1) := by decide +kernel
theorem d_LW_law_558 : decode code 558 = .ok (.ireturn, 1) := by decide +kernel
theorem d_LW_law_559 : decode code 559 = .ok (.iload 5, 2) := by decide +kernel
theorem d_LW_law_561 : decode code 561 = .ok (.ifCond .ne 14, 3) := by decide +kernel
theorem d_LW_law_564 : decode code 564 = .ok (.aload_n 3, 1) := by decide +kernel
theorem d_LW_law_565 : decode code 565 = .ok (.iconst 0, 1) := by decide +kernel
theorem d_LW_law_566 : decode code 566 = .ok (.laload, 1) := by decide +kernel
theorem d_LW_law_567 : decode code 567 = .ok (.lload 6, 2) := by decide +kernel
theorem d_LW_law_569 : decode code 569 = .ok (.lcmp, 1) := by decide +kernel
theorem d_LW_law_570 : decode code 570 = .ok (.ifCond .eq 5, 3) := by decide +kernel
theorem d_LW_law_573 : decode code 573 = .ok (.iconst 0, 1) := by decide +kernel
theorem d_LW_law_574 : decode code 574 = .ok (.ireturn, 1) := by decide +kernel
theorem d_LW_law_575 : decode code 575 = .ok (.goto 85, 3) := by decide +kernel
theorem d_LW_law_578 : decode code 578 = .ok (.aload_n 1, 1) := by decide +kernel
theorem d_LW_law_579 : decode code 579 = .ok (.invokevirtual 84, 3) := by decide +kernel
theorem d_LW_law_582 : decode code 582 = .ok (.aload_n 2, 1) := by decide +kernel
theorem d_LW_law_583 : decode code 583 = .ok (.invokevirtual 87, 3) := by decide +kernel
theorem d_LW_law_586 : decode code 586 = .ok (.if_icmp .eq 74, 3) := by decide +kernel
theorem d_LW_law_589 : decode code 589 = .ok (.iconst 0, 1) := by decide +kernel
theorem d_LW_law_590 : decode code 590 = .ok (.ireturn, 1) := by decide +kernel
theorem d_LW_law_591 : decode code 591 = .ok (.aload_n 1, 1) := by decide +kernel
theorem d_LW_law_592 : decode code 592 = .ok (.aload_n 0, 1) := by decide +kernel
theorem d_LW_law_593 : decode code 593 = .ok (.iload 4, 2) := by decide +kernel
theorem d_LW_law_595 : decode code 595 = .ok (.iconst 1, 1) := by decide +kernel
theorem d_LW_law_596 : decode code 596 = .ok (.iadd, 1) := by decide +kernel
theorem d_LW_law_597 : decode code 597 = .ok (.iaload, 1) := by decide +kernel
theorem d_LW_law_598 : decode code 598 = .ok (.aload_n 3, 1) := by decide +kernel
theorem d_LW_law_599 : decode code 599 = .ok (.invokestatic 88, 3) := by decide +kernel
theorem d_LW_law_602 : decode code 602 = .ok (.istore 5, 2) := by decide +kernel
theorem d_LW_law_604 : decode code 604 = .ok (.aload_n 2, 1) := by decide +kernel
theorem d_LW_law_605 : decode code 605 = .ok (.aload_n 0, 1) := by decide +kernel
theorem d_LW_law_606 : decode code 606 = .ok (.iload 4, 2) := by decide +kernel
theorem d_LW_law_608 : decode code 608 = .ok (.iconst 1, 1) := by decide +kernel
theorem d_LW_law_609 : decode code 609 = .ok (.iadd, 1) := by decide +kernel
theorem d_LW_law_610 : decode code 610 = .ok (.iaload, 1) := by decide +kernel
theorem d_LW_law_611 : decode code 611 = .ok (.invokevirtual 91, 3) := by decide +kernel
theorem d_LW_law_614 : decode code 614 = .ok (.istore 6, 2) := by decide +kernel
theorem d_LW_law_616 : decode code 616 = .ok (.aload_n 2, 1) := by decide +kernel
theorem d_LW_law_617 : decode code 617 = .ok (.invokevirtual 56, 3) := by decide +kernel
theorem d_LW_law_620 : decode code 620 = .ok (.iload 5, 2) := by decide +kernel
theorem d_LW_law_622 : decode code 622 = .ok (.if_icmp .eq 5, 3) := by decide +kernel
theorem d_LW_law_625 : decode code 625 = .ok (.iconst 0, 1) := by decide +kernel
theorem d_LW_law_626 : decode code 626 = .ok (.ireturn, 1) := by decide +kernel
theorem d_LW_law_627 : decode code 627 = .ok (.iload 5, 2) := by decide +kernel
theorem d_LW_law_629 : decode code 629 = .ok (.ifCond .ne 15, 3) := by decide +kernel
theorem d_LW_law_632 : decode code 632 = .ok (.aload_n 3, 1) := by decide +kernel
theorem d_LW_law_633 : decode code 633 = .ok (.iconst 0, 1) := by decide +kernel
theorem d_LW_law_634 : decode code 634 = .ok (.laload, 1) := by decide +kernel
theorem d_LW_law_635 : decode code 635 = .ok (.iload 6, 2) := by decide +kernel
theorem d_LW_law_637 : decode code 637 = .ok (.i2l, 1) := by decide +kernel
theorem d_LW_law_638 : decode code 638 = .ok (.lcmp, 1) := by decide +kernel
theorem d_LW_law_639 : decode code 639 = .ok (.ifCond .eq 5, 3) := by decide +kernel
theorem d_LW_law_642 : decode code 642 = .ok (.iconst 0, 1) := by decide +kernel
theorem d_LW_law_643 : decode code 643 = .ok (.ireturn, 1) := by decide +kernel
theorem d_LW_law_644 : decode code 644 = .ok (.goto 16, 3) := by decide +kernel
theorem d_LW_law_647 : decode code 647 = .ok (.aload_n 1, 1) := by decide +kernel
theorem d_LW_law_648 : decode code 648 = .ok (.invokevirtual 92, 3) := by decide +kernel
theorem d_LW_law_651 : decode code 651 = .ok (.aload_n 2, 1) := by decide +kernel
theorem d_LW_law_652 : decode code 652 = .ok (.invokevirtual 95, 3) := by decide +kernel
theorem d_LW_law_655 : decode code 655 = .ok (.if_icmp .eq 5, 3) := by decide +kernel
theorem d_LW_law_658 : decode code 658 = .ok (.iconst 0, 1) := by decide +kernel
theorem d_LW_law_659 : decode code 659 = .ok (.ireturn, 1) := by decide +kernel
theorem d_LW_law_660 : decode code 660 = .ok (.iinc 4 6, 3) := by decide +kernel
theorem d_LW_law_663 : decode code 663 = .ok (.goto (-640), 3) := by decide +kernel
theorem d_LW_law_666 : decode code 666 = .ok (.iconst 1, 1) := by decide +kernel
theorem d_LW_law_667 : decode code 667 = .ok (.ireturn, 1) := by decide +kernel
end
section
/-! the shared mathematical state, the two worlds, their rows -/
def b2i (b : Bool) : Int32 := if b = true then 1 else 0
theorem b2i_01 (b : Bool) : b2i b = 0 ∨ b2i b = 1 := by cases b <;> simp [b2i]
theorem b2i_0 {b : Bool} : b2i b = 0 ↔ b = false := by cases b <;> simp [b2i]
theorem b2i_t : b2i true = 1 := rfl
theorem b2i_f : b2i false = 0 := rfl
/-- the block of stripe s on disk d can be used (u d: 0 failed, n + 1 usable before stripe n) -/
def usedB (u : Nat → Nat) (s d : Nat) : Bool := decide (s + 1 < u d)
def lostB (u : Nat → Nat) (d s : Nat) : Bool := !usedB u s d && ((List.range 5).any fun k => k != d && !usedB u s k)
/-- all disks but d, xor, of the first n -/
def oth (R : Nat → Nat → Int64) (d k : Nat) : Nat → Int64
  | 0 => 0
  | n + 1 => if n = d then oth R d k n else oth R d k n ^^^ R n k
def xal (R : Nat → Nat → Int64) (k : Nat) : Nat → Int64
  | 0 => 0
  | n + 1 => xal R k n ^^^ R n k
def dsk (p : Nat) : Nat := if p % 4 < p / 4 % 5 then p % 4 else p % 4 + 1
def hasV (u : Nat → Nat) (R : Nat → Nat → Int64) (d s h : Nat) : Int64 := if usedB u s d = true then R d (2 * s + h) else oth R d (2 * s + h) 5
theorem dsk_lt (p : Nat) : dsk p < 5 := by
  unfold dsk
  have := Nat.mod_lt (p / 4) (show 0 < 5 by omega)
  split <;> omega
theorem dsk_ne (p : Nat) : dsk p ≠ p / 4 % 5 := by
  unfold dsk
  split <;> omega
def upv (n : Nat) : Int32 := nI (n - 1)
def flv (n : Nat) : Int32 := if n = 0 then 1 else 0
def mup (n : Nat) : Int32 := nI n - 1
def flat (R : Nat → Nat → Int64) : Nat → Int64 := fun k => R (k / 200) (k % 200)
abbrev rset (R : Nat → Nat → Int64) (d k : Nat) (x : Int64) : Nat → Nat → Int64 := va_up R d (vp_updL (R d) k x)
theorem flat_set (R : Nat → Nat → Int64) {d k : Nat} (hk : k < 200) (x : Int64) : vp_updL (flat R) (200 * d + k) x = flat (rset R d k x) := by
  funext j
  unfold rset vp_updL flat va_up
  by_cases h : j = 200 * d + k
  · subst h
    have h1 : (200 * d + k) / 200 = d := by omega
    have h2 : (200 * d + k) % 200 = k := by omega
    simp [h1, h2]
  · by_cases h1 : j / 200 = d
    · have h2 : ¬ j % 200 = k := by omega
      simp [h, h1, h2]
    · simp [h, h1]
theorem flat_at (R : Nat → Nat → Int64) {d k : Nat} (hk : k < 200) : flat R (200 * d + k) = R d k := by
  have h1 : (200 * d + k) / 200 = d := by omega
  have h2 : (200 * d + k) % 200 = k := by omega
  simp [flat, h1, h2]
theorem upd_eq (f : Nat → Int32) (k : Nat) (x : Int32) : upd f k x = va_up f k x := rfl
theorem va_up_comp {α β : Type} (g : α → β) (f : Nat → α) (k : Nat) (x : α) : va_up (fun i => g (f i)) k (g x) = fun i => g (va_up f k x i) := by
  funext j
  unfold va_up
  by_cases h : j = k <;> simp [h]
theorem va_up_id {α : Type} (f : Nat → α) (k : Nat) : va_up f k (f k) = f := by
  funext j
  unfold va_up
  by_cases h : j = k <;> simp [h]
theorem rset_id (R : Nat → Nat → Int64) (d k : Nat) : rset R d k (R d k) = R := by
  have h : vp_updL (R d) k (R d k) = R d := by
    funext j
    unfold vp_updL
    by_cases h : j = k <;> simp [h]
  unfold rset
  rw [h, va_up_id]
theorem rset_at (R : Nat → Nat → Int64) (d k : Nat) (x : Int64) : rset R d k x d k = x := by simp [rset, va_up, vp_updL]
theorem rset_ne (R : Nat → Nat → Int64) (d k : Nat) (x : Int64) {d' k' : Nat} (h : d' ≠ d ∨ k' ≠ k) : rset R d k x d' k' = R d' k' := by
  unfold rset va_up vp_updL
  by_cases h1 : d' = d
  · subst h1
    rcases h with h | h
    · exact absurd rfl h
    · simp [h]
  · simp [h1]
-- the component's world
def pw (G : Gx) (x da : Nat) (ad ra : Nat → Nat) (up fl : Nat → Int32) (R : Nat → Nat → Int64) : va_W :=
  [(x, .inr (0, [.ref da])), (da, .inl (G.2.1.2.2, 5, .inr (.inr (.inr (.inr (fun i => some (ad i))))))),
   (ad 0, .inr (1, [.ref (ra 0), .int (up 0), .int (fl 0)])), (ad 1, .inr (1, [.ref (ra 1), .int (up 1), .int (fl 1)])), (ad 2, .inr (1, [.ref (ra 2), .int (up 2), .int (fl 2)])), (ad 3, .inr (1, [.ref (ra 3), .int (up 3), .int (fl 3)])), (ad 4, .inr (1, [.ref (ra 4), .int (up 4), .int (fl 4)])),
   (ra 0, .inl (G.2.1.2.1, 200, .inr (.inl (R 0)))), (ra 1, .inl (G.2.1.2.1, 200, .inr (.inl (R 1)))), (ra 2, .inl (G.2.1.2.1, 200, .inr (.inl (R 2)))), (ra 3, .inl (G.2.1.2.1, 200, .inr (.inl (R 3)))), (ra 4, .inl (G.2.1.2.1, 200, .inr (.inl (R 4))))]
abbrev pAd (x da : Nat) (ad ra : Nat → Nat) : List Nat := [x, da, ad 0, ad 1, ad 2, ad 3, ad 4, ra 0, ra 1, ra 2, ra 3, ra 4]
def pA (x da : Nat) (ad ra : Nat → Nat) : Nat → Prop := fun q => q ∈ pAd x da ad ra
def pDs (x da : Nat) (ad ra : Nat → Nat) : Prop := (pAd x da ad ra).Nodup
abbrev PDg (G : Gx) (x da : Nat) (ad ra : Nat → Nat) (up fl : Nat → Int32) (R : Nat → Nat → Int64) (H : Heap) : Prop := va_P G.1 classes (pw G x da ad ra up fl R) H
abbrev PDp (G : Gx) (x da : Nat) (ad ra : Nat → Nat) (u : Nat → Nat) (R : Nat → Nat → Int64) (H : Heap) : Prop := PDg G x da ad ra (fun i => upv (u i)) (fun i => flv (u i)) R H
theorem va_D_of {A : Nat → Prop} {ws : va_W} (hn : (ws.map Prod.fst).Nodup) (hA : ∀ q ∈ ws.map Prod.fst, A q) : va_D A ws := by
  refine ⟨fun i j a b hi hj hab => ?_, fun k q hk => hA _ (List.mem_map.mpr ⟨q, List.mem_of_getElem? hk, rfl⟩)⟩
  have h1 : (ws.map Prod.fst)[i]? = some a.1 := by rw [List.getElem?_map, hi]; rfl
  have h2 : (ws.map Prod.fst)[j]? = some a.1 := by rw [List.getElem?_map, hj, hab]; rfl
  obtain ⟨g1, e1⟩ := List.getElem?_eq_some_iff.mp h1
  exact (List.getElem?_inj g1 hn).mp (h1.trans h2.symm)
section PW
variable {G : Gx} {x da : Nat} {ad ra : Nat → Nat} {up fl : Nat → Int32} {R : Nat → Nat → Int64}
theorem pw_D (h : pDs x da ad ra) : va_D (pA x da ad ra) (pw G x da ad ra up fl R) := va_D_of (ws := pw G x da ad ra up fl R) h (fun _ hq => hq)
theorem pw_ad {i : Nat} (hi : i < 5) : (pw G x da ad ra up fl R)[2 + i]? = some (ad i, .inr (1, [.ref (ra i), .int (up i), .int (fl i)])) := by
  rcases (show i = 0 ∨ i = 1 ∨ i = 2 ∨ i = 3 ∨ i = 4 by omega) with rfl | rfl | rfl | rfl | rfl <;> rfl
theorem pw_ra {i : Nat} (hi : i < 5) : (pw G x da ad ra up fl R)[7 + i]? = some (ra i, .inl (G.2.1.2.1, 200, .inr (.inl (R i)))) := by
  rcases (show i = 0 ∨ i = 1 ∨ i = 2 ∨ i = 3 ∨ i = 4 by omega) with rfl | rfl | rfl | rfl | rfl <;> rfl
theorem pw_setR {i : Nat} (hi : i < 5) (r : Nat → Int64) : (pw G x da ad ra up fl R).set (7 + i) (ra i, .inl (G.2.1.2.1, 200, .inr (.inl r))) = pw G x da ad ra up fl (va_up R i r) := by
  rcases (show i = 0 ∨ i = 1 ∨ i = 2 ∨ i = 3 ∨ i = 4 by omega) with rfl | rfl | rfl | rfl | rfl <;> rfl
theorem pw_setU {i : Nat} (hi : i < 5) (v : Int32) : (pw G x da ad ra up fl R).set (2 + i) (ad i, .inr (1, [.ref (ra i), .int v, .int (fl i)])) = pw G x da ad ra (va_up up i v) fl R := by
  rcases (show i = 0 ∨ i = 1 ∨ i = 2 ∨ i = 3 ∨ i = 4 by omega) with rfl | rfl | rfl | rfl | rfl <;> rfl
theorem pw_setF {i : Nat} (hi : i < 5) (v : Int32) : (pw G x da ad ra up fl R).set (2 + i) (ad i, .inr (1, [.ref (ra i), .int (up i), .int v])) = pw G x da ad ra up (va_up fl i v) R := by
  rcases (show i = 0 ∨ i = 1 ∨ i = 2 ∨ i = 3 ∨ i = 4 by omega) with rfl | rfl | rfl | rfl | rfl <;> rfl
theorem pA_ra {i : Nat} (hi : i < 5) : pA x da ad ra (ra i) := by
  rcases (show i = 0 ∨ i = 1 ∨ i = 2 ∨ i = 3 ∨ i = 4 by omega) with rfl | rfl | rfl | rfl | rfl <;> simp [pA]
theorem pA_ad {i : Nat} (hi : i < 5) : pA x da ad ra (ad i) := by
  rcases (show i = 0 ∨ i = 1 ∨ i = 2 ∨ i = 3 ∨ i = 4 by omega) with rfl | rfl | rfl | rfl | rfl <;> simp [pA]
end PW
-- the reference's world
def mw (G : Gx) (y sa ua : Nat) (er : Int32) (f : Nat → Int64) (g : Nat → Int32) : va_W :=
  [(y, .inr (2, [.int er, .ref sa, .ref ua])), (sa, .inl (G.2.1.2.1, 1000, .inr (.inl f))), (ua, .inl (G.2.1.1, 5, .inl g))]
abbrev mAd (y sa ua : Nat) : List Nat := [y, sa, ua]
def mA (y sa ua : Nat) : Nat → Prop := fun q => q ∈ mAd y sa ua
def mDs (y sa ua : Nat) : Prop := (mAd y sa ua).Nodup
abbrev MOg (G : Gx) (y sa ua : Nat) (er : Int32) (f : Nat → Int64) (g : Nat → Int32) (H : Heap) : Prop := va_P G.1 classes (mw G y sa ua er f g) H
abbrev MOp (G : Gx) (y sa ua : Nat) (er : Int32) (u : Nat → Nat) (R : Nat → Nat → Int64) (H : Heap) : Prop := MOg G y sa ua er (flat R) (fun d => mup (u d)) H
theorem mw_D {G : Gx} {y sa ua : Nat} {er : Int32} {f : Nat → Int64} {g : Nat → Int32} (h : mDs y sa ua) : va_D (mA y sa ua) (mw G y sa ua er f g) := va_D_of (ws := mw G y sa ua er f g) h (fun _ hq => hq)
-- rows
section RW
variable {p : Program} {l : Launch} {e : Env} {Rm : Room} {s : State} {m : MethodId} {args : Array Value} {below : List Frame} {meth : Method} {c : Code} {H : Heap} {locs : List Loc} {cells slots : Nat} {Q : State → Prop}
variable {cc : ByteArray} {nL pc : Nat} {ls : Array Slot} {rest : List Value} {G : Gx} {own : String}
theorem lv_eqi {x z : Int32} (h : x = z) (k : W p l e Rm s m args below meth c H locs cells slots Q (F0 m pc ls (.int z :: rest))) : W p l e Rm s m args below meth c H locs cells slots Q (F0 m pc ls (.int x :: rest)) := h ▸ k
theorem lv_eql {x z : Int64} (h : x = z) (k : W p l e Rm s m args below meth c H locs cells slots Q (F0 m pc ls (.long z :: rest))) : W p l e Rm s m args below meth c H locs cells slots Q (F0 m pc ls (.long x :: rest)) := h ▸ k
variable {x da : Nat} {ad ra : Nat → Nat} {up fl : Nat → Int32} {R : Nat → Nat → Int64}
theorem p_disks (hF : Fx p m c cc nL s G "ParityDisks") (hP : PDg G x da ad ra up fl R H) (hd : decode cc pc = .ok (.getfield 11, 3)) (k : W p l e Rm s m args below meth c H locs cells slots Q (F0 m (pc + 3) ls (.ref da :: rest))) : W p l e Rm s m args below meth c H locs cells slots Q (F0 m pc ls (.ref x :: rest)) :=
  va_get (D := G.1) (ci := 0) (v := .ref da) (C := "ParityDisks") (T := F_PD) (N := 1) hF.1 hF.2.1 (hF.2.2.2.2.ts args) in_PD hF.2.2.2.1 hF.2.2.2.2.1 hP 0 rfl rfl 0 (by decide) (hF.2.2.2.2.ts args _ t_39) (fun _ h => h) rfl hd k
theorem pg_R {i : Nat} (hi : i < 5) (hF : Fx p m c cc nL s G "ParityDisks") (hP : PDg G x da ad ra up fl R H) (hd : decode cc pc = .ok (.getfield 30, 3)) (k : W p l e Rm s m args below meth c H locs cells slots Q (F0 m (pc + 3) ls (.ref (ra i) :: rest))) : W p l e Rm s m args below meth c H locs cells slots Q (F0 m pc ls (.ref (ad i) :: rest)) :=
  va_get (D := G.1) (ci := 1) (v := .ref (ra i)) (C := "ParityDisks$Disk") (T := F_DK) (N := 3) hF.1 hF.2.1 (hF.2.2.2.2.ts args) in_DK hF.2.2.2.1 hF.2.2.2.2.1 hP (2 + i) (pw_ad hi) rfl 0 (by decide) (hF.2.2.2.2.ts args _ t_26) (fun _ h => h) rfl hd k
theorem pg_U {i : Nat} (hi : i < 5) (hF : Fx p m c cc nL s G "ParityDisks") (hP : PDg G x da ad ra up fl R H) (hd : decode cc pc = .ok (.getfield 74, 3)) (k : W p l e Rm s m args below meth c H locs cells slots Q (F0 m (pc + 3) ls (.int (up i) :: rest))) : W p l e Rm s m args below meth c H locs cells slots Q (F0 m pc ls (.ref (ad i) :: rest)) :=
  va_get (D := G.1) (ci := 1) (v := .int (up i)) (C := "ParityDisks$Disk") (T := F_DK) (N := 3) hF.1 hF.2.1 (hF.2.2.2.2.ts args) in_DK hF.2.2.2.1 hF.2.2.2.2.1 hP (2 + i) (pw_ad hi) rfl 1 (by decide) (hF.2.2.2.2.ts args _ t_28) (fun _ h => h) rfl hd k
theorem pg_F {i : Nat} (hi : i < 5) (hF : Fx p m c cc nL s G "ParityDisks") (hP : PDg G x da ad ra up fl R H) (hd : decode cc pc = .ok (.getfield 64, 3)) (k : W p l e Rm s m args below meth c H locs cells slots Q (F0 m (pc + 3) ls (.int (fl i) :: rest))) : W p l e Rm s m args below meth c H locs cells slots Q (F0 m pc ls (.ref (ad i) :: rest)) :=
  va_get (D := G.1) (ci := 1) (v := .int (fl i)) (C := "ParityDisks$Disk") (T := F_DK) (N := 3) hF.1 hF.2.1 (hF.2.2.2.2.ts args) in_DK hF.2.2.2.1 hF.2.2.2.2.1 hP (2 + i) (pw_ad hi) rfl 2 (by decide) (hF.2.2.2.2.ts args _ t_30) (fun _ h => h) rfl hd k
theorem dg_R {i : Nat} (hi : i < 5) (hF : Fx p m c cc nL s G "ParityDisks$Disk") (hP : PDg G x da ad ra up fl R H) (hd : decode cc pc = .ok (.getfield 9, 3)) (k : W p l e Rm s m args below meth c H locs cells slots Q (F0 m (pc + 3) ls (.ref (ra i) :: rest))) : W p l e Rm s m args below meth c H locs cells slots Q (F0 m pc ls (.ref (ad i) :: rest)) :=
  va_get (D := G.1) (ci := 1) (v := .ref (ra i)) (C := "ParityDisks$Disk") (T := F_DK) (N := 3) hF.1 hF.2.1 (hF.2.2.2.2.ts args) in_DK hF.2.2.2.1 hF.2.2.2.2.1 hP (2 + i) (pw_ad hi) rfl 0 (by decide) (hF.2.2.2.2.ts args _ t_25) (fun _ h => h) rfl hd k
theorem dg_U {i : Nat} (hi : i < 5) (hF : Fx p m c cc nL s G "ParityDisks$Disk") (hP : PDg G x da ad ra up fl R H) (hd : decode cc pc = .ok (.getfield 15, 3)) (k : W p l e Rm s m args below meth c H locs cells slots Q (F0 m (pc + 3) ls (.int (up i) :: rest))) : W p l e Rm s m args below meth c H locs cells slots Q (F0 m pc ls (.ref (ad i) :: rest)) :=
  va_get (D := G.1) (ci := 1) (v := .int (up i)) (C := "ParityDisks$Disk") (T := F_DK) (N := 3) hF.1 hF.2.1 (hF.2.2.2.2.ts args) in_DK hF.2.2.2.1 hF.2.2.2.2.1 hP (2 + i) (pw_ad hi) rfl 1 (by decide) (hF.2.2.2.2.ts args _ t_27) (fun _ h => h) rfl hd k
theorem dg_F {i : Nat} (hi : i < 5) (hF : Fx p m c cc nL s G "ParityDisks$Disk") (hP : PDg G x da ad ra up fl R H) (hd : decode cc pc = .ok (.getfield 19, 3)) (k : W p l e Rm s m args below meth c H locs cells slots Q (F0 m (pc + 3) ls (.int (fl i) :: rest))) : W p l e Rm s m args below meth c H locs cells slots Q (F0 m pc ls (.ref (ad i) :: rest)) :=
  va_get (D := G.1) (ci := 1) (v := .int (fl i)) (C := "ParityDisks$Disk") (T := F_DK) (N := 3) hF.1 hF.2.1 (hF.2.2.2.2.ts args) in_DK hF.2.2.2.1 hF.2.2.2.2.1 hP (2 + i) (pw_ad hi) rfl 2 (by decide) (hF.2.2.2.2.ts args _ t_29) (fun _ h => h) rfl hd k
theorem l_disk {i : Nat} (hi : i < 5) (hF : Fx p m c cc nL s G own) (hP : PDg G x da ad ra up fl R H) (hd : decode cc pc = .ok (.aaload, 1)) (k : W p l e Rm s m args below meth c H locs cells slots Q (F0 m (pc + 1) ls (.ref (ad i) :: rest))) : W p l e Rm s m args below meth c H locs cells slots Q (F0 m pc ls (.int (nI i) :: .ref da :: rest)) := by
  refine va_aldq (D := G.1) hF.1 hF.2.1 hF.2.2.2.2.1 hP 1 2 rfl rfl (vp_in_nI hi (by decide)) hd ?_
  rw [nI_clamp (by omega)]
  exact k
theorem l_row {i k : Nat} (hi : i < 5) (hk : k < 200) (hF : Fx p m c cc nL s G own) (hP : PDg G x da ad ra up fl R H) (hd : decode cc pc = .ok (.laload, 1)) (kk : W p l e Rm s m args below meth c H locs cells slots Q (F0 m (pc + 1) ls (.long (R i k) :: rest))) : W p l e Rm s m args below meth c H locs cells slots Q (F0 m pc ls (.int (nI k) :: .ref (ra i) :: rest)) := by
  refine va_lald (D := G.1) hF.1 hF.2.1 hF.2.2.2.2.1 hP (7 + i) 1 (pw_ra hi) rfl (vp_in_nI hk (by decide)) hd ?_
  rw [nI_clamp (by omega)]
  exact kk
theorem len_row {i : Nat} (hi : i < 5) (hF : Fx p m c cc nL s G own) (hP : PDg G x da ad ra up fl R H) (hd : decode cc pc = .ok (.arraylength, 1)) (kk : W p l e Rm s m args below meth c H locs cells slots Q (F0 m (pc + 1) ls (.int (nI 200) :: rest))) : W p l e Rm s m args below meth c H locs cells slots Q (F0 m pc ls (.ref (ra i) :: rest)) :=
  va_alen (D := G.1) hF.1 hF.2.1 hF.2.2.2.2.1 hP (7 + i) 1 (pw_ra hi) rfl rfl hd kk
variable {H0 : Heap}
theorem s_row {i k : Nat} {v : Int64} (hi : i < 5) (hk : k < 200) (hDs : pDs x da ad ra) (hF : Fx p m c cc nL s G own) (hP : PDg G x da ad ra up fl R H) (hS : va_S (pA x da ad ra) H0 H locs) (hd : decode cc pc = .ok (.lastore, 1))
    (kk : ∀ (H1 : Heap) (locs1 : List Loc), PDg G x da ad ra up fl (rset R i k v) H1 → va_S (pA x da ad ra) H0 H1 locs1 → W p l e Rm s m args below meth c H1 locs1 cells slots Q (F0 m (pc + 1) ls rest)) : W p l e Rm s m args below meth c H locs cells slots Q (F0 m pc ls (.long v :: .int (nI k) :: .ref (ra i) :: rest)) := by
  refine va_last (D := G.1) hF.1 hF.2.1 hF.2.2.2.2.1 hP (pw_D hDs) hS (7 + i) 1 (pw_ra hi) rfl (vp_in_nI hk (by decide)) hd (fun H1 locs1 h1 _ h3 => ?_)
  rw [pw_setR hi, nI_clamp (by omega)] at h1
  exact kk H1 locs1 h1 h3
theorem dp_U {i : Nat} {v : Int32} (hi : i < 5) (hDs : pDs x da ad ra) (hF : Fx p m c cc nL s G "ParityDisks$Disk") (hP : PDg G x da ad ra up fl R H) (hS : va_S (pA x da ad ra) H0 H locs) (hd : decode cc pc = .ok (.putfield 15, 3))
    (kk : ∀ (H1 : Heap) (locs1 : List Loc), PDg G x da ad ra (va_up up i v) fl R H1 → va_S (pA x da ad ra) H0 H1 locs1 → W p l e Rm s m args below meth c H1 locs1 cells slots Q (F0 m (pc + 3) ls rest)) : W p l e Rm s m args below meth c H locs cells slots Q (F0 m pc ls (.int v :: .ref (ad i) :: rest)) := by
  refine va_put (D := G.1) (ci := 1) (v := .int v) (ty := .int) (C := "ParityDisks$Disk") (T := F_DK) (N := 3) hF.1 hF.2.1 (hF.2.2.2.2.ts args) in_DK ft_DK ft_DK_ok n_DK hF.2.2.2.1 hF.2.2.2.2.1 hP (pw_D hDs) hS (2 + i) (pw_ad hi) rfl 1 (by decide) (hF.2.2.2.2.ts args _ t_27) (fun _ h => h) rfl (by decide +kernel) rfl rfl (Nat.le_of_ble_eq_true rfl) hd (fun H1 locs1 h1 _ h3 => ?_)
  have h1 : va_P G.1 classes ((pw G x da ad ra up fl R).set (2 + i) (ad i, .inr (1, [.ref (ra i), .int v, .int (fl i)]))) H1 := h1
  rw [pw_setU hi] at h1
  exact kk H1 locs1 h1 h3
theorem pp_U {i : Nat} {v : Int32} (hi : i < 5) (hDs : pDs x da ad ra) (hF : Fx p m c cc nL s G "ParityDisks") (hP : PDg G x da ad ra up fl R H) (hS : va_S (pA x da ad ra) H0 H locs) (hd : decode cc pc = .ok (.putfield 74, 3))
    (kk : ∀ (H1 : Heap) (locs1 : List Loc), PDg G x da ad ra (va_up up i v) fl R H1 → va_S (pA x da ad ra) H0 H1 locs1 → W p l e Rm s m args below meth c H1 locs1 cells slots Q (F0 m (pc + 3) ls rest)) : W p l e Rm s m args below meth c H locs cells slots Q (F0 m pc ls (.int v :: .ref (ad i) :: rest)) := by
  refine va_put (D := G.1) (ci := 1) (v := .int v) (ty := .int) (C := "ParityDisks$Disk") (T := F_DK) (N := 3) hF.1 hF.2.1 (hF.2.2.2.2.ts args) in_DK ft_DK ft_DK_ok n_DK hF.2.2.2.1 hF.2.2.2.2.1 hP (pw_D hDs) hS (2 + i) (pw_ad hi) rfl 1 (by decide) (hF.2.2.2.2.ts args _ t_28) (fun _ h => h) rfl (by decide +kernel) rfl rfl (Nat.le_of_ble_eq_true rfl) hd (fun H1 locs1 h1 _ h3 => ?_)
  have h1 : va_P G.1 classes ((pw G x da ad ra up fl R).set (2 + i) (ad i, .inr (1, [.ref (ra i), .int v, .int (fl i)]))) H1 := h1
  rw [pw_setU hi] at h1
  exact kk H1 locs1 h1 h3
theorem dp_F {i : Nat} {v : Int32} (h01 : v = 0 ∨ v = 1) (hi : i < 5) (hDs : pDs x da ad ra) (hF : Fx p m c cc nL s G "ParityDisks$Disk") (hP : PDg G x da ad ra up fl R H) (hS : va_S (pA x da ad ra) H0 H locs) (hd : decode cc pc = .ok (.putfield 19, 3))
    (kk : ∀ (H1 : Heap) (locs1 : List Loc), PDg G x da ad ra up (va_up fl i v) R H1 → va_S (pA x da ad ra) H0 H1 locs1 → W p l e Rm s m args below meth c H1 locs1 cells slots Q (F0 m (pc + 3) ls rest)) : W p l e Rm s m args below meth c H locs cells slots Q (F0 m pc ls (.int v :: .ref (ad i) :: rest)) := by
  refine va_put (D := G.1) (ci := 1) (v := .int v) (ty := .boolean) (C := "ParityDisks$Disk") (T := F_DK) (N := 3) hF.1 hF.2.1 (hF.2.2.2.2.ts args) in_DK ft_DK ft_DK_ok n_DK hF.2.2.2.1 hF.2.2.2.2.1 hP (pw_D hDs) hS (2 + i) (pw_ad hi) rfl 2 (by decide) (hF.2.2.2.2.ts args _ t_29) (fun _ h => h) rfl (by decide +kernel) (by rcases h01 with rfl | rfl <;> rfl) (by rcases h01 with rfl | rfl <;> rfl) (Nat.le_of_ble_eq_true rfl) hd (fun H1 locs1 h1 _ h3 => ?_)
  have h1 : va_P G.1 classes ((pw G x da ad ra up fl R).set (2 + i) (ad i, .inr (1, [.ref (ra i), .int (up i), .int v]))) H1 := h1
  rw [pw_setF hi] at h1
  exact kk H1 locs1 h1 h3
variable {y sa ua : Nat} {er : Int32} {f : Nat → Int64} {g : Nat → Int32}
theorem mg_S (hF : Fx p m c cc nL s G "ParityDisksModel") (hP : MOg G y sa ua er f g H) (hd : decode cc pc = .ok (.getfield 7, 3)) (k : W p l e Rm s m args below meth c H locs cells slots Q (F0 m (pc + 3) ls (.ref sa :: rest))) : W p l e Rm s m args below meth c H locs cells slots Q (F0 m pc ls (.ref y :: rest)) :=
  va_get (D := G.1) (ci := 2) (v := .ref sa) (C := "ParityDisksModel") (T := F_MO) (N := 3) hF.1 hF.2.1 (hF.2.2.2.2.ts args) in_MO hF.2.2.2.1 hF.2.2.2.2.1 hP 0 rfl rfl 1 (by decide) (hF.2.2.2.2.ts args _ t_259) (fun _ h => h) rfl hd k
theorem mg_U (hF : Fx p m c cc nL s G "ParityDisksModel") (hP : MOg G y sa ua er f g H) (hd : decode cc pc = .ok (.getfield 13, 3)) (k : W p l e Rm s m args below meth c H locs cells slots Q (F0 m (pc + 3) ls (.ref ua :: rest))) : W p l e Rm s m args below meth c H locs cells slots Q (F0 m pc ls (.ref y :: rest)) :=
  va_get (D := G.1) (ci := 2) (v := .ref ua) (C := "ParityDisksModel") (T := F_MO) (N := 3) hF.1 hF.2.1 (hF.2.2.2.2.ts args) in_MO hF.2.2.2.1 hF.2.2.2.2.1 hP 0 rfl rfl 2 (by decide) (hF.2.2.2.2.ts args _ t_260) (fun _ h => h) rfl hd k
theorem mg_E (hF : Fx p m c cc nL s G "ParityDisksModel") (hP : MOg G y sa ua er f g H) (hd : decode cc pc = .ok (.getfield 17, 3)) (k : W p l e Rm s m args below meth c H locs cells slots Q (F0 m (pc + 3) ls (.int er :: rest))) : W p l e Rm s m args below meth c H locs cells slots Q (F0 m pc ls (.ref y :: rest)) :=
  va_get (D := G.1) (ci := 2) (v := .int er) (C := "ParityDisksModel") (T := F_MO) (N := 3) hF.1 hF.2.1 (hF.2.2.2.2.ts args) in_MO hF.2.2.2.1 hF.2.2.2.2.1 hP 0 rfl rfl 0 (by decide) (hF.2.2.2.2.ts args _ t_258) (fun _ h => h) rfl hd k
theorem mp_E {v : Int32} (hDs : mDs y sa ua) (hF : Fx p m c cc nL s G "ParityDisksModel") (hP : MOg G y sa ua er f g H) (hS : va_S (mA y sa ua) H0 H locs) (hd : decode cc pc = .ok (.putfield 17, 3))
    (kk : ∀ (H1 : Heap) (locs1 : List Loc), MOg G y sa ua v f g H1 → va_S (mA y sa ua) H0 H1 locs1 → W p l e Rm s m args below meth c H1 locs1 cells slots Q (F0 m (pc + 3) ls rest)) : W p l e Rm s m args below meth c H locs cells slots Q (F0 m pc ls (.int v :: .ref y :: rest)) := by
  refine va_put (D := G.1) (ci := 2) (v := .int v) (ty := .int) (C := "ParityDisksModel") (T := F_MO) (N := 3) hF.1 hF.2.1 (hF.2.2.2.2.ts args) in_MO ft_MO ft_MO_ok n_MO hF.2.2.2.1 hF.2.2.2.2.1 hP (mw_D hDs) hS 0 rfl rfl 0 (by decide) (hF.2.2.2.2.ts args _ t_258) (fun _ h => h) rfl (by decide +kernel) rfl rfl (Nat.le_of_ble_eq_true rfl) hd (fun H1 locs1 h1 _ h3 => ?_)
  exact kk H1 locs1 h1 h3
theorem ml_U {i : Nat} (hi : i < 5) (hF : Fx p m c cc nL s G own) (hP : MOg G y sa ua er f g H) (hd : decode cc pc = .ok (.iaload, 1)) (kk : W p l e Rm s m args below meth c H locs cells slots Q (F0 m (pc + 1) ls (.int (g i) :: rest))) : W p l e Rm s m args below meth c H locs cells slots Q (F0 m pc ls (.int (nI i) :: .ref ua :: rest)) := by
  refine va_iald (D := G.1) hF.1 hF.2.1 hF.2.2.2.2.1 hP 2 0 rfl rfl (vp_in_nI hi (by decide)) hd ?_
  rw [nI_clamp (by omega)]
  exact kk
theorem ml_S {k : Nat} (hk : k < 1000) (hF : Fx p m c cc nL s G own) (hP : MOg G y sa ua er f g H) (hd : decode cc pc = .ok (.laload, 1)) (kk : W p l e Rm s m args below meth c H locs cells slots Q (F0 m (pc + 1) ls (.long (f k) :: rest))) : W p l e Rm s m args below meth c H locs cells slots Q (F0 m pc ls (.int (nI k) :: .ref sa :: rest)) := by
  refine va_lald (D := G.1) hF.1 hF.2.1 hF.2.2.2.2.1 hP 1 1 rfl rfl (vp_in_nI hk (by decide)) hd ?_
  rw [nI_clamp (by omega)]
  exact kk
theorem ms_U {i : Nat} {v : Int32} (hi : i < 5) (hDs : mDs y sa ua) (hF : Fx p m c cc nL s G own) (hP : MOg G y sa ua er f g H) (hS : va_S (mA y sa ua) H0 H locs) (hd : decode cc pc = .ok (.iastore, 1))
    (kk : ∀ (H1 : Heap) (locs1 : List Loc), MOg G y sa ua er f (va_up g i v) H1 → va_S (mA y sa ua) H0 H1 locs1 → W p l e Rm s m args below meth c H1 locs1 cells slots Q (F0 m (pc + 1) ls rest)) : W p l e Rm s m args below meth c H locs cells slots Q (F0 m pc ls (.int v :: .int (nI i) :: .ref ua :: rest)) := by
  refine va_iast (D := G.1) hF.1 hF.2.1 hF.2.2.2.2.1 hP (mw_D hDs) hS 2 0 rfl rfl (vp_in_nI hi (by decide)) hd (fun H1 locs1 h1 _ h3 => ?_)
  rw [nI_clamp (by omega)] at h1
  exact kk H1 locs1 h1 h3
theorem ms_S {k : Nat} {v : Int64} (hk : k < 1000) (hDs : mDs y sa ua) (hF : Fx p m c cc nL s G own) (hP : MOg G y sa ua er f g H) (hS : va_S (mA y sa ua) H0 H locs) (hd : decode cc pc = .ok (.lastore, 1))
    (kk : ∀ (H1 : Heap) (locs1 : List Loc), MOg G y sa ua er (vp_updL f k v) g H1 → va_S (mA y sa ua) H0 H1 locs1 → W p l e Rm s m args below meth c H1 locs1 cells slots Q (F0 m (pc + 1) ls rest)) : W p l e Rm s m args below meth c H locs cells slots Q (F0 m pc ls (.long v :: .int (nI k) :: .ref sa :: rest)) := by
  refine va_last (D := G.1) hF.1 hF.2.1 hF.2.2.2.2.1 hP (mw_D hDs) hS 1 1 rfl rfl (vp_in_nI hk (by decide)) hd (fun H1 locs1 h1 _ h3 => ?_)
  rw [nI_clamp (by omega)] at h1
  exact kk H1 locs1 h1 h3
-- receivers
theorem rc_x (hC : CX G s) (hP : PDg G x da ad ra up fl R H) : ∃ cell : Cell, H[x]? = some cell ∧ cell.vm.isStatics = false ∧ s.vm.findClass "ParityDisks" = some cell.cls := va_recv (ci := 0) (q0 := 0) hC.1 hP rfl rfl
theorem rc_d {i : Nat} (hi : i < 5) (hC : CX G s) (hP : PDg G x da ad ra up fl R H) : ∃ cell : Cell, H[ad i]? = some cell ∧ cell.vm.isStatics = false ∧ s.vm.findClass "ParityDisks$Disk" = some cell.cls := va_recv (ci := 1) (q0 := 2 + i) hC.1 hP rfl (pw_ad hi)
theorem rc_y (hC : CX G s) (hP : MOg G y sa ua er f g H) : ∃ cell : Cell, H[y]? = some cell ∧ cell.vm.isStatics = false ∧ s.vm.findClass "ParityDisksModel" = some cell.cls := va_recv (ci := 2) (q0 := 0) hC.1 hP rfl rfl
-- branches by the naturals behind
theorem nb_ge {a b tgt : Nat} {off : Int} (hx : p.tables.exec = Jvm.exec) (hb : c.code = cc) (hd : decode cc pc = .ok (.if_icmp .ge off, 3)) (ht : (pc : Int) + off = (tgt : Int)) (ha : a < 2 ^ 31) (hb2 : b < 2 ^ 31) (kt : b ≤ a → W p l e Rm s m args below meth c H locs cells slots Q (F0 m tgt ls rest)) (kf : a < b → W p l e Rm s m args below meth c H locs cells slots Q (F0 m (pc + 3) ls rest)) : W p l e Rm s m args below meth c H locs cells slots Q (F0 m pc ls (.int (nI b) :: .int (nI a) :: rest)) :=
  lv_icmp_ge hx hb hd ht (fun h => kt ((nI_leI hb2 ha).mp h)) (fun h => kf (Nat.lt_of_not_le (fun z => h ((nI_leI hb2 ha).mpr z))))
theorem nb_eq {a b tgt : Nat} {off : Int} (hx : p.tables.exec = Jvm.exec) (hb : c.code = cc) (hd : decode cc pc = .ok (.if_icmp .eq off, 3)) (ht : (pc : Int) + off = (tgt : Int)) (ha : a < 2 ^ 31) (hb2 : b < 2 ^ 31) (kt : a = b → W p l e Rm s m args below meth c H locs cells slots Q (F0 m tgt ls rest)) (kf : a ≠ b → W p l e Rm s m args below meth c H locs cells slots Q (F0 m (pc + 3) ls rest)) : W p l e Rm s m args below meth c H locs cells slots Q (F0 m pc ls (.int (nI b) :: .int (nI a) :: rest)) :=
  lv_icmp_eq hx hb hd ht (fun h => kt ((nI_eq ha hb2).mp h)) (fun h => kf (fun z => h ((nI_eq ha hb2).mpr z)))
theorem nb_ne {a b tgt : Nat} {off : Int} (hx : p.tables.exec = Jvm.exec) (hb : c.code = cc) (hd : decode cc pc = .ok (.if_icmp .ne off, 3)) (ht : (pc : Int) + off = (tgt : Int)) (ha : a < 2 ^ 31) (hb2 : b < 2 ^ 31) (kt : a ≠ b → W p l e Rm s m args below meth c H locs cells slots Q (F0 m tgt ls rest)) (kf : a = b → W p l e Rm s m args below meth c H locs cells slots Q (F0 m (pc + 3) ls rest)) : W p l e Rm s m args below meth c H locs cells slots Q (F0 m pc ls (.int (nI b) :: .int (nI a) :: rest)) :=
  lv_icmp_ne hx hb hd ht (fun h => kt (fun z => h ((nI_eq ha hb2).mpr z))) (fun h => kf ((nI_eq ha hb2).mp h))
theorem zb_eq {b : Bool} {tgt : Nat} {off : Int} (hx : p.tables.exec = Jvm.exec) (hb : c.code = cc) (hd : decode cc pc = .ok (.ifCond .eq off, 3)) (ht : (pc : Int) + off = (tgt : Int)) (kt : b = false → W p l e Rm s m args below meth c H locs cells slots Q (F0 m tgt ls rest)) (kf : b = true → W p l e Rm s m args below meth c H locs cells slots Q (F0 m (pc + 3) ls rest)) : W p l e Rm s m args below meth c H locs cells slots Q (F0 m pc ls (.int (b2i b) :: rest)) :=
  lv_if_eq hx hb hd ht (fun h => kt (b2i_0.mp h)) (fun h => kf (by cases b; exact absurd rfl h; rfl))
theorem zb_ne {b : Bool} {tgt : Nat} {off : Int} (hx : p.tables.exec = Jvm.exec) (hb : c.code = cc) (hd : decode cc pc = .ok (.ifCond .ne off, 3)) (ht : (pc : Int) + off = (tgt : Int)) (kt : b = true → W p l e Rm s m args below meth c H locs cells slots Q (F0 m tgt ls rest)) (kf : b = false → W p l e Rm s m args below meth c H locs cells slots Q (F0 m (pc + 3) ls rest)) : W p l e Rm s m args below meth c H locs cells slots Q (F0 m pc ls (.int (b2i b) :: rest)) :=
  lv_if_ne hx hb hd ht (fun h => kt (by cases b; exact absurd rfl h; rfl)) (fun h => kf (b2i_0.mp h))
end RW
theorem nI_inc (n : Nat) : nI n + Int32.ofInt 1 = nI (n + 1) := nI_1 n
end
section
/-! the component's static methods -/
def okD (d : Int32) : Bool := !decide (d < 0) && !decide (nI 5 ≤ d)
def okH (h : Int32) : Bool := decide (h = 0) || decide (h = nI 1)
def okP (p h : Int32) : Bool := !decide (p < 0) && !decide (nI 400 ≤ p) && okH h
theorem okD_nI {d : Int32} (h : okD d = true) : ∃ j : Nat, j < 5 ∧ d = nI j := by
  simp only [okD, Bool.and_eq_true, Bool.not_eq_true', decide_eq_false_iff_not] at h
  rcases pk_ix d (n := 5) (by decide) with h1 | h1 | h1
  · exact absurd h1 h.1
  · exact absurd h1 h.2
  · exact h1
theorem okH_nI {h : Int32} (hh : okH h = true) : ∃ j : Nat, j < 2 ∧ h = nI j := by
  simp only [okH, Bool.or_eq_true, decide_eq_true_eq] at hh
  rcases hh with rfl | rfl
  · exact ⟨0, by decide, rfl⟩
  · exact ⟨1, by decide, rfl⟩
theorem okP_nI {p h : Int32} (hh : okP p h = true) : ∃ j k : Nat, j < 400 ∧ k < 2 ∧ p = nI j ∧ h = nI k := by
  simp only [okP, Bool.and_eq_true, Bool.not_eq_true', decide_eq_false_iff_not] at hh
  obtain ⟨k, hk, rfl⟩ := okH_nI hh.2
  rcases pk_ix p (n := 400) (by decide) with h1 | h1 | ⟨j, h1, rfl⟩
  · exact absurd h1 hh.1.1
  · exact absurd h1 hh.1.2
  · exact ⟨j, k, h1, hk, rfl, rfl⟩
/-- what isLost reads of the bits -/
def lostF (f : Nat → Bool) (d : Nat) : Bool := !f d && ((List.range 5).any fun k => k != d && !f k)
def barF (f : Nat → Bool) : Nat → Nat
  | 0 => 0
  | n + 1 => barF f n + (if f n = true then 0 else 2 ^ n)
theorem barF_lt (f : Nat → Bool) : ∀ n, barF f n < 2 ^ n
  | 0 => by simp [barF]
  | n + 1 => by
    have h := barF_lt f n
    have h2 : 2 ^ (n + 1) = 2 * 2 ^ n := by rw [Nat.pow_succ]; omega
    unfold barF
    split <;> omega
theorem bar_or : ∀ d, d < 5 → ∀ b, b < 2 ^ d → nI b ||| (nI 1 <<< (nI d &&& 31)) = nI (b + 2 ^ d) := by decide +kernel
theorem lost_bits : ∀ d, d < 5 → ∀ b, b < 32 → ((nI b >>> (nI d &&& 31)) &&& nI 1 = 0 ↔ b / 2 ^ d % 2 = 0) := by decide +kernel
theorem lost_one : ∀ d, d < 5 → nI 1 <<< (nI d &&& 31) = nI (2 ^ d) := by decide +kernel
theorem lost_b : ∀ (a0 a1 a2 a3 a4 : Bool) (d : Nat), d < 5 → lostF (fun k => if k = 0 then a0 else if k = 1 then a1 else if k = 2 then a2 else if k = 3 then a3 else a4) d = (decide (¬ barF (fun k => if k = 0 then a0 else if k = 1 then a1 else if k = 2 then a2 else if k = 3 then a3 else a4) 5 / 2 ^ d % 2 = 0) && decide (barF (fun k => if k = 0 then a0 else if k = 1 then a1 else if k = 2 then a2 else if k = 3 then a3 else a4) 5 ≠ 2 ^ d)) := by decide +kernel
theorem lostF_cong {f g : Nat → Bool} (h : ∀ k, k < 5 → f k = g k) {d : Nat} (hd : d < 5) : lostF f d = lostF g d := by
  simp only [lostF, h d hd, List.range_succ, List.range_zero, List.any_append, List.any_cons, List.any_nil, h 0 (by decide), h 1 (by decide), h 2 (by decide), h 3 (by decide), h 4 (by decide)]
theorem barF_cong {f g : Nat → Bool} : ∀ n, (∀ k, k < n → f k = g k) → barF f n = barF g n
  | 0, _ => rfl
  | n + 1, h => by
    unfold barF
    rw [barF_cong n (fun k hk => h k (by omega)), h n (by omega)]
theorem lost_bar (f : Nat → Bool) {d : Nat} (hd : d < 5) : lostF f d = (decide (¬ barF f 5 / 2 ^ d % 2 = 0) && decide (barF f 5 ≠ 2 ^ d)) := by
  have h : ∀ k, k < 5 → f k = (fun k => if k = 0 then f 0 else if k = 1 then f 1 else if k = 2 then f 2 else if k = 3 then f 3 else f 4) k := by
    intro k hk
    rcases (show k = 0 ∨ k = 1 ∨ k = 2 ∨ k = 3 ∨ k = 4 by omega) with rfl | rfl | rfl | rfl | rfl <;> rfl
  rw [lostF_cong h hd, barF_cong 5 h]
  exact lost_b _ _ _ _ _ d hd
theorem nI1 : nI 1 = 1 := by decide
def lostN (d b : Nat) : Bool := decide (¬ b / 2 ^ d % 2 = 0) && decide (b ≠ 2 ^ d)
set_option maxHeartbeats 4000000 in
set_option maxRecDepth 100000 in
theorem c_PD_stripeOf (l : Launch) (G : Gx) {p : Nat} (hp : p < 2 ^ 31) (P : Heap → Prop) : RI l G y_PD_stripeOf w_PD_stripeOf 0 [.int (nI p)] P (.int (nI (p / 4))) := by
  refine hd_code (by decide +kernel) (Nat.le_of_ble_eq_true rfl) ?_
  intro pp ee ss mm bl meth cd ls hF hr hlocks hex hnm had hP hl
  have hx := hF.1
  have hb := hF.2.1
  have hl : lv_has ls 1 [(0, .int _)] := hl
  refine lv_iload_n hx hb d_PD_stripeOf_0 rfl (lv_at hl 0 rfl) ?_
  refine lv_iconst (v := (nI 2)) hx hb d_PD_stripeOf_1 (by decide) ?_
  refine lv_ishr hx hb d_PD_stripeOf_2 ?_
  exact ri_i hF hr hlocks (pk_shrN hp _ 2 (by decide)) d_PD_stripeOf_3
set_option maxHeartbeats 4000000 in
set_option maxRecDepth 100000 in
theorem c_PD_parityOf (l : Launch) (G : Gx) {p : Nat} (hp : p < 2 ^ 31) (P : Heap → Prop) : RI l G y_PD_parityOf w_PD_parityOf 0 [.int (nI p)] P (.int (nI (p % 5))) := by
  refine hd_code (by decide +kernel) (Nat.le_of_ble_eq_true rfl) ?_
  intro pp ee ss mm bl meth cd ls hF hr hlocks hex hnm had hP hl
  have hx := hF.1
  have hb := hF.2.1
  have hl : lv_has ls 1 [(0, .int _)] := hl
  refine lv_iload_n hx hb d_PD_parityOf_0 rfl (lv_at hl 0 rfl) ?_
  refine lv_iconst (v := (nI 5)) hx hb d_PD_parityOf_1 (by decide) ?_
  refine lv_irem hx hb d_PD_parityOf_2 (by decide) ?_
  exact ri_i hF hr hlocks (pk_rem hp (by decide) (by decide)) d_PD_parityOf_3
set_option maxHeartbeats 4000000 in
set_option maxRecDepth 100000 in
theorem c_PD_diskOf (l : Launch) (G : Gx) {p : Nat} (hp : p < 2 ^ 31) (P : Heap → Prop) : RI l G y_PD_diskOf w_PD_diskOf 1 [.int (nI p)] P (.int (nI (dsk p))) := by
  refine hd_code (by decide +kernel) (Nat.le_of_ble_eq_true rfl) ?_
  intro pp ee ss mm bl meth cd ls hF hr hlocks hex hnm had hP hl
  have hx := hF.1
  have hb := hF.2.1
  have hl : lv_has ls 2 [(0, .int _)] := hl
  refine lv_iload_n hx hb d_PD_diskOf_0 rfl (lv_at hl 0 rfl) ?_
  refine lv_iconst (v := (nI 3)) hx hb d_PD_diskOf_1 (by decide) ?_
  refine lv_iand hx hb d_PD_diskOf_2 ?_
  refine lv_eqi (z := nI (p % 4)) (pk_andN (by omega) 2 (by decide)) ?_
  refine lv_istore_n hx hb d_PD_diskOf_3 rfl hl (by decide) rfl (fun ls hl => ?_)
  have hl : lv_has ls 2 [(1, .int _), (0, .int _)] := hl
  refine lv_iload_n hx hb d_PD_diskOf_4 rfl (lv_at hl 0 rfl) ?_
  refine lv_iload_n hx hb d_PD_diskOf_5 rfl (lv_at hl 1 rfl) ?_
  refine rS hF sS_PD_19 (c_PD_stripeOf l G hp (fun _ => True)) trivial (by decide) rfl rfl hl.1 (Nat.le_of_ble_eq_true rfl) d_PD_diskOf_6 (by decide) ?_
  refine rS hF sS_PD_23 (c_PD_parityOf l G (p := p / 4) (by omega) (fun _ => True)) trivial (by decide) rfl rfl hl.1 (Nat.le_of_ble_eq_true rfl) d_PD_diskOf_9 (by decide) ?_
  refine nb_ge (tgt := 19) hx hb d_PD_diskOf_12 (by decide) (by omega) (by omega) (fun hc => ?_) (fun hc => ?_)
  · refine lv_iload_n hx hb d_PD_diskOf_19 rfl (lv_at hl 0 rfl) ?_
    refine lv_iconst (v := (nI 1)) hx hb d_PD_diskOf_20 (by decide) ?_
    refine lv_iadd hx hb d_PD_diskOf_21 ?_
    refine lv_eqi (z := nI (p % 4 + 1)) (nI_add _ _) ?_
    exact ri_i hF hr hlocks (by unfold dsk; rw [if_neg (by omega)]) d_PD_diskOf_22
  · refine lv_iload_n hx hb d_PD_diskOf_15 rfl (lv_at hl 0 rfl) ?_
    refine lv_goto (tgt := 22) hx hb d_PD_diskOf_16 (by decide) ?_
    exact ri_i hF hr hlocks (by unfold dsk; rw [if_pos hc]) d_PD_diskOf_22
set_option maxHeartbeats 4000000 in
set_option maxRecDepth 100000 in
theorem c_PD_isDisk (l : Launch) (G : Gx) (d : Int32) (P : Heap → Prop) : RI l G y_PD_isDisk w_PD_isDisk 0 [.int d] P (.int (b2i (okD d))) := by
  refine hd_code (by decide +kernel) (Nat.le_of_ble_eq_true rfl) ?_
  intro pp ee ss mm bl meth cd ls hF hr hlocks hex hnm had hP hl
  have hx := hF.1
  have hb := hF.2.1
  have hl : lv_has ls 1 [(0, .int _)] := hl
  refine lv_iload_n hx hb d_PD_isDisk_0 rfl (lv_at hl 0 rfl) ?_
  refine lv_if_lt (tgt := 13) hx hb d_PD_isDisk_1 (by decide) (fun hc => ?_) (fun hc => ?_)
  · refine lv_iconst (v := (nI 0)) hx hb d_PD_isDisk_13 (by decide) ?_
    exact ri_z hF hr hlocks (by simp [okD, hc, b2i, nI_0]) (b2i_01 _) d_PD_isDisk_14
  · refine lv_iload_n hx hb d_PD_isDisk_4 rfl (lv_at hl 0 rfl) ?_
    refine lv_iconst (v := (nI 5)) hx hb d_PD_isDisk_5 (by decide) ?_
    refine lv_icmp_ge (tgt := 13) hx hb d_PD_isDisk_6 (by decide) (fun h2 => ?_) (fun h2 => ?_)
    · refine lv_iconst (v := (nI 0)) hx hb d_PD_isDisk_13 (by decide) ?_
      exact ri_z hF hr hlocks (by simp [okD, h2, b2i, nI_0]) (b2i_01 _) d_PD_isDisk_14
    · refine lv_iconst (v := (nI 1)) hx hb d_PD_isDisk_9 (by decide) ?_
      refine lv_goto (tgt := 14) hx hb d_PD_isDisk_10 (by decide) ?_
      exact ri_z hF hr hlocks (by simp only [okD, hc, h2, b2i]; rfl) (b2i_01 _) d_PD_isDisk_14
set_option maxHeartbeats 4000000 in
set_option maxRecDepth 100000 in
theorem c_PD_isPlace (l : Launch) (G : Gx) (d h : Int32) (P : Heap → Prop) : RI l G y_PD_isPlace w_PD_isPlace 0 [.int d, .int h] P (.int (b2i (okP d h))) := by
  refine hd_code (by decide +kernel) (Nat.le_of_ble_eq_true rfl) ?_
  intro pp ee ss mm bl meth cd ls hF hr hlocks hex hnm had hP hl
  have hx := hF.1
  have hb := hF.2.1
  have hl : lv_has ls 2 [(0, .int _), (1, .int _)] := hl
  refine lv_iload_n hx hb d_PD_isPlace_0 rfl (lv_at hl 0 rfl) ?_
  refine lv_if_lt (tgt := 24) hx hb d_PD_isPlace_1 (by decide) (fun hc => ?_) (fun hc => ?_)
  · refine lv_iconst (v := (nI 0)) hx hb d_PD_isPlace_24 (by decide) ?_
    exact ri_z hF hr hlocks (by simp [okP, hc, b2i, nI_0]) (b2i_01 _) d_PD_isPlace_25
  · refine lv_iload_n hx hb d_PD_isPlace_4 rfl (lv_at hl 0 rfl) ?_
    refine lv_sipush (v := nI 400) hx hb d_PD_isPlace_5 (by decide) ?_
    refine lv_icmp_ge (tgt := 24) hx hb d_PD_isPlace_8 (by decide) (fun h2 => ?_) (fun h2 => ?_)
    · refine lv_iconst (v := (nI 0)) hx hb d_PD_isPlace_24 (by decide) ?_
      exact ri_z hF hr hlocks (by simp [okP, h2, b2i, nI_0]) (b2i_01 _) d_PD_isPlace_25
    · refine lv_iload_n hx hb d_PD_isPlace_11 rfl (lv_at hl 1 rfl) ?_
      refine lv_if_eq (tgt := 20) hx hb d_PD_isPlace_12 (by decide) (fun h3 => ?_) (fun h3 => ?_)
      · refine lv_iconst (v := (nI 1)) hx hb d_PD_isPlace_20 (by decide) ?_
        refine lv_goto (tgt := 25) hx hb d_PD_isPlace_21 (by decide) ?_
        exact ri_z hF hr hlocks (by simp only [okP, okH, hc, h2, h3, b2i]; rfl) (b2i_01 _) d_PD_isPlace_25
      · refine lv_iload_n hx hb d_PD_isPlace_15 rfl (lv_at hl 1 rfl) ?_
        refine lv_iconst (v := (nI 1)) hx hb d_PD_isPlace_16 (by decide) ?_
        refine lv_icmp_ne (tgt := 24) hx hb d_PD_isPlace_17 (by decide) (fun h4 => ?_) (fun h4 => ?_)
        · refine lv_iconst (v := (nI 0)) hx hb d_PD_isPlace_24 (by decide) ?_
          exact ri_z hF hr hlocks (by simp [okP, okH, h3, h4, b2i, nI_0]) (b2i_01 _) d_PD_isPlace_25
        · refine lv_iconst (v := (nI 1)) hx hb d_PD_isPlace_20 (by decide) ?_
          refine lv_goto (tgt := 25) hx hb d_PD_isPlace_21 (by decide) ?_
          exact ri_z hF hr hlocks (by simp only [okP, okH, hc, h2, h3, h4, b2i]; rfl) (b2i_01 _) d_PD_isPlace_25
set_option maxHeartbeats 4000000 in
set_option maxRecDepth 100000 in
theorem c_PD_isLost (l : Launch) (G : Gx) {d b : Nat} (hd : d < 5) (hb9 : b < 32) (P : Heap → Prop) : RI l G y_PD_isLost w_PD_isLost 0 [.int (nI d), .int (nI b)] P (.int (b2i (lostN d b))) := by
  refine hd_code (by decide +kernel) (Nat.le_of_ble_eq_true rfl) ?_
  intro pp ee ss mm bl meth cd ls hF hr hlocks hex hnm had hP hl
  have hx := hF.1
  have hb := hF.2.1
  have hl : lv_has ls 2 [(0, .int _), (1, .int _)] := hl
  refine lv_iload_n hx hb d_PD_isLost_0 rfl (lv_at hl 1 rfl) ?_
  refine lv_iload_n hx hb d_PD_isLost_1 rfl (lv_at hl 0 rfl) ?_
  refine lv_ishr hx hb d_PD_isLost_2 ?_
  refine lv_iconst (v := (nI 1)) hx hb d_PD_isLost_3 (by decide) ?_
  refine lv_iand hx hb d_PD_isLost_4 ?_
  refine lv_if_eq (tgt := 19) hx hb d_PD_isLost_5 (by decide) (fun hc => ?_) (fun hc => ?_)
  · have hc := (lost_bits d hd b hb9).mp hc
    refine lv_iconst (v := (nI 0)) hx hb d_PD_isLost_19 (by decide) ?_
    exact ri_z hF hr hlocks (by simp [lostN, hc, b2i, nI_0]) (b2i_01 _) d_PD_isLost_20
  · have hc : ¬ b / 2 ^ d % 2 = 0 := fun z => hc ((lost_bits d hd b hb9).mpr z)
    refine lv_iload_n hx hb d_PD_isLost_8 rfl (lv_at hl 1 rfl) ?_
    refine lv_iconst (v := (nI 1)) hx hb d_PD_isLost_9 (by decide) ?_
    refine lv_iload_n hx hb d_PD_isLost_10 rfl (lv_at hl 0 rfl) ?_
    refine lv_ishl hx hb d_PD_isLost_11 ?_
    refine lv_eqi (z := nI (2 ^ d)) (lost_one d hd) ?_
    have h32 : 2 ^ d ≤ 2 ^ 5 := Nat.pow_le_pow_right (by decide) (by omega)
    refine nb_eq (tgt := 19) hx hb d_PD_isLost_12 (by decide) (by omega) (by omega) (fun h2 => ?_) (fun h2 => ?_)
    · refine lv_iconst (v := (nI 0)) hx hb d_PD_isLost_19 (by decide) ?_
      exact ri_z hF hr hlocks (by simp [lostN, h2, b2i, nI_0]) (b2i_01 _) d_PD_isLost_20
    · refine lv_iconst (v := (nI 1)) hx hb d_PD_isLost_15 (by decide) ?_
      refine lv_goto (tgt := 20) hx hb d_PD_isLost_16 (by decide) ?_
      exact ri_z hF hr hlocks (by simp [lostN, hc, h2, b2i, nI1]) (b2i_01 _) d_PD_isLost_20
end
section
/-! the component's methods that only read -/
def uok (u : Nat → Nat) : Prop := ∀ i, i < 5 → u i ≤ 101
theorem lostB_eq (u : Nat → Nat) (s : Nat) {d : Nat} (hd : d < 5) : lostN d (barF (usedB u s) 5) = lostB u d s := (lost_bar (usedB u s) hd).symm
theorem barF5 (f : Nat → Bool) : barF f 5 < 32 := barF_lt f 5
set_option maxHeartbeats 4000000 in
set_option maxRecDepth 100000 in
theorem c_DK_isUsed (l : Launch) (G : Gx) {x da : Nat} {ad ra : Nat → Nat} {u : Nat → Nat} {R : Nat → Nat → Int64} (hu : uok u) {i s : Nat} (hi : i < 5) (hs : s < 2 ^ 31) : RI l G y_DK_isUsed w_DK_isUsed 0 [.ref (ad i), .int (nI s)] (PDp G x da ad ra u R) (.int (b2i (usedB u s i))) := by
  refine hd_code (by decide +kernel) (Nat.le_of_ble_eq_true rfl) ?_
  intro pp ee ss mm bl meth cd ls hF hr hlocks hex hnm had hP hl
  have hx := hF.1
  have hb := hF.2.1
  have hl : lv_has ls 2 [(0, .ref _), (1, .int _)] := hl
  refine lv_iload_n hx hb d_DK_isUsed_0 rfl (lv_at hl 1 rfl) ?_
  refine lv_aload_n hx hb d_DK_isUsed_1 rfl (lv_at hl 0 rfl) ?_
  refine dg_U hi hF hP d_DK_isUsed_2 ?_
  have hui := hu i hi
  refine nb_ge (tgt := 12) hx hb d_DK_isUsed_5 (by decide) (by omega) (by omega) (fun hc => ?_) (fun hc => ?_)
  · refine lv_iconst (v := (nI 0)) hx hb d_DK_isUsed_12 (by decide) ?_
    exact ri_z hF hr hlocks (by rw [show usedB u s i = false from decide_eq_false (by omega)]; rfl) (b2i_01 _) d_DK_isUsed_13
  · refine lv_iconst (v := (nI 1)) hx hb d_DK_isUsed_8 (by decide) ?_
    refine lv_goto (tgt := 13) hx hb d_DK_isUsed_9 (by decide) ?_
    exact ri_z hF hr hlocks (by rw [show usedB u s i = true from decide_eq_true (by omega)]; rfl) (b2i_01 _) d_DK_isUsed_13
def stV (n : Nat) : Int32 := if n = 0 then nI 1 else if n = 101 then nI 0 else nI (1 + n)
set_option maxHeartbeats 4000000 in
set_option maxRecDepth 100000 in
theorem c_DK_state (l : Launch) (G : Gx) {x da : Nat} {ad ra : Nat → Nat} {u : Nat → Nat} {R : Nat → Nat → Int64} (hu : uok u) {i : Nat} (hi : i < 5) : RI l G y_DK_state w_DK_state 0 [.ref (ad i)] (PDp G x da ad ra u R) (.int (stV (u i))) := by
  refine hd_code (by decide +kernel) (Nat.le_of_ble_eq_true rfl) ?_
  intro pp ee ss mm bl meth cd ls hF hr hlocks hex hnm had hP hl
  have hx := hF.1
  have hb := hF.2.1
  have hl : lv_has ls 1 [(0, .ref _)] := hl
  refine lv_aload_n hx hb d_DK_state_0 rfl (lv_at hl 0 rfl) ?_
  refine dg_F hi hF hP d_DK_state_1 ?_
  have hui := hu i hi
  refine lv_if_eq (tgt := 11) hx hb d_DK_state_4 (by decide) (fun hc => ?_) (fun hc => ?_)
  · have h0 : u i ≠ 0 := fun z => by rw [z] at hc; exact absurd hc (by decide)
    refine lv_aload_n hx hb d_DK_state_11 rfl (lv_at hl 0 rfl) ?_
    refine dg_U hi hF hP d_DK_state_12 ?_
    refine lv_bipush (v := nI 100) hx hb d_DK_state_15 (by decide) ?_
    refine nb_ne (tgt := 24) hx hb d_DK_state_17 (by decide) (by omega) (by omega) (fun h2 => ?_) (fun h2 => ?_)
    · refine lv_iconst (v := (nI 2)) hx hb d_DK_state_24 (by decide) ?_
      refine lv_aload_n hx hb d_DK_state_25 rfl (lv_at hl 0 rfl) ?_
      refine dg_U hi hF hP d_DK_state_26 ?_
      refine lv_iadd hx hb d_DK_state_29 ?_
      exact ri_i hF hr hlocks (by unfold stV upv; rw [if_neg h0, if_neg (by omega), nI_add]; congr 1; omega) d_DK_state_30
    · refine lv_iconst (v := (nI 0)) hx hb d_DK_state_20 (by decide) ?_
      refine lv_goto (tgt := 30) hx hb d_DK_state_21 (by decide) ?_
      exact ri_i hF hr hlocks (by unfold stV; rw [if_neg h0, if_pos (by omega)]) d_DK_state_30
  · have h0 : u i = 0 := by
      refine Decidable.byContradiction (fun z => hc ?_)
      unfold flv; rw [if_neg z]
    refine lv_iconst (v := (nI 1)) hx hb d_DK_state_7 (by decide) ?_
    refine lv_goto (tgt := 30) hx hb d_DK_state_8 (by decide) ?_
    exact ri_i hF hr hlocks (by unfold stV; rw [if_pos h0]) d_DK_state_30
set_option maxHeartbeats 4000000 in
set_option maxRecDepth 100000 in
theorem c_PD_barred (l : Launch) (G : Gx) {x da : Nat} {ad ra : Nat → Nat} {u : Nat → Nat} {R : Nat → Nat → Int64} (hu : uok u) {s : Nat} (hs : s < 2 ^ 31) : RI l G y_PD_barred w_PD_barred 1 [.ref x, .int (nI s)] (PDp G x da ad ra u R) (.int (nI (barF (usedB u s) 5))) := by
  refine hd_code (by decide +kernel) (Nat.le_of_ble_eq_true rfl) ?_
  intro pp ee ss mm bl meth cd ls hF hr hlocks hex hnm had hP hl
  have hx := hF.1
  have hb := hF.2.1
  have hl : lv_has ls 4 [(0, .ref _), (1, .int _)] := hl
  refine lv_iconst (v := (nI 0)) hx hb d_PD_barred_0 (by decide) ?_
  refine lv_istore_n hx hb d_PD_barred_1 rfl hl (by decide) rfl (fun ls hl => ?_)
  have hl : lv_has ls 4 [(2, .int _), (0, .ref _), (1, .int _)] := hl
  refine lv_iconst (v := (nI 0)) hx hb d_PD_barred_2 (by decide) ?_
  refine lv_istore_n hx hb d_PD_barred_3 rfl hl (by decide) rfl (fun ls hl => ?_)
  have hl : lv_has ls 4 [(3, .int _), (2, .int _), (0, .ref _), (1, .int _)] := hl
  have loop : ∀ (n d : Nat) (ls : Array Slot), d + n = 5 → lv_has ls 4 [(3, .int (nI d)), (2, .int (nI (barF (usedB u s) d))), (0, .ref x), (1, .int (nI s))] → W pp l ee (Lv 1 0 0) ss mm ([.ref x, .int (nI s)] : List Value).toArray bl meth cd ss.heap [] 0 0 (MX bl (QR (.int (nI (barF (usedB u s) 5)))) ([.ref x, .int (nI s)] : List Value).toArray ss 0 0 (fun _ => False)) (F0 mm 4 ls []) := by
    intro n
    induction n with
    | zero =>
      intro d ls hd hl
      obtain rfl : d = 5 := by omega
      refine lv_iload_n hx hb d_PD_barred_4 rfl (lv_at hl 0 rfl) ?_
      refine lv_iconst (v := (nI 5)) hx hb d_PD_barred_5 (by decide) ?_
      refine nb_ge (tgt := 34) hx hb d_PD_barred_6 (by decide) (by omega) (by omega) (fun _ => ?_) (fun hc => absurd hc (by omega))
      refine lv_iload_n hx hb d_PD_barred_34 rfl (lv_at hl 1 rfl) ?_
      exact ri_i hF hr hlocks rfl d_PD_barred_35
    | succ n ih =>
      intro d ls hd hl
      have hd5 : d < 5 := by omega
      refine lv_iload_n hx hb d_PD_barred_4 rfl (lv_at hl 0 rfl) ?_
      refine lv_iconst (v := (nI 5)) hx hb d_PD_barred_5 (by decide) ?_
      refine nb_ge (tgt := 34) hx hb d_PD_barred_6 (by decide) (by omega) (by omega) (fun hc => absurd hc (by omega)) (fun _ => ?_)
      refine lv_aload_n hx hb d_PD_barred_9 rfl (lv_at hl 2 rfl) ?_
      refine p_disks hF hP d_PD_barred_10 ?_
      refine lv_iload_n hx hb d_PD_barred_13 rfl (lv_at hl 0 rfl) ?_
      refine l_disk hd5 hF hP d_PD_barred_14 ?_
      refine lv_iload_n hx hb d_PD_barred_15 rfl (lv_at hl 3 rfl) ?_
      refine rV hF sV_PD_26 (c_DK_isUsed l G hu hd5 hs) hP (rc_d hd5 hF.2.2.2.2 hP) (by decide) rfl rfl hl.1 (Nat.le_of_ble_eq_true rfl) d_PD_barred_16 (by decide) ?_
      refine zb_ne (tgt := 28) hx hb d_PD_barred_19 (by decide) (fun hc => ?_) (fun hc => ?_)
      · refine lv_iinc (k := 0) hx hb d_PD_barred_28 hl rfl (nI_inc d) (by decide) rfl (fun ls hl => ?_)
        have hl : lv_has ls 4 [(3, .int _), (2, .int _), (0, .ref _), (1, .int _)] := hl
        refine lv_goto (tgt := 4) hx hb d_PD_barred_31 (by decide) ?_
        exact ih (d + 1) ls (by omega) (lv_sub hl [0, 1, 2, 3] (by simp [lv_pick, barF, hc]))
      · refine lv_iload_n hx hb d_PD_barred_22 rfl (lv_at hl 1 rfl) ?_
        refine lv_iconst (v := (nI 1)) hx hb d_PD_barred_23 (by decide) ?_
        refine lv_iload_n hx hb d_PD_barred_24 rfl (lv_at hl 0 rfl) ?_
        refine lv_ishl hx hb d_PD_barred_25 ?_
        refine lv_ior hx hb d_PD_barred_26 ?_
        refine lv_eqi (z := nI (barF (usedB u s) d + 2 ^ d)) (bar_or d hd5 _ (barF_lt _ d)) ?_
        refine lv_istore_n hx hb d_PD_barred_27 rfl hl (by decide) rfl (fun ls hl => ?_)
        have hl : lv_has ls 4 [(2, .int _), (3, .int _), (0, .ref _), (1, .int _)] := hl
        refine lv_iinc (k := 1) hx hb d_PD_barred_28 hl rfl (nI_inc d) (by decide) rfl (fun ls hl => ?_)
        have hl : lv_has ls 4 [(3, .int _), (2, .int _), (0, .ref _), (1, .int _)] := hl
        refine lv_goto (tgt := 4) hx hb d_PD_barred_31 (by decide) ?_
        exact ih (d + 1) ls (by omega) (lv_sub hl [0, 1, 2, 3] (by simp [lv_pick, barF, hc]))
  exact loop 5 0 ls rfl hl
set_option maxHeartbeats 4000000 in
set_option maxRecDepth 100000 in
theorem c_PD_has (l : Launch) (G : Gx) {x da : Nat} {ad ra : Nat → Nat} {u : Nat → Nat} {R : Nat → Nat → Int64} (hu : uok u) {d s h : Nat} (hd : d < 5) (hs : s < 100) (hh : h < 2) : RI l G y_PD_has w_PD_has 1 [.ref x, .int (nI d), .int (nI s), .int (nI h)] (PDp G x da ad ra u R) (.long (hasV u R d s h)) := by
  refine hd_code (by decide +kernel) (Nat.le_of_ble_eq_true rfl) ?_
  intro pp ee ss mm bl meth cd ls hF hr hlocks hex hnm had hP hl
  have hx := hF.1
  have hb := hF.2.1
  have hl : lv_has ls 8 [(0, .ref _), (1, .int _), (2, .int _), (3, .int _)] := hl
  refine lv_iconst (v := (nI 2)) hx hb d_PD_has_0 (by decide) ?_
  refine lv_iload_n hx hb d_PD_has_1 rfl (lv_at hl 2 rfl) ?_
  refine lv_imul hx hb d_PD_has_2 ?_
  refine lv_iload_n hx hb d_PD_has_3 rfl (lv_at hl 3 rfl) ?_
  refine lv_iadd hx hb d_PD_has_4 ?_
  refine lv_eqi (z := nI (2 * s + h)) (by rw [pk_mul, nI_add]) ?_
  refine lv_istore hx hb d_PD_has_5 hl (by decide) rfl (fun ls hl => ?_)
  have hl : lv_has ls 8 [(4, .int _), (0, .ref _), (1, .int _), (2, .int _), (3, .int _)] := hl
  refine lv_aload_n hx hb d_PD_has_7 rfl (lv_at hl 1 rfl) ?_
  refine p_disks hF hP d_PD_has_8 ?_
  refine lv_iload_n hx hb d_PD_has_11 rfl (lv_at hl 2 rfl) ?_
  refine l_disk hd hF hP d_PD_has_12 ?_
  refine lv_iload_n hx hb d_PD_has_13 rfl (lv_at hl 3 rfl) ?_
  refine rV hF sV_PD_26 (c_DK_isUsed l G hu hd (s := s) (by omega)) hP (rc_d hd hF.2.2.2.2 hP) (by decide) rfl rfl hl.1 (Nat.le_of_ble_eq_true rfl) d_PD_has_14 (by decide) ?_
  refine zb_eq (tgt := 33) hx hb d_PD_has_17 (by decide) (fun hc => ?_) (fun hc => ?_)
  · have hv : hasV u R d s h = oth R d (2 * s + h) 5 := by unfold hasV; rw [if_neg (by rw [hc]; decide)]
    rw [hv]
    refine lv_lconst (v := 0) hx hb d_PD_has_33 (by decide) ?_
    refine lv_lstore hx hb d_PD_has_34 hl (by decide) rfl (fun ls hl => ?_)
    have hl : lv_has ls 8 [(5, .long _), (4, .int _), (0, .ref _), (1, .int _), (2, .int _), (3, .int _)] := hl
    refine lv_iconst (v := (nI 0)) hx hb d_PD_has_36 (by decide) ?_
    refine lv_istore hx hb d_PD_has_37 hl (by decide) rfl (fun ls hl => ?_)
    have hl : lv_has ls 8 [(7, .int _), (5, .long _), (4, .int _), (0, .ref _), (1, .int _), (2, .int _), (3, .int _)] := hl
    have loop : ∀ (n k : Nat) (ls : Array Slot), k + n = 5 → lv_has ls 8 [(7, .int (nI k)), (5, .long (oth R d (2 * s + h) k)), (4, .int (nI (2 * s + h))), (0, .ref x), (1, .int (nI d)), (2, .int (nI s)), (3, .int (nI h))] → W pp l ee (Lv 1 0 0) ss mm ([.ref x, .int (nI d), .int (nI s), .int (nI h)] : List Value).toArray bl meth cd ss.heap [] 0 0 (MX bl (QR (.long (oth R d (2 * s + h) 5))) ([.ref x, .int (nI d), .int (nI s), .int (nI h)] : List Value).toArray ss 0 0 (fun _ => False)) (F0 mm 39 ls []) := by
      intro n
      induction n with
      | zero =>
        intro k ls hk hl
        obtain rfl : k = 5 := by omega
        refine lv_iload hx hb d_PD_has_39 (lv_at hl 0 rfl) ?_
        refine lv_iconst (v := (nI 5)) hx hb d_PD_has_41 (by decide) ?_
        refine nb_ge (tgt := 75) hx hb d_PD_has_42 (by decide) (by omega) (by omega) (fun _ => ?_) (fun hc => absurd hc (by omega))
        refine lv_lload hx hb d_PD_has_75 (lv_at hl 1 rfl) ?_
        exact ri_l hF hr hlocks rfl d_PD_has_77
      | succ n ih =>
        intro k ls hk hl
        have hk5 : k < 5 := by omega
        refine lv_iload hx hb d_PD_has_39 (lv_at hl 0 rfl) ?_
        refine lv_iconst (v := (nI 5)) hx hb d_PD_has_41 (by decide) ?_
        refine nb_ge (tgt := 75) hx hb d_PD_has_42 (by decide) (by omega) (by omega) (fun hc => absurd hc (by omega)) (fun _ => ?_)
        refine lv_iload hx hb d_PD_has_45 (lv_at hl 0 rfl) ?_
        refine lv_iload_n hx hb d_PD_has_47 rfl (lv_at hl 4 rfl) ?_
        refine nb_eq (tgt := 69) hx hb d_PD_has_48 (by decide) (by omega) (by omega) (fun h2 => ?_) (fun h2 => ?_)
        · refine lv_iinc (k := 0) hx hb d_PD_has_69 hl rfl (nI_inc k) (by decide) rfl (fun ls hl => ?_)
          have hl : lv_has ls 8 [(7, .int _), (5, .long _), (4, .int _), (0, .ref _), (1, .int _), (2, .int _), (3, .int _)] := hl
          refine lv_goto (tgt := 39) hx hb d_PD_has_72 (by decide) ?_
          exact ih (k + 1) ls (by omega) (lv_sub hl [0, 1, 2, 3, 4, 5, 6] (by simp [lv_pick, oth, h2]))
        · refine lv_lload hx hb d_PD_has_51 (lv_at hl 1 rfl) ?_
          refine lv_aload_n hx hb d_PD_has_53 rfl (lv_at hl 3 rfl) ?_
          refine p_disks hF hP d_PD_has_54 ?_
          refine lv_iload hx hb d_PD_has_57 (lv_at hl 0 rfl) ?_
          refine l_disk hk5 hF hP d_PD_has_59 ?_
          refine pg_R hk5 hF hP d_PD_has_60 ?_
          refine lv_iload hx hb d_PD_has_63 (lv_at hl 2 rfl) ?_
          refine l_row hk5 (by omega) hF hP d_PD_has_65 ?_
          refine lv_lxor hx hb d_PD_has_66 ?_
          refine lv_lstore hx hb d_PD_has_67 hl (by decide) rfl (fun ls hl => ?_)
          have hl : lv_has ls 8 [(5, .long _), (7, .int _), (4, .int _), (0, .ref _), (1, .int _), (2, .int _), (3, .int _)] := hl
          refine lv_iinc (k := 1) hx hb d_PD_has_69 hl rfl (nI_inc k) (by decide) rfl (fun ls hl => ?_)
          have hl : lv_has ls 8 [(7, .int _), (5, .long _), (4, .int _), (0, .ref _), (1, .int _), (2, .int _), (3, .int _)] := hl
          refine lv_goto (tgt := 39) hx hb d_PD_has_72 (by decide) ?_
          exact ih (k + 1) ls (by omega) (lv_sub hl [0, 1, 2, 3, 4, 5, 6] (by simp [lv_pick, oth, h2]))
    exact loop 5 0 ls rfl (lv_sub hl [0, 1, 2, 3, 4, 5, 6] rfl)
  · have hv : hasV u R d s h = R d (2 * s + h) := by unfold hasV; rw [if_pos hc]
    rw [hv]
    refine lv_aload_n hx hb d_PD_has_20 rfl (lv_at hl 1 rfl) ?_
    refine p_disks hF hP d_PD_has_21 ?_
    refine lv_iload_n hx hb d_PD_has_24 rfl (lv_at hl 2 rfl) ?_
    refine l_disk hd hF hP d_PD_has_25 ?_
    refine pg_R hd hF hP d_PD_has_26 ?_
    refine lv_iload hx hb d_PD_has_29 (lv_at hl 0 rfl) ?_
    refine l_row hd (by omega) hF hP d_PD_has_31 ?_
    exact ri_l hF hr hlocks rfl d_PD_has_32
/-- how many of the first n places are lost -/
def cntL (u : Nat → Nat) : Nat → Nat
  | 0 => 0
  | n + 1 => if lostB u (dsk n) (n / 4) = true then cntL u n + 1 else cntL u n
theorem cntL_le (u : Nat → Nat) : ∀ n, cntL u n ≤ n
  | 0 => Nat.le_refl _
  | n + 1 => by
    have h := cntL_le u n
    unfold cntL
    split <;> omega
set_option maxHeartbeats 4000000 in
set_option maxRecDepth 100000 in
theorem c_PD_lost (l : Launch) (G : Gx) {x da : Nat} {ad ra : Nat → Nat} {u : Nat → Nat} {R : Nat → Nat → Int64} (hu : uok u) : RI l G y_PD_lost w_PD_lost 2 [.ref x] (PDp G x da ad ra u R) (.int (nI (cntL u 400))) := by
  refine hd_code (by decide +kernel) (Nat.le_of_ble_eq_true rfl) ?_
  intro pp ee ss mm bl meth cd ls hF hr hlocks hex hnm had hP hl
  have hx := hF.1
  have hb := hF.2.1
  have hl : lv_has ls 3 [(0, .ref _)] := hl
  refine lv_iconst (v := (nI 0)) hx hb d_PD_lost_0 (by decide) ?_
  refine lv_istore_n hx hb d_PD_lost_1 rfl hl (by decide) rfl (fun ls hl => ?_)
  have hl : lv_has ls 3 [(1, .int _), (0, .ref _)] := hl
  refine lv_iconst (v := (nI 0)) hx hb d_PD_lost_2 (by decide) ?_
  refine lv_istore_n hx hb d_PD_lost_3 rfl hl (by decide) rfl (fun ls hl => ?_)
  have hl : lv_has ls 3 [(2, .int _), (1, .int _), (0, .ref _)] := hl
  have loop : ∀ (n k : Nat) (ls : Array Slot), k + n = 400 → lv_has ls 3 [(2, .int (nI k)), (1, .int (nI (cntL u k))), (0, .ref x)] → W pp l ee (Lv 2 0 0) ss mm ([.ref x] : List Value).toArray bl meth cd ss.heap [] 0 0 (MX bl (QR (.int (nI (cntL u 400)))) ([.ref x] : List Value).toArray ss 0 0 (fun _ => False)) (F0 mm 4 ls []) := by
    intro n
    induction n with
    | zero =>
      intro k ls hk hl
      obtain rfl : k = 400 := by omega
      refine lv_iload_n hx hb d_PD_lost_4 rfl (lv_at hl 0 rfl) ?_
      refine lv_sipush (v := nI 400) hx hb d_PD_lost_5 (by decide) ?_
      refine nb_ge (tgt := 38) hx hb d_PD_lost_8 (by decide) (by omega) (by omega) (fun _ => ?_) (fun hc => absurd hc (by omega))
      refine lv_iload_n hx hb d_PD_lost_38 rfl (lv_at hl 1 rfl) ?_
      exact ri_i hF hr hlocks rfl d_PD_lost_39
    | succ n ih =>
      intro k ls hk hl
      have hk4 : k < 400 := by omega
      refine lv_iload_n hx hb d_PD_lost_4 rfl (lv_at hl 0 rfl) ?_
      refine lv_sipush (v := nI 400) hx hb d_PD_lost_5 (by decide) ?_
      refine nb_ge (tgt := 38) hx hb d_PD_lost_8 (by decide) (by omega) (by omega) (fun hc => absurd hc (by omega)) (fun _ => ?_)
      refine lv_iload_n hx hb d_PD_lost_11 rfl (lv_at hl 0 rfl) ?_
      refine rS hF sS_PD_42 (c_PD_diskOf l G (p := k) (by omega) (fun _ => True)) trivial (by decide) rfl rfl hl.1 (Nat.le_of_ble_eq_true rfl) d_PD_lost_12 (by decide) ?_
      refine lv_aload_n hx hb d_PD_lost_15 rfl (lv_at hl 2 rfl) ?_
      refine lv_iload_n hx hb d_PD_lost_16 rfl (lv_at hl 0 rfl) ?_
      refine rS hF sS_PD_19 (c_PD_stripeOf l G (p := k) (by omega) (fun _ => True)) trivial (by decide) rfl rfl hl.1 (Nat.le_of_ble_eq_true rfl) d_PD_lost_17 (by decide) ?_
      refine rV hF sV_PD_45 (c_PD_barred l G hu (s := k / 4) (by omega)) hP (rc_x hF.2.2.2.2 hP) (by decide) rfl rfl hl.1 (Nat.le_of_ble_eq_true rfl) d_PD_lost_20 (by decide) ?_
      refine rS hF sS_PD_48 (c_PD_isLost l G (dsk_lt k) (barF5 _) (fun _ => True)) trivial (by decide) rfl rfl hl.1 (Nat.le_of_ble_eq_true rfl) d_PD_lost_23 (by decide) ?_
      rw [lostB_eq u _ (dsk_lt k)]
      refine zb_eq (tgt := 32) hx hb d_PD_lost_26 (by decide) (fun hc => ?_) (fun hc => ?_)
      · refine lv_iinc (k := 0) hx hb d_PD_lost_32 hl rfl (nI_inc k) (by decide) rfl (fun ls hl => ?_)
        have hl : lv_has ls 3 [(2, .int _), (1, .int _), (0, .ref _)] := hl
        refine lv_goto (tgt := 4) hx hb d_PD_lost_35 (by decide) ?_
        exact ih (k + 1) ls (by omega) (lv_sub hl [0, 1, 2] (by simp [lv_pick, cntL, hc]))
      · refine lv_iinc (k := 1) hx hb d_PD_lost_29 hl rfl (nI_inc _) (by decide) rfl (fun ls hl => ?_)
        have hl : lv_has ls 3 [(1, .int _), (2, .int _), (0, .ref _)] := hl
        refine lv_iinc (k := 1) hx hb d_PD_lost_32 hl rfl (nI_inc k) (by decide) rfl (fun ls hl => ?_)
        have hl : lv_has ls 3 [(2, .int _), (1, .int _), (0, .ref _)] := hl
        refine lv_goto (tgt := 4) hx hb d_PD_lost_35 (by decide) ?_
        exact ih (k + 1) ls (by omega) (lv_sub hl [0, 1, 2] (by simp [lv_pick, cntL, hc]))
  exact loop 400 0 ls rfl hl
abbrev zH (G : Gx) (H : Heap) : Prop := H[G.2.2.1]? = some G.2.2.2
set_option maxHeartbeats 4000000 in
set_option maxRecDepth 100000 in
theorem c_PD_legal (l : Launch) (hfl : l.flags = flags0) (G : Gx) (b : Bool) : MetX l y_PD_legal [w_PD_legal] (Lv 6 1 6) (Pq G [.int (b2i b)] (zH G)) (QE (if b = true then 0 else 1) xIA (fun st v t => v = none ∧ t.heap = st.heap)) 1 6 (fun _ => False) := by
  refine hd_code (by decide +kernel) (Nat.le_of_ble_eq_true rfl) ?_
  intro pp ee ss mm bl meth cd ls hF hr hlocks hex hnm had hP hl
  have hx := hF.1
  have hb := hF.2.1
  have hl : lv_has ls 1 [(0, .int _)] := hl
  refine lv_iload_n hx hb d_PD_legal_0 rfl (lv_at hl 0 rfl) ?_
  refine zb_ne (tgt := 12) hx hb d_PD_legal_1 (by decide) (fun hc => ?_) (fun hc => ?_)
  · refine W.widen (k := 1) (n := 6) (by decide) (by decide) ?_
    exact W.toX (W.vret hx hb hr (fun t ht _ => ⟨by rw [hc]; rfl, rfl, ht⟩) (fun q h => by cases h) d_PD_legal_12 hlocks)
  · exact W.throwNew ex_IA hF hfl had hlocks hex hl.1 hP d_PD_legal_4 d_PD_legal_7 d_PD_legal_8 d_PD_legal_11 (by decide) (by decide) (fun x t _ hE => ⟨_, Or.inl ⟨by rw [hc]; rfl, rfl⟩, hE⟩)
end
section
/-! what a mutator's end says -/
def QM (v : Option Value) (P' : Heap → Prop) (A : Nat → Prop) : Array Value → State → Outcome → State → Prop := fun _ st o t => o = .returned v ∧ P' t.heap ∧ va_F A st t
def okM (v : Option Value) (P' : Heap → Prop) (A : Nat → Prop) : State → Option Value → State → Prop := fun st r t => r = v ∧ P' t.heap ∧ va_F A st t
def okR (v : Option Value) : State → Option Value → State → Prop := fun st r t => r = v ∧ t.heap = st.heap
theorem va_S.call {A A' : Nat → Prop} {H0 H : Heap} {locs L : List Loc} {st t : State} (hS : va_S A' H0 H locs) (e : st.heap = H) (hF : va_F A st t) (hL : ∀ q ∈ L, A q.base) (hA : ∀ q, q < H.size → A q → A' q) (hA2 : ∀ q, A q → A' q) : va_S A' H0 t.heap (locs ++ L) := by
  obtain ⟨f1, f2⟩ := hF
  rw [e] at f1 f2
  refine ⟨Nat.le_trans hS.1 f1, fun q h1 h2 => ?_, fun q hq => ?_⟩
  · rw [f2 q (Nat.lt_of_lt_of_le h1 hS.1) (fun z => h2 (hA q (Nat.lt_of_lt_of_le h1 hS.1) z))]
    exact hS.2.1 q h1 h2
  · rcases List.mem_append.mp hq with h | h
    · exact hS.2.2 q h
    · exact hA2 _ (hL q h)
section RL
variable {p : Program} {l : Launch} {e : Env} {R : Room} {s : State} {m : MethodId} {args : Array Value} {below : List Frame} {meth : Method} {c : Code} {H : Heap} {locs : List Loc} {cells slots : Nat} {Q : State → Prop}
variable {cc : ByteArray} {nL pc idx maxL n : Nat} {ls : Array Slot} {G : Gx} {own : String} {y : MethodName} {w : Cond} {rm : Room} {As rest st0 : List Value} {P P' : Heap → Prop} {Qc : Array Value → State → Outcome → State → Prop} {mc ms : Nat} {free : Addr → Prop} {b : Addr} {v : Option Value} {A A' : Nat → Prop} {H0 : Heap}
theorem mV (hF : Fx p m c cc nL s G own) (hs : SiteV own idx y w maxL n) (hM : MetX l y [w] rm (Pq G (.ref b :: As) P) (QM v P' A) mc ms A) (hP : P H) (hob : ∃ cell : Cell, H[b]? = some cell ∧ cell.vm.isStatics = false ∧ s.vm.findClass y.cls = some cell.cls) (hS : va_S A' H0 H locs) (hA : ∀ q, A q → A' q) (hrm : rm.cells = mc ∧ rm.slots = ms ∧ rm.frames + 1 ≤ R.frames ∧ 8 + (maxL + 11) + rm.locals ≤ R.locals)
    (hn : As.length = n) (hst : st0 = As.reverse ++ .ref b :: rest) (hls : ls.size = nL) (hW : (rest.map fun v => v.category).sum ≤ 8) (hd : decode cc pc = .ok (.invokevirtual idx, 3)) (hcl : cells + mc ≤ R.cells ∧ slots + ms ≤ R.slots)
    (kk : ∀ (H1 : Heap) (locs1 : List Loc), P' H1 → va_S A' H0 H1 locs1 → H.size ≤ H1.size → (∀ q : Nat, q < H.size → ¬ A q → H1[q]? = H[q]?) → W p l e R s m args below meth c H1 locs1 (cells + mc) (slots + ms) Q (F0 m (pc + 3) ls (v.toList ++ rest))) :
    W p l e R s m args below meth c H locs cells slots Q (F0 m pc ls st0) := by
  refine cV hF hs hM hP hob hrm hn hst hls hW hd hcl (fun v2 st t L e1 hWt q hL => ?_) (fun x st t L e1 hWt q hL => by cases q.1)
  obtain ⟨q1, q2, q3⟩ := q
  cases q1
  have hz := q3.1
  have hk := q3.2
  rw [e1] at hz hk
  exact kk t.heap (locs ++ L) q2 (hS.call e1 q3 hL (fun q _ h => hA q h) hA) hz hk
theorem c_PD_legal_ok (l : Launch) (G : Gx) : MetX l y_PD_legal [w_PD_legal] (Lv 0 0 0) (Pq G [.int (b2i true)] (fun _ => True)) (fun _ st o t => o = .returned none ∧ t.heap = st.heap) 0 0 (fun _ => False) := by
  refine hd_code (by decide +kernel) (Nat.le_of_ble_eq_true rfl) ?_
  intro pp ee ss mm bl meth cd ls hF hr hlocks hex hnm had hP hl
  have hl : lv_has ls 1 [(0, .int _)] := hl
  refine lv_iload_n hF.1 hF.2.1 d_PD_legal_0 rfl (lv_at hl 0 rfl) ?_
  refine zb_ne (tgt := 12) hF.1 hF.2.1 d_PD_legal_1 (by decide) (fun _ => ?_) (fun h => by cases h)
  exact W.toX (W.vret hF.1 hF.2.1 hr (fun t ht _ => ⟨rfl, ht⟩) (fun q h => by cases h) d_PD_legal_12 hlocks)
theorem c_PD_legal_no (l : Launch) (hfl : l.flags = flags0) (G : Gx) : MetX l y_PD_legal [w_PD_legal] (Lv 6 1 6) (Pq G [.int (b2i false)] (zH G)) (fun _ st o t => ∃ x, o = .threw x ∧ Exc st.heap xIA x t) 1 6 (fun _ => False) := by
  refine hd_code (by decide +kernel) (Nat.le_of_ble_eq_true rfl) ?_
  intro pp ee ss mm bl meth cd ls hF hr hlocks hex hnm had hP hl
  have hl : lv_has ls 1 [(0, .int _)] := hl
  refine lv_iload_n hF.1 hF.2.1 d_PD_legal_0 rfl (lv_at hl 0 rfl) ?_
  refine zb_ne (tgt := 12) hF.1 hF.2.1 d_PD_legal_1 (by decide) (fun h => by cases h) (fun _ => ?_)
  exact W.throwNew ex_IA hF hfl had hlocks hex hl.1 hP d_PD_legal_4 d_PD_legal_7 d_PD_legal_8 d_PD_legal_11 (by decide) (by decide) (fun x t _ hE => ⟨x, rfl, hE⟩)
/-- legal(b): on, or the first exception -/
theorem lg {b : Bool} (hfl : l.flags = flags0) (hF : Fx p m c cc nL s G "ParityDisks") (hz : zH G s.heap) (hlocks : meth.locks = false) (hex : c.exceptionTable.toList = []) (hls : ls.size = nL) (hW : (rest.map fun v => v.category).sum ≤ 8) (hR : 7 ≤ R.frames ∧ 200 ≤ R.locals) (hcl : 1 ≤ R.cells ∧ 6 ≤ R.slots) (hd : decode cc pc = .ok (.invokestatic 38, 3))
    (kt : b = true → W p l e R s m args below meth c s.heap [] 0 0 (MX below Qc args s 1 6 free) (F0 m (pc + 3) ls rest))
    (kf : b = false → ∀ (x : Addr) (t : State), s.WarmedH t.vm → Exc s.heap xIA x t → Qc args s (.threw x) t) :
    W p l e R s m args below meth c s.heap [] 0 0 (MX below Qc args s 1 6 free) (F0 m pc ls (.int (b2i b) :: rest)) := by
  cases b with
  | true =>
    obtain ⟨hx, hb, hml, hown, hC⟩ := hF
    intro T hT X
    have K := go_S X hx (hC.ts args) hown sS_PD_38 (c_PD_legal_ok l G) Pq_blind rfl rfl (by show 0 + 1 ≤ R.frames; omega) (by show 8 + (1 + 11) + 30 * 0 ≤ R.locals; omega) (g := F0 m pc ls (.int (b2i true) :: rest)) rfl (hls.trans hml.symm) (argsL := [.int (b2i true)]) (rest := rest) rfl rfl (lv_room (m := m) (pc := pc) (ls := ls) (rest := .int (b2i true) :: rest) hW) (by rw [hb]; exact hd) (fun U hU hWU => ⟨rfl, hC.warm hWU, trivial⟩) (Nat.zero_le _) (Nat.zero_le _)
    obtain ⟨o, st, t, T', L, e1, ⟨q1, q2⟩, X', hL, e2, e3, hh⟩ := K
    subst q1
    have X2 := Stand.forget X' (fun q h => (hL q h).elim)
    rcases hh with ⟨v2, h2, st2⟩ | ⟨x, h2, st2⟩
    · cases h2
      obtain ⟨t2, a1, b1⟩ := kt rfl T' (by rw [e2, q2, e1, hT]) X2
      exact ⟨t2, st2 t2 a1, b1⟩
    · cases h2
  | false =>
    refine cS hF sS_PD_38 (c_PD_legal_no l hfl G) hz ⟨rfl, rfl, by show 6 + 1 ≤ R.frames; omega, by show 8 + (1 + 11) + 30 * 6 ≤ R.locals; omega⟩ rfl rfl hls hW hd ⟨by omega, by omega⟩ (fun v st t L e1 hWt q hL => ?_) (fun x st t L e1 hWt q hL => ?_)
    · obtain ⟨x, q1, -⟩ := q
      cases q1
    · obtain ⟨x2, q1, q2⟩ := q
      cases q1
      rw [e1] at q2
      exact WT.leave (cells := 0 + 1) (slots := 0 + 6) hlocks hex (fun t' ht' hW' => kf rfl x t' hW' (q2.moved ht' hWt hW')) (fun q h => (hL q (by simpa using h)).elim)
end RL
def zr (r : Nat → Int64) (n : Nat) : Nat → Int64 := fun j => if j < n then 0 else r j
theorem zr_succ (r : Nat → Int64) (n : Nat) : vp_updL (zr r n) n 0 = zr r (n + 1) := by
  funext j
  unfold vp_updL zr
  by_cases h : j = n
  · subst h; simp
  · by_cases h2 : j < n
    · have h3 : j < n + 1 := by omega
      simp [h, h2, h3]
    · have h3 : ¬ j < n + 1 := by omega
      simp [h, h2, h3]
theorem zr_0 (r : Nat → Int64) : zr r 0 = r := by funext j; simp [zr]
theorem va_up_uu {α : Type} (f : Nat → α) (k : Nat) (a b : α) : va_up (va_up f k a) k b = va_up f k b := by
  funext j
  unfold va_up
  by_cases h : j = k <;> simp [h]
theorem va_up_s {α : Type} (f : Nat → α) (k : Nat) (a : α) : va_up f k a k = a := by simp [va_up]
set_option maxHeartbeats 4000000 in
set_option maxRecDepth 100000 in
theorem c_DK_fail (l : Launch) (G : Gx) {x da : Nat} {ad ra : Nat → Nat} {u : Nat → Nat} {R : Nat → Nat → Int64} (hDs : pDs x da ad ra) {i : Nat} (hi : i < 5) : MetX l y_DK_fail [w_DK_fail] (Lv 0 0 0) (Pq G [.ref (ad i)] (PDp G x da ad ra u R)) (QM none (PDp G x da ad ra (va_up u i 0) R) (pA x da ad ra)) 0 0 (pA x da ad ra) := by
  refine hd_code (by decide +kernel) (Nat.le_of_ble_eq_true rfl) ?_
  intro pp ee ss mm bl meth cd ls hF hr hlocks hex hnm had hP hl
  have hx := hF.1
  have hb := hF.2.1
  have hl : lv_has ls 1 [(0, .ref _)] := hl
  have hS : va_S (pA x da ad ra) ss.heap ss.heap [] := va_S.rf
  refine lv_aload_n hx hb d_DK_fail_0 rfl (lv_at hl 0 rfl) ?_
  refine lv_iconst (v := (nI 1)) hx hb d_DK_fail_1 (by decide) ?_
  refine dp_F (Or.inr rfl) hi hDs hF hP hS d_DK_fail_2 (fun H locs hP hS => ?_)
  refine lv_aload_n hx hb d_DK_fail_5 rfl (lv_at hl 0 rfl) ?_
  refine lv_iconst (v := (nI 0)) hx hb d_DK_fail_6 (by decide) ?_
  refine dp_U hi hDs hF hP hS d_DK_fail_7 (fun H locs hP hS => ?_)
  have e1 : va_up (fun i => upv (u i)) i (nI 0) = fun j => upv (va_up u i 0 j) := va_up_comp upv u i 0
  have e2 : va_up (fun i => flv (u i)) i (nI 1) = fun j => flv (va_up u i 0 j) := va_up_comp flv u i 0
  rw [e1, e2] at hP
  exact W.toX (W.vret hx hb hr (fun t ht _ => ⟨rfl, by rw [ht]; exact hP, hS.F ht⟩) hS.2.2 d_DK_fail_10 hlocks)
set_option maxHeartbeats 4000000 in
set_option maxRecDepth 100000 in
theorem c_DK_replace (l : Launch) (G : Gx) {x da : Nat} {ad ra : Nat → Nat} {u : Nat → Nat} {R : Nat → Nat → Int64} (hDs : pDs x da ad ra) {i : Nat} (hi : i < 5) (h0 : u i = 0) : MetX l y_DK_replace [w_DK_replace] (Lv 0 0 0) (Pq G [.ref (ad i)] (PDp G x da ad ra u R)) (QM none (PDp G x da ad ra (va_up u i 1) (va_up R i (zr (R i) 200))) (pA x da ad ra)) 0 0 (pA x da ad ra) := by
  refine hd_code (by decide +kernel) (Nat.le_of_ble_eq_true rfl) ?_
  intro pp ee ss mm bl meth cd ls hF hr hlocks hex hnm had hP hl
  have hx := hF.1
  have hb := hF.2.1
  have hl : lv_has ls 2 [(0, .ref _)] := hl
  have hS : va_S (pA x da ad ra) ss.heap ss.heap [] := va_S.rf
  refine lv_aload_n hx hb d_DK_replace_0 rfl (lv_at hl 0 rfl) ?_
  refine lv_iconst (v := (nI 0)) hx hb d_DK_replace_1 (by decide) ?_
  refine dp_F (Or.inl rfl) hi hDs hF hP hS d_DK_replace_2 (fun H locs hP hS => ?_)
  have e1 : (fun i => upv (u i)) = fun j => upv (va_up u i 1 j) := by rw [← va_up_comp upv u i 1, show upv 1 = upv (u i) by rw [h0]; rfl, va_up_id (fun i => upv (u i)) i]
  have e2 : va_up (fun i => flv (u i)) i (nI 0) = fun j => flv (va_up u i 1 j) := va_up_comp flv u i 1
  rw [e1, e2] at hP
  rw [← va_up_id R i, ← zr_0 (R i)] at hP
  refine lv_iconst (v := (nI 0)) hx hb d_DK_replace_5 (by decide) ?_
  refine lv_istore_n hx hb d_DK_replace_6 rfl hl (by decide) rfl (fun ls hl => ?_)
  have hl : lv_has ls 2 [(1, .int _), (0, .ref _)] := hl
  have loop : ∀ (n k : Nat) (ls : Array Slot) (H : Heap) (locs : List Loc), k + n = 200 → lv_has ls 2 [(1, .int (nI k)), (0, .ref (ad i))] → PDp G x da ad ra (va_up u i 1) (va_up R i (zr (R i) k)) H → va_S (pA x da ad ra) ss.heap H locs → W pp l ee (Lv 0 0 0) ss mm ([.ref (ad i)] : List Value).toArray bl meth cd H locs 0 0 (MX bl (QM none (PDp G x da ad ra (va_up u i 1) (va_up R i (zr (R i) 200))) (pA x da ad ra)) ([.ref (ad i)] : List Value).toArray ss 0 0 (pA x da ad ra)) (F0 mm 7 ls []) := by
    intro n
    induction n with
    | zero =>
      intro k ls H locs hk hl hP hS
      obtain rfl : k = 200 := by omega
      refine lv_iload_n hx hb d_DK_replace_7 rfl (lv_at hl 0 rfl) ?_
      refine lv_aload_n hx hb d_DK_replace_8 rfl (lv_at hl 1 rfl) ?_
      refine dg_R hi hF hP d_DK_replace_9 ?_
      refine len_row hi hF hP d_DK_replace_12 ?_
      refine nb_ge (tgt := 29) hx hb d_DK_replace_13 (by decide) (by omega) (by omega) (fun _ => ?_) (fun hc => absurd hc (by omega))
      exact W.toX (W.vret hx hb hr (fun t ht _ => ⟨rfl, by rw [ht]; exact hP, hS.F ht⟩) hS.2.2 d_DK_replace_29 hlocks)
    | succ n ih =>
      intro k ls H locs hk hl hP hS
      refine lv_iload_n hx hb d_DK_replace_7 rfl (lv_at hl 0 rfl) ?_
      refine lv_aload_n hx hb d_DK_replace_8 rfl (lv_at hl 1 rfl) ?_
      refine dg_R hi hF hP d_DK_replace_9 ?_
      refine len_row hi hF hP d_DK_replace_12 ?_
      refine nb_ge (tgt := 29) hx hb d_DK_replace_13 (by decide) (by omega) (by omega) (fun hc => absurd hc (by omega)) (fun _ => ?_)
      refine lv_aload_n hx hb d_DK_replace_16 rfl (lv_at hl 1 rfl) ?_
      refine dg_R hi hF hP d_DK_replace_17 ?_
      refine lv_iload_n hx hb d_DK_replace_20 rfl (lv_at hl 0 rfl) ?_
      refine lv_lconst (v := 0) hx hb d_DK_replace_21 (by decide) ?_
      refine s_row hi (by omega) hDs hF hP hS d_DK_replace_22 (fun H locs hP hS => ?_)
      unfold rset at hP
      rw [va_up_uu, va_up_s, zr_succ] at hP
      refine lv_iinc (k := 0) hx hb d_DK_replace_23 hl rfl (nI_inc k) (by decide) rfl (fun ls hl => ?_)
      have hl : lv_has ls 2 [(1, .int _), (0, .ref _)] := hl
      refine lv_goto (tgt := 7) hx hb d_DK_replace_26 (by decide) ?_
      exact ih (k + 1) ls H locs (by omega) (lv_sub hl [0, 1] rfl) hP hS
  exact loop 200 0 ls H locs rfl hl hP hS
abbrev ncl (p : Int32) : Nat := p.toNatClampNeg
def rdE (u : Nat → Nat) (p h : Int32) : Nat := if okP p h = true then (if lostB u (dsk (ncl p)) (ncl p / 4) = true then 2 else 0) else 1
def rdV (u : Nat → Nat) (R : Nat → Nat → Int64) (p h : Int32) : Int64 := hasV u R (dsk (ncl p)) (ncl p / 4) (ncl h)
theorem rdE_nI {u : Nat → Nat} {j k : Nat} (hj : j < 400) (hok : okP (nI j) (nI k) = true) : rdE u (nI j) (nI k) = if lostB u (dsk j) (j / 4) = true then 2 else 0 := by
  unfold rdE ncl
  rw [if_pos hok, nI_clamp (by omega)]
theorem rdV_nI {u : Nat → Nat} {R : Nat → Nat → Int64} {j k : Nat} (hj : j < 400) (hk : k < 2) : rdV u R (nI j) (nI k) = hasV u R (dsk j) (j / 4) k := by
  unfold rdV ncl
  rw [nI_clamp (by omega), nI_clamp (by omega)]
set_option maxHeartbeats 4000000 in
set_option maxRecDepth 100000 in
theorem c_PD_read (l : Launch) (hfl : l.flags = flags0) (G : Gx) {x da : Nat} {ad ra : Nat → Nat} {u : Nat → Nat} {R : Nat → Nat → Int64} (hu : uok u) (p h : Int32) : MetX l y_PD_read [w_PD_read] (Lv 7 1 6) (Pq G [.ref x, .int p, .int h] (fun H => PDp G x da ad ra u R H ∧ zH G H)) (QE (rdE u p h) xUO (okR (some (.long (rdV u R p h))))) 1 6 (fun _ => False) := by
  refine hd_code (by decide +kernel) (Nat.le_of_ble_eq_true rfl) ?_
  intro pp ee ss mm bl meth cd ls hF hr hlocks hex hnm had hP hl
  have hx := hF.1
  have hb := hF.2.1
  have hl : lv_has ls 5 [(0, .ref _), (1, .int _), (2, .int _)] := hl
  obtain ⟨hP, hz⟩ := hP
  refine lv_iload_n hx hb d_PD_read_0 rfl (lv_at hl 1 rfl) ?_
  refine lv_iload_n hx hb d_PD_read_1 rfl (lv_at hl 2 rfl) ?_
  refine rS hF sS_PD_34 (c_PD_isPlace l G p h (fun _ => True)) trivial (by decide) rfl rfl hl.1 (Nat.le_of_ble_eq_true rfl) d_PD_read_2 (by decide) ?_
  refine lg hfl hF hz hlocks hex hl.1 (Nat.le_of_ble_eq_true rfl) (by decide) (by decide) d_PD_read_5 (fun hok => ?_) (fun hok x t _ hEx => ⟨_, Or.inl ⟨by unfold rdE; rw [hok]; rfl, rfl⟩, hEx⟩)
  obtain ⟨j, k, hj, hk, rfl, rfl⟩ := okP_nI hok
  have hE := rdE_nI (u := u) hj hok
  refine lv_iload_n hx hb d_PD_read_8 rfl (lv_at hl 1 rfl) ?_
  refine rS hF sS_PD_19 (c_PD_stripeOf l G (p := j) (by omega) (fun _ => True)) trivial (by decide) rfl rfl hl.1 (Nat.le_of_ble_eq_true rfl) d_PD_read_9 (by decide) ?_
  refine lv_istore_n hx hb d_PD_read_12 rfl hl (by decide) rfl (fun ls hl => ?_)
  have hl : lv_has ls 5 [(3, .int _), (0, .ref _), (1, .int _), (2, .int _)] := hl
  refine lv_iload_n hx hb d_PD_read_13 rfl (lv_at hl 2 rfl) ?_
  refine rS hF sS_PD_42 (c_PD_diskOf l G (p := j) (by omega) (fun _ => True)) trivial (by decide) rfl rfl hl.1 (Nat.le_of_ble_eq_true rfl) d_PD_read_14 (by decide) ?_
  refine lv_istore hx hb d_PD_read_17 hl (by decide) rfl (fun ls hl => ?_)
  have hl : lv_has ls 5 [(4, .int _), (3, .int _), (0, .ref _), (1, .int _), (2, .int _)] := hl
  refine lv_iload hx hb d_PD_read_19 (lv_at hl 0 rfl) ?_
  refine lv_aload_n hx hb d_PD_read_21 rfl (lv_at hl 2 rfl) ?_
  refine lv_iload_n hx hb d_PD_read_22 rfl (lv_at hl 1 rfl) ?_
  refine rV hF sV_PD_45 (c_PD_barred l G hu (s := j / 4) (by omega)) hP (rc_x hF.2.2.2.2 hP) (by decide) rfl rfl hl.1 (Nat.le_of_ble_eq_true rfl) d_PD_read_23 (by decide) ?_
  refine rS hF sS_PD_48 (c_PD_isLost l G (dsk_lt j) (barF5 _) (fun _ => True)) trivial (by decide) rfl rfl hl.1 (Nat.le_of_ble_eq_true rfl) d_PD_read_26 (by decide) ?_
  rw [lostB_eq u _ (dsk_lt j)]
  refine zb_eq (tgt := 40) hx hb d_PD_read_29 (by decide) (fun hc => ?_) (fun hc => ?_)
  · rw [hc] at hE
    refine lv_aload_n hx hb d_PD_read_40 rfl (lv_at hl 2 rfl) ?_
    refine lv_iload hx hb d_PD_read_41 (lv_at hl 0 rfl) ?_
    refine lv_iload_n hx hb d_PD_read_43 rfl (lv_at hl 1 rfl) ?_
    refine lv_iload_n hx hb d_PD_read_44 rfl (lv_at hl 4 rfl) ?_
    refine rV hF sV_PD_54 (c_PD_has l G hu (dsk_lt j) (s := j / 4) (by omega) hk) hP (rc_x hF.2.2.2.2 hP) (by decide) rfl rfl hl.1 (Nat.le_of_ble_eq_true rfl) d_PD_read_45 (by decide) ?_
    refine W.widen (k := 1) (n := 6) (by decide) (by decide) ?_
    exact W.toX (W.lret hx hb hr (fun t ht _ => ⟨hE, by rw [rdV_nI hj hk], ht⟩) (fun q h => by cases h) d_PD_read_48 hlocks)
  · exact W.throwNew ex_UO hF hfl had hlocks hex hl.1 hz d_PD_read_32 d_PD_read_35 d_PD_read_36 d_PD_read_39 (by decide) (by decide) (fun x t _ hEx => ⟨_, Or.inr ⟨by rw [hE, hc]; rfl, rfl⟩, hEx⟩)
def wrR (u : Nat → Nat) (R : Nat → Nat → Int64) (j h : Nat) (v : Int64) : Nat → Nat → Int64 :=
  let R1 := if usedB u (j / 4) (j / 4 % 5) = true then rset R (j / 4 % 5) (2 * (j / 4) + h) (R (j / 4 % 5) (2 * (j / 4) + h) ^^^ (hasV u R (dsk j) (j / 4) h ^^^ v)) else R
  if usedB u (j / 4) (dsk j) = true then rset R1 (dsk j) (2 * (j / 4) + h) v else R1
set_option maxHeartbeats 4000000 in
set_option maxRecDepth 100000 in
theorem c_PD_write (l : Launch) (hfl : l.flags = flags0) (G : Gx) {x da : Nat} {ad ra : Nat → Nat} {u : Nat → Nat} {R : Nat → Nat → Int64} (hu : uok u) (hDs : pDs x da ad ra) (p h : Int32) (v : Int64) : MetX l y_PD_write [w_PD_write] (Lv 7 1 6) (Pq G [.ref x, .int p, .int h, .long v] (fun H => PDp G x da ad ra u R H ∧ zH G H)) (QE (rdE u p h) xUO (okM none (PDp G x da ad ra u (wrR u R (ncl p) (ncl h) v)) (pA x da ad ra))) 1 6 (pA x da ad ra) := by
  refine hd_code (by decide +kernel) (Nat.le_of_ble_eq_true rfl) ?_
  intro pp ee ss mm bl meth cd ls hF hr hlocks hex hnm had hP hl
  have hx := hF.1
  have hb := hF.2.1
  have hl : lv_has ls 10 [(0, .ref _), (1, .int _), (2, .int _), (3, .long _)] := hl
  obtain ⟨hP, hz⟩ := hP
  refine lv_iload_n hx hb d_PD_write_0 rfl (lv_at hl 1 rfl) ?_
  refine lv_iload_n hx hb d_PD_write_1 rfl (lv_at hl 2 rfl) ?_
  refine rS hF sS_PD_34 (c_PD_isPlace l G p h (fun _ => True)) trivial (by decide) rfl rfl hl.1 (Nat.le_of_ble_eq_true rfl) d_PD_write_2 (by decide) ?_
  refine lg hfl hF hz hlocks hex hl.1 (Nat.le_of_ble_eq_true rfl) (by decide) (by decide) d_PD_write_5 (fun hok => ?_) (fun hok x t _ hEx => ⟨_, Or.inl ⟨by unfold rdE; rw [hok]; rfl, rfl⟩, hEx⟩)
  obtain ⟨j, k, hj, hk, rfl, rfl⟩ := okP_nI hok
  have hE := rdE_nI (u := u) hj hok
  refine lv_iload_n hx hb d_PD_write_8 rfl (lv_at hl 1 rfl) ?_
  refine rS hF sS_PD_19 (c_PD_stripeOf l G (p := j) (by omega) (fun _ => True)) trivial (by decide) rfl rfl hl.1 (Nat.le_of_ble_eq_true rfl) d_PD_write_9 (by decide) ?_
  refine lv_istore hx hb d_PD_write_12 hl (by decide) rfl (fun ls hl => ?_)
  have hl : lv_has ls 10 [(5, .int _), (0, .ref _), (1, .int _), (2, .int _), (3, .long _)] := hl
  refine lv_iload_n hx hb d_PD_write_14 rfl (lv_at hl 2 rfl) ?_
  refine rS hF sS_PD_42 (c_PD_diskOf l G (p := j) (by omega) (fun _ => True)) trivial (by decide) rfl rfl hl.1 (Nat.le_of_ble_eq_true rfl) d_PD_write_15 (by decide) ?_
  refine lv_istore hx hb d_PD_write_18 hl (by decide) rfl (fun ls hl => ?_)
  have hl : lv_has ls 10 [(6, .int _), (5, .int _), (0, .ref _), (1, .int _), (2, .int _), (3, .long _)] := hl
  refine lv_iload hx hb d_PD_write_20 (lv_at hl 1 rfl) ?_
  refine rS hF sS_PD_23 (c_PD_parityOf l G (p := j / 4) (by omega) (fun _ => True)) trivial (by decide) rfl rfl hl.1 (Nat.le_of_ble_eq_true rfl) d_PD_write_22 (by decide) ?_
  refine lv_istore hx hb d_PD_write_25 hl (by decide) rfl (fun ls hl => ?_)
  have hl : lv_has ls 10 [(7, .int _), (6, .int _), (5, .int _), (0, .ref _), (1, .int _), (2, .int _), (3, .long _)] := hl
  refine lv_iload hx hb d_PD_write_27 (lv_at hl 1 rfl) ?_
  refine lv_aload_n hx hb d_PD_write_29 rfl (lv_at hl 3 rfl) ?_
  refine lv_iload hx hb d_PD_write_30 (lv_at hl 2 rfl) ?_
  refine rV hF sV_PD_45 (c_PD_barred l G hu (s := j / 4) (by omega)) hP (rc_x hF.2.2.2.2 hP) (by decide) rfl rfl hl.1 (Nat.le_of_ble_eq_true rfl) d_PD_write_32 (by decide) ?_
  refine rS hF sS_PD_48 (c_PD_isLost l G (dsk_lt j) (barF5 _) (fun _ => True)) trivial (by decide) rfl rfl hl.1 (Nat.le_of_ble_eq_true rfl) d_PD_write_35 (by decide) ?_
  rw [lostB_eq u _ (dsk_lt j)]
  refine zb_eq (tgt := 49) hx hb d_PD_write_38 (by decide) (fun hc => ?_) (fun hc => ?_)
  · rw [hc] at hE
    refine lv_aload_n hx hb d_PD_write_49 rfl (lv_at hl 3 rfl) ?_
    refine lv_iload hx hb d_PD_write_50 (lv_at hl 1 rfl) ?_
    refine lv_iload hx hb d_PD_write_52 (lv_at hl 2 rfl) ?_
    refine lv_iload_n hx hb d_PD_write_54 rfl (lv_at hl 5 rfl) ?_
    refine rV hF sV_PD_54 (c_PD_has l G hu (dsk_lt j) (s := j / 4) (by omega) hk) hP (rc_x hF.2.2.2.2 hP) (by decide) rfl rfl hl.1 (Nat.le_of_ble_eq_true rfl) d_PD_write_55 (by decide) ?_
    refine lv_lload_n hx hb d_PD_write_58 rfl (lv_at hl 6 rfl) ?_
    refine lv_lxor hx hb d_PD_write_59 ?_
    refine lv_lstore hx hb d_PD_write_60 hl (by decide) rfl (fun ls hl => ?_)
    have hl : lv_has ls 10 [(8, .long _), (7, .int _), (6, .int _), (5, .int _), (0, .ref _), (1, .int _), (2, .int _), (3, .long _)] := hl
    refine lv_aload_n hx hb d_PD_write_62 rfl (lv_at hl 4 rfl) ?_
    have h5 : j / 4 % 5 < 5 := Nat.mod_lt _ (by decide)
    have hcl : ncl (nI j) = j ∧ ncl (nI k) = k := ⟨nI_clamp (by omega), nI_clamp (by omega)⟩
    rw [hcl.1, hcl.2]
    have hS : va_S (pA x da ad ra) ss.heap ss.heap [] := va_S.rf
    refine p_disks hF hP d_PD_write_63 ?_
    refine lv_iload hx hb d_PD_write_66 (lv_at hl 1 rfl) ?_
    refine l_disk h5 hF hP d_PD_write_68 ?_
    refine lv_iload hx hb d_PD_write_69 (lv_at hl 3 rfl) ?_
    refine rV hF sV_PD_26 (c_DK_isUsed l G hu h5 (s := j / 4) (by omega)) hP (rc_d h5 hF.2.2.2.2 hP) (by decide) rfl rfl hl.1 (Nat.le_of_ble_eq_true rfl) d_PD_write_71 (by decide) ?_
    refine W.widen (k := 1) (n := 6) (by decide) (by decide) ?_
    have second : ∀ (R1 : Nat → Nat → Int64) (H : Heap) (locs : List Loc), wrR u R j k v = (if usedB u (j / 4) (dsk j) = true then rset R1 (dsk j) (2 * (j / 4) + k) v else R1) → PDp G x da ad ra u R1 H → va_S (pA x da ad ra) ss.heap H locs → W pp l ee (Lv 7 1 6) ss mm ([.ref x, .int (nI j), .int (nI k), .long v] : List Value).toArray bl meth cd H locs 1 6 (MX bl (QE (rdE u (nI j) (nI k)) xUO (okM none (PDp G x da ad ra u (wrR u R j k v)) (pA x da ad ra))) ([.ref x, .int (nI j), .int (nI k), .long v] : List Value).toArray ss 1 6 (pA x da ad ra)) (F0 mm 99 ls []) := by
      intro R1 H locs hw hP hS
      refine lv_aload_n hx hb d_PD_write_99 rfl (lv_at hl 4 rfl) ?_
      refine p_disks hF hP d_PD_write_100 ?_
      refine lv_iload hx hb d_PD_write_103 (lv_at hl 2 rfl) ?_
      refine l_disk (dsk_lt j) hF hP d_PD_write_105 ?_
      refine lv_iload hx hb d_PD_write_106 (lv_at hl 3 rfl) ?_
      refine rV hF sV_PD_26 (c_DK_isUsed l G hu (dsk_lt j) (s := j / 4) (by omega)) hP (rc_d (dsk_lt j) hF.2.2.2.2 hP) (by decide) rfl rfl hl.1 (Nat.le_of_ble_eq_true rfl) d_PD_write_108 (by decide) ?_
      refine zb_eq (tgt := 132) hx hb d_PD_write_111 (by decide) (fun h2 => ?_) (fun h2 => ?_)
      · rw [h2, if_neg (by decide)] at hw
        rw [hw]
        exact W.toX (W.vret hx hb hr (fun t ht _ => ⟨hE, rfl, by rw [ht]; exact hP, hS.F ht⟩) hS.2.2 d_PD_write_132 hlocks)
      · refine lv_aload_n hx hb d_PD_write_114 rfl (lv_at hl 4 rfl) ?_
        refine p_disks hF hP d_PD_write_115 ?_
        refine lv_iload hx hb d_PD_write_118 (lv_at hl 2 rfl) ?_
        refine l_disk (dsk_lt j) hF hP d_PD_write_120 ?_
        refine pg_R (dsk_lt j) hF hP d_PD_write_121 ?_
        refine lv_iconst (v := (nI 2)) hx hb d_PD_write_124 (by decide) ?_
        refine lv_iload hx hb d_PD_write_125 (lv_at hl 3 rfl) ?_
        refine lv_imul hx hb d_PD_write_127 ?_
        refine lv_iload_n hx hb d_PD_write_128 rfl (lv_at hl 6 rfl) ?_
        refine lv_iadd hx hb d_PD_write_129 ?_
        refine lv_eqi (z := nI (2 * (j / 4) + k)) (by rw [pk_mul, nI_add]) ?_
        refine lv_lload_n hx hb d_PD_write_130 rfl (lv_at hl 7 rfl) ?_
        refine s_row (dsk_lt j) (by omega) hDs hF hP hS d_PD_write_131 (fun H locs hP hS => ?_)
        rw [h2, if_pos rfl] at hw
        rw [hw]
        exact W.toX (W.vret hx hb hr (fun t ht _ => ⟨hE, rfl, by rw [ht]; exact hP, hS.F ht⟩) hS.2.2 d_PD_write_132 hlocks)
    refine zb_eq (tgt := 99) hx hb d_PD_write_74 (by decide) (fun h1 => ?_) (fun h1 => ?_)
    · exact second R ss.heap [] (by unfold wrR; simp only [h1]; rfl) hP hS
    · refine lv_aload_n hx hb d_PD_write_77 rfl (lv_at hl 4 rfl) ?_
      refine p_disks hF hP d_PD_write_78 ?_
      refine lv_iload hx hb d_PD_write_81 (lv_at hl 1 rfl) ?_
      refine l_disk h5 hF hP d_PD_write_83 ?_
      refine pg_R h5 hF hP d_PD_write_84 ?_
      refine lv_iconst (v := (nI 2)) hx hb d_PD_write_87 (by decide) ?_
      refine lv_iload hx hb d_PD_write_88 (lv_at hl 3 rfl) ?_
      refine lv_imul hx hb d_PD_write_90 ?_
      refine lv_iload_n hx hb d_PD_write_91 rfl (lv_at hl 6 rfl) ?_
      refine lv_iadd hx hb d_PD_write_92 ?_
      refine lv_eqi (z := nI (2 * (j / 4) + k)) (by rw [pk_mul, nI_add]) ?_
      refine lv_dup2_11 hx hb d_PD_write_93 rfl rfl ?_
      refine l_row h5 (by omega) hF hP d_PD_write_94 ?_
      refine lv_lload hx hb d_PD_write_95 (lv_at hl 0 rfl) ?_
      refine lv_lxor hx hb d_PD_write_97 ?_
      refine s_row h5 (by omega) hDs hF hP hS d_PD_write_98 (fun H locs hP hS => ?_)
      exact second _ H locs (by unfold wrR; simp only [h1]; rfl) hP hS
  · exact W.throwNew ex_UO hF hfl had hlocks hex hl.1 hz d_PD_write_41 d_PD_write_44 d_PD_write_45 d_PD_write_48 (by decide) (by decide) (fun x t _ hEx => ⟨_, Or.inr ⟨by rw [hE, hc]; rfl, rfl⟩, hEx⟩)
def dE (d : Int32) : Nat := if okD d = true then 0 else 1
set_option maxHeartbeats 4000000 in
set_option maxRecDepth 100000 in
theorem c_PD_fail (l : Launch) (hfl : l.flags = flags0) (G : Gx) {x da : Nat} {ad ra : Nat → Nat} {u : Nat → Nat} {R : Nat → Nat → Int64} (hDs : pDs x da ad ra) (d : Int32) : MetX l y_PD_fail [w_PD_fail] (Lv 7 1 6) (Pq G [.ref x, .int d] (fun H => PDp G x da ad ra u R H ∧ zH G H)) (QE (dE d) xIA (okM none (PDp G x da ad ra (va_up u (ncl d) 0) R) (pA x da ad ra))) 1 6 (pA x da ad ra) := by
  refine hd_code (by decide +kernel) (Nat.le_of_ble_eq_true rfl) ?_
  intro pp ee ss mm bl meth cd ls hF hr hlocks hex hnm had hP hl
  have hx := hF.1
  have hb := hF.2.1
  have hl : lv_has ls 2 [(0, .ref _), (1, .int _)] := hl
  obtain ⟨hP, hz⟩ := hP
  refine lv_iload_n hx hb d_PD_fail_0 rfl (lv_at hl 1 rfl) ?_
  refine rS hF sS_PD_58 (c_PD_isDisk l G d (fun _ => True)) trivial (by decide) rfl rfl hl.1 (Nat.le_of_ble_eq_true rfl) d_PD_fail_1 (by decide) ?_
  refine lg hfl hF hz hlocks hex hl.1 (Nat.le_of_ble_eq_true rfl) (by decide) (by decide) d_PD_fail_4 (fun hok => ?_) (fun hok x t _ hEx => ⟨_, Or.inl ⟨by unfold dE; rw [hok]; rfl, rfl⟩, hEx⟩)
  obtain ⟨j, hj, rfl⟩ := okD_nI hok
  have hcl : ncl (nI j) = j := nI_clamp (by omega)
  try rw [hcl]
  have hS : va_S (pA x da ad ra) ss.heap ss.heap [] := va_S.rf
  refine lv_aload_n hx hb d_PD_fail_7 rfl (lv_at hl 0 rfl) ?_
  refine p_disks hF hP d_PD_fail_8 ?_
  refine lv_iload_n hx hb d_PD_fail_11 rfl (lv_at hl 1 rfl) ?_
  refine l_disk hj hF hP d_PD_fail_12 ?_
  refine mV hF sV_PD_61 (c_DK_fail l G hDs hj) hP (rc_d hj hF.2.2.2.2 hP) hS (fun _ h => h) ⟨rfl, rfl, by decide, by decide⟩ rfl rfl hl.1 (Nat.le_of_ble_eq_true rfl) d_PD_fail_13 (by decide) (fun H locs hP hS _ _ => ?_)
  refine W.widen (k := 1) (n := 6) (by decide) (by decide) ?_
  exact W.toX (W.vret hx hb hr (fun t ht _ => ⟨by unfold dE; rw [if_pos hok], rfl, by rw [ht]; exact hP, hS.F ht⟩) hS.2.2 d_PD_fail_16 hlocks)
def rpE (u : Nat → Nat) (d : Int32) : Nat := if okD d = true then (if u (ncl d) = 0 then 0 else 2) else 1
set_option maxHeartbeats 4000000 in
set_option maxRecDepth 100000 in
theorem c_PD_replace (l : Launch) (hfl : l.flags = flags0) (G : Gx) {x da : Nat} {ad ra : Nat → Nat} {u : Nat → Nat} {R : Nat → Nat → Int64} (hDs : pDs x da ad ra) (d : Int32) : MetX l y_PD_replace [w_PD_replace] (Lv 7 1 6) (Pq G [.ref x, .int d] (fun H => PDp G x da ad ra u R H ∧ zH G H)) (QE (rpE u d) xIS (okM none (PDp G x da ad ra (va_up u (ncl d) 1) (va_up R (ncl d) (zr (R (ncl d)) 200))) (pA x da ad ra))) 1 6 (pA x da ad ra) := by
  refine hd_code (by decide +kernel) (Nat.le_of_ble_eq_true rfl) ?_
  intro pp ee ss mm bl meth cd ls hF hr hlocks hex hnm had hP hl
  have hx := hF.1
  have hb := hF.2.1
  have hl : lv_has ls 2 [(0, .ref _), (1, .int _)] := hl
  obtain ⟨hP, hz⟩ := hP
  refine lv_iload_n hx hb d_PD_replace_0 rfl (lv_at hl 1 rfl) ?_
  refine rS hF sS_PD_58 (c_PD_isDisk l G d (fun _ => True)) trivial (by decide) rfl rfl hl.1 (Nat.le_of_ble_eq_true rfl) d_PD_replace_1 (by decide) ?_
  refine lg hfl hF hz hlocks hex hl.1 (Nat.le_of_ble_eq_true rfl) (by decide) (by decide) d_PD_replace_4 (fun hok => ?_) (fun hok x t _ hEx => ⟨_, Or.inl ⟨by unfold rpE; rw [hok]; rfl, rfl⟩, hEx⟩)
  obtain ⟨j, hj, rfl⟩ := okD_nI hok
  have hcl : ncl (nI j) = j := nI_clamp (by omega)
  try rw [hcl]
  have hE : rpE u (nI j) = if u j = 0 then 0 else 2 := by unfold rpE; rw [if_pos hok, hcl]
  have hS : va_S (pA x da ad ra) ss.heap ss.heap [] := va_S.rf
  refine lv_aload_n hx hb d_PD_replace_7 rfl (lv_at hl 0 rfl) ?_
  refine p_disks hF hP d_PD_replace_8 ?_
  refine lv_iload_n hx hb d_PD_replace_11 rfl (lv_at hl 1 rfl) ?_
  refine l_disk hj hF hP d_PD_replace_12 ?_
  refine pg_F hj hF hP d_PD_replace_13 ?_
  refine lv_if_ne (tgt := 27) hx hb d_PD_replace_16 (by decide) (fun hc => ?_) (fun hc => ?_)
  · have h0 : u j = 0 := Decidable.byContradiction (fun z => hc (by unfold flv; rw [if_neg z]))
    rw [if_pos h0] at hE
    refine lv_aload_n hx hb d_PD_replace_27 rfl (lv_at hl 0 rfl) ?_
    refine p_disks hF hP d_PD_replace_28 ?_
    refine lv_iload_n hx hb d_PD_replace_31 rfl (lv_at hl 1 rfl) ?_
    refine l_disk hj hF hP d_PD_replace_32 ?_
    refine mV hF sV_PD_71 (c_DK_replace l G hDs hj h0) hP (rc_d hj hF.2.2.2.2 hP) hS (fun _ h => h) ⟨rfl, rfl, by decide, by decide⟩ rfl rfl hl.1 (Nat.le_of_ble_eq_true rfl) d_PD_replace_33 (by decide) (fun H locs hP hS _ _ => ?_)
    refine W.widen (k := 1) (n := 6) (by decide) (by decide) ?_
    exact W.toX (W.vret hx hb hr (fun t ht _ => ⟨hE, rfl, by rw [ht]; exact hP, hS.F ht⟩) hS.2.2 d_PD_replace_36 hlocks)
  · have h0 : ¬ u j = 0 := fun z => by rw [z] at hc; exact absurd hc (by decide)
    rw [if_neg h0] at hE
    exact W.throwNew ex_IS hF hfl had hlocks hex hl.1 hz d_PD_replace_19 d_PD_replace_22 d_PD_replace_23 d_PD_replace_26 (by decide) (by decide) (fun x t _ hEx => ⟨_, Or.inr ⟨by exact hE, rfl⟩, hEx⟩)
set_option maxHeartbeats 4000000 in
set_option maxRecDepth 100000 in
theorem c_PD_state (l : Launch) (hfl : l.flags = flags0) (G : Gx) {x da : Nat} {ad ra : Nat → Nat} {u : Nat → Nat} {R : Nat → Nat → Int64} (hu : uok u) (d : Int32) : MetX l y_PD_state [w_PD_state] (Lv 7 1 6) (Pq G [.ref x, .int d] (fun H => PDp G x da ad ra u R H ∧ zH G H)) (QE (dE d) xIA (okR (some (.int (stV (u (ncl d))))))) 1 6 (fun _ => False) := by
  refine hd_code (by decide +kernel) (Nat.le_of_ble_eq_true rfl) ?_
  intro pp ee ss mm bl meth cd ls hF hr hlocks hex hnm had hP hl
  have hx := hF.1
  have hb := hF.2.1
  have hl : lv_has ls 2 [(0, .ref _), (1, .int _)] := hl
  obtain ⟨hP, hz⟩ := hP
  refine lv_iload_n hx hb d_PD_state_0 rfl (lv_at hl 1 rfl) ?_
  refine rS hF sS_PD_58 (c_PD_isDisk l G d (fun _ => True)) trivial (by decide) rfl rfl hl.1 (Nat.le_of_ble_eq_true rfl) d_PD_state_1 (by decide) ?_
  refine lg hfl hF hz hlocks hex hl.1 (Nat.le_of_ble_eq_true rfl) (by decide) (by decide) d_PD_state_4 (fun hok => ?_) (fun hok x t _ hEx => ⟨_, Or.inl ⟨by unfold dE; rw [hok]; rfl, rfl⟩, hEx⟩)
  obtain ⟨j, hj, rfl⟩ := okD_nI hok
  have hcl : ncl (nI j) = j := nI_clamp (by omega)
  try rw [hcl]
  refine lv_aload_n hx hb d_PD_state_7 rfl (lv_at hl 0 rfl) ?_
  refine p_disks hF hP d_PD_state_8 ?_
  refine lv_iload_n hx hb d_PD_state_11 rfl (lv_at hl 1 rfl) ?_
  refine l_disk hj hF hP d_PD_state_12 ?_
  refine rV hF sV_PD_81 (c_DK_state l G hu hj) hP (rc_d hj hF.2.2.2.2 hP) (by decide) rfl rfl hl.1 (Nat.le_of_ble_eq_true rfl) d_PD_state_13 (by decide) ?_
  refine W.widen (k := 1) (n := 6) (by decide) (by decide) ?_
  exact W.toX (W.iret hx hb hr (fun t ht _ => ⟨by unfold dE; rw [if_pos hok], rfl, ht⟩) (fun q h => by cases h) d_PD_state_16 hlocks)
end
section
/-! rows, flip, block, rebuild, scrub -/
def okB (d s h : Int32) : Bool := okD d && !decide (s < 0) && !decide (nI 100 ≤ s) && okH h
def blE (u : Nat → Nat) (d s h : Int32) : Nat := if okB d s h = true then (if u (ncl d) = 0 then 2 else 0) else 1
theorem okB_nI {d s h : Int32} (hh : okB d s h = true) : ∃ i j k : Nat, i < 5 ∧ j < 100 ∧ k < 2 ∧ d = nI i ∧ s = nI j ∧ h = nI k := by
  simp only [okB, Bool.and_eq_true, Bool.not_eq_true', decide_eq_false_iff_not] at hh
  obtain ⟨i, hi, rfl⟩ := okD_nI hh.1.1.1
  obtain ⟨k, hk, rfl⟩ := okH_nI hh.2
  rcases pk_ix s (n := 100) (by decide) with h1 | h1 | ⟨j, h1, rfl⟩
  · exact absurd h1 hh.1.1.2
  · exact absurd h1 hh.1.2
  · exact ⟨i, j, k, hi, h1, hk, rfl, rfl, rfl⟩
theorem blE_0 {u : Nat → Nat} {d s h : Int32} (e : blE u d s h = 0) : okB d s h = true ∧ ¬ u (ncl d) = 0 := by
  unfold blE at e
  by_cases h1 : okB d s h = true
  · rw [if_pos h1] at e
    by_cases h2 : u (ncl d) = 0
    · rw [if_pos h2] at e; cases e
    · exact ⟨h1, h2⟩
  · rw [if_neg h1] at e; cases e
set_option maxHeartbeats 4000000 in
set_option maxRecDepth 100000 in
theorem c_PD_rows (l : Launch) (hfl : l.flags = flags0) (G : Gx) {x da : Nat} {ad ra : Nat → Nat} {u : Nat → Nat} {R : Nat → Nat → Int64} (d s h : Int32) : MetX l y_PD_rows [w_PD_rows] (Lv 7 1 6) (Pq G [.ref x, .int d, .int s, .int h] (fun H => PDp G x da ad ra u R H ∧ zH G H)) (QE (blE u d s h) xIS (okR (some (.ref (ra (ncl d)))))) 1 6 (fun _ => False) := by
  refine hd_code (by decide +kernel) (Nat.le_of_ble_eq_true rfl) ?_
  intro pp ee ss mm bl meth cd ls hF hr hlocks hex hnm had hP hl
  have hx := hF.1
  have hb := hF.2.1
  have hl : lv_has ls 4 [(0, .ref _), (1, .int _), (2, .int _), (3, .int _)] := hl
  obtain ⟨hP, hz⟩ := hP
  have tail : W pp l ee (Lv 7 1 6) ss mm ([.ref x, .int d, .int s, .int h] : List Value).toArray bl meth cd ss.heap [] 0 0 (MX bl (QE (blE u d s h) xIS (okR (some (.ref (ra (ncl d)))))) ([.ref x, .int d, .int s, .int h] : List Value).toArray ss 1 6 (fun _ => False)) (F0 mm 31 ls [.int (b2i (okB d s h))]) := by
    refine lg hfl hF hz hlocks hex hl.1 (Nat.le_of_ble_eq_true rfl) (by decide) (by decide) d_PD_rows_31 (fun hok => ?_) (fun hok x t _ hEx => ⟨_, Or.inl ⟨by unfold blE; rw [hok]; rfl, rfl⟩, hEx⟩)
    obtain ⟨i, j, k, hi, hj, hk, rfl, rfl, rfl⟩ := okB_nI hok
    have hcl : ncl (nI i) = i := nI_clamp (by omega)
    rw [hcl]
    have hE : blE u (nI i) (nI j) (nI k) = if u i = 0 then 2 else 0 := by unfold blE; rw [if_pos hok, hcl]
    refine lv_aload_n hx hb d_PD_rows_34 rfl (lv_at hl 0 rfl) ?_
    refine p_disks hF hP d_PD_rows_35 ?_
    refine lv_iload_n hx hb d_PD_rows_38 rfl (lv_at hl 1 rfl) ?_
    refine l_disk hi hF hP d_PD_rows_39 ?_
    refine pg_F hi hF hP d_PD_rows_40 ?_
    refine lv_if_eq (tgt := 54) hx hb d_PD_rows_43 (by decide) (fun hc => ?_) (fun hc => ?_)
    · have h0 : ¬ u i = 0 := fun z => by rw [z] at hc; exact absurd hc (by decide)
      rw [if_neg h0] at hE
      refine lv_aload_n hx hb d_PD_rows_54 rfl (lv_at hl 0 rfl) ?_
      refine p_disks hF hP d_PD_rows_55 ?_
      refine lv_iload_n hx hb d_PD_rows_58 rfl (lv_at hl 1 rfl) ?_
      refine l_disk hi hF hP d_PD_rows_59 ?_
      refine pg_R hi hF hP d_PD_rows_60 ?_
      refine W.widen (k := 1) (n := 6) (by decide) (by decide) ?_
      exact W.toX (W.aret hx hb hr (Or.inr ⟨_, rfl⟩) (Or.inr ⟨_, rfl⟩) (fun t ht _ => ⟨hE, rfl, ht⟩) (fun q h => by cases h) d_PD_rows_63 hlocks)
    · have h0 : u i = 0 := Decidable.byContradiction (fun z => hc (by unfold flv; rw [if_neg z]))
      rw [if_pos h0] at hE
      exact W.throwNew ex_IS hF hfl had hlocks hex hl.1 hz d_PD_rows_46 d_PD_rows_49 d_PD_rows_50 d_PD_rows_53 (by decide) (by decide) (fun x t _ hEx => ⟨_, Or.inr ⟨by exact hE, rfl⟩, hEx⟩)
  refine lv_iload_n hx hb d_PD_rows_0 rfl (lv_at hl 1 rfl) ?_
  refine rS hF sS_PD_58 (c_PD_isDisk l G d (fun _ => True)) trivial (by decide) rfl rfl hl.1 (Nat.le_of_ble_eq_true rfl) d_PD_rows_1 (by decide) ?_
  refine zb_eq (tgt := 30) hx hb d_PD_rows_4 (by decide) (fun hc => ?_) (fun hc => ?_)
  · refine lv_iconst (v := (nI 0)) hx hb d_PD_rows_30 (by decide) ?_
    exact lv_eqi (by simp [okB, hc, b2i, nI_0]) tail
  · refine lv_iload_n hx hb d_PD_rows_7 rfl (lv_at hl 2 rfl) ?_
    refine lv_if_lt (tgt := 30) hx hb d_PD_rows_8 (by decide) (fun h2 => ?_) (fun h2 => ?_)
    · refine lv_iconst (v := (nI 0)) hx hb d_PD_rows_30 (by decide) ?_
      exact lv_eqi (by simp [okB, h2, b2i, nI_0]) tail
    · refine lv_iload_n hx hb d_PD_rows_11 rfl (lv_at hl 2 rfl) ?_
      refine lv_bipush (v := nI 100) hx hb d_PD_rows_12 (by decide) ?_
      refine lv_icmp_ge (tgt := 30) hx hb d_PD_rows_14 (by decide) (fun h3 => ?_) (fun h3 => ?_)
      · refine lv_iconst (v := (nI 0)) hx hb d_PD_rows_30 (by decide) ?_
        exact lv_eqi (by simp [okB, h3, b2i, nI_0]) tail
      · refine lv_iload_n hx hb d_PD_rows_17 rfl (lv_at hl 3 rfl) ?_
        refine lv_if_eq (tgt := 26) hx hb d_PD_rows_18 (by decide) (fun h4 => ?_) (fun h4 => ?_)
        · refine lv_iconst (v := (nI 1)) hx hb d_PD_rows_26 (by decide) ?_
          refine lv_goto (tgt := 31) hx hb d_PD_rows_27 (by decide) ?_
          exact lv_eqi (by simp [okB, okH, hc, h2, h3, h4, b2i, nI1]) tail
        · refine lv_iload_n hx hb d_PD_rows_21 rfl (lv_at hl 3 rfl) ?_
          refine lv_iconst (v := (nI 1)) hx hb d_PD_rows_22 (by decide) ?_
          refine lv_icmp_ne (tgt := 30) hx hb d_PD_rows_23 (by decide) (fun h5 => ?_) (fun h5 => ?_)
          · refine lv_iconst (v := (nI 0)) hx hb d_PD_rows_30 (by decide) ?_
            exact lv_eqi (by simp [okB, okH, h4, h5, b2i, nI_0]) tail
          · refine lv_iconst (v := (nI 1)) hx hb d_PD_rows_26 (by decide) ?_
            refine lv_goto (tgt := 31) hx hb d_PD_rows_27 (by decide) ?_
            exact lv_eqi (by simp [okB, okH, hc, h2, h3, h5, b2i, nI1]) tail
set_option maxHeartbeats 4000000 in
set_option maxRecDepth 100000 in
theorem c_PD_flip (l : Launch) (hfl : l.flags = flags0) (G : Gx) {x da : Nat} {ad ra : Nat → Nat} {u : Nat → Nat} {R : Nat → Nat → Int64} (hDs : pDs x da ad ra) (d s h : Int32) (v : Int64) : MetX l y_PD_flip [w_PD_flip] (Lv 8 1 6) (Pq G [.ref x, .int d, .int s, .int h, .long v] (fun H => PDp G x da ad ra u R H ∧ zH G H)) (QE (blE u d s h) xIS (okM none (PDp G x da ad ra u (rset R (ncl d) (2 * ncl s + ncl h) (R (ncl d) (2 * ncl s + ncl h) ^^^ v))) (pA x da ad ra))) 1 6 (pA x da ad ra) := by
  refine hd_code (by decide +kernel) (Nat.le_of_ble_eq_true rfl) ?_
  intro pp ee ss mm bl meth cd ls hF hr hlocks hex hnm had hP hl
  have hx := hF.1
  have hb := hF.2.1
  have hl : lv_has ls 6 [(0, .ref _), (1, .int _), (2, .int _), (3, .int _), (4, .long _)] := hl
  obtain ⟨hP, hz⟩ := hP
  refine lv_aload_n hx hb d_PD_flip_0 rfl (lv_at hl 0 rfl) ?_
  refine lv_iload_n hx hb d_PD_flip_1 rfl (lv_at hl 1 rfl) ?_
  refine lv_iload_n hx hb d_PD_flip_2 rfl (lv_at hl 2 rfl) ?_
  refine lv_iload_n hx hb d_PD_flip_3 rfl (lv_at hl 3 rfl) ?_
  refine cV hF sV_PD_78 (c_PD_rows l hfl G d s h) ⟨hP, hz⟩ (rc_x hF.2.2.2.2 hP) ⟨rfl, rfl, by decide, by decide⟩ rfl rfl hl.1 (Nat.le_of_ble_eq_true rfl) d_PD_flip_4 (by decide) (fun v2 st t L e1 hWt q hL => ?_) (fun z st t L e1 hWt q hL => ?_)
  · obtain ⟨hE, hv, hh⟩ := q
    subst hv
    have hth : t.heap = ss.heap := by rw [hh, e1]
    rw [hth]
    obtain ⟨hok, h0⟩ := blE_0 hE
    obtain ⟨i, j, k, hi, hj, hk, rfl, rfl, rfl⟩ := okB_nI hok
    have hci : ncl (nI i) = i := nI_clamp (by omega)
    have hcj : ncl (nI j) = j := nI_clamp (by omega)
    have hck : ncl (nI k) = k := nI_clamp (by omega)
    rw [hci, hcj, hck]
    have hL : ∀ (A : Nat → Prop) (q : Loc), q ∈ [] ++ L → A q.base := fun A q h => (hL q (by simpa using h)).elim
    show W pp l ee _ ss mm _ bl meth cd _ _ _ _ _ (F0 mm 7 ls (.ref (ra i) :: []))
    have hS : va_S (pA x da ad ra) ss.heap ss.heap ([] ++ L) := ⟨Nat.le_refl _, fun _ _ _ => rfl, hL _⟩
    refine lv_iconst (v := (nI 2)) hx hb d_PD_flip_7 (by decide) ?_
    refine lv_iload_n hx hb d_PD_flip_8 rfl (lv_at hl 2 rfl) ?_
    refine lv_imul hx hb d_PD_flip_9 ?_
    refine lv_iload_n hx hb d_PD_flip_10 rfl (lv_at hl 3 rfl) ?_
    refine lv_iadd hx hb d_PD_flip_11 ?_
    refine lv_eqi (z := nI (2 * j + k)) (by rw [pk_mul, nI_add]) ?_
    refine lv_dup2_11 hx hb d_PD_flip_12 rfl rfl ?_
    refine l_row hi (by omega) hF hP d_PD_flip_13 ?_
    refine lv_lload hx hb d_PD_flip_14 (lv_at hl 4 rfl) ?_
    refine lv_lxor hx hb d_PD_flip_16 ?_
    refine s_row hi (by omega) hDs hF hP hS d_PD_flip_17 (fun H locs hP hS => ?_)
    exact W.toX (W.vret (cells := 1) (slots := 6) hx hb hr (fun t ht _ => ⟨hE, rfl, by rw [ht]; exact hP, hS.F ht⟩) hS.2.2 d_PD_flip_18 hlocks)
  · obtain ⟨X, hX, hEx⟩ := q
    rw [e1] at hEx
    exact WT.leave (cells := 0 + 1) (slots := 0 + 6) hlocks hex (fun t2 ht2 hW2 => ⟨X, hX, hEx.moved ht2 hWt hW2⟩) (fun q h => (hL q (by simpa using h)).elim)
set_option maxHeartbeats 4000000 in
set_option maxRecDepth 100000 in
theorem c_PD_block (l : Launch) (hfl : l.flags = flags0) (G : Gx) {x da : Nat} {ad ra : Nat → Nat} {u : Nat → Nat} {R : Nat → Nat → Int64} (d s h : Int32) : MetX l y_PD_block [w_PD_block] (Lv 8 1 6) (Pq G [.ref x, .int d, .int s, .int h] (fun H => PDp G x da ad ra u R H ∧ zH G H)) (QE (blE u d s h) xIS (okR (some (.long (R (ncl d) (2 * ncl s + ncl h)))))) 1 6 (fun _ => False) := by
  refine hd_code (by decide +kernel) (Nat.le_of_ble_eq_true rfl) ?_
  intro pp ee ss mm bl meth cd ls hF hr hlocks hex hnm had hP hl
  have hx := hF.1
  have hb := hF.2.1
  have hl : lv_has ls 4 [(0, .ref _), (1, .int _), (2, .int _), (3, .int _)] := hl
  obtain ⟨hP, hz⟩ := hP
  refine lv_aload_n hx hb d_PD_block_0 rfl (lv_at hl 0 rfl) ?_
  refine lv_iload_n hx hb d_PD_block_1 rfl (lv_at hl 1 rfl) ?_
  refine lv_iload_n hx hb d_PD_block_2 rfl (lv_at hl 2 rfl) ?_
  refine lv_iload_n hx hb d_PD_block_3 rfl (lv_at hl 3 rfl) ?_
  refine cV hF sV_PD_78 (c_PD_rows l hfl G d s h) ⟨hP, hz⟩ (rc_x hF.2.2.2.2 hP) ⟨rfl, rfl, by decide, by decide⟩ rfl rfl hl.1 (Nat.le_of_ble_eq_true rfl) d_PD_block_4 (by decide) (fun v2 st t L e1 hWt q hL => ?_) (fun z st t L e1 hWt q hL => ?_)
  · obtain ⟨hE, hv, hh⟩ := q
    subst hv
    have hth : t.heap = ss.heap := by rw [hh, e1]
    rw [hth]
    obtain ⟨hok, h0⟩ := blE_0 hE
    obtain ⟨i, j, k, hi, hj, hk, rfl, rfl, rfl⟩ := okB_nI hok
    have hci : ncl (nI i) = i := nI_clamp (by omega)
    have hcj : ncl (nI j) = j := nI_clamp (by omega)
    have hck : ncl (nI k) = k := nI_clamp (by omega)
    rw [hci, hcj, hck]
    have hL : ∀ (A : Nat → Prop) (q : Loc), q ∈ [] ++ L → A q.base := fun A q h => (hL q (by simpa using h)).elim
    show W pp l ee _ ss mm _ bl meth cd _ _ _ _ _ (F0 mm 7 ls (.ref (ra i) :: []))
    refine lv_iconst (v := (nI 2)) hx hb d_PD_block_7 (by decide) ?_
    refine lv_iload_n hx hb d_PD_block_8 rfl (lv_at hl 2 rfl) ?_
    refine lv_imul hx hb d_PD_block_9 ?_
    refine lv_iload_n hx hb d_PD_block_10 rfl (lv_at hl 3 rfl) ?_
    refine lv_iadd hx hb d_PD_block_11 ?_
    refine lv_eqi (z := nI (2 * j + k)) (by rw [pk_mul, nI_add]) ?_
    refine l_row hi (by omega) hF hP d_PD_block_12 ?_
    exact W.toX (W.lret (cells := 1) (slots := 6) hx hb hr (fun t ht _ => ⟨hE, rfl, ht⟩) (hL _) d_PD_block_13 hlocks)
  · obtain ⟨X, hX, hEx⟩ := q
    rw [e1] at hEx
    exact WT.leave (cells := 0 + 1) (slots := 0 + 6) hlocks hex (fun t2 ht2 hW2 => ⟨X, hX, hEx.moved ht2 hWt hW2⟩) (fun q h => (hL q (by simpa using h)).elim)
def rbU (u : Nat → Nat) (d : Nat) : Nat → Nat := va_up u d (u d + 1)
def rbR (R : Nat → Nat → Int64) (d s : Nat) : Nat → Nat → Int64 := rset (rset R d (2 * s) (oth R d (2 * s) 5)) d (2 * s + 1) (oth (rset R d (2 * s) (oth R d (2 * s) 5)) d (2 * s + 1) 5)
def rb (d : Nat) : Nat → (Nat → Nat) → (Nat → Nat → Int64) → (Nat → Nat) × (Nat → Nat → Int64)
  | 0, u, R => (u, R)
  | n + 1, u, R => if u d < 101 ∧ lostB u d (u d - 1) = false then rb d n (rbU u d) (rbR R d (u d - 1)) else (u, R)
def okN (d n : Int32) : Bool := okD d && !decide (n < 0)
def rbE (u : Nat → Nat) (d n : Int32) : Nat := if okN d n = true then (if u (ncl d) = 0 ∨ u (ncl d) = 101 then 2 else 0) else 1
theorem okN_nI {d n : Int32} (hh : okN d n = true) : ∃ i j : Nat, i < 5 ∧ j < 2 ^ 31 ∧ d = nI i ∧ n = nI j := by
  simp only [okN, Bool.and_eq_true, Bool.not_eq_true', decide_eq_false_iff_not] at hh
  obtain ⟨i, hi, rfl⟩ := okD_nI hh.1
  obtain ⟨j, hj, rfl⟩ := nI_of hh.2
  exact ⟨i, j, hi, hj, rfl, rfl⟩
theorem hasV_un {u : Nat → Nat} {R : Nat → Nat → Int64} {d s h : Nat} (e : usedB u s d = false) : hasV u R d s h = oth R d (2 * s + h) 5 := by
  unfold hasV
  rw [e, if_neg (by decide)]
theorem uok_up {u : Nat → Nat} (hu : uok u) {d n : Nat} (hn : n ≤ 101) : uok (va_up u d n) := by
  intro i hi
  unfold va_up
  split
  · exact hn
  · exact hu i hi
set_option maxHeartbeats 4000000 in
set_option maxRecDepth 100000 in
theorem c_PD_rebuild (l : Launch) (hfl : l.flags = flags0) (G : Gx) {x da : Nat} {ad ra : Nat → Nat} {u : Nat → Nat} {R : Nat → Nat → Int64} (hu : uok u) (hDs : pDs x da ad ra) (d n : Int32) : MetX l y_PD_rebuild [w_PD_rebuild] (Lv 7 1 6) (Pq G [.ref x, .int d, .int n] (fun H => PDp G x da ad ra u R H ∧ zH G H)) (QE (rbE u d n) xIS (okM (some (.int (upv ((rb (ncl d) (ncl n) u R).1 (ncl d))))) (PDp G x da ad ra (rb (ncl d) (ncl n) u R).1 (rb (ncl d) (ncl n) u R).2) (pA x da ad ra))) 1 6 (pA x da ad ra) := by
  refine hd_code (by decide +kernel) (Nat.le_of_ble_eq_true rfl) ?_
  intro pp ee ss mm bl meth cd ls hF hr hlocks hex hnm had hP hl
  have hx := hF.1
  have hb := hF.2.1
  have hl : lv_has ls 6 [(0, .ref _), (1, .int _), (2, .int _)] := hl
  obtain ⟨hP, hz⟩ := hP
  have tail : W pp l ee (Lv 7 1 6) ss mm ([.ref x, .int d, .int n] : List Value).toArray bl meth cd ss.heap [] 0 0 (MX bl (QE (rbE u d n) xIS (okM (some (.int (upv ((rb (ncl d) (ncl n) u R).1 (ncl d))))) (PDp G x da ad ra (rb (ncl d) (ncl n) u R).1 (rb (ncl d) (ncl n) u R).2) (pA x da ad ra))) ([.ref x, .int d, .int n] : List Value).toArray ss 1 6 (pA x da ad ra)) (F0 mm 16 ls [.int (b2i (okN d n))]) := by
    refine lg hfl hF hz hlocks hex hl.1 (Nat.le_of_ble_eq_true rfl) (by decide) (by decide) d_PD_rebuild_16 (fun hok => ?_) (fun hok x t _ hEx => ⟨_, Or.inl ⟨by unfold rbE; rw [hok]; rfl, rfl⟩, hEx⟩)
    obtain ⟨i, j, hi, hj, rfl, rfl⟩ := okN_nI hok
    have hci : ncl (nI i) = i := nI_clamp (by omega)
    have hcj : ncl (nI j) = j := nI_clamp hj
    rw [hci, hcj]
    have hE : rbE u (nI i) (nI j) = if u i = 0 ∨ u i = 101 then 2 else 0 := by unfold rbE; rw [if_pos hok, hci]
    have hui := hu i hi
    refine lv_aload_n hx hb d_PD_rebuild_19 rfl (lv_at hl 0 rfl) ?_
    refine p_disks hF hP d_PD_rebuild_20 ?_
    refine lv_iload_n hx hb d_PD_rebuild_23 rfl (lv_at hl 1 rfl) ?_
    refine l_disk hi hF hP d_PD_rebuild_24 ?_
    refine lv_astore_n hx hb d_PD_rebuild_25 rfl hl (by decide) rfl (fun ls hl => ?_)
    have hl : lv_has ls 6 [(3, .ref _), (0, .ref _), (1, .int _), (2, .int _)] := hl
    refine lv_aload_n hx hb d_PD_rebuild_26 rfl (lv_at hl 0 rfl) ?_
    refine pg_F hi hF hP d_PD_rebuild_27 ?_
    refine lv_if_ne (tgt := 42) hx hb d_PD_rebuild_30 (by decide) (fun hc => ?_) (fun hc => ?_)
    · have h0 : u i = 0 := Decidable.byContradiction (fun z => hc (by unfold flv; rw [if_neg z]))
      rw [if_pos (Or.inl h0)] at hE
      exact W.throwNew ex_IS hF hfl had hlocks hex hl.1 hz d_PD_rebuild_42 d_PD_rebuild_45 d_PD_rebuild_46 d_PD_rebuild_49 (by decide) (by decide) (fun x t _ hEx => ⟨_, Or.inr ⟨by exact hE, rfl⟩, hEx⟩)
    · have h0 : ¬ u i = 0 := fun z => by rw [z] at hc; exact absurd hc (by decide)
      refine lv_aload_n hx hb d_PD_rebuild_33 rfl (lv_at hl 0 rfl) ?_
      refine pg_U hi hF hP d_PD_rebuild_34 ?_
      refine lv_bipush (v := nI 100) hx hb d_PD_rebuild_37 (by decide) ?_
      refine nb_ne (tgt := 50) hx hb d_PD_rebuild_39 (by decide) (by omega) (by omega) (fun h1 => ?_) (fun h1 => ?_)
      · rw [if_neg (by omega)] at hE
        have hS : va_S (pA x da ad ra) ss.heap ss.heap [] := va_S.rf
        refine W.widen (k := 1) (n := 6) (by decide) (by decide) ?_
        refine lv_iconst (v := (nI 0)) hx hb d_PD_rebuild_50 (by decide) ?_
        refine lv_istore hx hb d_PD_rebuild_51 hl (by decide) rfl (fun ls hl => ?_)
        have hl : lv_has ls 6 [(4, .int _), (3, .ref _), (0, .ref _), (1, .int _), (2, .int _)] := hl
        have fin : ∀ (u1 : Nat → Nat) (R1 : Nat → Nat → Int64) (H : Heap) (locs : List Loc) (ls : Array Slot) (k : Nat), rb i j u R = (u1, R1) → lv_has ls 6 [(4, .int (nI k)), (3, .ref (ad i)), (0, .ref x), (1, .int (nI i)), (2, .int (nI j))] → PDp G x da ad ra u1 R1 H → va_S (pA x da ad ra) ss.heap H locs → W pp l ee (Lv 7 1 6) ss mm ([.ref x, .int (nI i), .int (nI j)] : List Value).toArray bl meth cd H locs 1 6 (MX bl (QE (rbE u (nI i) (nI j)) xIS (okM (some (.int (upv ((rb i j u R).1 i)))) (PDp G x da ad ra (rb i j u R).1 (rb i j u R).2) (pA x da ad ra))) ([.ref x, .int (nI i), .int (nI j)] : List Value).toArray ss 1 6 (pA x da ad ra)) (F0 mm 139 ls []) := by
          intro u1 R1 H locs ls k hrb hl hP hS
          rw [hrb]
          refine lv_aload_n hx hb d_PD_rebuild_139 rfl (lv_at hl 1 rfl) ?_
          refine pg_U hi hF hP d_PD_rebuild_140 ?_
          exact W.toX (W.iret hx hb hr (fun t ht _ => ⟨hE, rfl, by rw [ht]; exact hP, hS.F ht⟩) hS.2.2 d_PD_rebuild_143 hlocks)
        have loop : ∀ (f k : Nat) (u1 : Nat → Nat) (R1 : Nat → Nat → Int64) (H : Heap) (locs : List Loc) (ls : Array Slot), k + f = j → ¬ u1 i = 0 → uok u1 → rb i f u1 R1 = rb i j u R → lv_has ls 6 [(4, .int (nI k)), (3, .ref (ad i)), (0, .ref x), (1, .int (nI i)), (2, .int (nI j))] → PDp G x da ad ra u1 R1 H → va_S (pA x da ad ra) ss.heap H locs → W pp l ee (Lv 7 1 6) ss mm ([.ref x, .int (nI i), .int (nI j)] : List Value).toArray bl meth cd H locs 1 6 (MX bl (QE (rbE u (nI i) (nI j)) xIS (okM (some (.int (upv ((rb i j u R).1 i)))) (PDp G x da ad ra (rb i j u R).1 (rb i j u R).2) (pA x da ad ra))) ([.ref x, .int (nI i), .int (nI j)] : List Value).toArray ss 1 6 (pA x da ad ra)) (F0 mm 53 ls []) := by
          intro f
          induction f with
          | zero =>
            intro k u1 R1 H locs ls hk hn1 hu1 hrb hl hP hS
            obtain rfl : k = j := by omega
            refine lv_iload hx hb d_PD_rebuild_53 (lv_at hl 0 rfl) ?_
            refine lv_iload_n hx hb d_PD_rebuild_55 rfl (lv_at hl 4 rfl) ?_
            refine nb_ge (tgt := 139) hx hb d_PD_rebuild_56 (by decide) (by omega) (by omega) (fun _ => ?_) (fun hc => absurd hc (by omega))
            exact fin u1 R1 H locs ls _ hrb.symm hl hP hS
          | succ f ih =>
            intro k u1 R1 H locs ls hk hn1 hu1 hrb hl hP hS
            have hui1 := hu1 i hi
            refine lv_iload hx hb d_PD_rebuild_53 (lv_at hl 0 rfl) ?_
            refine lv_iload_n hx hb d_PD_rebuild_55 rfl (lv_at hl 4 rfl) ?_
            refine nb_ge (tgt := 139) hx hb d_PD_rebuild_56 (by decide) (by omega) (by omega) (fun hc => absurd hc (by omega)) (fun _ => ?_)
            refine lv_aload_n hx hb d_PD_rebuild_59 rfl (lv_at hl 1 rfl) ?_
            refine pg_U hi hF hP d_PD_rebuild_60 ?_
            refine lv_bipush (v := nI 100) hx hb d_PD_rebuild_63 (by decide) ?_
            refine nb_ge (tgt := 139) hx hb d_PD_rebuild_65 (by decide) (by omega) (by omega) (fun h3 => ?_) (fun h3 => ?_)
            · exact fin u1 R1 H locs ls _ (by rw [← hrb]; unfold rb; rw [if_neg (by omega)]) hl hP hS
            · refine lv_iload_n hx hb d_PD_rebuild_68 rfl (lv_at hl 3 rfl) ?_
              refine lv_aload_n hx hb d_PD_rebuild_69 rfl (lv_at hl 2 rfl) ?_
              refine lv_aload_n hx hb d_PD_rebuild_70 rfl (lv_at hl 1 rfl) ?_
              refine pg_U hi hF hP d_PD_rebuild_71 ?_
              refine rV hF sV_PD_45 (c_PD_barred l G hu1 (s := u1 i - 1) (by omega)) hP (rc_x hF.2.2.2.2 hP) (by decide) rfl rfl hl.1 (Nat.le_of_ble_eq_true rfl) d_PD_rebuild_74 (by decide) ?_
              refine rS hF sS_PD_48 (c_PD_isLost l G hi (barF5 _) (fun _ => True)) trivial (by decide) rfl rfl hl.1 (Nat.le_of_ble_eq_true rfl) d_PD_rebuild_77 (by decide) ?_
              rw [lostB_eq u1 _ hi]
              refine zb_ne (tgt := 139) hx hb d_PD_rebuild_80 (by decide) (fun h4 => ?_) (fun h4 => ?_)
              · exact fin u1 R1 H locs ls _ (by rw [← hrb]; unfold rb; rw [if_neg (by rw [h4]; simp)]) hl hP hS
              · have hun : usedB u1 (u1 i - 1) i = false := decide_eq_false (by omega)
                have hrb2 : rb i f (rbU u1 i) (rbR R1 i (u1 i - 1)) = rb i j u R := by rw [← hrb]; rw [rb, if_pos ⟨by omega, h4⟩]
                refine lv_iconst (v := (nI 0)) hx hb d_PD_rebuild_83 (by decide) ?_
                refine lv_istore hx hb d_PD_rebuild_84 hl (by decide) rfl (fun ls hl => ?_)
                have hl : lv_has ls 6 [(5, .int _), (4, .int _), (3, .ref _), (0, .ref _), (1, .int _), (2, .int _)] := hl
                refine lv_iload hx hb d_PD_rebuild_86 (lv_at hl 0 rfl) ?_
                refine lv_iconst (v := (nI 2)) hx hb d_PD_rebuild_88 (by decide) ?_
                refine nb_ge (tgt := 123) hx hb d_PD_rebuild_89 (by decide) (by omega) (by omega) (fun hc => absurd hc (by omega)) (fun _ => ?_)
                refine lv_aload_n hx hb d_PD_rebuild_92 rfl (lv_at hl 2 rfl) ?_
                refine pg_R hi hF hP d_PD_rebuild_93 ?_
                refine lv_iconst (v := (nI 2)) hx hb d_PD_rebuild_96 (by decide) ?_
                refine lv_aload_n hx hb d_PD_rebuild_97 rfl (lv_at hl 2 rfl) ?_
                refine pg_U hi hF hP d_PD_rebuild_98 ?_
                refine lv_imul hx hb d_PD_rebuild_101 ?_
                refine lv_iload hx hb d_PD_rebuild_102 (lv_at hl 0 rfl) ?_
                refine lv_iadd hx hb d_PD_rebuild_104 ?_
                refine lv_eqi (z := nI (2 * (u1 i - 1) + 0)) (by unfold upv; rw [pk_mul, nI_add]) ?_
                refine lv_aload_n hx hb d_PD_rebuild_105 rfl (lv_at hl 3 rfl) ?_
                refine lv_iload_n hx hb d_PD_rebuild_106 rfl (lv_at hl 4 rfl) ?_
                refine lv_aload_n hx hb d_PD_rebuild_107 rfl (lv_at hl 2 rfl) ?_
                refine pg_U hi hF hP d_PD_rebuild_108 ?_
                refine lv_iload hx hb d_PD_rebuild_111 (lv_at hl 0 rfl) ?_
                refine rV hF sV_PD_54 (c_PD_has l G hu1 hi (s := u1 i - 1) (h := 0) (by omega) (by decide)) hP (rc_x hF.2.2.2.2 hP) (by decide) rfl rfl hl.1 (Nat.le_of_ble_eq_true rfl) d_PD_rebuild_113 (by decide) ?_
                rw [hasV_un hun]
                refine s_row hi (by omega) hDs hF hP hS d_PD_rebuild_116 (fun H locs hP hS => ?_)
                refine lv_iinc (k := 0) hx hb d_PD_rebuild_117 hl rfl (nI_inc 0) (by decide) rfl (fun ls hl => ?_)
                have hl : lv_has ls 6 [(5, .int _), (4, .int _), (3, .ref _), (0, .ref _), (1, .int _), (2, .int _)] := hl
                refine lv_goto (tgt := 86) hx hb d_PD_rebuild_120 (by decide) ?_
                refine lv_iload hx hb d_PD_rebuild_86 (lv_at hl 0 rfl) ?_
                refine lv_iconst (v := (nI 2)) hx hb d_PD_rebuild_88 (by decide) ?_
                refine nb_ge (tgt := 123) hx hb d_PD_rebuild_89 (by decide) (by omega) (by omega) (fun hc => absurd hc (by omega)) (fun _ => ?_)
                refine lv_aload_n hx hb d_PD_rebuild_92 rfl (lv_at hl 2 rfl) ?_
                refine pg_R hi hF hP d_PD_rebuild_93 ?_
                refine lv_iconst (v := (nI 2)) hx hb d_PD_rebuild_96 (by decide) ?_
                refine lv_aload_n hx hb d_PD_rebuild_97 rfl (lv_at hl 2 rfl) ?_
                refine pg_U hi hF hP d_PD_rebuild_98 ?_
                refine lv_imul hx hb d_PD_rebuild_101 ?_
                refine lv_iload hx hb d_PD_rebuild_102 (lv_at hl 0 rfl) ?_
                refine lv_iadd hx hb d_PD_rebuild_104 ?_
                refine lv_eqi (z := nI (2 * (u1 i - 1) + 1)) (by unfold upv; rw [pk_mul, nI_add]) ?_
                refine lv_aload_n hx hb d_PD_rebuild_105 rfl (lv_at hl 3 rfl) ?_
                refine lv_iload_n hx hb d_PD_rebuild_106 rfl (lv_at hl 4 rfl) ?_
                refine lv_aload_n hx hb d_PD_rebuild_107 rfl (lv_at hl 2 rfl) ?_
                refine pg_U hi hF hP d_PD_rebuild_108 ?_
                refine lv_iload hx hb d_PD_rebuild_111 (lv_at hl 0 rfl) ?_
                refine rV hF sV_PD_54 (c_PD_has l G hu1 hi (s := u1 i - 1) (h := 1) (by omega) (by decide)) hP (rc_x hF.2.2.2.2 hP) (by decide) rfl rfl hl.1 (Nat.le_of_ble_eq_true rfl) d_PD_rebuild_113 (by decide) ?_
                rw [hasV_un hun]
                refine s_row hi (by omega) hDs hF hP hS d_PD_rebuild_116 (fun H locs hP hS => ?_)
                refine lv_iinc (k := 0) hx hb d_PD_rebuild_117 hl rfl (nI_inc 1) (by decide) rfl (fun ls hl => ?_)
                have hl : lv_has ls 6 [(5, .int _), (4, .int _), (3, .ref _), (0, .ref _), (1, .int _), (2, .int _)] := hl
                refine lv_goto (tgt := 86) hx hb d_PD_rebuild_120 (by decide) ?_
                refine lv_iload hx hb d_PD_rebuild_86 (lv_at hl 0 rfl) ?_
                refine lv_iconst (v := (nI 2)) hx hb d_PD_rebuild_88 (by decide) ?_
                refine nb_ge (tgt := 123) hx hb d_PD_rebuild_89 (by decide) (by omega) (by omega) (fun _ => ?_) (fun hc => absurd hc (by omega))
                refine lv_aload_n hx hb d_PD_rebuild_123 rfl (lv_at hl 2 rfl) ?_
                refine lv_dup hx hb d_PD_rebuild_124 rfl ?_
                refine pg_U hi hF hP d_PD_rebuild_125 ?_
                refine lv_iconst (v := (nI 1)) hx hb d_PD_rebuild_128 (by decide) ?_
                refine lv_iadd hx hb d_PD_rebuild_129 ?_
                refine lv_eqi (z := upv (u1 i + 1)) (by unfold upv; rw [nI_add]; congr 1; omega) ?_
                refine pp_U hi hDs hF hP hS d_PD_rebuild_130 (fun H locs hP hS => ?_)
                have e1 : va_up (fun i => upv (u1 i)) i (upv (u1 i + 1)) = fun k => upv (rbU u1 i k) := va_up_comp upv u1 i (u1 i + 1)
                have e2 : (fun i => flv (u1 i)) = fun k => flv (rbU u1 i k) := by
                  have e3 : flv (u1 i + 1) = flv (u1 i) := by unfold flv; rw [if_neg hn1, if_neg (by omega)]
                  unfold rbU
                  rw [← va_up_comp flv u1 i (u1 i + 1), e3, va_up_id (fun i => flv (u1 i)) i]
                rw [e1, e2] at hP
                refine lv_iinc (k := 1) hx hb d_PD_rebuild_133 hl rfl (nI_inc k) (by decide) rfl (fun ls hl => ?_)
                have hl : lv_has ls 6 [(4, .int _), (5, .int _), (3, .ref _), (0, .ref _), (1, .int _), (2, .int _)] := hl
                refine lv_goto (tgt := 53) hx hb d_PD_rebuild_136 (by decide) ?_
                exact ih (k + 1) (rbU u1 i) _ H locs ls (by omega) (by simp [rbU, va_up]) (uok_up hu1 (by omega)) hrb2 (lv_sub hl [0, 2, 3, 4, 5] rfl) hP hS
        exact loop j 0 u R ss.heap [] ls (by omega) h0 hu rfl hl hP hS
      · rw [if_pos (by omega)] at hE
        exact W.throwNew ex_IS hF hfl had hlocks hex hl.1 hz d_PD_rebuild_42 d_PD_rebuild_45 d_PD_rebuild_46 d_PD_rebuild_49 (by decide) (by decide) (fun x t _ hEx => ⟨_, Or.inr ⟨by exact hE, rfl⟩, hEx⟩)
  refine lv_iload_n hx hb d_PD_rebuild_0 rfl (lv_at hl 1 rfl) ?_
  refine rS hF sS_PD_58 (c_PD_isDisk l G d (fun _ => True)) trivial (by decide) rfl rfl hl.1 (Nat.le_of_ble_eq_true rfl) d_PD_rebuild_1 (by decide) ?_
  refine zb_eq (tgt := 15) hx hb d_PD_rebuild_4 (by decide) (fun hc => ?_) (fun hc => ?_)
  · refine lv_iconst (v := (nI 0)) hx hb d_PD_rebuild_15 (by decide) ?_
    exact lv_eqi (by simp [okN, hc, b2i, nI_0]) tail
  · refine lv_iload_n hx hb d_PD_rebuild_7 rfl (lv_at hl 2 rfl) ?_
    refine lv_if_lt (tgt := 15) hx hb d_PD_rebuild_8 (by decide) (fun h2 => ?_) (fun h2 => ?_)
    · refine lv_iconst (v := (nI 0)) hx hb d_PD_rebuild_15 (by decide) ?_
      exact lv_eqi (by simp [okN, h2, b2i, nI_0]) tail
    · refine lv_iconst (v := (nI 1)) hx hb d_PD_rebuild_11 (by decide) ?_
      refine lv_goto (tgt := 16) hx hb d_PD_rebuild_12 (by decide) ?_
      exact lv_eqi (by simp [okN, hc, h2, b2i, nI1]) tail
end
section
/-! scrub -/
def hsR (R : Nat → Nat → Int64) (s h : Nat) : Nat → Nat → Int64 := rset R (s % 5) (2 * s + h) (R (s % 5) (2 * s + h) ^^^ xal R (2 * s + h) 5)
def scS (u : Nat → Nat) (R : Nat → Nat → Int64) (s : Nat) : Nat → Nat → Int64 := if barF (usedB u s) 5 = 0 then hsR (hsR R s 0) s 1 else R
def scW (R : Nat → Nat → Int64) (s : Nat) : Bool := !decide (xal R (2 * s + 0) 5 = 0) || !decide (xal (hsR R s 0) (2 * s + 1) 5 = 0)
def sc (u : Nat → Nat) (R : Nat → Nat → Int64) : Nat → (Nat → Nat → Int64) × Nat
  | 0 => (R, 0)
  | n + 1 => (scS u (sc u R n).1 n, if barF (usedB u n) 5 = 0 ∧ scW (sc u R n).1 n = true then (sc u R n).2 + 1 else (sc u R n).2)
theorem sc_le (u : Nat → Nat) (R : Nat → Nat → Int64) : ∀ n, (sc u R n).2 ≤ n
  | 0 => Nat.le_refl _
  | n + 1 => by
    have h := sc_le u R n
    show (if barF (usedB u n) 5 = 0 ∧ scW (sc u R n).1 n = true then (sc u R n).2 + 1 else (sc u R n).2) ≤ n + 1
    split
    · exact Nat.succ_le_succ h
    · exact Nat.le_succ_of_le h
theorem b2i_or (a b : Bool) : b2i a ||| b2i b = b2i (a || b) := by cases a <;> cases b <;> decide
set_option maxHeartbeats 4000000 in
set_option maxRecDepth 100000 in
theorem c_PD_scrub (l : Launch) (G : Gx) {x da : Nat} {ad ra : Nat → Nat} {u : Nat → Nat} {R : Nat → Nat → Int64} (hu : uok u) (hDs : pDs x da ad ra) : MetX l y_PD_scrub [w_PD_scrub] (Lv 3 0 0) (Pq G [.ref x] (PDp G x da ad ra u R)) (QM (some (.int (nI (sc u R 100).2))) (PDp G x da ad ra u (sc u R 100).1) (pA x da ad ra)) 0 0 (pA x da ad ra) := by
  refine hd_code (by decide +kernel) (Nat.le_of_ble_eq_true rfl) ?_
  intro pp ee ss mm bl meth cd ls hF hr hlocks hex hnm had hP hl
  have hx := hF.1
  have hb := hF.2.1
  have hl : lv_has ls 8 [(0, .ref _)] := hl
  have hS : va_S (pA x da ad ra) ss.heap ss.heap [] := va_S.rf
  refine lv_iconst (v := (nI 0)) hx hb d_PD_scrub_0 (by decide) ?_
  refine lv_istore_n hx hb d_PD_scrub_1 rfl hl (by decide) rfl (fun ls hl => ?_)
  have hl : lv_has ls 8 [(1, .int _), (0, .ref _)] := hl
  refine lv_iconst (v := (nI 0)) hx hb d_PD_scrub_2 (by decide) ?_
  refine lv_istore_n hx hb d_PD_scrub_3 rfl hl (by decide) rfl (fun ls hl => ?_)
  have hl : lv_has ls 8 [(2, .int _), (1, .int _), (0, .ref _)] := hl
  have inner : ∀ (R1 : Nat → Nat → Int64) (H : Heap) (locs : List Loc) (s h ct : Nat) (wr : Bool), s < 100 → h < 2 → PDp G x da ad ra u R1 H → (∀ ls : Array Slot, lv_has ls 8 [(7, .int (nI 5)), (5, .long (xal R1 (2 * s + h) 5)), (4, .int (nI h)), (3, .int (b2i wr)), (2, .int (nI s)), (1, .int (nI ct)), (0, .ref x)] → W pp l ee (Lv 3 0 0) ss mm ([.ref x] : List Value).toArray bl meth cd H locs 0 0 (MX bl (QM (some (.int (nI (sc u R 100).2))) (PDp G x da ad ra u (sc u R 100).1) (pA x da ad ra)) ([.ref x] : List Value).toArray ss 0 0 (pA x da ad ra)) (F0 mm 72 ls [])) → ∀ (n d : Nat) (ls : Array Slot), d + n = 5 → lv_has ls 8 [(7, .int (nI d)), (5, .long (xal R1 (2 * s + h) d)), (4, .int (nI h)), (3, .int (b2i wr)), (2, .int (nI s)), (1, .int (nI ct)), (0, .ref x)] → W pp l ee (Lv 3 0 0) ss mm ([.ref x] : List Value).toArray bl meth cd H locs 0 0 (MX bl (QM (some (.int (nI (sc u R 100).2))) (PDp G x da ad ra u (sc u R 100).1) (pA x da ad ra)) ([.ref x] : List Value).toArray ss 0 0 (pA x da ad ra)) (F0 mm 38 ls []) := by
    intro R1 H locs s h ct wr hs hh hP K n
    induction n with
    | zero =>
      intro d ls hd hl
      obtain rfl : d = 5 := by omega
      refine lv_iload hx hb d_PD_scrub_38 (lv_at hl 0 rfl) ?_
      refine lv_iconst (v := (nI 5)) hx hb d_PD_scrub_40 (by decide) ?_
      refine nb_ge (tgt := 72) hx hb d_PD_scrub_41 (by decide) (by omega) (by omega) (fun _ => ?_) (fun hc => absurd hc (by omega))
      exact K ls hl
    | succ n ih =>
      intro d ls hd hl
      have hd5 : d < 5 := by omega
      refine lv_iload hx hb d_PD_scrub_38 (lv_at hl 0 rfl) ?_
      refine lv_iconst (v := (nI 5)) hx hb d_PD_scrub_40 (by decide) ?_
      refine nb_ge (tgt := 72) hx hb d_PD_scrub_41 (by decide) (by omega) (by omega) (fun hc => absurd hc (by omega)) (fun _ => ?_)
      refine lv_lload hx hb d_PD_scrub_44 (lv_at hl 1 rfl) ?_
      refine lv_aload_n hx hb d_PD_scrub_46 rfl (lv_at hl 6 rfl) ?_
      refine p_disks hF hP d_PD_scrub_47 ?_
      refine lv_iload hx hb d_PD_scrub_50 (lv_at hl 0 rfl) ?_
      refine l_disk hd5 hF hP d_PD_scrub_52 ?_
      refine pg_R hd5 hF hP d_PD_scrub_53 ?_
      refine lv_iconst (v := (nI 2)) hx hb d_PD_scrub_56 (by decide) ?_
      refine lv_iload_n hx hb d_PD_scrub_57 rfl (lv_at hl 4 rfl) ?_
      refine lv_imul hx hb d_PD_scrub_58 ?_
      refine lv_iload hx hb d_PD_scrub_59 (lv_at hl 2 rfl) ?_
      refine lv_iadd hx hb d_PD_scrub_61 ?_
      refine lv_eqi (z := nI (2 * s + h)) (by rw [pk_mul, nI_add]) ?_
      refine l_row hd5 (by omega) hF hP d_PD_scrub_62 ?_
      refine lv_lxor hx hb d_PD_scrub_63 ?_
      refine lv_lstore hx hb d_PD_scrub_64 hl (by decide) rfl (fun ls hl => ?_)
      have hl : lv_has ls 8 [(5, .long _), (7, .int _), (4, .int _), (3, .int _), (2, .int _), (1, .int _), (0, .ref _)] := hl
      refine lv_iinc (k := 1) hx hb d_PD_scrub_66 hl rfl (nI_inc d) (by decide) rfl (fun ls hl => ?_)
      have hl : lv_has ls 8 [(7, .int _), (5, .long _), (4, .int _), (3, .int _), (2, .int _), (1, .int _), (0, .ref _)] := hl
      refine lv_goto (tgt := 38) hx hb d_PD_scrub_69 (by decide) ?_
      exact ih (d + 1) ls (by omega) (lv_sub hl [0, 1, 2, 3, 4, 5, 6] rfl)
  have half : ∀ (R1 : Nat → Nat → Int64) (H : Heap) (locs : List Loc) (s h ct : Nat) (wr : Bool) (ls : Array Slot), s < 100 → h < 2 → PDp G x da ad ra u R1 H → va_S (pA x da ad ra) ss.heap H locs → lv_has ls 8 [(4, .int (nI h)), (3, .int (b2i wr)), (2, .int (nI s)), (1, .int (nI ct)), (0, .ref x)] → (∀ (H : Heap) (locs : List Loc) (ls : Array Slot), PDp G x da ad ra u (hsR R1 s h) H → va_S (pA x da ad ra) ss.heap H locs → lv_has ls 8 [(4, .int (nI (h + 1))), (3, .int (b2i (wr || !decide (xal R1 (2 * s + h) 5 = 0)))), (2, .int (nI s)), (1, .int (nI ct)), (0, .ref x)] → W pp l ee (Lv 3 0 0) ss mm ([.ref x] : List Value).toArray bl meth cd H locs 0 0 (MX bl (QM (some (.int (nI (sc u R 100).2))) (PDp G x da ad ra u (sc u R 100).1) (pA x da ad ra)) ([.ref x] : List Value).toArray ss 0 0 (pA x da ad ra)) (F0 mm 26 ls [])) → W pp l ee (Lv 3 0 0) ss mm ([.ref x] : List Value).toArray bl meth cd H locs 0 0 (MX bl (QM (some (.int (nI (sc u R 100).2))) (PDp G x da ad ra u (sc u R 100).1) (pA x da ad ra)) ([.ref x] : List Value).toArray ss 0 0 (pA x da ad ra)) (F0 mm 26 ls []) := by
    intro R1 H locs s h ct wr ls hs hh hP hS hl K
    have h5 : s % 5 < 5 := Nat.mod_lt _ (by decide)
    refine lv_iload hx hb d_PD_scrub_26 (lv_at hl 0 rfl) ?_
    refine lv_iconst (v := (nI 2)) hx hb d_PD_scrub_28 (by decide) ?_
    refine nb_ge (tgt := 117) hx hb d_PD_scrub_29 (by decide) (by omega) (by omega) (fun hc => absurd hc (by omega)) (fun _ => ?_)
    refine lv_lconst (v := 0) hx hb d_PD_scrub_32 (by decide) ?_
    refine lv_lstore hx hb d_PD_scrub_33 hl (by decide) rfl (fun ls hl => ?_)
    have hl : lv_has ls 8 [(5, .long _), (4, .int _), (3, .int _), (2, .int _), (1, .int _), (0, .ref _)] := hl
    refine lv_iconst (v := (nI 0)) hx hb d_PD_scrub_35 (by decide) ?_
    refine lv_istore hx hb d_PD_scrub_36 hl (by decide) rfl (fun ls hl => ?_)
    have hl : lv_has ls 8 [(7, .int _), (5, .long _), (4, .int _), (3, .int _), (2, .int _), (1, .int _), (0, .ref _)] := hl
    refine inner R1 H locs s h ct wr hs hh hP (fun ls hl => ?_) 5 0 ls rfl (lv_sub hl [0, 1, 2, 3, 4, 5, 6] rfl)
    refine lv_aload_n hx hb d_PD_scrub_72 rfl (lv_at hl 6 rfl) ?_
    refine p_disks hF hP d_PD_scrub_73 ?_
    refine lv_iload_n hx hb d_PD_scrub_76 rfl (lv_at hl 4 rfl) ?_
    refine rS hF sS_PD_23 (c_PD_parityOf l G (p := s) (by omega) (fun _ => True)) trivial (by decide) rfl rfl hl.1 (Nat.le_of_ble_eq_true rfl) d_PD_scrub_77 (by decide) ?_
    refine l_disk h5 hF hP d_PD_scrub_80 ?_
    refine pg_R h5 hF hP d_PD_scrub_81 ?_
    refine lv_iconst (v := (nI 2)) hx hb d_PD_scrub_84 (by decide) ?_
    refine lv_iload_n hx hb d_PD_scrub_85 rfl (lv_at hl 4 rfl) ?_
    refine lv_imul hx hb d_PD_scrub_86 ?_
    refine lv_iload hx hb d_PD_scrub_87 (lv_at hl 2 rfl) ?_
    refine lv_iadd hx hb d_PD_scrub_89 ?_
    refine lv_eqi (z := nI (2 * s + h)) (by rw [pk_mul, nI_add]) ?_
    refine lv_dup2_11 hx hb d_PD_scrub_90 rfl rfl ?_
    refine l_row h5 (by omega) hF hP d_PD_scrub_91 ?_
    refine lv_lload hx hb d_PD_scrub_92 (lv_at hl 1 rfl) ?_
    refine lv_lxor hx hb d_PD_scrub_94 ?_
    refine s_row h5 (by omega) hDs hF hP hS d_PD_scrub_95 (fun H locs hP hS => ?_)
    refine lv_iload_n hx hb d_PD_scrub_96 rfl (lv_at hl 3 rfl) ?_
    refine lv_lload hx hb d_PD_scrub_97 (lv_at hl 1 rfl) ?_
    refine lv_lconst (v := 0) hx hb d_PD_scrub_99 (by decide) ?_
    refine W.lcmp hx hb d_PD_scrub_100 ?_
    refine lv_if_eq (tgt := 108) hx hb d_PD_scrub_101 (by decide) (fun hc => ?_) (fun hc => ?_)
    · have hc := (lg_cmp_eq _ _).mp hc
      refine lv_iconst (v := (nI 0)) hx hb d_PD_scrub_108 (by decide) ?_
      refine lv_ior hx hb d_PD_scrub_109 ?_
      refine lv_eqi (z := b2i (wr || !decide (xal R1 (2 * s + h) 5 = 0))) (by rw [← b2i_or]; rw [hc]; rfl) ?_
      refine lv_istore_n hx hb d_PD_scrub_110 rfl hl (by decide) rfl (fun ls hl => ?_)
      have hl : lv_has ls 8 [(3, .int _), (7, .int _), (5, .long _), (4, .int _), (2, .int _), (1, .int _), (0, .ref _)] := hl
      refine lv_iinc (k := 3) hx hb d_PD_scrub_111 hl rfl (nI_inc h) (by decide) rfl (fun ls hl => ?_)
      have hl : lv_has ls 8 [(4, .int _), (3, .int _), (7, .int _), (5, .long _), (2, .int _), (1, .int _), (0, .ref _)] := hl
      refine lv_goto (tgt := 26) hx hb d_PD_scrub_114 (by decide) ?_
      exact K H locs ls hP hS (lv_sub hl [0, 1, 4, 5, 6] rfl)
    · have hc : ¬ xal R1 (2 * s + h) 5 = 0 := fun z => hc ((lg_cmp_eq _ _).mpr z)
      refine lv_iconst (v := (nI 1)) hx hb d_PD_scrub_104 (by decide) ?_
      refine lv_goto (tgt := 109) hx hb d_PD_scrub_105 (by decide) ?_
      refine lv_ior hx hb d_PD_scrub_109 ?_
      refine lv_eqi (z := b2i (wr || !decide (xal R1 (2 * s + h) 5 = 0))) (by rw [← b2i_or]; rw [show (!decide (xal R1 (2 * s + h) 5 = 0)) = true by simp [hc]]; rfl) ?_
      refine lv_istore_n hx hb d_PD_scrub_110 rfl hl (by decide) rfl (fun ls hl => ?_)
      have hl : lv_has ls 8 [(3, .int _), (7, .int _), (5, .long _), (4, .int _), (2, .int _), (1, .int _), (0, .ref _)] := hl
      refine lv_iinc (k := 3) hx hb d_PD_scrub_111 hl rfl (nI_inc h) (by decide) rfl (fun ls hl => ?_)
      have hl : lv_has ls 8 [(4, .int _), (3, .int _), (7, .int _), (5, .long _), (2, .int _), (1, .int _), (0, .ref _)] := hl
      refine lv_goto (tgt := 26) hx hb d_PD_scrub_114 (by decide) ?_
      exact K H locs ls hP hS (lv_sub hl [0, 1, 4, 5, 6] rfl)
  have loop : ∀ (n s : Nat) (H : Heap) (locs : List Loc) (ls : Array Slot), s + n = 100 → PDp G x da ad ra u (sc u R s).1 H → va_S (pA x da ad ra) ss.heap H locs → lv_has ls 8 [(2, .int (nI s)), (1, .int (nI (sc u R s).2)), (0, .ref x)] → W pp l ee (Lv 3 0 0) ss mm ([.ref x] : List Value).toArray bl meth cd H locs 0 0 (MX bl (QM (some (.int (nI (sc u R 100).2))) (PDp G x da ad ra u (sc u R 100).1) (pA x da ad ra)) ([.ref x] : List Value).toArray ss 0 0 (pA x da ad ra)) (F0 mm 4 ls []) := by
    intro n
    induction n with
    | zero =>
      intro s H locs ls hs hP hS hl
      obtain rfl : s = 100 := by omega
      refine lv_iload_n hx hb d_PD_scrub_4 rfl (lv_at hl 0 rfl) ?_
      refine lv_bipush (v := nI 100) hx hb d_PD_scrub_5 (by decide) ?_
      refine nb_ge (tgt := 130) hx hb d_PD_scrub_7 (by decide) (by omega) (by omega) (fun _ => ?_) (fun hc => absurd hc (by omega))
      refine lv_iload_n hx hb d_PD_scrub_130 rfl (lv_at hl 1 rfl) ?_
      exact W.toX (W.iret hx hb hr (fun t ht _ => ⟨rfl, by rw [ht]; exact hP, hS.F ht⟩) hS.2.2 d_PD_scrub_131 hlocks)
    | succ n ih =>
      intro s H locs ls hs hP hS hl
      have hs1 : s < 100 := by omega
      have hle := sc_le u R s
      refine lv_iload_n hx hb d_PD_scrub_4 rfl (lv_at hl 0 rfl) ?_
      refine lv_bipush (v := nI 100) hx hb d_PD_scrub_5 (by decide) ?_
      refine nb_ge (tgt := 130) hx hb d_PD_scrub_7 (by decide) (by omega) (by omega) (fun hc => absurd hc (by omega)) (fun _ => ?_)
      refine lv_aload_n hx hb d_PD_scrub_10 rfl (lv_at hl 2 rfl) ?_
      refine lv_iload_n hx hb d_PD_scrub_11 rfl (lv_at hl 0 rfl) ?_
      refine rV hF sV_PD_45 (c_PD_barred l G hu (s := s) (by omega)) hP (rc_x hF.2.2.2.2 hP) (by decide) rfl rfl hl.1 (Nat.le_of_ble_eq_true rfl) d_PD_scrub_12 (by decide) ?_
      have hb32 := barF5 (usedB u s)
      refine lv_if_eq (tgt := 21) hx hb d_PD_scrub_15 (by decide) (fun hc => ?_) (fun hc => ?_)
      · have hc : barF (usedB u s) 5 = 0 := Decidable.byContradiction (fun z => nI_ne0 (by omega) (by omega) hc)
        have e1 : (sc u R (s + 1)).1 = hsR (hsR (sc u R s).1 s 0) s 1 := by show scS u (sc u R s).1 s = _; unfold scS; rw [if_pos hc]
        refine lv_iconst (v := (nI 0)) hx hb d_PD_scrub_21 (by decide) ?_
        refine lv_istore_n hx hb d_PD_scrub_22 rfl hl (by decide) rfl (fun ls hl => ?_)
        have hl : lv_has ls 8 [(3, .int _), (2, .int _), (1, .int _), (0, .ref _)] := hl
        refine lv_iconst (v := (nI 0)) hx hb d_PD_scrub_23 (by decide) ?_
        refine lv_istore hx hb d_PD_scrub_24 hl (by decide) rfl (fun ls hl => ?_)
        have hl : lv_has ls 8 [(4, .int _), (3, .int _), (2, .int _), (1, .int _), (0, .ref _)] := hl
        refine half (sc u R s).1 H locs s 0 (sc u R s).2 false ls hs1 (by decide) hP hS (lv_sub hl [0, 1, 2, 3, 4] rfl) (fun H locs ls hP hS hl => ?_)
        refine half (hsR (sc u R s).1 s 0) H locs s 1 (sc u R s).2 _ ls hs1 (by decide) hP hS hl (fun H locs ls hP hS hl => ?_)
        rw [← e1] at hP
        have hl : lv_has ls 8 [(4, .int (nI 2)), (3, .int (b2i (scW (sc u R s).1 s))), (2, .int (nI s)), (1, .int (nI (sc u R s).2)), (0, .ref x)] := hl
        refine lv_iload hx hb d_PD_scrub_26 (lv_at hl 0 rfl) ?_
        refine lv_iconst (v := (nI 2)) hx hb d_PD_scrub_28 (by decide) ?_
        refine nb_ge (tgt := 117) hx hb d_PD_scrub_29 (by decide) (by omega) (by omega) (fun _ => ?_) (fun hc => absurd hc (by omega))
        refine lv_iload_n hx hb d_PD_scrub_117 rfl (lv_at hl 1 rfl) ?_
        refine zb_eq (tgt := 124) hx hb d_PD_scrub_118 (by decide) (fun h2 => ?_) (fun h2 => ?_)
        · refine lv_iinc (k := 2) hx hb d_PD_scrub_124 hl rfl (nI_inc s) (by decide) rfl (fun ls hl => ?_)
          have hl : lv_has ls 8 [(2, .int _), (4, .int _), (3, .int _), (1, .int _), (0, .ref _)] := hl
          refine lv_goto (tgt := 4) hx hb d_PD_scrub_127 (by decide) ?_
          exact ih (s + 1) H locs ls (by omega) hP hS (lv_sub hl [0, 3, 4] (by simp [lv_pick, sc, h2]))
        · refine lv_iinc (k := 3) hx hb d_PD_scrub_121 hl rfl (nI_inc _) (by decide) rfl (fun ls hl => ?_)
          have hl : lv_has ls 8 [(1, .int _), (4, .int _), (3, .int _), (2, .int _), (0, .ref _)] := hl
          refine lv_iinc (k := 3) hx hb d_PD_scrub_124 hl rfl (nI_inc s) (by decide) rfl (fun ls hl => ?_)
          have hl : lv_has ls 8 [(2, .int _), (1, .int _), (4, .int _), (3, .int _), (0, .ref _)] := hl
          refine lv_goto (tgt := 4) hx hb d_PD_scrub_127 (by decide) ?_
          exact ih (s + 1) H locs ls (by omega) hP hS (lv_sub hl [0, 1, 4] (by simp [lv_pick, sc, hc, h2]))
      · have hc : ¬ barF (usedB u s) 5 = 0 := fun z => hc (by rw [z]; rfl)
        have e1 : (sc u R (s + 1)).1 = (sc u R s).1 := by show scS u (sc u R s).1 s = _; unfold scS; rw [if_neg hc]
        rw [← e1] at hP
        refine lv_goto (tgt := 124) hx hb d_PD_scrub_18 (by decide) ?_
        refine lv_iinc (k := 0) hx hb d_PD_scrub_124 hl rfl (nI_inc s) (by decide) rfl (fun ls hl => ?_)
        have hl : lv_has ls 8 [(2, .int _), (1, .int _), (0, .ref _)] := hl
        refine lv_goto (tgt := 4) hx hb d_PD_scrub_127 (by decide) ?_
        exact ih (s + 1) H locs ls (by omega) hP hS (lv_sub hl [0, 1, 2] (by simp [lv_pick, sc, hc]))
  exact loop 100 0 ss.heap [] ls rfl hP hS (lv_sub hl [0, 1, 2] rfl)
end
section
/-! the constructors -/
theorem cA_long {G : Gx} {s : State} {cA : ClassId} (hK : va_K G.1 classes (tyG G) s) (h : va_K G.1 classes (tyG G ++ [(cA, .long)]) s) : cA = G.2.1.2.1 := Option.some.inj ((h.2 3 _ rfl).2.symm.trans (hK.2 1 _ rfl).2)
theorem cA_int {G : Gx} {s : State} {cA : ClassId} (hK : va_K G.1 classes (tyG G) s) (h : va_K G.1 classes (tyG G ++ [(cA, .int)]) s) : cA = G.2.1.1 := Option.some.inj ((h.2 3 _ rfl).2.symm.trans (hK.2 0 _ rfl).2)
theorem cA_disk {G : Gx} {s : State} {cA : ClassId} (hK : va_K G.1 classes (tyG G) s) (h : va_K G.1 classes (tyG G ++ [(cA, .object "ParityDisks$Disk")]) s) : cA = G.2.1.2.2 := by
  obtain ⟨_, _, -, -, -, h1⟩ := (h.2 3 _ rfl).2
  obtain ⟨_, _, -, -, -, h2⟩ := (hK.2 2 _ rfl).2
  exact Option.some.inj (h1.symm.trans h2)
section CT
variable {p : Program} {l : Launch} {e : Env} {Rm : Room} {s : State} {m : MethodId} {args : Array Value} {below : List Frame} {meth : Method} {c : Code} {H : Heap} {locs : List Loc} {cells slots : Nat} {Q : State → Prop}
variable {cc : ByteArray} {nL pc : Nat} {ls : Array Slot} {rest : List Value} {G : Gx} {own : String} {A : Nat → Prop} {ws : va_W} {H0 : Heap}
theorem oi {a : Nat} {idx : Nat} (hF : Fx p m c cc nL s G own) (ht : Cond.methodLink own idx y_OB_init ∈ TB) (hls : ls.size = nL) (hd : decode cc pc = .ok (.invokespecial idx, 3)) (hR : 1 ≤ Rm.frames ∧ (rest.map fun v => v.category).sum + 12 ≤ Rm.locals) (k : W p l e Rm s m args below meth c H locs cells slots Q (F0 m (pc + 3) ls rest)) : W p l e Rm s m args below meth c H locs cells slots Q (F0 m pc ls (.ref a :: rest)) :=
  W.objInit hF.1 hF.2.1 hF.2.2.2.1 (hF.2.2.2.2.ts args _ ht) (hF.2.2.2.2.ts args _ t_16) (hF.2.2.2.2.ts args _ t_17) rfl (hls.trans hF.2.2.1.symm) rfl hd hR.1 (by show 2 * 0 + _ + 12 ≤ _; omega) k
theorem nw_long {n : Int32} {N : Nat} (hF : Fx p m c cc nL s G own) (hP : va_P G.1 classes ws H) (hD : va_D A ws) (hS : va_S A H0 H locs) (hA : ∀ q, H0.size ≤ q → A q) (hn : ¬ n < 0) (hN : n.toNatClampNeg = N) (hN2 : N ≤ 1000) (hcl : cells + 1 ≤ Rm.cells) (hsl : slots + N ≤ Rm.slots) (hd : decode cc pc = .ok (.newarray .long, 2))
    (kk : ∀ (q : Nat) (H1 : Heap), va_P G.1 classes (ws ++ [(q, .inl (G.2.1.2.1, N, .inr (.inl (fun _ => 0))))]) H1 → va_D A (ws ++ [(q, .inl (G.2.1.2.1, N, .inr (.inl (fun _ => 0))))]) → va_S A H0 H1 locs → W p l e Rm s m args below meth c H1 locs (cells + 1) (slots + N) Q (F0 m (pc + 2) ls (.ref q :: rest))) : W p l e Rm s m args below meth c H locs cells slots Q (F0 m pc ls (.int n :: rest)) := by
  refine va_newa (atype := .long) (ty := .long) (a0 := (N, .inr (.inl (fun _ => 0)))) hF.1 hF.2.1 (hF.2.2.2.2.ts args _ t_38) rfl hF.2.2.2.2.1 hP hD hS hA (fun _ => rfl) hn hN (by show N * 8 ≤ _; omega) hcl hsl hd (fun q cA H1 hK1 hP1 hD1 hS1 => ?_)
  obtain rfl := cA_long hF.2.2.2.2.1 hK1
  exact kk q H1 hP1 hD1 hS1
theorem nw_int {n : Int32} {N : Nat} (hF : Fx p m c cc nL s G own) (hP : va_P G.1 classes ws H) (hD : va_D A ws) (hS : va_S A H0 H locs) (hA : ∀ q, H0.size ≤ q → A q) (hn : ¬ n < 0) (hN : n.toNatClampNeg = N) (hN2 : N ≤ 1000) (hcl : cells + 1 ≤ Rm.cells) (hsl : slots + N ≤ Rm.slots) (hd : decode cc pc = .ok (.newarray .int, 2))
    (kk : ∀ (q : Nat) (H1 : Heap), va_P G.1 classes (ws ++ [(q, .inl (G.2.1.1, N, .inl (fun _ => 0)))]) H1 → va_D A (ws ++ [(q, .inl (G.2.1.1, N, .inl (fun _ => 0)))]) → va_S A H0 H1 locs → W p l e Rm s m args below meth c H1 locs (cells + 1) (slots + N) Q (F0 m (pc + 2) ls (.ref q :: rest))) : W p l e Rm s m args below meth c H locs cells slots Q (F0 m pc ls (.int n :: rest)) := by
  refine va_newa (atype := .int) (ty := .int) (a0 := (N, .inl (fun _ => 0))) hF.1 hF.2.1 (hF.2.2.2.2.ts args _ t_268) rfl hF.2.2.2.2.1 hP hD hS hA (fun _ => rfl) hn hN (by show N * 4 ≤ _; omega) hcl hsl hd (fun q cA H1 hK1 hP1 hD1 hS1 => ?_)
  obtain rfl := cA_int hF.2.2.2.2.1 hK1
  exact kk q H1 hP1 hD1 hS1
theorem nw_disk {n : Int32} {N : Nat} (hF : Fx p m c cc nL s G "ParityDisks") (hP : va_P G.1 classes ws H) (hD : va_D A ws) (hS : va_S A H0 H locs) (hA : ∀ q, H0.size ≤ q → A q) (hn : ¬ n < 0) (hN : n.toNatClampNeg = N) (hN2 : N ≤ 1000) (hcl : cells + 1 ≤ Rm.cells) (hsl : slots + N ≤ Rm.slots) (hd : decode cc pc = .ok (.anewarray 9, 3))
    (kk : ∀ (q : Nat) (H1 : Heap), va_P G.1 classes (ws ++ [(q, .inl (G.2.1.2.2, N, .inr (.inr (.inr (.inr (fun _ => none))))))]) H1 → va_D A (ws ++ [(q, .inl (G.2.1.2.2, N, .inr (.inr (.inr (.inr (fun _ => none))))))]) → va_S A H0 H1 locs → W p l e Rm s m args below meth c H1 locs (cells + 1) (slots + N) Q (F0 m (pc + 3) ls (.ref q :: rest))) : W p l e Rm s m args below meth c H locs cells slots Q (F0 m pc ls (.int n :: rest)) := by
  refine va_newq (C := "ParityDisks$Disk") hF.1 hF.2.1 hF.2.2.2.1 (hF.2.2.2.2.ts args _ t_18) hF.2.2.2.2.2.2.1.2 hF.2.2.2.2.1 hP hD hS hA hn hN (by omega) hcl hsl hd (fun q cA H1 hK1 hP1 hD1 hS1 => ?_)
  obtain rfl := cA_disk hF.2.2.2.2.1 hK1
  exact kk q H1 hP1 hD1 hS1
end CT
theorem arrV_cong {cI : ClassId} {N : Nat} {f g : Nat → Value} (h : ∀ j, j < N → f j = g j) : arrV cI N f = arrV cI N g := by
  unfold arrV
  congr 1
  congr 1
  funext j
  exact h j.val j.isLt
abbrev vfd (q : Nat) : va_W := [(q, .inr (1, [.null, .int 0, .int 0]))]
set_option maxHeartbeats 4000000 in
set_option maxRecDepth 100000 in
theorem c_DK_init (l : Launch) (G : Gx) (q sz : Nat) : MetX l y_DK_init [w_DK_init] (Lv 1 1 200) (Pq G [.ref q] (fun H => H.size = sz ∧ va_P G.1 classes (vfd q) H)) (fun _ st o t => o = .returned none ∧ ∃ r, va_P G.1 classes [(q, .inr (1, [.ref r, .int (nI 100), .int 0])), (r, .inl (G.2.1.2.1, 200, .inr (.inl (fun _ => 0))))] t.heap ∧ va_D (va_A (vfd q) sz) [(q, .inr (1, [.ref r, .int (nI 100), .int 0])), (r, .inl (G.2.1.2.1, 200, .inr (.inl (fun _ => 0))))] ∧ va_F (va_A (vfd q) sz) st t) 1 200 (va_A (vfd q) sz) := by
  refine hd_code (by decide +kernel) (Nat.le_of_ble_eq_true rfl) ?_
  intro pp ee ss mm bl meth cd ls hF hr hlocks hex hnm had hP hl
  have hx := hF.1
  have hb := hF.2.1
  have hl : lv_has ls 1 [(0, .ref _)] := hl
  obtain ⟨hsz, hP⟩ := hP
  subst hsz
  have hA : ∀ z : Nat, ss.heap.size ≤ z → va_A (vfd q) ss.heap.size z := fun z h => Or.inr h
  have hD : va_D (va_A (vfd q) ss.heap.size) (vfd q) := va_D.self (A := fun _ => True) (va_D_of (by simp) (fun _ _ => trivial))
  have hS : va_S (va_A (vfd q) ss.heap.size) ss.heap ss.heap [] := va_S.rf
  refine lv_aload_n hx hb d_DK_init_0 rfl (lv_at hl 0 rfl) ?_
  refine oi hF t_24 hl.1 d_DK_init_1 (by decide) ?_
  refine lv_aload_n hx hb d_DK_init_4 rfl (lv_at hl 0 rfl) ?_
  refine lv_sipush (v := nI 200) hx hb d_DK_init_5 (by decide) ?_
  refine nw_long (N := 200) hF hP hD hS hA (by decide) (by decide) (by decide) (by decide) (by decide) d_DK_init_8 (fun r H hP hD hS => ?_)
  have hP : va_P G.1 classes [(q, .inr (1, [.null, .int 0, .int 0])), (r, .inl (G.2.1.2.1, 200, .inr (.inl (fun _ => 0))))] H := hP
  have hD : va_D _ [(q, .inr (1, [.null, .int 0, .int 0])), (r, .inl (G.2.1.2.1, 200, .inr (.inl (fun _ => 0))))] := hD
  refine va_putF (D := G.1) (ci := 1) (v := .ref r) (ty := .array .long) (C := "ParityDisks$Disk") (T := F_DK) (N := 3) hx hb (hF.2.2.2.2.ts _) in_DK ft_DK ft_DK_ok n_DK hF.2.2.2.1 hF.2.2.2.2.1 hP hD hS 0 rfl rfl 0 (by decide) (hF.2.2.2.2.ts _ _ t_25) (fun _ h => h) rfl hnm rfl (by decide +kernel) rfl rfl (Nat.le_of_ble_eq_true rfl) d_DK_init_10 (fun H locs hP hD hS => ?_)
  refine lv_aload_n hx hb d_DK_init_13 rfl (lv_at hl 0 rfl) ?_
  refine lv_bipush (v := nI 100) hx hb d_DK_init_14 (by decide) ?_
  refine va_put (D := G.1) (ci := 1) (v := .int (nI 100)) (ty := .int) (C := "ParityDisks$Disk") (T := F_DK) (N := 3) hx hb (hF.2.2.2.2.ts _) in_DK ft_DK ft_DK_ok n_DK hF.2.2.2.1 hF.2.2.2.2.1 hP hD hS 0 rfl rfl 1 (by decide) (hF.2.2.2.2.ts _ _ t_27) (fun _ h => h) rfl (by decide +kernel) rfl rfl (Nat.le_of_ble_eq_true rfl) d_DK_init_16 (fun H locs hP hD hS => ?_)
  exact W.toX (W.vret (cells := 1) (slots := 200) hx hb hr (fun t ht _ => ⟨rfl, r, by rw [ht]; exact hP, hD, hS.F ht⟩) hS.2.2 d_DK_init_19 hlocks)
theorem nod_map {A : Nat → Prop} {ws : va_W} (hD : va_D A ws) : (ws.map Prod.fst).Nodup := by
  refine List.pairwise_iff_getElem.mpr (fun i j hi hj hij h9 => ?_)
  have h : (ws.map Prod.fst)[i]? = (ws.map Prod.fst)[j]? := by rw [List.getElem?_eq_getElem hi, List.getElem?_eq_getElem hj, h9]
  rw [List.length_map] at hj
  obtain ⟨c1, e1⟩ : ∃ c1, ws[i]? = some c1 := ⟨_, List.getElem?_eq_getElem (show i < ws.length by omega)⟩
  obtain ⟨c2, e2⟩ : ∃ c2, ws[j]? = some c2 := ⟨_, List.getElem?_eq_getElem hj⟩
  rw [List.getElem?_map, List.getElem?_map, e1, e2] at h
  have h2 := hD.1 i j c1 c2 e1 e2 (Option.some.inj h)
  omega
theorem in_map {A : Nat → Prop} {ws : va_W} (hD : va_D A ws) : ∀ z ∈ ws.map Prod.fst, A z := fun z hz => by
  obtain ⟨c, hc, rfl⟩ := List.mem_map.mp hz
  obtain ⟨k, hk⟩ := List.getElem?_of_mem hc
  exact hD.2 k c hk
set_option maxHeartbeats 4000000 in
set_option maxRecDepth 100000 in
theorem c_PD_init (l : Launch) (G : Gx) (x sz : Nat) : MetX l y_PD_init [w_PD_init] (Lv 2 11 1020) (Pq G [.ref x] (fun H => H.size = sz ∧ va_P G.1 classes [(x, .inr (0, [.null]))] H)) (fun _ st o t => o = .returned none ∧ ∃ da ad ra, pDs x da ad ra ∧ PDp G x da ad ra (fun _ => 101) (fun _ _ => 0) t.heap ∧ (∀ z, pA x da ad ra z → z = x ∨ st.heap.size ≤ z) ∧ va_F (fun z => z = x) st t) 11 1020 (fun z => z = x ∨ sz ≤ z) := by
  refine hd_code (by decide +kernel) (Nat.le_of_ble_eq_true rfl) ?_
  intro pp ee ss mm bl meth cd ls hF hr hlocks hex hnm had hP hl
  have hx := hF.1
  have hb := hF.2.1
  have hl : lv_has ls 2 [(0, .ref _)] := hl
  obtain ⟨hsz, hP⟩ := hP
  subst hsz
  generalize hAe : (fun z : Nat => z = x ∨ ss.heap.size ≤ z) = A
  have hA : ∀ z : Nat, ss.heap.size ≤ z → A z := fun z h => by rw [← hAe]; exact Or.inr h
  have hD : va_D A [(x, .inr (0, [.null]))] := va_D_of (by simp) (fun z hz => by rw [← hAe]; exact Or.inl (by simpa using hz))
  have hS : va_S A ss.heap ss.heap [] := va_S.rf
  refine lv_aload_n hx hb d_PD_init_0 rfl (lv_at hl 0 rfl) ?_
  refine oi hF t_15 hl.1 d_PD_init_1 (by decide) ?_
  refine lv_aload_n hx hb d_PD_init_4 rfl (lv_at hl 0 rfl) ?_
  refine lv_iconst (v := (nI 5)) hx hb d_PD_init_5 (by decide) ?_
  refine nw_disk (N := 5) hF hP hD hS hA (by decide) (by decide) (by decide) (by decide) (by decide) d_PD_init_6 (fun da H hP hD hS => ?_)
  have hP : va_P G.1 classes [(x, .inr (0, [.null])), (da, .inl (G.2.1.2.2, 5, .inr (.inr (.inr (.inr (fun _ => none))))))] H := hP
  have hD : va_D A [(x, .inr (0, [.null])), (da, .inl (G.2.1.2.2, 5, .inr (.inr (.inr (.inr (fun _ => none))))))] := hD
  refine va_putF (D := G.1) (ci := 0) (v := .ref da) (ty := .array (.object "ParityDisks$Disk")) (C := "ParityDisks") (T := F_PD) (N := 1) hx hb (hF.2.2.2.2.ts _) in_PD ft_PD ft_PD_ok n_PD hF.2.2.2.1 hF.2.2.2.2.1 hP hD hS 0 rfl rfl 0 (by decide) (hF.2.2.2.2.ts _ _ t_39) (fun _ h => h) rfl hnm rfl (by decide +kernel) rfl rfl (Nat.le_of_ble_eq_true rfl) d_PD_init_9 (fun H locs hP hD hS => ?_)
  have hP : va_P G.1 classes [(x, .inr (0, [.ref da])), (da, .inl (G.2.1.2.2, 5, .inr (.inr (.inr (.inr (fun _ => none))))))] H := hP
  have hD : va_D A [(x, .inr (0, [.ref da])), (da, .inl (G.2.1.2.2, 5, .inr (.inr (.inr (.inr (fun _ => none))))))] := hD
  refine lv_iconst (v := (nI 0)) hx hb d_PD_init_12 (by decide) ?_
  refine lv_istore_n hx hb d_PD_init_13 rfl hl (by decide) rfl (fun ls hl => ?_)
  have hl : lv_has ls 2 [(1, .int _), (0, .ref _)] := hl
  refine W.widen (k := 1) (n := 5) (by decide) (by decide) ?_
  refine lv_iload_n hx hb d_PD_init_14 rfl (lv_at hl 0 rfl) ?_
  refine lv_iconst (v := (nI 5)) hx hb d_PD_init_15 (by decide) ?_
  refine nb_ge (tgt := 38) hx hb d_PD_init_16 (by decide) (by decide) (by decide) (fun hc => absurd hc (by decide)) (fun _ => ?_)
  refine lv_aload_n hx hb d_PD_init_19 rfl (lv_at hl 1 rfl) ?_
  refine va_get (D := G.1) (ci := 0) (v := .ref da) (C := "ParityDisks") (T := F_PD) (N := 1) hx hb (hF.2.2.2.2.ts _) in_PD hF.2.2.2.1 hF.2.2.2.2.1 hP 0 rfl rfl 0 (by decide) (hF.2.2.2.2.ts _ _ t_39) (fun _ h => h) rfl d_PD_init_20 ?_
  refine lv_iload_n hx hb d_PD_init_23 rfl (lv_at hl 0 rfl) ?_
  refine va_new (D := G.1) (ci := 1) (fs := [.null, .int 0, .int 0]) (C := "ParityDisks$Disk") (T := F_DK) (N := 3) hx hb (hF.2.2.2.2.ts _) in_DK ft_DK ft_DK_ok hF.2.2.2.1 (hF.2.2.2.2.ts _ _ t_18) (hF.2.2.2.2.ts _ _ t_20) (hF.2.2.2.2.ts _ _ t_2) hF.2.2.2.2.1 hP hD hS hA rfl (fun j hj => by rcases (show j = 0 ∨ j = 1 ∨ j = 2 by omega) with rfl | rfl | rfl <;> rfl) (by decide) (by decide) d_PD_init_24 (fun q0 H hP hD hS => ?_)
  have hP : va_P G.1 classes [(x, .inr (0, [.ref da])), (da, .inl (G.2.1.2.2, 5, .inr (.inr (.inr (.inr (fun _ => none)))))), (q0, .inr (1, [.null, .int 0, .int 0]))] H := hP
  have hD : va_D A [(x, .inr (0, [.ref da])), (da, .inl (G.2.1.2.2, 5, .inr (.inr (.inr (.inr (fun _ => none)))))), (q0, .inr (1, [.null, .int 0, .int 0]))] := hD
  refine lv_dup hx hb d_PD_init_27 rfl ?_
  have hPc := hP.sub (ws' := vfd q0) [2] rfl
  have hFc := va_free (wc := vfd q0) hD hS hA [2] rfl
  refine cI (nest := true) (host := "ParityDisks") hF sI_PD_15 (va_Nw.use rfl hF.2.2.2.2.2.2.1.1) (c_DK_init l G q0 H.size) ⟨rfl, hPc⟩ ⟨rfl, rfl, by decide, by decide⟩ rfl rfl hl.1 (Nat.le_of_ble_eq_true rfl) d_PD_init_28 (by decide) (fun v2 st t L e1 hWt q9 hL => ?_) (fun z st t L e1 hWt q9 hL => by cases q9.1)
  obtain ⟨h1, r0, hP1, hD1, hF1⟩ := q9
  cases h1
  have hz9 := hF1.1
  have hk9 := hF1.2
  have hS := hS.call e1 hF1 hL (fun z _ h => hFc z h) hFc
  rw [e1] at hz9 hk9
  obtain ⟨hP, hD⟩ := va_join (wr := [(x, .inr (0, [.ref da])), (da, .inl (G.2.1.2.2, 5, .inr (.inr (.inr (.inr (fun _ => none))))))]) hP hD [2] [0, 1] rfl rfl (by decide) (by decide) hk9 hFc hP1 hD1
  clear hP1 hD1 hF1 hPc hFc hk9 hz9
  generalize t.heap = H at hP hS ⊢
  generalize (_ : List Loc) ++ L = locs at hS ⊢
  have hP : va_P G.1 classes [(x, .inr (0, [.ref da])), (da, .inl (G.2.1.2.2, 5, .inr (.inr (.inr (.inr (fun _ => none)))))), (q0, .inr (1, [.ref r0, .int (nI 100), .int 0])), (r0, .inl (G.2.1.2.1, 200, .inr (.inl (fun _ => 0))))] H := hP
  have hD : va_D A [(x, .inr (0, [.ref da])), (da, .inl (G.2.1.2.2, 5, .inr (.inr (.inr (.inr (fun _ => none)))))), (q0, .inr (1, [.ref r0, .int (nI 100), .int 0])), (r0, .inl (G.2.1.2.1, 200, .inr (.inl (fun _ => 0))))] := hD
  refine W.widen (k := 3) (n := 208) (by decide) (by decide) ?_
  show W pp l ee _ ss mm _ bl meth cd H locs _ _ _ (F0 mm 31 ls [.ref q0, .int (nI 0), .ref da])
  refine va_astq (D := G.1) hx hb hF.2.2.2.2.1 hP hD hS 1 2 2 1 rfl rfl rfl rfl (i := nI 0) (vp_in_nI (by decide) (by decide)) d_PD_init_31 (fun H locs hP hD hS => ?_)
  rw [nI_clamp (by decide)] at hP hD
  have hP : va_P G.1 classes [(x, .inr (0, [.ref da])), (da, .inl (G.2.1.2.2, 5, .inr (.inr (.inr (.inr (va_up (fun _ => none) 0 (some q0))))))), (q0, .inr (1, [.ref r0, .int (nI 100), .int 0])), (r0, .inl (G.2.1.2.1, 200, .inr (.inl (fun _ => 0))))] H := hP
  have hD : va_D A [(x, .inr (0, [.ref da])), (da, .inl (G.2.1.2.2, 5, .inr (.inr (.inr (.inr (va_up (fun _ => none) 0 (some q0))))))), (q0, .inr (1, [.ref r0, .int (nI 100), .int 0])), (r0, .inl (G.2.1.2.1, 200, .inr (.inl (fun _ => 0))))] := hD
  refine lv_iinc (k := 0) hx hb d_PD_init_32 hl rfl (v := nI 1) (by decide) (by decide) rfl (fun ls hl => ?_)
  have hl : lv_has ls 2 [(1, .int _), (0, .ref _)] := hl
  refine lv_goto (tgt := 14) hx hb d_PD_init_35 (by decide) ?_
  refine lv_iload_n hx hb d_PD_init_14 rfl (lv_at hl 0 rfl) ?_
  refine lv_iconst (v := (nI 5)) hx hb d_PD_init_15 (by decide) ?_
  refine nb_ge (tgt := 38) hx hb d_PD_init_16 (by decide) (by decide) (by decide) (fun hc => absurd hc (by decide)) (fun _ => ?_)
  refine lv_aload_n hx hb d_PD_init_19 rfl (lv_at hl 1 rfl) ?_
  refine va_get (D := G.1) (ci := 0) (v := .ref da) (C := "ParityDisks") (T := F_PD) (N := 1) hx hb (hF.2.2.2.2.ts _) in_PD hF.2.2.2.1 hF.2.2.2.2.1 hP 0 rfl rfl 0 (by decide) (hF.2.2.2.2.ts _ _ t_39) (fun _ h => h) rfl d_PD_init_20 ?_
  refine lv_iload_n hx hb d_PD_init_23 rfl (lv_at hl 0 rfl) ?_
  refine va_new (D := G.1) (ci := 1) (fs := [.null, .int 0, .int 0]) (C := "ParityDisks$Disk") (T := F_DK) (N := 3) hx hb (hF.2.2.2.2.ts _) in_DK ft_DK ft_DK_ok hF.2.2.2.1 (hF.2.2.2.2.ts _ _ t_18) (hF.2.2.2.2.ts _ _ t_20) (hF.2.2.2.2.ts _ _ t_2) hF.2.2.2.2.1 hP hD hS hA rfl (fun j hj => by rcases (show j = 0 ∨ j = 1 ∨ j = 2 by omega) with rfl | rfl | rfl <;> rfl) (by decide) (by decide) d_PD_init_24 (fun q1 H hP hD hS => ?_)
  have hP : va_P G.1 classes [(x, .inr (0, [.ref da])), (da, .inl (G.2.1.2.2, 5, .inr (.inr (.inr (.inr (va_up (fun _ => none) 0 (some q0))))))), (q0, .inr (1, [.ref r0, .int (nI 100), .int 0])), (r0, .inl (G.2.1.2.1, 200, .inr (.inl (fun _ => 0)))), (q1, .inr (1, [.null, .int 0, .int 0]))] H := hP
  have hD : va_D A [(x, .inr (0, [.ref da])), (da, .inl (G.2.1.2.2, 5, .inr (.inr (.inr (.inr (va_up (fun _ => none) 0 (some q0))))))), (q0, .inr (1, [.ref r0, .int (nI 100), .int 0])), (r0, .inl (G.2.1.2.1, 200, .inr (.inl (fun _ => 0)))), (q1, .inr (1, [.null, .int 0, .int 0]))] := hD
  refine lv_dup hx hb d_PD_init_27 rfl ?_
  have hPc := hP.sub (ws' := vfd q1) [4] rfl
  have hFc := va_free (wc := vfd q1) hD hS hA [4] rfl
  refine cI (nest := true) (host := "ParityDisks") hF sI_PD_15 (va_Nw.use rfl hF.2.2.2.2.2.2.1.1) (c_DK_init l G q1 H.size) ⟨rfl, hPc⟩ ⟨rfl, rfl, by decide, by decide⟩ rfl rfl hl.1 (Nat.le_of_ble_eq_true rfl) d_PD_init_28 (by decide) (fun v2 st t L e1 hWt q9 hL => ?_) (fun z st t L e1 hWt q9 hL => by cases q9.1)
  obtain ⟨h1, r1, hP1, hD1, hF1⟩ := q9
  cases h1
  have hz9 := hF1.1
  have hk9 := hF1.2
  have hS := hS.call e1 hF1 hL (fun z _ h => hFc z h) hFc
  rw [e1] at hz9 hk9
  obtain ⟨hP, hD⟩ := va_join (wr := [(x, .inr (0, [.ref da])), (da, .inl (G.2.1.2.2, 5, .inr (.inr (.inr (.inr (va_up (fun _ => none) 0 (some q0))))))), (q0, .inr (1, [.ref r0, .int (nI 100), .int 0])), (r0, .inl (G.2.1.2.1, 200, .inr (.inl (fun _ => 0))))]) hP hD [4] [0, 1, 2, 3] rfl rfl (by decide) (by decide) hk9 hFc hP1 hD1
  clear hP1 hD1 hF1 hPc hFc hk9 hz9
  generalize t.heap = H at hP hS ⊢
  generalize (_ : List Loc) ++ L = locs at hS ⊢
  have hP : va_P G.1 classes [(x, .inr (0, [.ref da])), (da, .inl (G.2.1.2.2, 5, .inr (.inr (.inr (.inr (va_up (fun _ => none) 0 (some q0))))))), (q0, .inr (1, [.ref r0, .int (nI 100), .int 0])), (r0, .inl (G.2.1.2.1, 200, .inr (.inl (fun _ => 0)))), (q1, .inr (1, [.ref r1, .int (nI 100), .int 0])), (r1, .inl (G.2.1.2.1, 200, .inr (.inl (fun _ => 0))))] H := hP
  have hD : va_D A [(x, .inr (0, [.ref da])), (da, .inl (G.2.1.2.2, 5, .inr (.inr (.inr (.inr (va_up (fun _ => none) 0 (some q0))))))), (q0, .inr (1, [.ref r0, .int (nI 100), .int 0])), (r0, .inl (G.2.1.2.1, 200, .inr (.inl (fun _ => 0)))), (q1, .inr (1, [.ref r1, .int (nI 100), .int 0])), (r1, .inl (G.2.1.2.1, 200, .inr (.inl (fun _ => 0))))] := hD
  refine W.widen (k := 5) (n := 411) (by decide) (by decide) ?_
  show W pp l ee _ ss mm _ bl meth cd H locs _ _ _ (F0 mm 31 ls [.ref q1, .int (nI 1), .ref da])
  refine va_astq (D := G.1) hx hb hF.2.2.2.2.1 hP hD hS 1 2 4 1 rfl rfl rfl rfl (i := nI 1) (vp_in_nI (by decide) (by decide)) d_PD_init_31 (fun H locs hP hD hS => ?_)
  rw [nI_clamp (by decide)] at hP hD
  have hP : va_P G.1 classes [(x, .inr (0, [.ref da])), (da, .inl (G.2.1.2.2, 5, .inr (.inr (.inr (.inr (va_up (va_up (fun _ => none) 0 (some q0)) 1 (some q1))))))), (q0, .inr (1, [.ref r0, .int (nI 100), .int 0])), (r0, .inl (G.2.1.2.1, 200, .inr (.inl (fun _ => 0)))), (q1, .inr (1, [.ref r1, .int (nI 100), .int 0])), (r1, .inl (G.2.1.2.1, 200, .inr (.inl (fun _ => 0))))] H := hP
  have hD : va_D A [(x, .inr (0, [.ref da])), (da, .inl (G.2.1.2.2, 5, .inr (.inr (.inr (.inr (va_up (va_up (fun _ => none) 0 (some q0)) 1 (some q1))))))), (q0, .inr (1, [.ref r0, .int (nI 100), .int 0])), (r0, .inl (G.2.1.2.1, 200, .inr (.inl (fun _ => 0)))), (q1, .inr (1, [.ref r1, .int (nI 100), .int 0])), (r1, .inl (G.2.1.2.1, 200, .inr (.inl (fun _ => 0))))] := hD
  refine lv_iinc (k := 0) hx hb d_PD_init_32 hl rfl (v := nI 2) (by decide) (by decide) rfl (fun ls hl => ?_)
  have hl : lv_has ls 2 [(1, .int _), (0, .ref _)] := hl
  refine lv_goto (tgt := 14) hx hb d_PD_init_35 (by decide) ?_
  refine lv_iload_n hx hb d_PD_init_14 rfl (lv_at hl 0 rfl) ?_
  refine lv_iconst (v := (nI 5)) hx hb d_PD_init_15 (by decide) ?_
  refine nb_ge (tgt := 38) hx hb d_PD_init_16 (by decide) (by decide) (by decide) (fun hc => absurd hc (by decide)) (fun _ => ?_)
  refine lv_aload_n hx hb d_PD_init_19 rfl (lv_at hl 1 rfl) ?_
  refine va_get (D := G.1) (ci := 0) (v := .ref da) (C := "ParityDisks") (T := F_PD) (N := 1) hx hb (hF.2.2.2.2.ts _) in_PD hF.2.2.2.1 hF.2.2.2.2.1 hP 0 rfl rfl 0 (by decide) (hF.2.2.2.2.ts _ _ t_39) (fun _ h => h) rfl d_PD_init_20 ?_
  refine lv_iload_n hx hb d_PD_init_23 rfl (lv_at hl 0 rfl) ?_
  refine va_new (D := G.1) (ci := 1) (fs := [.null, .int 0, .int 0]) (C := "ParityDisks$Disk") (T := F_DK) (N := 3) hx hb (hF.2.2.2.2.ts _) in_DK ft_DK ft_DK_ok hF.2.2.2.1 (hF.2.2.2.2.ts _ _ t_18) (hF.2.2.2.2.ts _ _ t_20) (hF.2.2.2.2.ts _ _ t_2) hF.2.2.2.2.1 hP hD hS hA rfl (fun j hj => by rcases (show j = 0 ∨ j = 1 ∨ j = 2 by omega) with rfl | rfl | rfl <;> rfl) (by decide) (by decide) d_PD_init_24 (fun q2 H hP hD hS => ?_)
  have hP : va_P G.1 classes [(x, .inr (0, [.ref da])), (da, .inl (G.2.1.2.2, 5, .inr (.inr (.inr (.inr (va_up (va_up (fun _ => none) 0 (some q0)) 1 (some q1))))))), (q0, .inr (1, [.ref r0, .int (nI 100), .int 0])), (r0, .inl (G.2.1.2.1, 200, .inr (.inl (fun _ => 0)))), (q1, .inr (1, [.ref r1, .int (nI 100), .int 0])), (r1, .inl (G.2.1.2.1, 200, .inr (.inl (fun _ => 0)))), (q2, .inr (1, [.null, .int 0, .int 0]))] H := hP
  have hD : va_D A [(x, .inr (0, [.ref da])), (da, .inl (G.2.1.2.2, 5, .inr (.inr (.inr (.inr (va_up (va_up (fun _ => none) 0 (some q0)) 1 (some q1))))))), (q0, .inr (1, [.ref r0, .int (nI 100), .int 0])), (r0, .inl (G.2.1.2.1, 200, .inr (.inl (fun _ => 0)))), (q1, .inr (1, [.ref r1, .int (nI 100), .int 0])), (r1, .inl (G.2.1.2.1, 200, .inr (.inl (fun _ => 0)))), (q2, .inr (1, [.null, .int 0, .int 0]))] := hD
  refine lv_dup hx hb d_PD_init_27 rfl ?_
  have hPc := hP.sub (ws' := vfd q2) [6] rfl
  have hFc := va_free (wc := vfd q2) hD hS hA [6] rfl
  refine cI (nest := true) (host := "ParityDisks") hF sI_PD_15 (va_Nw.use rfl hF.2.2.2.2.2.2.1.1) (c_DK_init l G q2 H.size) ⟨rfl, hPc⟩ ⟨rfl, rfl, by decide, by decide⟩ rfl rfl hl.1 (Nat.le_of_ble_eq_true rfl) d_PD_init_28 (by decide) (fun v2 st t L e1 hWt q9 hL => ?_) (fun z st t L e1 hWt q9 hL => by cases q9.1)
  obtain ⟨h1, r2, hP1, hD1, hF1⟩ := q9
  cases h1
  have hz9 := hF1.1
  have hk9 := hF1.2
  have hS := hS.call e1 hF1 hL (fun z _ h => hFc z h) hFc
  rw [e1] at hz9 hk9
  obtain ⟨hP, hD⟩ := va_join (wr := [(x, .inr (0, [.ref da])), (da, .inl (G.2.1.2.2, 5, .inr (.inr (.inr (.inr (va_up (va_up (fun _ => none) 0 (some q0)) 1 (some q1))))))), (q0, .inr (1, [.ref r0, .int (nI 100), .int 0])), (r0, .inl (G.2.1.2.1, 200, .inr (.inl (fun _ => 0)))), (q1, .inr (1, [.ref r1, .int (nI 100), .int 0])), (r1, .inl (G.2.1.2.1, 200, .inr (.inl (fun _ => 0))))]) hP hD [6] [0, 1, 2, 3, 4, 5] rfl rfl (by decide) (by decide) hk9 hFc hP1 hD1
  clear hP1 hD1 hF1 hPc hFc hk9 hz9
  generalize t.heap = H at hP hS ⊢
  generalize (_ : List Loc) ++ L = locs at hS ⊢
  have hP : va_P G.1 classes [(x, .inr (0, [.ref da])), (da, .inl (G.2.1.2.2, 5, .inr (.inr (.inr (.inr (va_up (va_up (fun _ => none) 0 (some q0)) 1 (some q1))))))), (q0, .inr (1, [.ref r0, .int (nI 100), .int 0])), (r0, .inl (G.2.1.2.1, 200, .inr (.inl (fun _ => 0)))), (q1, .inr (1, [.ref r1, .int (nI 100), .int 0])), (r1, .inl (G.2.1.2.1, 200, .inr (.inl (fun _ => 0)))), (q2, .inr (1, [.ref r2, .int (nI 100), .int 0])), (r2, .inl (G.2.1.2.1, 200, .inr (.inl (fun _ => 0))))] H := hP
  have hD : va_D A [(x, .inr (0, [.ref da])), (da, .inl (G.2.1.2.2, 5, .inr (.inr (.inr (.inr (va_up (va_up (fun _ => none) 0 (some q0)) 1 (some q1))))))), (q0, .inr (1, [.ref r0, .int (nI 100), .int 0])), (r0, .inl (G.2.1.2.1, 200, .inr (.inl (fun _ => 0)))), (q1, .inr (1, [.ref r1, .int (nI 100), .int 0])), (r1, .inl (G.2.1.2.1, 200, .inr (.inl (fun _ => 0)))), (q2, .inr (1, [.ref r2, .int (nI 100), .int 0])), (r2, .inl (G.2.1.2.1, 200, .inr (.inl (fun _ => 0))))] := hD
  refine W.widen (k := 7) (n := 614) (by decide) (by decide) ?_
  show W pp l ee _ ss mm _ bl meth cd H locs _ _ _ (F0 mm 31 ls [.ref q2, .int (nI 2), .ref da])
  refine va_astq (D := G.1) hx hb hF.2.2.2.2.1 hP hD hS 1 2 6 1 rfl rfl rfl rfl (i := nI 2) (vp_in_nI (by decide) (by decide)) d_PD_init_31 (fun H locs hP hD hS => ?_)
  rw [nI_clamp (by decide)] at hP hD
  have hP : va_P G.1 classes [(x, .inr (0, [.ref da])), (da, .inl (G.2.1.2.2, 5, .inr (.inr (.inr (.inr (va_up (va_up (va_up (fun _ => none) 0 (some q0)) 1 (some q1)) 2 (some q2))))))), (q0, .inr (1, [.ref r0, .int (nI 100), .int 0])), (r0, .inl (G.2.1.2.1, 200, .inr (.inl (fun _ => 0)))), (q1, .inr (1, [.ref r1, .int (nI 100), .int 0])), (r1, .inl (G.2.1.2.1, 200, .inr (.inl (fun _ => 0)))), (q2, .inr (1, [.ref r2, .int (nI 100), .int 0])), (r2, .inl (G.2.1.2.1, 200, .inr (.inl (fun _ => 0))))] H := hP
  have hD : va_D A [(x, .inr (0, [.ref da])), (da, .inl (G.2.1.2.2, 5, .inr (.inr (.inr (.inr (va_up (va_up (va_up (fun _ => none) 0 (some q0)) 1 (some q1)) 2 (some q2))))))), (q0, .inr (1, [.ref r0, .int (nI 100), .int 0])), (r0, .inl (G.2.1.2.1, 200, .inr (.inl (fun _ => 0)))), (q1, .inr (1, [.ref r1, .int (nI 100), .int 0])), (r1, .inl (G.2.1.2.1, 200, .inr (.inl (fun _ => 0)))), (q2, .inr (1, [.ref r2, .int (nI 100), .int 0])), (r2, .inl (G.2.1.2.1, 200, .inr (.inl (fun _ => 0))))] := hD
  refine lv_iinc (k := 0) hx hb d_PD_init_32 hl rfl (v := nI 3) (by decide) (by decide) rfl (fun ls hl => ?_)
  have hl : lv_has ls 2 [(1, .int _), (0, .ref _)] := hl
  refine lv_goto (tgt := 14) hx hb d_PD_init_35 (by decide) ?_
  refine lv_iload_n hx hb d_PD_init_14 rfl (lv_at hl 0 rfl) ?_
  refine lv_iconst (v := (nI 5)) hx hb d_PD_init_15 (by decide) ?_
  refine nb_ge (tgt := 38) hx hb d_PD_init_16 (by decide) (by decide) (by decide) (fun hc => absurd hc (by decide)) (fun _ => ?_)
  refine lv_aload_n hx hb d_PD_init_19 rfl (lv_at hl 1 rfl) ?_
  refine va_get (D := G.1) (ci := 0) (v := .ref da) (C := "ParityDisks") (T := F_PD) (N := 1) hx hb (hF.2.2.2.2.ts _) in_PD hF.2.2.2.1 hF.2.2.2.2.1 hP 0 rfl rfl 0 (by decide) (hF.2.2.2.2.ts _ _ t_39) (fun _ h => h) rfl d_PD_init_20 ?_
  refine lv_iload_n hx hb d_PD_init_23 rfl (lv_at hl 0 rfl) ?_
  refine va_new (D := G.1) (ci := 1) (fs := [.null, .int 0, .int 0]) (C := "ParityDisks$Disk") (T := F_DK) (N := 3) hx hb (hF.2.2.2.2.ts _) in_DK ft_DK ft_DK_ok hF.2.2.2.1 (hF.2.2.2.2.ts _ _ t_18) (hF.2.2.2.2.ts _ _ t_20) (hF.2.2.2.2.ts _ _ t_2) hF.2.2.2.2.1 hP hD hS hA rfl (fun j hj => by rcases (show j = 0 ∨ j = 1 ∨ j = 2 by omega) with rfl | rfl | rfl <;> rfl) (by decide) (by decide) d_PD_init_24 (fun q3 H hP hD hS => ?_)
  have hP : va_P G.1 classes [(x, .inr (0, [.ref da])), (da, .inl (G.2.1.2.2, 5, .inr (.inr (.inr (.inr (va_up (va_up (va_up (fun _ => none) 0 (some q0)) 1 (some q1)) 2 (some q2))))))), (q0, .inr (1, [.ref r0, .int (nI 100), .int 0])), (r0, .inl (G.2.1.2.1, 200, .inr (.inl (fun _ => 0)))), (q1, .inr (1, [.ref r1, .int (nI 100), .int 0])), (r1, .inl (G.2.1.2.1, 200, .inr (.inl (fun _ => 0)))), (q2, .inr (1, [.ref r2, .int (nI 100), .int 0])), (r2, .inl (G.2.1.2.1, 200, .inr (.inl (fun _ => 0)))), (q3, .inr (1, [.null, .int 0, .int 0]))] H := hP
  have hD : va_D A [(x, .inr (0, [.ref da])), (da, .inl (G.2.1.2.2, 5, .inr (.inr (.inr (.inr (va_up (va_up (va_up (fun _ => none) 0 (some q0)) 1 (some q1)) 2 (some q2))))))), (q0, .inr (1, [.ref r0, .int (nI 100), .int 0])), (r0, .inl (G.2.1.2.1, 200, .inr (.inl (fun _ => 0)))), (q1, .inr (1, [.ref r1, .int (nI 100), .int 0])), (r1, .inl (G.2.1.2.1, 200, .inr (.inl (fun _ => 0)))), (q2, .inr (1, [.ref r2, .int (nI 100), .int 0])), (r2, .inl (G.2.1.2.1, 200, .inr (.inl (fun _ => 0)))), (q3, .inr (1, [.null, .int 0, .int 0]))] := hD
  refine lv_dup hx hb d_PD_init_27 rfl ?_
  have hPc := hP.sub (ws' := vfd q3) [8] rfl
  have hFc := va_free (wc := vfd q3) hD hS hA [8] rfl
  refine cI (nest := true) (host := "ParityDisks") hF sI_PD_15 (va_Nw.use rfl hF.2.2.2.2.2.2.1.1) (c_DK_init l G q3 H.size) ⟨rfl, hPc⟩ ⟨rfl, rfl, by decide, by decide⟩ rfl rfl hl.1 (Nat.le_of_ble_eq_true rfl) d_PD_init_28 (by decide) (fun v2 st t L e1 hWt q9 hL => ?_) (fun z st t L e1 hWt q9 hL => by cases q9.1)
  obtain ⟨h1, r3, hP1, hD1, hF1⟩ := q9
  cases h1
  have hz9 := hF1.1
  have hk9 := hF1.2
  have hS := hS.call e1 hF1 hL (fun z _ h => hFc z h) hFc
  rw [e1] at hz9 hk9
  obtain ⟨hP, hD⟩ := va_join (wr := [(x, .inr (0, [.ref da])), (da, .inl (G.2.1.2.2, 5, .inr (.inr (.inr (.inr (va_up (va_up (va_up (fun _ => none) 0 (some q0)) 1 (some q1)) 2 (some q2))))))), (q0, .inr (1, [.ref r0, .int (nI 100), .int 0])), (r0, .inl (G.2.1.2.1, 200, .inr (.inl (fun _ => 0)))), (q1, .inr (1, [.ref r1, .int (nI 100), .int 0])), (r1, .inl (G.2.1.2.1, 200, .inr (.inl (fun _ => 0)))), (q2, .inr (1, [.ref r2, .int (nI 100), .int 0])), (r2, .inl (G.2.1.2.1, 200, .inr (.inl (fun _ => 0))))]) hP hD [8] [0, 1, 2, 3, 4, 5, 6, 7] rfl rfl (by decide) (by decide) hk9 hFc hP1 hD1
  clear hP1 hD1 hF1 hPc hFc hk9 hz9
  generalize t.heap = H at hP hS ⊢
  generalize (_ : List Loc) ++ L = locs at hS ⊢
  have hP : va_P G.1 classes [(x, .inr (0, [.ref da])), (da, .inl (G.2.1.2.2, 5, .inr (.inr (.inr (.inr (va_up (va_up (va_up (fun _ => none) 0 (some q0)) 1 (some q1)) 2 (some q2))))))), (q0, .inr (1, [.ref r0, .int (nI 100), .int 0])), (r0, .inl (G.2.1.2.1, 200, .inr (.inl (fun _ => 0)))), (q1, .inr (1, [.ref r1, .int (nI 100), .int 0])), (r1, .inl (G.2.1.2.1, 200, .inr (.inl (fun _ => 0)))), (q2, .inr (1, [.ref r2, .int (nI 100), .int 0])), (r2, .inl (G.2.1.2.1, 200, .inr (.inl (fun _ => 0)))), (q3, .inr (1, [.ref r3, .int (nI 100), .int 0])), (r3, .inl (G.2.1.2.1, 200, .inr (.inl (fun _ => 0))))] H := hP
  have hD : va_D A [(x, .inr (0, [.ref da])), (da, .inl (G.2.1.2.2, 5, .inr (.inr (.inr (.inr (va_up (va_up (va_up (fun _ => none) 0 (some q0)) 1 (some q1)) 2 (some q2))))))), (q0, .inr (1, [.ref r0, .int (nI 100), .int 0])), (r0, .inl (G.2.1.2.1, 200, .inr (.inl (fun _ => 0)))), (q1, .inr (1, [.ref r1, .int (nI 100), .int 0])), (r1, .inl (G.2.1.2.1, 200, .inr (.inl (fun _ => 0)))), (q2, .inr (1, [.ref r2, .int (nI 100), .int 0])), (r2, .inl (G.2.1.2.1, 200, .inr (.inl (fun _ => 0)))), (q3, .inr (1, [.ref r3, .int (nI 100), .int 0])), (r3, .inl (G.2.1.2.1, 200, .inr (.inl (fun _ => 0))))] := hD
  refine W.widen (k := 9) (n := 817) (by decide) (by decide) ?_
  show W pp l ee _ ss mm _ bl meth cd H locs _ _ _ (F0 mm 31 ls [.ref q3, .int (nI 3), .ref da])
  refine va_astq (D := G.1) hx hb hF.2.2.2.2.1 hP hD hS 1 2 8 1 rfl rfl rfl rfl (i := nI 3) (vp_in_nI (by decide) (by decide)) d_PD_init_31 (fun H locs hP hD hS => ?_)
  rw [nI_clamp (by decide)] at hP hD
  have hP : va_P G.1 classes [(x, .inr (0, [.ref da])), (da, .inl (G.2.1.2.2, 5, .inr (.inr (.inr (.inr (va_up (va_up (va_up (va_up (fun _ => none) 0 (some q0)) 1 (some q1)) 2 (some q2)) 3 (some q3))))))), (q0, .inr (1, [.ref r0, .int (nI 100), .int 0])), (r0, .inl (G.2.1.2.1, 200, .inr (.inl (fun _ => 0)))), (q1, .inr (1, [.ref r1, .int (nI 100), .int 0])), (r1, .inl (G.2.1.2.1, 200, .inr (.inl (fun _ => 0)))), (q2, .inr (1, [.ref r2, .int (nI 100), .int 0])), (r2, .inl (G.2.1.2.1, 200, .inr (.inl (fun _ => 0)))), (q3, .inr (1, [.ref r3, .int (nI 100), .int 0])), (r3, .inl (G.2.1.2.1, 200, .inr (.inl (fun _ => 0))))] H := hP
  have hD : va_D A [(x, .inr (0, [.ref da])), (da, .inl (G.2.1.2.2, 5, .inr (.inr (.inr (.inr (va_up (va_up (va_up (va_up (fun _ => none) 0 (some q0)) 1 (some q1)) 2 (some q2)) 3 (some q3))))))), (q0, .inr (1, [.ref r0, .int (nI 100), .int 0])), (r0, .inl (G.2.1.2.1, 200, .inr (.inl (fun _ => 0)))), (q1, .inr (1, [.ref r1, .int (nI 100), .int 0])), (r1, .inl (G.2.1.2.1, 200, .inr (.inl (fun _ => 0)))), (q2, .inr (1, [.ref r2, .int (nI 100), .int 0])), (r2, .inl (G.2.1.2.1, 200, .inr (.inl (fun _ => 0)))), (q3, .inr (1, [.ref r3, .int (nI 100), .int 0])), (r3, .inl (G.2.1.2.1, 200, .inr (.inl (fun _ => 0))))] := hD
  refine lv_iinc (k := 0) hx hb d_PD_init_32 hl rfl (v := nI 4) (by decide) (by decide) rfl (fun ls hl => ?_)
  have hl : lv_has ls 2 [(1, .int _), (0, .ref _)] := hl
  refine lv_goto (tgt := 14) hx hb d_PD_init_35 (by decide) ?_
  refine lv_iload_n hx hb d_PD_init_14 rfl (lv_at hl 0 rfl) ?_
  refine lv_iconst (v := (nI 5)) hx hb d_PD_init_15 (by decide) ?_
  refine nb_ge (tgt := 38) hx hb d_PD_init_16 (by decide) (by decide) (by decide) (fun hc => absurd hc (by decide)) (fun _ => ?_)
  refine lv_aload_n hx hb d_PD_init_19 rfl (lv_at hl 1 rfl) ?_
  refine va_get (D := G.1) (ci := 0) (v := .ref da) (C := "ParityDisks") (T := F_PD) (N := 1) hx hb (hF.2.2.2.2.ts _) in_PD hF.2.2.2.1 hF.2.2.2.2.1 hP 0 rfl rfl 0 (by decide) (hF.2.2.2.2.ts _ _ t_39) (fun _ h => h) rfl d_PD_init_20 ?_
  refine lv_iload_n hx hb d_PD_init_23 rfl (lv_at hl 0 rfl) ?_
  refine va_new (D := G.1) (ci := 1) (fs := [.null, .int 0, .int 0]) (C := "ParityDisks$Disk") (T := F_DK) (N := 3) hx hb (hF.2.2.2.2.ts _) in_DK ft_DK ft_DK_ok hF.2.2.2.1 (hF.2.2.2.2.ts _ _ t_18) (hF.2.2.2.2.ts _ _ t_20) (hF.2.2.2.2.ts _ _ t_2) hF.2.2.2.2.1 hP hD hS hA rfl (fun j hj => by rcases (show j = 0 ∨ j = 1 ∨ j = 2 by omega) with rfl | rfl | rfl <;> rfl) (by decide) (by decide) d_PD_init_24 (fun q4 H hP hD hS => ?_)
  have hP : va_P G.1 classes [(x, .inr (0, [.ref da])), (da, .inl (G.2.1.2.2, 5, .inr (.inr (.inr (.inr (va_up (va_up (va_up (va_up (fun _ => none) 0 (some q0)) 1 (some q1)) 2 (some q2)) 3 (some q3))))))), (q0, .inr (1, [.ref r0, .int (nI 100), .int 0])), (r0, .inl (G.2.1.2.1, 200, .inr (.inl (fun _ => 0)))), (q1, .inr (1, [.ref r1, .int (nI 100), .int 0])), (r1, .inl (G.2.1.2.1, 200, .inr (.inl (fun _ => 0)))), (q2, .inr (1, [.ref r2, .int (nI 100), .int 0])), (r2, .inl (G.2.1.2.1, 200, .inr (.inl (fun _ => 0)))), (q3, .inr (1, [.ref r3, .int (nI 100), .int 0])), (r3, .inl (G.2.1.2.1, 200, .inr (.inl (fun _ => 0)))), (q4, .inr (1, [.null, .int 0, .int 0]))] H := hP
  have hD : va_D A [(x, .inr (0, [.ref da])), (da, .inl (G.2.1.2.2, 5, .inr (.inr (.inr (.inr (va_up (va_up (va_up (va_up (fun _ => none) 0 (some q0)) 1 (some q1)) 2 (some q2)) 3 (some q3))))))), (q0, .inr (1, [.ref r0, .int (nI 100), .int 0])), (r0, .inl (G.2.1.2.1, 200, .inr (.inl (fun _ => 0)))), (q1, .inr (1, [.ref r1, .int (nI 100), .int 0])), (r1, .inl (G.2.1.2.1, 200, .inr (.inl (fun _ => 0)))), (q2, .inr (1, [.ref r2, .int (nI 100), .int 0])), (r2, .inl (G.2.1.2.1, 200, .inr (.inl (fun _ => 0)))), (q3, .inr (1, [.ref r3, .int (nI 100), .int 0])), (r3, .inl (G.2.1.2.1, 200, .inr (.inl (fun _ => 0)))), (q4, .inr (1, [.null, .int 0, .int 0]))] := hD
  refine lv_dup hx hb d_PD_init_27 rfl ?_
  have hPc := hP.sub (ws' := vfd q4) [10] rfl
  have hFc := va_free (wc := vfd q4) hD hS hA [10] rfl
  refine cI (nest := true) (host := "ParityDisks") hF sI_PD_15 (va_Nw.use rfl hF.2.2.2.2.2.2.1.1) (c_DK_init l G q4 H.size) ⟨rfl, hPc⟩ ⟨rfl, rfl, by decide, by decide⟩ rfl rfl hl.1 (Nat.le_of_ble_eq_true rfl) d_PD_init_28 (by decide) (fun v2 st t L e1 hWt q9 hL => ?_) (fun z st t L e1 hWt q9 hL => by cases q9.1)
  obtain ⟨h1, r4, hP1, hD1, hF1⟩ := q9
  cases h1
  have hz9 := hF1.1
  have hk9 := hF1.2
  have hS := hS.call e1 hF1 hL (fun z _ h => hFc z h) hFc
  rw [e1] at hz9 hk9
  obtain ⟨hP, hD⟩ := va_join (wr := [(x, .inr (0, [.ref da])), (da, .inl (G.2.1.2.2, 5, .inr (.inr (.inr (.inr (va_up (va_up (va_up (va_up (fun _ => none) 0 (some q0)) 1 (some q1)) 2 (some q2)) 3 (some q3))))))), (q0, .inr (1, [.ref r0, .int (nI 100), .int 0])), (r0, .inl (G.2.1.2.1, 200, .inr (.inl (fun _ => 0)))), (q1, .inr (1, [.ref r1, .int (nI 100), .int 0])), (r1, .inl (G.2.1.2.1, 200, .inr (.inl (fun _ => 0)))), (q2, .inr (1, [.ref r2, .int (nI 100), .int 0])), (r2, .inl (G.2.1.2.1, 200, .inr (.inl (fun _ => 0)))), (q3, .inr (1, [.ref r3, .int (nI 100), .int 0])), (r3, .inl (G.2.1.2.1, 200, .inr (.inl (fun _ => 0))))]) hP hD [10] [0, 1, 2, 3, 4, 5, 6, 7, 8, 9] rfl rfl (by decide) (by decide) hk9 hFc hP1 hD1
  clear hP1 hD1 hF1 hPc hFc hk9 hz9
  generalize t.heap = H at hP hS ⊢
  generalize (_ : List Loc) ++ L = locs at hS ⊢
  have hP : va_P G.1 classes [(x, .inr (0, [.ref da])), (da, .inl (G.2.1.2.2, 5, .inr (.inr (.inr (.inr (va_up (va_up (va_up (va_up (fun _ => none) 0 (some q0)) 1 (some q1)) 2 (some q2)) 3 (some q3))))))), (q0, .inr (1, [.ref r0, .int (nI 100), .int 0])), (r0, .inl (G.2.1.2.1, 200, .inr (.inl (fun _ => 0)))), (q1, .inr (1, [.ref r1, .int (nI 100), .int 0])), (r1, .inl (G.2.1.2.1, 200, .inr (.inl (fun _ => 0)))), (q2, .inr (1, [.ref r2, .int (nI 100), .int 0])), (r2, .inl (G.2.1.2.1, 200, .inr (.inl (fun _ => 0)))), (q3, .inr (1, [.ref r3, .int (nI 100), .int 0])), (r3, .inl (G.2.1.2.1, 200, .inr (.inl (fun _ => 0)))), (q4, .inr (1, [.ref r4, .int (nI 100), .int 0])), (r4, .inl (G.2.1.2.1, 200, .inr (.inl (fun _ => 0))))] H := hP
  have hD : va_D A [(x, .inr (0, [.ref da])), (da, .inl (G.2.1.2.2, 5, .inr (.inr (.inr (.inr (va_up (va_up (va_up (va_up (fun _ => none) 0 (some q0)) 1 (some q1)) 2 (some q2)) 3 (some q3))))))), (q0, .inr (1, [.ref r0, .int (nI 100), .int 0])), (r0, .inl (G.2.1.2.1, 200, .inr (.inl (fun _ => 0)))), (q1, .inr (1, [.ref r1, .int (nI 100), .int 0])), (r1, .inl (G.2.1.2.1, 200, .inr (.inl (fun _ => 0)))), (q2, .inr (1, [.ref r2, .int (nI 100), .int 0])), (r2, .inl (G.2.1.2.1, 200, .inr (.inl (fun _ => 0)))), (q3, .inr (1, [.ref r3, .int (nI 100), .int 0])), (r3, .inl (G.2.1.2.1, 200, .inr (.inl (fun _ => 0)))), (q4, .inr (1, [.ref r4, .int (nI 100), .int 0])), (r4, .inl (G.2.1.2.1, 200, .inr (.inl (fun _ => 0))))] := hD
  refine W.widen (k := 11) (n := 1020) (by decide) (by decide) ?_
  show W pp l ee _ ss mm _ bl meth cd H locs _ _ _ (F0 mm 31 ls [.ref q4, .int (nI 4), .ref da])
  refine va_astq (D := G.1) hx hb hF.2.2.2.2.1 hP hD hS 1 2 10 1 rfl rfl rfl rfl (i := nI 4) (vp_in_nI (by decide) (by decide)) d_PD_init_31 (fun H locs hP hD hS => ?_)
  rw [nI_clamp (by decide)] at hP hD
  have hP : va_P G.1 classes [(x, .inr (0, [.ref da])), (da, .inl (G.2.1.2.2, 5, .inr (.inr (.inr (.inr (va_up (va_up (va_up (va_up (va_up (fun _ => none) 0 (some q0)) 1 (some q1)) 2 (some q2)) 3 (some q3)) 4 (some q4))))))), (q0, .inr (1, [.ref r0, .int (nI 100), .int 0])), (r0, .inl (G.2.1.2.1, 200, .inr (.inl (fun _ => 0)))), (q1, .inr (1, [.ref r1, .int (nI 100), .int 0])), (r1, .inl (G.2.1.2.1, 200, .inr (.inl (fun _ => 0)))), (q2, .inr (1, [.ref r2, .int (nI 100), .int 0])), (r2, .inl (G.2.1.2.1, 200, .inr (.inl (fun _ => 0)))), (q3, .inr (1, [.ref r3, .int (nI 100), .int 0])), (r3, .inl (G.2.1.2.1, 200, .inr (.inl (fun _ => 0)))), (q4, .inr (1, [.ref r4, .int (nI 100), .int 0])), (r4, .inl (G.2.1.2.1, 200, .inr (.inl (fun _ => 0))))] H := hP
  have hD : va_D A [(x, .inr (0, [.ref da])), (da, .inl (G.2.1.2.2, 5, .inr (.inr (.inr (.inr (va_up (va_up (va_up (va_up (va_up (fun _ => none) 0 (some q0)) 1 (some q1)) 2 (some q2)) 3 (some q3)) 4 (some q4))))))), (q0, .inr (1, [.ref r0, .int (nI 100), .int 0])), (r0, .inl (G.2.1.2.1, 200, .inr (.inl (fun _ => 0)))), (q1, .inr (1, [.ref r1, .int (nI 100), .int 0])), (r1, .inl (G.2.1.2.1, 200, .inr (.inl (fun _ => 0)))), (q2, .inr (1, [.ref r2, .int (nI 100), .int 0])), (r2, .inl (G.2.1.2.1, 200, .inr (.inl (fun _ => 0)))), (q3, .inr (1, [.ref r3, .int (nI 100), .int 0])), (r3, .inl (G.2.1.2.1, 200, .inr (.inl (fun _ => 0)))), (q4, .inr (1, [.ref r4, .int (nI 100), .int 0])), (r4, .inl (G.2.1.2.1, 200, .inr (.inl (fun _ => 0))))] := hD
  refine lv_iinc (k := 0) hx hb d_PD_init_32 hl rfl (v := nI 5) (by decide) (by decide) rfl (fun ls hl => ?_)
  have hl : lv_has ls 2 [(1, .int _), (0, .ref _)] := hl
  refine lv_goto (tgt := 14) hx hb d_PD_init_35 (by decide) ?_
  refine lv_iload_n hx hb d_PD_init_14 rfl (lv_at hl 0 rfl) ?_
  refine lv_iconst (v := (nI 5)) hx hb d_PD_init_15 (by decide) ?_
  refine nb_ge (tgt := 38) hx hb d_PD_init_16 (by decide) (by decide) (by decide) (fun _ => ?_) (fun hc => absurd hc (by decide))
  let ad : Nat → Nat := fun i => if i = 0 then q0 else if i = 1 then q1 else if i = 2 then q2 else if i = 3 then q3 else q4
  let ra : Nat → Nat := fun i => if i = 0 then r0 else if i = 1 then r1 else if i = 2 then r2 else if i = 3 then r3 else r4
  have hP9 : va_P G.1 classes [(x, .inr (0, [.ref da])), (da, .inl (G.2.1.2.2, 5, .inr (.inr (.inr (.inr (va_up (va_up (va_up (va_up (va_up (fun _ => none) 0 (some q0)) 1 (some q1)) 2 (some q2)) 3 (some q3)) 4 (some q4))))))), (q0, .inr (1, [.ref r0, .int (nI 100), .int 0])), (q1, .inr (1, [.ref r1, .int (nI 100), .int 0])), (q2, .inr (1, [.ref r2, .int (nI 100), .int 0])), (q3, .inr (1, [.ref r3, .int (nI 100), .int 0])), (q4, .inr (1, [.ref r4, .int (nI 100), .int 0])), (r0, .inl (G.2.1.2.1, 200, .inr (.inl (fun _ => 0)))), (r1, .inl (G.2.1.2.1, 200, .inr (.inl (fun _ => 0)))), (r2, .inl (G.2.1.2.1, 200, .inr (.inl (fun _ => 0)))), (r3, .inl (G.2.1.2.1, 200, .inr (.inl (fun _ => 0)))), (r4, .inl (G.2.1.2.1, 200, .inr (.inl (fun _ => 0))))] H := hP.sub [0, 1, 2, 4, 6, 8, 10, 3, 5, 7, 9, 11] rfl
  have hD9 := hD.sub (ws' := [(x, .inr (0, [.ref da])), (da, .inl (G.2.1.2.2, 5, .inr (.inr (.inr (.inr (va_up (va_up (va_up (va_up (va_up (fun _ => none) 0 (some q0)) 1 (some q1)) 2 (some q2)) 3 (some q3)) 4 (some q4))))))), (q0, .inr (1, [.ref r0, .int (nI 100), .int 0])), (q1, .inr (1, [.ref r1, .int (nI 100), .int 0])), (q2, .inr (1, [.ref r2, .int (nI 100), .int 0])), (q3, .inr (1, [.ref r3, .int (nI 100), .int 0])), (q4, .inr (1, [.ref r4, .int (nI 100), .int 0])), (r0, .inl (G.2.1.2.1, 200, .inr (.inl (fun _ => 0)))), (r1, .inl (G.2.1.2.1, 200, .inr (.inl (fun _ => 0)))), (r2, .inl (G.2.1.2.1, 200, .inr (.inl (fun _ => 0)))), (r3, .inl (G.2.1.2.1, 200, .inr (.inl (fun _ => 0)))), (r4, .inl (G.2.1.2.1, 200, .inr (.inl (fun _ => 0))))]) [0, 1, 2, 4, 6, 8, 10, 3, 5, 7, 9, 11] (by decide) rfl
  have hP8 : PDp G x da ad ra (fun _ => 101) (fun _ _ => 0) H := by
    intro k c9 hk9
    by_cases h1 : k = 1
    · subst h1
      cases hk9
      have h2 : H[da]? = some (vp_cell _ _) := hP9 1 _ rfl
      show H[da]? = some (vp_cell _ _)
      rw [h2, vp_cell_q, vp_cell_q]
      refine congrArg some (arrV_cong (fun j hj => ?_))
      rcases (show j = 0 ∨ j = 1 ∨ j = 2 ∨ j = 3 ∨ j = 4 by omega) with rfl | rfl | rfl | rfl | rfl <;> rfl
    · refine hP9 k c9 ?_
      rw [← hk9]
      rcases k with _ | _ | k
      · rfl
      · exact absurd rfl h1
      · rfl
  have hDs : pDs x da ad ra := nod_map hD9
  have hAp : ∀ z, pA x da ad ra z → A z := fun z hz => in_map hD9 z hz
  exact W.toX (W.vret (cells := 11) (slots := 1020) hx hb hr (fun t ht _ => ⟨rfl, da, ad, ra, hDs, by rw [ht]; exact hP8, fun z hz => by have h9 := hAp z hz; rw [← hAe] at h9; exact h9, by rw [ht]; exact hS.1, fun z h1 h2 => by rw [ht]; exact hS.2.1 z h1 (by rw [← hAe]; exact fun h9 => h9.elim h2 (fun h8 => by omega))⟩) hS.2.2 d_PD_init_38 hlocks)
set_option maxHeartbeats 4000000 in
set_option maxRecDepth 100000 in
theorem c_MO_init (l : Launch) (G : Gx) (y sz : Nat) : MetX l y_MO_init [w_MO_init] (Lv 1 2 1005) (Pq G [.ref y] (fun H => H.size = sz ∧ va_P G.1 classes [(y, .inr (2, [.int 0, .null, .null]))] H)) (fun _ st o t => o = .returned none ∧ ∃ sa ua, mDs y sa ua ∧ MOp G y sa ua 0 (fun _ => 101) (fun _ _ => 0) t.heap ∧ (∀ z, mA y sa ua z → z = y ∨ st.heap.size ≤ z) ∧ va_F (fun z => z = y) st t) 2 1005 (fun z => z = y ∨ sz ≤ z) := by
  refine hd_code (by decide +kernel) (Nat.le_of_ble_eq_true rfl) ?_
  intro pp ee ss mm bl meth cd ls hF hr hlocks hex hnm had hP hl
  have hx := hF.1
  have hb := hF.2.1
  have hl : lv_has ls 2 [(0, .ref _)] := hl
  obtain ⟨hsz, hP⟩ := hP
  subst hsz
  generalize hAe : (fun z : Nat => z = y ∨ ss.heap.size ≤ z) = A
  have hA : ∀ z : Nat, ss.heap.size ≤ z → A z := fun z h => by rw [← hAe]; exact Or.inr h
  have hD : va_D A [(y, .inr (2, [.int 0, .null, .null]))] := va_D_of (by simp) (fun z hz => by rw [← hAe]; exact Or.inl (by simpa using hz))
  have hS : va_S A ss.heap ss.heap [] := va_S.rf
  refine lv_aload_n hx hb d_MO_init_0 rfl (lv_at hl 0 rfl) ?_
  refine oi hF t_257 hl.1 d_MO_init_1 (by decide) ?_
  refine lv_aload_n hx hb d_MO_init_4 rfl (lv_at hl 0 rfl) ?_
  refine lv_sipush (v := nI 1000) hx hb d_MO_init_5 (by decide) ?_
  refine nw_long (N := 1000) hF hP hD hS hA (by decide) (by decide) (by decide) (by decide) (by decide) d_MO_init_8 (fun sa H hP hD hS => ?_)
  have hP : va_P G.1 classes [(y, .inr (2, [.int 0, .null, .null])), (sa, .inl (G.2.1.2.1, 1000, .inr (.inl (fun _ => 0))))] H := hP
  have hD : va_D A [(y, .inr (2, [.int 0, .null, .null])), (sa, .inl (G.2.1.2.1, 1000, .inr (.inl (fun _ => 0))))] := hD
  refine W.widen (k := 1) (n := 1000) (by decide) (by decide) ?_
  refine va_putF (D := G.1) (ci := 2) (v := .ref sa) (ty := .array .long) (C := "ParityDisksModel") (T := F_MO) (N := 3) hx hb (hF.2.2.2.2.ts _) in_MO ft_MO ft_MO_ok n_MO hF.2.2.2.1 hF.2.2.2.2.1 hP hD hS 0 rfl rfl 1 (by decide) (hF.2.2.2.2.ts _ _ t_259) (fun _ h => h) rfl hnm rfl (by decide +kernel) rfl rfl (Nat.le_of_ble_eq_true rfl) d_MO_init_10 (fun H locs hP hD hS => ?_)
  have hP : va_P G.1 classes [(y, .inr (2, [.int 0, .ref sa, .null])), (sa, .inl (G.2.1.2.1, 1000, .inr (.inl (fun _ => 0))))] H := hP
  have hD : va_D A [(y, .inr (2, [.int 0, .ref sa, .null])), (sa, .inl (G.2.1.2.1, 1000, .inr (.inl (fun _ => 0))))] := hD
  refine lv_aload_n hx hb d_MO_init_13 rfl (lv_at hl 0 rfl) ?_
  refine lv_iconst (v := (nI 5)) hx hb d_MO_init_14 (by decide) ?_
  refine nw_int (N := 5) hF hP hD hS hA (by decide) (by decide) (by decide) (by decide) (by decide) d_MO_init_15 (fun ua H hP hD hS => ?_)
  have hP : va_P G.1 classes [(y, .inr (2, [.int 0, .ref sa, .null])), (sa, .inl (G.2.1.2.1, 1000, .inr (.inl (fun _ => 0)))), (ua, .inl (G.2.1.1, 5, .inl (fun _ => 0)))] H := hP
  have hD : va_D A [(y, .inr (2, [.int 0, .ref sa, .null])), (sa, .inl (G.2.1.2.1, 1000, .inr (.inl (fun _ => 0)))), (ua, .inl (G.2.1.1, 5, .inl (fun _ => 0)))] := hD
  refine W.widen (k := 2) (n := 1005) (by decide) (by decide) ?_
  refine va_putF (D := G.1) (ci := 2) (v := .ref ua) (ty := .array .int) (C := "ParityDisksModel") (T := F_MO) (N := 3) hx hb (hF.2.2.2.2.ts _) in_MO ft_MO ft_MO_ok n_MO hF.2.2.2.1 hF.2.2.2.2.1 hP hD hS 0 rfl rfl 2 (by decide) (hF.2.2.2.2.ts _ _ t_260) (fun _ h => h) rfl hnm rfl (by decide +kernel) rfl rfl (Nat.le_of_ble_eq_true rfl) d_MO_init_17 (fun H locs hP hD hS => ?_)
  have hP : va_P G.1 classes [(y, .inr (2, [.int 0, .ref sa, .ref ua])), (sa, .inl (G.2.1.2.1, 1000, .inr (.inl (fun _ => 0)))), (ua, .inl (G.2.1.1, 5, .inl (fun _ => 0)))] H := hP
  have hD : va_D A [(y, .inr (2, [.int 0, .ref sa, .ref ua])), (sa, .inl (G.2.1.2.1, 1000, .inr (.inl (fun _ => 0)))), (ua, .inl (G.2.1.1, 5, .inl (fun _ => 0)))] := hD
  refine lv_iconst (v := (nI 0)) hx hb d_MO_init_20 (by decide) ?_
  refine lv_istore_n hx hb d_MO_init_21 rfl hl (by decide) rfl (fun ls hl => ?_)
  have hl : lv_has ls 2 [(1, .int _), (0, .ref _)] := hl
  refine lv_iload_n hx hb d_MO_init_22 rfl (lv_at hl 0 rfl) ?_
  refine lv_iconst (v := (nI 5)) hx hb d_MO_init_23 (by decide) ?_
  refine nb_ge (tgt := 41) hx hb d_MO_init_24 (by decide) (by decide) (by decide) (fun hc => absurd hc (by decide)) (fun _ => ?_)
  refine lv_aload_n hx hb d_MO_init_27 rfl (lv_at hl 1 rfl) ?_
  refine va_get (D := G.1) (ci := 2) (v := .ref ua) (C := "ParityDisksModel") (T := F_MO) (N := 3) hx hb (hF.2.2.2.2.ts _) in_MO hF.2.2.2.1 hF.2.2.2.2.1 hP 0 rfl rfl 2 (by decide) (hF.2.2.2.2.ts _ _ t_260) (fun _ h => h) rfl d_MO_init_28 ?_
  refine lv_iload_n hx hb d_MO_init_31 rfl (lv_at hl 0 rfl) ?_
  refine lv_bipush (v := nI 100) hx hb d_MO_init_32 (by decide) ?_
  refine va_iast (D := G.1) hx hb hF.2.2.2.2.1 hP hD hS 2 0 rfl rfl (i := nI 0) (vp_in_nI (by decide) (by decide)) d_MO_init_34 (fun H locs hP hD hS => ?_)
  rw [nI_clamp (by decide)] at hP hD
  have hP : va_P G.1 classes [(y, .inr (2, [.int 0, .ref sa, .ref ua])), (sa, .inl (G.2.1.2.1, 1000, .inr (.inl (fun _ => 0)))), (ua, .inl (G.2.1.1, 5, .inl (upd (fun _ => 0) 0 (nI 100))))] H := hP
  have hD : va_D A [(y, .inr (2, [.int 0, .ref sa, .ref ua])), (sa, .inl (G.2.1.2.1, 1000, .inr (.inl (fun _ => 0)))), (ua, .inl (G.2.1.1, 5, .inl (upd (fun _ => 0) 0 (nI 100))))] := hD
  refine lv_iinc (k := 0) hx hb d_MO_init_35 hl rfl (v := nI 1) (by decide) (by decide) rfl (fun ls hl => ?_)
  have hl : lv_has ls 2 [(1, .int _), (0, .ref _)] := hl
  refine lv_goto (tgt := 22) hx hb d_MO_init_38 (by decide) ?_
  refine lv_iload_n hx hb d_MO_init_22 rfl (lv_at hl 0 rfl) ?_
  refine lv_iconst (v := (nI 5)) hx hb d_MO_init_23 (by decide) ?_
  refine nb_ge (tgt := 41) hx hb d_MO_init_24 (by decide) (by decide) (by decide) (fun hc => absurd hc (by decide)) (fun _ => ?_)
  refine lv_aload_n hx hb d_MO_init_27 rfl (lv_at hl 1 rfl) ?_
  refine va_get (D := G.1) (ci := 2) (v := .ref ua) (C := "ParityDisksModel") (T := F_MO) (N := 3) hx hb (hF.2.2.2.2.ts _) in_MO hF.2.2.2.1 hF.2.2.2.2.1 hP 0 rfl rfl 2 (by decide) (hF.2.2.2.2.ts _ _ t_260) (fun _ h => h) rfl d_MO_init_28 ?_
  refine lv_iload_n hx hb d_MO_init_31 rfl (lv_at hl 0 rfl) ?_
  refine lv_bipush (v := nI 100) hx hb d_MO_init_32 (by decide) ?_
  refine va_iast (D := G.1) hx hb hF.2.2.2.2.1 hP hD hS 2 0 rfl rfl (i := nI 1) (vp_in_nI (by decide) (by decide)) d_MO_init_34 (fun H locs hP hD hS => ?_)
  rw [nI_clamp (by decide)] at hP hD
  have hP : va_P G.1 classes [(y, .inr (2, [.int 0, .ref sa, .ref ua])), (sa, .inl (G.2.1.2.1, 1000, .inr (.inl (fun _ => 0)))), (ua, .inl (G.2.1.1, 5, .inl (upd (upd (fun _ => 0) 0 (nI 100)) 1 (nI 100))))] H := hP
  have hD : va_D A [(y, .inr (2, [.int 0, .ref sa, .ref ua])), (sa, .inl (G.2.1.2.1, 1000, .inr (.inl (fun _ => 0)))), (ua, .inl (G.2.1.1, 5, .inl (upd (upd (fun _ => 0) 0 (nI 100)) 1 (nI 100))))] := hD
  refine lv_iinc (k := 0) hx hb d_MO_init_35 hl rfl (v := nI 2) (by decide) (by decide) rfl (fun ls hl => ?_)
  have hl : lv_has ls 2 [(1, .int _), (0, .ref _)] := hl
  refine lv_goto (tgt := 22) hx hb d_MO_init_38 (by decide) ?_
  refine lv_iload_n hx hb d_MO_init_22 rfl (lv_at hl 0 rfl) ?_
  refine lv_iconst (v := (nI 5)) hx hb d_MO_init_23 (by decide) ?_
  refine nb_ge (tgt := 41) hx hb d_MO_init_24 (by decide) (by decide) (by decide) (fun hc => absurd hc (by decide)) (fun _ => ?_)
  refine lv_aload_n hx hb d_MO_init_27 rfl (lv_at hl 1 rfl) ?_
  refine va_get (D := G.1) (ci := 2) (v := .ref ua) (C := "ParityDisksModel") (T := F_MO) (N := 3) hx hb (hF.2.2.2.2.ts _) in_MO hF.2.2.2.1 hF.2.2.2.2.1 hP 0 rfl rfl 2 (by decide) (hF.2.2.2.2.ts _ _ t_260) (fun _ h => h) rfl d_MO_init_28 ?_
  refine lv_iload_n hx hb d_MO_init_31 rfl (lv_at hl 0 rfl) ?_
  refine lv_bipush (v := nI 100) hx hb d_MO_init_32 (by decide) ?_
  refine va_iast (D := G.1) hx hb hF.2.2.2.2.1 hP hD hS 2 0 rfl rfl (i := nI 2) (vp_in_nI (by decide) (by decide)) d_MO_init_34 (fun H locs hP hD hS => ?_)
  rw [nI_clamp (by decide)] at hP hD
  have hP : va_P G.1 classes [(y, .inr (2, [.int 0, .ref sa, .ref ua])), (sa, .inl (G.2.1.2.1, 1000, .inr (.inl (fun _ => 0)))), (ua, .inl (G.2.1.1, 5, .inl (upd (upd (upd (fun _ => 0) 0 (nI 100)) 1 (nI 100)) 2 (nI 100))))] H := hP
  have hD : va_D A [(y, .inr (2, [.int 0, .ref sa, .ref ua])), (sa, .inl (G.2.1.2.1, 1000, .inr (.inl (fun _ => 0)))), (ua, .inl (G.2.1.1, 5, .inl (upd (upd (upd (fun _ => 0) 0 (nI 100)) 1 (nI 100)) 2 (nI 100))))] := hD
  refine lv_iinc (k := 0) hx hb d_MO_init_35 hl rfl (v := nI 3) (by decide) (by decide) rfl (fun ls hl => ?_)
  have hl : lv_has ls 2 [(1, .int _), (0, .ref _)] := hl
  refine lv_goto (tgt := 22) hx hb d_MO_init_38 (by decide) ?_
  refine lv_iload_n hx hb d_MO_init_22 rfl (lv_at hl 0 rfl) ?_
  refine lv_iconst (v := (nI 5)) hx hb d_MO_init_23 (by decide) ?_
  refine nb_ge (tgt := 41) hx hb d_MO_init_24 (by decide) (by decide) (by decide) (fun hc => absurd hc (by decide)) (fun _ => ?_)
  refine lv_aload_n hx hb d_MO_init_27 rfl (lv_at hl 1 rfl) ?_
  refine va_get (D := G.1) (ci := 2) (v := .ref ua) (C := "ParityDisksModel") (T := F_MO) (N := 3) hx hb (hF.2.2.2.2.ts _) in_MO hF.2.2.2.1 hF.2.2.2.2.1 hP 0 rfl rfl 2 (by decide) (hF.2.2.2.2.ts _ _ t_260) (fun _ h => h) rfl d_MO_init_28 ?_
  refine lv_iload_n hx hb d_MO_init_31 rfl (lv_at hl 0 rfl) ?_
  refine lv_bipush (v := nI 100) hx hb d_MO_init_32 (by decide) ?_
  refine va_iast (D := G.1) hx hb hF.2.2.2.2.1 hP hD hS 2 0 rfl rfl (i := nI 3) (vp_in_nI (by decide) (by decide)) d_MO_init_34 (fun H locs hP hD hS => ?_)
  rw [nI_clamp (by decide)] at hP hD
  have hP : va_P G.1 classes [(y, .inr (2, [.int 0, .ref sa, .ref ua])), (sa, .inl (G.2.1.2.1, 1000, .inr (.inl (fun _ => 0)))), (ua, .inl (G.2.1.1, 5, .inl (upd (upd (upd (upd (fun _ => 0) 0 (nI 100)) 1 (nI 100)) 2 (nI 100)) 3 (nI 100))))] H := hP
  have hD : va_D A [(y, .inr (2, [.int 0, .ref sa, .ref ua])), (sa, .inl (G.2.1.2.1, 1000, .inr (.inl (fun _ => 0)))), (ua, .inl (G.2.1.1, 5, .inl (upd (upd (upd (upd (fun _ => 0) 0 (nI 100)) 1 (nI 100)) 2 (nI 100)) 3 (nI 100))))] := hD
  refine lv_iinc (k := 0) hx hb d_MO_init_35 hl rfl (v := nI 4) (by decide) (by decide) rfl (fun ls hl => ?_)
  have hl : lv_has ls 2 [(1, .int _), (0, .ref _)] := hl
  refine lv_goto (tgt := 22) hx hb d_MO_init_38 (by decide) ?_
  refine lv_iload_n hx hb d_MO_init_22 rfl (lv_at hl 0 rfl) ?_
  refine lv_iconst (v := (nI 5)) hx hb d_MO_init_23 (by decide) ?_
  refine nb_ge (tgt := 41) hx hb d_MO_init_24 (by decide) (by decide) (by decide) (fun hc => absurd hc (by decide)) (fun _ => ?_)
  refine lv_aload_n hx hb d_MO_init_27 rfl (lv_at hl 1 rfl) ?_
  refine va_get (D := G.1) (ci := 2) (v := .ref ua) (C := "ParityDisksModel") (T := F_MO) (N := 3) hx hb (hF.2.2.2.2.ts _) in_MO hF.2.2.2.1 hF.2.2.2.2.1 hP 0 rfl rfl 2 (by decide) (hF.2.2.2.2.ts _ _ t_260) (fun _ h => h) rfl d_MO_init_28 ?_
  refine lv_iload_n hx hb d_MO_init_31 rfl (lv_at hl 0 rfl) ?_
  refine lv_bipush (v := nI 100) hx hb d_MO_init_32 (by decide) ?_
  refine va_iast (D := G.1) hx hb hF.2.2.2.2.1 hP hD hS 2 0 rfl rfl (i := nI 4) (vp_in_nI (by decide) (by decide)) d_MO_init_34 (fun H locs hP hD hS => ?_)
  rw [nI_clamp (by decide)] at hP hD
  have hP : va_P G.1 classes [(y, .inr (2, [.int 0, .ref sa, .ref ua])), (sa, .inl (G.2.1.2.1, 1000, .inr (.inl (fun _ => 0)))), (ua, .inl (G.2.1.1, 5, .inl (upd (upd (upd (upd (upd (fun _ => 0) 0 (nI 100)) 1 (nI 100)) 2 (nI 100)) 3 (nI 100)) 4 (nI 100))))] H := hP
  have hD : va_D A [(y, .inr (2, [.int 0, .ref sa, .ref ua])), (sa, .inl (G.2.1.2.1, 1000, .inr (.inl (fun _ => 0)))), (ua, .inl (G.2.1.1, 5, .inl (upd (upd (upd (upd (upd (fun _ => 0) 0 (nI 100)) 1 (nI 100)) 2 (nI 100)) 3 (nI 100)) 4 (nI 100))))] := hD
  refine lv_iinc (k := 0) hx hb d_MO_init_35 hl rfl (v := nI 5) (by decide) (by decide) rfl (fun ls hl => ?_)
  have hl : lv_has ls 2 [(1, .int _), (0, .ref _)] := hl
  refine lv_goto (tgt := 22) hx hb d_MO_init_38 (by decide) ?_
  refine lv_iload_n hx hb d_MO_init_22 rfl (lv_at hl 0 rfl) ?_
  refine lv_iconst (v := (nI 5)) hx hb d_MO_init_23 (by decide) ?_
  refine nb_ge (tgt := 41) hx hb d_MO_init_24 (by decide) (by decide) (by decide) (fun _ => ?_) (fun hc => absurd hc (by decide))
  have hP8 : MOp G y sa ua 0 (fun _ => 101) (fun _ _ => 0) H := by
    intro k c9 hk9
    by_cases h1 : k = 2
    · subst h1
      cases hk9
      have h2 : H[ua]? = some (vp_cell _ _) := hP 2 _ rfl
      show H[ua]? = some (vp_cell _ _)
      rw [h2, vp_cell_i, vp_cell_i]
      refine congrArg some (arrV_cong (fun j hj => ?_))
      have e9 : mup 101 = nI 100 := by decide
      rw [e9]
      rcases (show j = 0 ∨ j = 1 ∨ j = 2 ∨ j = 3 ∨ j = 4 by omega) with rfl | rfl | rfl | rfl | rfl <;> simp [upd]
    · rcases k with _ | _ | _ | k
      · cases hk9; exact hP 0 _ rfl
      · cases hk9; exact hP 1 _ rfl
      · exact absurd rfl h1
      · cases hk9
  have hDs : mDs y sa ua := nod_map hD
  have hAp : ∀ z, mA y sa ua z → A z := fun z hz => in_map hD z hz
  exact W.toX (W.vret (cells := 2) (slots := 1005) hx hb hr (fun t ht _ => ⟨rfl, sa, ua, hDs, by rw [ht]; exact hP8, fun z hz => by have h9 := hAp z hz; rw [← hAe] at h9; exact h9, by rw [ht]; exact hS.1, fun z h1 h2 => by rw [ht]; exact hS.2.1 z h1 (by rw [← hAe]; exact fun h9 => h9.elim h2 (fun h8 => by omega))⟩) hS.2.2 d_MO_init_41 hlocks)
end
section
/-! the reference's small methods -/
theorem mup_toInt {n : Nat} (h : n ≤ 1000) : (mup n).toInt = (n : Int) - 1 := by
  have h1 : mup n = nI n - nI 1 := rfl
  rw [h1, pk_sub_toInt (by omega) (by decide)]
  rfl
theorem mup_le {n s : Nat} (h : n ≤ 1000) (hs : s < 2 ^ 31) : mup n ≤ nI s ↔ n ≤ s + 1 := by
  rw [Int32.le_iff_toInt_le, mup_toInt h, nI_toInt hs]
  omega
theorem mup_lt0 {n : Nat} (h : n ≤ 1000) : mup n < 0 ↔ n = 0 := by
  rw [Int32.lt_iff_toInt_lt, mup_toInt h, Int32.toInt_zero]
  omega
theorem mup_100 {n : Nat} (h : n ≤ 1000) : mup n = nI 100 ↔ n = 101 := by
  rw [← Int32.toInt_inj, mup_toInt h, nI_toInt (by decide)]
  omega
theorem mup_ge100 {n : Nat} (h : n ≤ 1000) : nI 100 ≤ mup n ↔ 101 ≤ n := by
  rw [Int32.le_iff_toInt_le, mup_toInt h, nI_toInt (by decide)]
  omega
theorem mup_nI {n : Nat} (h : ¬ n = 0) : mup n = nI (n - 1) := by
  obtain ⟨k, rfl⟩ : ∃ k, n = k + 1 := ⟨n - 1, by omega⟩
  exact nI_pred k
theorem okH_iff (h : Int32) : okH h = true ↔ ¬ h < 0 ∧ h ≤ nI 1 := by
  simp only [okH, Bool.or_eq_true, decide_eq_true_eq]
  rw [Int32.lt_iff_toInt_lt, Int32.le_iff_toInt_le, Int32.toInt_zero, nI_toInt (by decide), ← Int32.toInt_inj, ← Int32.toInt_inj, Int32.toInt_zero, nI_toInt (by decide)]
  omega
set_option maxHeartbeats 4000000 in
set_option maxRecDepth 100000 in
theorem c_MO_thrown (l : Launch) (G : Gx) {y sa ua : Nat} {er : Int32} {u : Nat → Nat} {R : Nat → Nat → Int64} : RI l G y_MO_thrown w_MO_thrown 0 [.ref y] (MOp G y sa ua er u R) (.int er) := by
  refine hd_code (by decide +kernel) (Nat.le_of_ble_eq_true rfl) ?_
  intro pp ee ss mm bl meth cd ls hF hr hlocks hex hnm had hP hl
  have hx := hF.1
  have hb := hF.2.1
  have hl : lv_has ls 1 [(0, .ref _)] := hl
  refine lv_aload_n hx hb d_MO_thrown_0 rfl (lv_at hl 0 rfl) ?_
  refine mg_E hF hP d_MO_thrown_1 ?_
  exact ri_i hF hr hlocks rfl d_MO_thrown_4
set_option maxHeartbeats 4000000 in
set_option maxRecDepth 100000 in
theorem c_MO_fails (l : Launch) (G : Gx) {y sa ua : Nat} {er : Int32} {f : Nat → Int64} {g : Nat → Int32} (hDs : mDs y sa ua) (b : Bool) (why : Int32) : MetX l y_MO_fails [w_MO_fails] (Lv 0 0 0) (Pq G [.ref y, .int (b2i b), .int why] (MOg G y sa ua er f g)) (QM (some (.int (b2i b))) (MOg G y sa ua (if b = true then why else nI 0) f g) (mA y sa ua)) 0 0 (mA y sa ua) := by
  refine hd_code (by decide +kernel) (Nat.le_of_ble_eq_true rfl) ?_
  intro pp ee ss mm bl meth cd ls hF hr hlocks hex hnm had hP hl
  have hx := hF.1
  have hb := hF.2.1
  have hl : lv_has ls 3 [(0, .ref _), (1, .int _), (2, .int _)] := hl
  have hS : va_S (mA y sa ua) ss.heap ss.heap [] := va_S.rf
  refine lv_aload_n hx hb d_MO_fails_0 rfl (lv_at hl 0 rfl) ?_
  refine lv_iload_n hx hb d_MO_fails_1 rfl (lv_at hl 1 rfl) ?_
  refine zb_eq (tgt := 9) hx hb d_MO_fails_2 (by decide) (fun hc => ?_) (fun hc => ?_)
  · refine lv_iconst (v := (nI 0)) hx hb d_MO_fails_9 (by decide) ?_
    refine mp_E hDs hF hP hS d_MO_fails_10 (fun H locs hP hS => ?_)
    refine lv_iload_n hx hb d_MO_fails_13 rfl (lv_at hl 1 rfl) ?_
    rw [hc]
    exact W.toX (W.zret hx hb hr (by rfl) (fun t ht _ => ⟨rfl, by rw [ht]; exact hP, hS.F ht⟩) hS.2.2 d_MO_fails_14 hlocks)
  · refine lv_iload_n hx hb d_MO_fails_5 rfl (lv_at hl 2 rfl) ?_
    refine lv_goto (tgt := 10) hx hb d_MO_fails_6 (by decide) ?_
    refine mp_E hDs hF hP hS d_MO_fails_10 (fun H locs hP hS => ?_)
    refine lv_iload_n hx hb d_MO_fails_13 rfl (lv_at hl 1 rfl) ?_
    rw [hc]
    exact W.toX (W.zret hx hb hr (by rfl) (fun t ht _ => ⟨rfl, by rw [ht]; exact hP, hS.F ht⟩) hS.2.2 d_MO_fails_14 hlocks)
set_option maxHeartbeats 4000000 in
set_option maxRecDepth 100000 in
theorem c_MO_at (l : Launch) (G : Gx) (d s h : Nat) (P : Heap → Prop) : RI l G y_MO_at w_MO_at 0 [.int (nI d), .int (nI s), .int (nI h)] P (.int (nI (200 * d + (2 * s + h)))) := by
  refine hd_code (by decide +kernel) (Nat.le_of_ble_eq_true rfl) ?_
  intro pp ee ss mm bl meth cd ls hF hr hlocks hex hnm had hP hl
  have hx := hF.1
  have hb := hF.2.1
  have hl : lv_has ls 3 [(0, .int _), (1, .int _), (2, .int _)] := hl
  refine lv_iload_n hx hb d_MO_at_0 rfl (lv_at hl 0 rfl) ?_
  refine lv_bipush (v := nI 100) hx hb d_MO_at_1 (by decide) ?_
  refine lv_imul hx hb d_MO_at_3 ?_
  refine lv_iload_n hx hb d_MO_at_4 rfl (lv_at hl 1 rfl) ?_
  refine lv_iadd hx hb d_MO_at_5 ?_
  refine lv_iconst (v := (nI 2)) hx hb d_MO_at_6 (by decide) ?_
  refine lv_imul hx hb d_MO_at_7 ?_
  refine lv_iload_n hx hb d_MO_at_8 rfl (lv_at hl 2 rfl) ?_
  refine lv_iadd hx hb d_MO_at_9 ?_
  exact ri_i hF hr hlocks (by rw [pk_mul, nI_add, pk_mul, nI_add]; congr 1; omega) d_MO_at_10
set_option maxHeartbeats 4000000 in
set_option maxRecDepth 100000 in
theorem c_MO_usable (l : Launch) (G : Gx) {y sa ua : Nat} {er : Int32} {u : Nat → Nat} {R : Nat → Nat → Int64} (hu : uok u) {i s : Nat} (hi : i < 5) (hs : s < 2 ^ 31) : RI l G y_MO_usable w_MO_usable 0 [.ref y, .int (nI i), .int (nI s)] (MOp G y sa ua er u R) (.int (b2i (usedB u s i))) := by
  refine hd_code (by decide +kernel) (Nat.le_of_ble_eq_true rfl) ?_
  intro pp ee ss mm bl meth cd ls hF hr hlocks hex hnm had hP hl
  have hx := hF.1
  have hb := hF.2.1
  have hl : lv_has ls 3 [(0, .ref _), (1, .int _), (2, .int _)] := hl
  refine lv_aload_n hx hb d_MO_usable_0 rfl (lv_at hl 0 rfl) ?_
  refine mg_U hF hP d_MO_usable_1 ?_
  refine lv_iload_n hx hb d_MO_usable_4 rfl (lv_at hl 1 rfl) ?_
  refine ml_U hi hF hP d_MO_usable_5 ?_
  refine lv_iload_n hx hb d_MO_usable_6 rfl (lv_at hl 2 rfl) ?_
  have hui := hu i hi
  refine lv_icmp_le (tgt := 14) hx hb d_MO_usable_7 (by decide) (fun hc => ?_) (fun hc => ?_)
  · have hc := (mup_le (by omega) hs).mp hc
    refine lv_iconst (v := (nI 0)) hx hb d_MO_usable_14 (by decide) ?_
    exact ri_z hF hr hlocks (by rw [show usedB u s i = false from decide_eq_false (by omega)]; rfl) (b2i_01 _) d_MO_usable_15
  · have hc : ¬ u i ≤ s + 1 := fun z => hc ((mup_le (by omega) hs).mpr z)
    refine lv_iconst (v := (nI 1)) hx hb d_MO_usable_10 (by decide) ?_
    refine lv_goto (tgt := 15) hx hb d_MO_usable_11 (by decide) ?_
    exact ri_z hF hr hlocks (by rw [show usedB u s i = true from decide_eq_true (by omega)]; rfl) (b2i_01 _) d_MO_usable_15
def anyB (u : Nat → Nat) (d s : Nat) : Nat → Bool
  | 0 => false
  | n + 1 => anyB u d s n || (n != d && !usedB u s n)
theorem lostB_any (u : Nat → Nat) (d s : Nat) : lostB u d s = (!usedB u s d && anyB u d s 5) := by
  simp [lostB, anyB, List.range_succ, Bool.or_assoc]
theorem anyB_up (u : Nat → Nat) (d s : Nat) {k : Nat} (h : anyB u d s k = true) : ∀ n, anyB u d s (k + n) = true
  | 0 => h
  | n + 1 => by
    show (anyB u d s (k + n) || _) = true
    rw [anyB_up u d s h n]
    rfl
set_option maxHeartbeats 4000000 in
set_option maxRecDepth 100000 in
theorem c_MO_gone (l : Launch) (G : Gx) {y sa ua : Nat} {er : Int32} {u : Nat → Nat} {R : Nat → Nat → Int64} (hu : uok u) {d s : Nat} (hd : d < 5) (hs : s < 2 ^ 31) : RI l G y_MO_gone w_MO_gone 1 [.ref y, .int (nI d), .int (nI s)] (MOp G y sa ua er u R) (.int (b2i (lostB u d s))) := by
  refine hd_code (by decide +kernel) (Nat.le_of_ble_eq_true rfl) ?_
  intro pp ee ss mm bl meth cd ls hF hr hlocks hex hnm had hP hl
  have hx := hF.1
  have hb := hF.2.1
  have hl : lv_has ls 4 [(0, .ref _), (1, .int _), (2, .int _)] := hl
  refine lv_aload_n hx hb d_MO_gone_0 rfl (lv_at hl 0 rfl) ?_
  refine lv_iload_n hx hb d_MO_gone_1 rfl (lv_at hl 1 rfl) ?_
  refine lv_iload_n hx hb d_MO_gone_2 rfl (lv_at hl 2 rfl) ?_
  refine rV hF sV_MO_21 (c_MO_usable l G hu hd hs) hP (rc_y hF.2.2.2.2 hP) (by decide) rfl rfl hl.1 (Nat.le_of_ble_eq_true rfl) d_MO_gone_3 (by decide) ?_
  refine zb_eq (tgt := 11) hx hb d_MO_gone_6 (by decide) (fun hc => ?_) (fun hc => ?_)
  · have hv : lostB u d s = anyB u d s 5 := by rw [lostB_any, hc]; rfl
    rw [hv]
    refine lv_iconst (v := (nI 0)) hx hb d_MO_gone_11 (by decide) ?_
    refine lv_istore_n hx hb d_MO_gone_12 rfl hl (by decide) rfl (fun ls hl => ?_)
    have hl : lv_has ls 4 [(3, .int _), (0, .ref _), (1, .int _), (2, .int _)] := hl
    have loop : ∀ (n k : Nat) (ls : Array Slot), k + n = 5 → anyB u d s k = false → lv_has ls 4 [(3, .int (nI k)), (0, .ref y), (1, .int (nI d)), (2, .int (nI s))] → W pp l ee (Lv 1 0 0) ss mm ([.ref y, .int (nI d), .int (nI s)] : List Value).toArray bl meth cd ss.heap [] 0 0 (MX bl (QR (.int (b2i (anyB u d s 5)))) ([.ref y, .int (nI d), .int (nI s)] : List Value).toArray ss 0 0 (fun _ => False)) (F0 mm 13 ls []) := by
      intro n
      induction n with
      | zero =>
        intro k ls hk ha hl
        obtain rfl : k = 5 := by omega
        refine lv_iload_n hx hb d_MO_gone_13 rfl (lv_at hl 0 rfl) ?_
        refine lv_iconst (v := (nI 5)) hx hb d_MO_gone_14 (by decide) ?_
        refine nb_ge (tgt := 40) hx hb d_MO_gone_15 (by decide) (by omega) (by omega) (fun _ => ?_) (fun hc => absurd hc (by omega))
        refine lv_iconst (v := (nI 0)) hx hb d_MO_gone_40 (by decide) ?_
        exact ri_z hF hr hlocks (by rw [ha]; rfl) (b2i_01 _) d_MO_gone_41
      | succ n ih =>
        intro k ls hk ha hl
        have hk5 : k < 5 := by omega
        refine lv_iload_n hx hb d_MO_gone_13 rfl (lv_at hl 0 rfl) ?_
        refine lv_iconst (v := (nI 5)) hx hb d_MO_gone_14 (by decide) ?_
        refine nb_ge (tgt := 40) hx hb d_MO_gone_15 (by decide) (by omega) (by omega) (fun hc => absurd hc (by omega)) (fun _ => ?_)
        refine lv_iload_n hx hb d_MO_gone_18 rfl (lv_at hl 0 rfl) ?_
        refine lv_iload_n hx hb d_MO_gone_19 rfl (lv_at hl 2 rfl) ?_
        refine nb_eq (tgt := 34) hx hb d_MO_gone_20 (by decide) (by omega) (by omega) (fun h2 => ?_) (fun h2 => ?_)
        · refine lv_iinc (k := 0) hx hb d_MO_gone_34 hl rfl (nI_inc k) (by decide) rfl (fun ls hl => ?_)
          have hl : lv_has ls 4 [(3, .int _), (0, .ref _), (1, .int _), (2, .int _)] := hl
          refine lv_goto (tgt := 13) hx hb d_MO_gone_37 (by decide) ?_
          exact ih (k + 1) ls (by omega) (by show (anyB u d s k || _) = false; rw [ha]; simp [h2]) (lv_sub hl [0, 1, 2, 3] rfl)
        · refine lv_aload_n hx hb d_MO_gone_23 rfl (lv_at hl 1 rfl) ?_
          refine lv_iload_n hx hb d_MO_gone_24 rfl (lv_at hl 0 rfl) ?_
          refine lv_iload_n hx hb d_MO_gone_25 rfl (lv_at hl 3 rfl) ?_
          refine rV hF sV_MO_21 (c_MO_usable l G hu hk5 hs) hP (rc_y hF.2.2.2.2 hP) (by decide) rfl rfl hl.1 (Nat.le_of_ble_eq_true rfl) d_MO_gone_26 (by decide) ?_
          refine zb_ne (tgt := 34) hx hb d_MO_gone_29 (by decide) (fun h3 => ?_) (fun h3 => ?_)
          · refine lv_iinc (k := 0) hx hb d_MO_gone_34 hl rfl (nI_inc k) (by decide) rfl (fun ls hl => ?_)
            have hl : lv_has ls 4 [(3, .int _), (0, .ref _), (1, .int _), (2, .int _)] := hl
            refine lv_goto (tgt := 13) hx hb d_MO_gone_37 (by decide) ?_
            exact ih (k + 1) ls (by omega) (by simp [anyB, ha, h3]) (lv_sub hl [0, 1, 2, 3] rfl)
          · refine lv_iconst (v := (nI 1)) hx hb d_MO_gone_32 (by decide) ?_
            exact ri_z hF hr hlocks (by rw [show anyB u d s 5 = true by have h9 := anyB_up u d s (k := k + 1) (by simp [anyB, h2, h3]) n; rwa [show k + 1 + n = 5 by omega] at h9]; rfl) (b2i_01 _) d_MO_gone_33
    exact loop 5 0 ls rfl rfl hl
  · refine lv_iconst (v := (nI 0)) hx hb d_MO_gone_9 (by decide) ?_
    exact ri_z hF hr hlocks (by rw [lostB_any, hc]; rfl) (b2i_01 _) d_MO_gone_10
set_option maxHeartbeats 4000000 in
set_option maxRecDepth 100000 in
theorem c_MO_others (l : Launch) (G : Gx) {y sa ua : Nat} {er : Int32} {u : Nat → Nat} {R : Nat → Nat → Int64} {d s h : Nat} (hd : d < 5) (hs : s < 100) (hh : h < 2) : RI l G y_MO_others w_MO_others 1 [.ref y, .int (nI d), .int (nI s), .int (nI h)] (MOp G y sa ua er u R) (.long (oth R d (2 * s + h) 5)) := by
  refine hd_code (by decide +kernel) (Nat.le_of_ble_eq_true rfl) ?_
  intro pp ee ss mm bl meth cd ls hF hr hlocks hex hnm had hP hl
  have hx := hF.1
  have hb := hF.2.1
  have hl : lv_has ls 7 [(0, .ref _), (1, .int _), (2, .int _), (3, .int _)] := hl
  refine lv_lconst (v := 0) hx hb d_MO_others_0 (by decide) ?_
  refine lv_lstore hx hb d_MO_others_1 hl (by decide) rfl (fun ls hl => ?_)
  have hl : lv_has ls 7 [(4, .long _), (0, .ref _), (1, .int _), (2, .int _), (3, .int _)] := hl
  refine lv_iconst (v := (nI 0)) hx hb d_MO_others_3 (by decide) ?_
  refine lv_istore hx hb d_MO_others_4 hl (by decide) rfl (fun ls hl => ?_)
  have hl : lv_has ls 7 [(6, .int _), (4, .long _), (0, .ref _), (1, .int _), (2, .int _), (3, .int _)] := hl
  have loop : ∀ (n k : Nat) (ls : Array Slot), k + n = 5 → lv_has ls 7 [(6, .int (nI k)), (4, .long (oth R d (2 * s + h) k)), (0, .ref y), (1, .int (nI d)), (2, .int (nI s)), (3, .int (nI h))] → W pp l ee (Lv 1 0 0) ss mm ([.ref y, .int (nI d), .int (nI s), .int (nI h)] : List Value).toArray bl meth cd ss.heap [] 0 0 (MX bl (QR (.long (oth R d (2 * s + h) 5))) ([.ref y, .int (nI d), .int (nI s), .int (nI h)] : List Value).toArray ss 0 0 (fun _ => False)) (F0 mm 6 ls []) := by
    intro n
    induction n with
    | zero =>
      intro k ls hk hl
      obtain rfl : k = 5 := by omega
      refine lv_iload hx hb d_MO_others_6 (lv_at hl 0 rfl) ?_
      refine lv_iconst (v := (nI 5)) hx hb d_MO_others_8 (by decide) ?_
      refine nb_ge (tgt := 41) hx hb d_MO_others_9 (by decide) (by omega) (by omega) (fun _ => ?_) (fun hc => absurd hc (by omega))
      refine lv_lload hx hb d_MO_others_41 (lv_at hl 1 rfl) ?_
      exact ri_l hF hr hlocks rfl d_MO_others_43
    | succ n ih =>
      intro k ls hk hl
      have hk5 : k < 5 := by omega
      refine lv_iload hx hb d_MO_others_6 (lv_at hl 0 rfl) ?_
      refine lv_iconst (v := (nI 5)) hx hb d_MO_others_8 (by decide) ?_
      refine nb_ge (tgt := 41) hx hb d_MO_others_9 (by decide) (by omega) (by omega) (fun hc => absurd hc (by omega)) (fun _ => ?_)
      refine lv_iload hx hb d_MO_others_12 (lv_at hl 0 rfl) ?_
      refine lv_iload_n hx hb d_MO_others_14 rfl (lv_at hl 3 rfl) ?_
      refine nb_eq (tgt := 35) hx hb d_MO_others_15 (by decide) (by omega) (by omega) (fun h2 => ?_) (fun h2 => ?_)
      · refine lv_iinc (k := 0) hx hb d_MO_others_35 hl rfl (nI_inc k) (by decide) rfl (fun ls hl => ?_)
        have hl : lv_has ls 7 [(6, .int _), (4, .long _), (0, .ref _), (1, .int _), (2, .int _), (3, .int _)] := hl
        refine lv_goto (tgt := 6) hx hb d_MO_others_38 (by decide) ?_
        exact ih (k + 1) ls (by omega) (lv_sub hl [0, 1, 2, 3, 4, 5] (by simp [lv_pick, oth, h2]))
      · refine lv_lload hx hb d_MO_others_18 (lv_at hl 1 rfl) ?_
        refine lv_aload_n hx hb d_MO_others_20 rfl (lv_at hl 2 rfl) ?_
        refine mg_S hF hP d_MO_others_21 ?_
        refine lv_iload hx hb d_MO_others_24 (lv_at hl 0 rfl) ?_
        refine lv_iload_n hx hb d_MO_others_26 rfl (lv_at hl 4 rfl) ?_
        refine lv_iload_n hx hb d_MO_others_27 rfl (lv_at hl 5 rfl) ?_
        refine rS hF sS_MO_25 (c_MO_at l G k s h (fun _ => True)) trivial (by decide) rfl rfl hl.1 (Nat.le_of_ble_eq_true rfl) d_MO_others_28 (by decide) ?_
        refine ml_S (by omega) hF hP d_MO_others_31 ?_
        rw [flat_at R (by omega)]
        refine lv_lxor hx hb d_MO_others_32 ?_
        refine lv_lstore hx hb d_MO_others_33 hl (by decide) rfl (fun ls hl => ?_)
        have hl : lv_has ls 7 [(4, .long _), (6, .int _), (0, .ref _), (1, .int _), (2, .int _), (3, .int _)] := hl
        refine lv_iinc (k := 1) hx hb d_MO_others_35 hl rfl (nI_inc k) (by decide) rfl (fun ls hl => ?_)
        have hl : lv_has ls 7 [(6, .int _), (4, .long _), (0, .ref _), (1, .int _), (2, .int _), (3, .int _)] := hl
        refine lv_goto (tgt := 6) hx hb d_MO_others_38 (by decide) ?_
        exact ih (k + 1) ls (by omega) (lv_sub hl [0, 1, 2, 3, 4, 5] (by simp [lv_pick, oth, h2]))
  exact loop 5 0 ls rfl (lv_sub hl [0, 1, 2, 3, 4, 5] rfl)
set_option maxHeartbeats 4000000 in
set_option maxRecDepth 100000 in
theorem c_MO_has (l : Launch) (G : Gx) {y sa ua : Nat} {er : Int32} {u : Nat → Nat} {R : Nat → Nat → Int64} (hu : uok u) {d s h : Nat} (hd : d < 5) (hs : s < 100) (hh : h < 2) : RI l G y_MO_has w_MO_has 2 [.ref y, .int (nI d), .int (nI s), .int (nI h)] (MOp G y sa ua er u R) (.long (hasV u R d s h)) := by
  refine hd_code (by decide +kernel) (Nat.le_of_ble_eq_true rfl) ?_
  intro pp ee ss mm bl meth cd ls hF hr hlocks hex hnm had hP hl
  have hx := hF.1
  have hb := hF.2.1
  have hl : lv_has ls 4 [(0, .ref _), (1, .int _), (2, .int _), (3, .int _)] := hl
  refine lv_aload_n hx hb d_MO_has_0 rfl (lv_at hl 0 rfl) ?_
  refine lv_iload_n hx hb d_MO_has_1 rfl (lv_at hl 1 rfl) ?_
  refine lv_iload_n hx hb d_MO_has_2 rfl (lv_at hl 2 rfl) ?_
  refine rV hF sV_MO_21 (c_MO_usable l G hu hd (s := s) (by omega)) hP (rc_y hF.2.2.2.2 hP) (by decide) rfl rfl hl.1 (Nat.le_of_ble_eq_true rfl) d_MO_has_3 (by decide) ?_
  refine zb_eq (tgt := 23) hx hb d_MO_has_6 (by decide) (fun hc => ?_) (fun hc => ?_)
  · refine lv_aload_n hx hb d_MO_has_23 rfl (lv_at hl 0 rfl) ?_
    refine lv_iload_n hx hb d_MO_has_24 rfl (lv_at hl 1 rfl) ?_
    refine lv_iload_n hx hb d_MO_has_25 rfl (lv_at hl 2 rfl) ?_
    refine lv_iload_n hx hb d_MO_has_26 rfl (lv_at hl 3 rfl) ?_
    refine rV hF sV_MO_29 (c_MO_others l G hd hs hh) hP (rc_y hF.2.2.2.2 hP) (by decide) rfl rfl hl.1 (Nat.le_of_ble_eq_true rfl) d_MO_has_27 (by decide) ?_
    exact ri_l hF hr hlocks (hasV_un hc).symm d_MO_has_30
  · refine lv_aload_n hx hb d_MO_has_9 rfl (lv_at hl 0 rfl) ?_
    refine mg_S hF hP d_MO_has_10 ?_
    refine lv_iload_n hx hb d_MO_has_13 rfl (lv_at hl 1 rfl) ?_
    refine lv_iload_n hx hb d_MO_has_14 rfl (lv_at hl 2 rfl) ?_
    refine lv_iload_n hx hb d_MO_has_15 rfl (lv_at hl 3 rfl) ?_
    refine rS hF sS_MO_25 (c_MO_at l G d s h (fun _ => True)) trivial (by decide) rfl rfl hl.1 (Nat.le_of_ble_eq_true rfl) d_MO_has_16 (by decide) ?_
    refine ml_S (by omega) hF hP d_MO_has_19 ?_
    rw [flat_at R (by omega)]
    refine lv_goto (tgt := 30) hx hb d_MO_has_20 (by decide) ?_
    exact ri_l hF hr hlocks (by unfold hasV; rw [if_pos hc]) d_MO_has_30
set_option maxHeartbeats 4000000 in
set_option maxRecDepth 100000 in
theorem c_MO_disk (l : Launch) (G : Gx) {p : Nat} (hp : p < 2 ^ 31) (P : Heap → Prop) : RI l G y_MO_disk w_MO_disk 0 [.int (nI p)] P (.int (nI (dsk p))) := by
  refine hd_code (by decide +kernel) (Nat.le_of_ble_eq_true rfl) ?_
  intro pp ee ss mm bl meth cd ls hF hr hlocks hex hnm had hP hl
  have hx := hF.1
  have hb := hF.2.1
  have hl : lv_has ls 3 [(0, .int _)] := hl
  refine lv_iload_n hx hb d_MO_disk_0 rfl (lv_at hl 0 rfl) ?_
  refine lv_iconst (v := (nI 4)) hx hb d_MO_disk_1 (by decide) ?_
  refine lv_irem hx hb d_MO_disk_2 (by decide) ?_
  refine lv_eqi (z := nI (p % 4)) (pk_rem hp (by decide) (by decide)) ?_
  refine lv_istore_n hx hb d_MO_disk_3 rfl hl (by decide) rfl (fun ls hl => ?_)
  have hl : lv_has ls 3 [(1, .int _), (0, .int _)] := hl
  refine lv_iload_n hx hb d_MO_disk_4 rfl (lv_at hl 1 rfl) ?_
  refine lv_iconst (v := (nI 4)) hx hb d_MO_disk_5 (by decide) ?_
  refine lv_idiv hx hb d_MO_disk_6 (by decide) ?_
  refine lv_eqi (z := nI (p / 4)) (pk_div hp (by decide) (by decide)) ?_
  refine lv_iconst (v := (nI 5)) hx hb d_MO_disk_7 (by decide) ?_
  refine lv_irem hx hb d_MO_disk_8 (by decide) ?_
  refine lv_eqi (z := nI (p / 4 % 5)) (pk_rem (by omega) (by decide) (by decide)) ?_
  refine lv_istore_n hx hb d_MO_disk_9 rfl hl (by decide) rfl (fun ls hl => ?_)
  have hl : lv_has ls 3 [(2, .int _), (1, .int _), (0, .int _)] := hl
  refine lv_iload_n hx hb d_MO_disk_10 rfl (lv_at hl 1 rfl) ?_
  refine lv_iload_n hx hb d_MO_disk_11 rfl (lv_at hl 0 rfl) ?_
  refine nb_ge (tgt := 19) hx hb d_MO_disk_12 (by decide) (by omega) (by omega) (fun hc => ?_) (fun hc => ?_)
  · refine lv_iload_n hx hb d_MO_disk_19 rfl (lv_at hl 1 rfl) ?_
    refine lv_iconst (v := (nI 1)) hx hb d_MO_disk_20 (by decide) ?_
    refine lv_iadd hx hb d_MO_disk_21 ?_
    refine lv_eqi (z := nI (p % 4 + 1)) (nI_add _ _) ?_
    exact ri_i hF hr hlocks (by unfold dsk; rw [if_neg (by omega)]) d_MO_disk_22
  · refine lv_iload_n hx hb d_MO_disk_15 rfl (lv_at hl 1 rfl) ?_
    refine lv_goto (tgt := 22) hx hb d_MO_disk_16 (by decide) ?_
    exact ri_i hF hr hlocks (by unfold dsk; rw [if_pos hc]) d_MO_disk_22
set_option maxHeartbeats 4000000 in
set_option maxRecDepth 100000 in
theorem c_MO_noPlace (l : Launch) (G : Gx) {y : Nat} (d h : Int32) (P : Heap → Prop) : RI l G y_MO_noPlace w_MO_noPlace 0 [.ref y, .int d, .int h] P (.int (b2i (!okP d h))) := by
  refine hd_code (by decide +kernel) (Nat.le_of_ble_eq_true rfl) ?_
  intro pp ee ss mm bl meth cd ls hF hr hlocks hex hnm had hP hl
  have hx := hF.1
  have hb := hF.2.1
  have hl : lv_has ls 3 [(0, .ref _), (1, .int _), (2, .int _)] := hl
  refine lv_iload_n hx hb d_MO_noPlace_0 rfl (lv_at hl 1 rfl) ?_
  refine lv_if_lt (tgt := 20) hx hb d_MO_noPlace_1 (by decide) (fun hc => ?_) (fun hc => ?_)
  · refine lv_iconst (v := (nI 1)) hx hb d_MO_noPlace_20 (by decide) ?_
    refine lv_goto (tgt := 25) hx hb d_MO_noPlace_21 (by decide) ?_
    exact ri_z hF hr hlocks (by simp [okP, hc, b2i, nI1]) (b2i_01 _) d_MO_noPlace_25
  · refine lv_iload_n hx hb d_MO_noPlace_4 rfl (lv_at hl 1 rfl) ?_
    refine lv_sipush (v := nI 400) hx hb d_MO_noPlace_5 (by decide) ?_
    refine lv_icmp_ge (tgt := 20) hx hb d_MO_noPlace_8 (by decide) (fun h2 => ?_) (fun h2 => ?_)
    · refine lv_iconst (v := (nI 1)) hx hb d_MO_noPlace_20 (by decide) ?_
      refine lv_goto (tgt := 25) hx hb d_MO_noPlace_21 (by decide) ?_
      exact ri_z hF hr hlocks (by simp [okP, h2, b2i, nI1]) (b2i_01 _) d_MO_noPlace_25
    · refine lv_iload_n hx hb d_MO_noPlace_11 rfl (lv_at hl 2 rfl) ?_
      refine lv_if_lt (tgt := 20) hx hb d_MO_noPlace_12 (by decide) (fun h3 => ?_) (fun h3 => ?_)
      · have h9 : okH h = false := Bool.eq_false_iff.mpr (fun z => ((okH_iff h).mp z).1 h3)
        refine lv_iconst (v := (nI 1)) hx hb d_MO_noPlace_20 (by decide) ?_
        refine lv_goto (tgt := 25) hx hb d_MO_noPlace_21 (by decide) ?_
        exact ri_z hF hr hlocks (by simp [okP, h9, b2i, nI1]) (b2i_01 _) d_MO_noPlace_25
      · refine lv_iload_n hx hb d_MO_noPlace_15 rfl (lv_at hl 2 rfl) ?_
        refine lv_iconst (v := (nI 1)) hx hb d_MO_noPlace_16 (by decide) ?_
        refine lv_icmp_le (tgt := 24) hx hb d_MO_noPlace_17 (by decide) (fun h4 => ?_) (fun h4 => ?_)
        · have h9 : okH h = true := (okH_iff h).mpr ⟨h3, h4⟩
          refine lv_iconst (v := (nI 0)) hx hb d_MO_noPlace_24 (by decide) ?_
          exact ri_z hF hr hlocks (by simp [okP, hc, h2, h9, b2i, nI_0]) (b2i_01 _) d_MO_noPlace_25
        · have h9 : okH h = false := Bool.eq_false_iff.mpr (fun z => h4 ((okH_iff h).mp z).2)
          refine lv_iconst (v := (nI 1)) hx hb d_MO_noPlace_20 (by decide) ?_
          refine lv_goto (tgt := 25) hx hb d_MO_noPlace_21 (by decide) ?_
          exact ri_z hF hr hlocks (by simp [okP, h9, b2i, nI1]) (b2i_01 _) d_MO_noPlace_25
set_option maxHeartbeats 4000000 in
set_option maxRecDepth 100000 in
theorem c_MO_none (l : Launch) (G : Gx) (d : Int32) (P : Heap → Prop) : RI l G y_MO_none w_MO_none 0 [.int d] P (.int (b2i (!okD d))) := by
  refine hd_code (by decide +kernel) (Nat.le_of_ble_eq_true rfl) ?_
  intro pp ee ss mm bl meth cd ls hF hr hlocks hex hnm had hP hl
  have hx := hF.1
  have hb := hF.2.1
  have hl : lv_has ls 1 [(0, .int _)] := hl
  refine lv_iload_n hx hb d_MO_none_0 rfl (lv_at hl 0 rfl) ?_
  refine lv_if_lt (tgt := 9) hx hb d_MO_none_1 (by decide) (fun hc => ?_) (fun hc => ?_)
  · refine lv_iconst (v := (nI 1)) hx hb d_MO_none_9 (by decide) ?_
    refine lv_goto (tgt := 14) hx hb d_MO_none_10 (by decide) ?_
    exact ri_z hF hr hlocks (by simp [okD, hc, b2i, nI1]) (b2i_01 _) d_MO_none_14
  · refine lv_iload_n hx hb d_MO_none_4 rfl (lv_at hl 0 rfl) ?_
    refine lv_iconst (v := (nI 5)) hx hb d_MO_none_5 (by decide) ?_
    refine lv_icmp_lt (tgt := 13) hx hb d_MO_none_6 (by decide) (fun h2 => ?_) (fun h2 => ?_)
    · have h9 : ¬ nI 5 ≤ d := fun z => Int32.not_le.mpr h2 z
      refine lv_iconst (v := (nI 0)) hx hb d_MO_none_13 (by decide) ?_
      exact ri_z hF hr hlocks (by simp [okD, hc, h9, b2i, nI_0]) (b2i_01 _) d_MO_none_14
    · have h9 : nI 5 ≤ d := Int32.not_lt.mp h2
      refine lv_iconst (v := (nI 1)) hx hb d_MO_none_9 (by decide) ?_
      refine lv_goto (tgt := 14) hx hb d_MO_none_10 (by decide) ?_
      exact ri_z hF hr hlocks (by simp [okD, h9, b2i, nI1]) (b2i_01 _) d_MO_none_14
set_option maxHeartbeats 4000000 in
set_option maxRecDepth 100000 in
theorem c_MO_noBlock (l : Launch) (G : Gx) {y : Nat} (d s h : Int32) (P : Heap → Prop) : RI l G y_MO_noBlock w_MO_noBlock 1 [.ref y, .int d, .int s, .int h] P (.int (b2i (!okB d s h))) := by
  refine hd_code (by decide +kernel) (Nat.le_of_ble_eq_true rfl) ?_
  intro pp ee ss mm bl meth cd ls hF hr hlocks hex hnm had hP hl
  have hx := hF.1
  have hb := hF.2.1
  have hl : lv_has ls 4 [(0, .ref _), (1, .int _), (2, .int _), (3, .int _)] := hl
  refine lv_iload_n hx hb d_MO_noBlock_0 rfl (lv_at hl 1 rfl) ?_
  refine rS hF sS_MO_50 (c_MO_none l G d (fun _ => True)) trivial (by decide) rfl rfl hl.1 (Nat.le_of_ble_eq_true rfl) d_MO_noBlock_1 (by decide) ?_
  refine zb_ne (tgt := 26) hx hb d_MO_noBlock_4 (by decide) (fun hc => ?_) (fun hc => ?_)
  · have h8 : okD d = false := by simpa using hc
    refine lv_iconst (v := (nI 1)) hx hb d_MO_noBlock_26 (by decide) ?_
    refine lv_goto (tgt := 31) hx hb d_MO_noBlock_27 (by decide) ?_
    exact ri_z hF hr hlocks (by simp [okB, h8, b2i, nI1]) (b2i_01 _) d_MO_noBlock_31
  · have h8 : okD d = true := by simpa using hc
    refine lv_iload_n hx hb d_MO_noBlock_7 rfl (lv_at hl 2 rfl) ?_
    refine lv_if_lt (tgt := 26) hx hb d_MO_noBlock_8 (by decide) (fun h1 => ?_) (fun h1 => ?_)
    · refine lv_iconst (v := (nI 1)) hx hb d_MO_noBlock_26 (by decide) ?_
      refine lv_goto (tgt := 31) hx hb d_MO_noBlock_27 (by decide) ?_
      exact ri_z hF hr hlocks (by simp [okB, h1, b2i, nI1]) (b2i_01 _) d_MO_noBlock_31
    · refine lv_iload_n hx hb d_MO_noBlock_11 rfl (lv_at hl 2 rfl) ?_
      refine lv_bipush (v := nI 100) hx hb d_MO_noBlock_12 (by decide) ?_
      refine lv_icmp_ge (tgt := 26) hx hb d_MO_noBlock_14 (by decide) (fun h2 => ?_) (fun h2 => ?_)
      · refine lv_iconst (v := (nI 1)) hx hb d_MO_noBlock_26 (by decide) ?_
        refine lv_goto (tgt := 31) hx hb d_MO_noBlock_27 (by decide) ?_
        exact ri_z hF hr hlocks (by simp [okB, h2, b2i, nI1]) (b2i_01 _) d_MO_noBlock_31
      · refine lv_iload_n hx hb d_MO_noBlock_17 rfl (lv_at hl 3 rfl) ?_
        refine lv_if_lt (tgt := 26) hx hb d_MO_noBlock_18 (by decide) (fun h3 => ?_) (fun h3 => ?_)
        · have h9 : okH h = false := Bool.eq_false_iff.mpr (fun z => ((okH_iff h).mp z).1 h3)
          refine lv_iconst (v := (nI 1)) hx hb d_MO_noBlock_26 (by decide) ?_
          refine lv_goto (tgt := 31) hx hb d_MO_noBlock_27 (by decide) ?_
          exact ri_z hF hr hlocks (by simp [okB, h9, b2i, nI1]) (b2i_01 _) d_MO_noBlock_31
        · refine lv_iload_n hx hb d_MO_noBlock_21 rfl (lv_at hl 3 rfl) ?_
          refine lv_iconst (v := (nI 1)) hx hb d_MO_noBlock_22 (by decide) ?_
          refine lv_icmp_le (tgt := 30) hx hb d_MO_noBlock_23 (by decide) (fun h4 => ?_) (fun h4 => ?_)
          · have h9 : okH h = true := (okH_iff h).mpr ⟨h3, h4⟩
            refine lv_iconst (v := (nI 0)) hx hb d_MO_noBlock_30 (by decide) ?_
            exact ri_z hF hr hlocks (by simp [okB, h8, h1, h2, h9, b2i, nI_0]) (b2i_01 _) d_MO_noBlock_31
          · have h9 : okH h = false := Bool.eq_false_iff.mpr (fun z => h4 ((okH_iff h).mp z).2)
            refine lv_iconst (v := (nI 1)) hx hb d_MO_noBlock_26 (by decide) ?_
            refine lv_goto (tgt := 31) hx hb d_MO_noBlock_27 (by decide) ?_
            exact ri_z hF hr hlocks (by simp [okB, h9, b2i, nI1]) (b2i_01 _) d_MO_noBlock_31
end
section
/-! the reference's operations -/
theorem lostB_of {u : Nat → Nat} {d p s : Nat} (h1 : usedB u s d = false) (h2 : usedB u s p = false) (hne : p ≠ d) (hp : p < 5) : lostB u d s = true := by
  unfold lostB
  rw [h1, Bool.not_false, Bool.true_and, List.any_eq_true]
  exact ⟨p, List.mem_range.mpr hp, by simp [hne, h2]⟩
def moRd (u : Nat → Nat) (R : Nat → Nat → Int64) (p h : Int32) : Int64 := if rdE u p h = 0 then rdV u R p h else 0
set_option maxHeartbeats 4000000 in
set_option maxRecDepth 100000 in
theorem c_MO_read (l : Launch) (G : Gx) {y sa ua : Nat} {er : Int32} {u : Nat → Nat} {R : Nat → Nat → Int64} (hDs : mDs y sa ua) (hu : uok u) (p h : Int32) : MetX l y_MO_read [w_MO_read] (Lv 3 0 0) (Pq G [.ref y, .int p, .int h] (MOp G y sa ua er u R)) (QM (some (.long (moRd u R p h))) (MOp G y sa ua (nI (rdE u p h)) u R) (mA y sa ua)) 0 0 (mA y sa ua) := by
  refine hd_code (by decide +kernel) (Nat.le_of_ble_eq_true rfl) ?_
  intro pp ee ss mm bl meth cd ls hF hr hlocks hex hnm had hP hl
  have hx := hF.1
  have hb := hF.2.1
  have hl : lv_has ls 5 [(0, .ref _), (1, .int _), (2, .int _)] := hl
  have hS : va_S (mA y sa ua) ss.heap ss.heap [] := va_S.rf
  refine lv_aload_n hx hb d_MO_read_0 rfl (lv_at hl 0 rfl) ?_
  refine lv_aload_n hx hb d_MO_read_1 rfl (lv_at hl 0 rfl) ?_
  refine lv_iload_n hx hb d_MO_read_2 rfl (lv_at hl 1 rfl) ?_
  refine lv_iload_n hx hb d_MO_read_3 rfl (lv_at hl 2 rfl) ?_
  refine rV hF sV_MO_33 (c_MO_noPlace l G p h (fun _ => True)) trivial (rc_y hF.2.2.2.2 hP) (by decide) rfl rfl hl.1 (Nat.le_of_ble_eq_true rfl) d_MO_read_4 (by decide) ?_
  refine lv_iconst (v := (nI 1)) hx hb d_MO_read_7 (by decide) ?_
  refine mV hF sV_MO_36 (c_MO_fails l G hDs (!okP p h) (nI 1)) hP (rc_y hF.2.2.2.2 hP) hS (fun _ h => h) ⟨rfl, rfl, by decide, by decide⟩ rfl rfl hl.1 (Nat.le_of_ble_eq_true rfl) d_MO_read_8 (by decide) (fun H locs hP hS _ _ => ?_)
  refine zb_eq (tgt := 16) hx hb d_MO_read_11 (by decide) (fun hc => ?_) (fun hc => ?_)
  · have hok : okP p h = true := by simpa using hc
    obtain ⟨j, k, hj, hk, rfl, rfl⟩ := okP_nI hok
    have hE := rdE_nI (u := u) hj hok
    refine lv_iload_n hx hb d_MO_read_16 rfl (lv_at hl 1 rfl) ?_
    refine rS hF sS_MO_40 (c_MO_disk l G (p := j) (by omega) (fun _ => True)) trivial (by decide) rfl rfl hl.1 (Nat.le_of_ble_eq_true rfl) d_MO_read_17 (by decide) ?_
    refine lv_istore_n hx hb d_MO_read_20 rfl hl (by decide) rfl (fun ls hl => ?_)
    have hl : lv_has ls 5 [(3, .int _), (0, .ref _), (1, .int _), (2, .int _)] := hl
    refine lv_iload_n hx hb d_MO_read_21 rfl (lv_at hl 2 rfl) ?_
    refine lv_iconst (v := (nI 4)) hx hb d_MO_read_22 (by decide) ?_
    refine lv_idiv hx hb d_MO_read_23 (by decide) ?_
    refine lv_eqi (z := nI (j / 4)) (pk_div (by omega) (by decide) (by decide)) ?_
    refine lv_istore hx hb d_MO_read_24 hl (by decide) rfl (fun ls hl => ?_)
    have hl : lv_has ls 5 [(4, .int _), (3, .int _), (0, .ref _), (1, .int _), (2, .int _)] := hl
    refine lv_aload_n hx hb d_MO_read_26 rfl (lv_at hl 2 rfl) ?_
    refine lv_aload_n hx hb d_MO_read_27 rfl (lv_at hl 2 rfl) ?_
    refine lv_iload_n hx hb d_MO_read_28 rfl (lv_at hl 1 rfl) ?_
    refine lv_iload hx hb d_MO_read_29 (lv_at hl 0 rfl) ?_
    refine rV hF sV_MO_44 (c_MO_gone l G hu (dsk_lt j) (s := j / 4) (by omega)) hP (rc_y hF.2.2.2.2 hP) (by decide) rfl rfl hl.1 (Nat.le_of_ble_eq_true rfl) d_MO_read_31 (by decide) ?_
    refine lv_iconst (v := (nI 2)) hx hb d_MO_read_34 (by decide) ?_
    refine mV hF sV_MO_36 (c_MO_fails l G hDs (lostB u (dsk j) (j / 4)) (nI 2)) hP (rc_y hF.2.2.2.2 hP) hS (fun _ h => h) ⟨rfl, rfl, by decide, by decide⟩ rfl rfl hl.1 (Nat.le_of_ble_eq_true rfl) d_MO_read_35 (by decide) (fun H locs hP hS _ _ => ?_)
    refine zb_eq (tgt := 45) hx hb d_MO_read_38 (by decide) (fun h2 => ?_) (fun h2 => ?_)
    · rw [h2, if_neg (by decide)] at hE hP
      rw [show moRd u R (nI j) (nI k) = hasV u R (dsk j) (j / 4) k by unfold moRd; rw [if_pos hE, rdV_nI hj hk], hE]
      refine lv_aload_n hx hb d_MO_read_45 rfl (lv_at hl 2 rfl) ?_
      refine lv_iload_n hx hb d_MO_read_46 rfl (lv_at hl 1 rfl) ?_
      refine lv_iload hx hb d_MO_read_47 (lv_at hl 0 rfl) ?_
      refine lv_iload_n hx hb d_MO_read_49 rfl (lv_at hl 4 rfl) ?_
      refine rV hF sV_MO_47 (c_MO_has l G hu (dsk_lt j) (s := j / 4) (by omega) hk) hP (rc_y hF.2.2.2.2 hP) (by decide) rfl rfl hl.1 (Nat.le_of_ble_eq_true rfl) d_MO_read_50 (by decide) ?_
      exact W.toX (W.lret hx hb hr (fun t ht _ => ⟨rfl, by rw [ht]; exact hP, hS.F ht⟩) hS.2.2 d_MO_read_53 hlocks)
    · rw [h2, if_pos rfl] at hE hP
      rw [show moRd u R (nI j) (nI k) = 0 by unfold moRd; rw [hE]; rfl, hE]
      refine lv_lconst (v := 0) hx hb d_MO_read_41 (by decide) ?_
      refine lv_goto (tgt := 53) hx hb d_MO_read_42 (by decide) ?_
      exact W.toX (W.lret hx hb hr (fun t ht _ => ⟨rfl, by rw [ht]; exact hP, hS.F ht⟩) hS.2.2 d_MO_read_53 hlocks)
  · have hok : okP p h = false := by simpa using hc
    have hE : rdE u p h = 1 := by unfold rdE; rw [hok]; rfl
    rw [hc, if_pos rfl] at hP
    rw [show moRd u R p h = 0 by unfold moRd; rw [hE]; rfl, hE]
    refine lv_lconst (v := 0) hx hb d_MO_read_14 (by decide) ?_
    exact W.toX (W.lret hx hb hr (fun t ht _ => ⟨rfl, by rw [ht]; exact hP, hS.F ht⟩) hS.2.2 d_MO_read_15 hlocks)
set_option maxHeartbeats 4000000 in
set_option maxRecDepth 100000 in
theorem c_MO_write (l : Launch) (G : Gx) {y sa ua : Nat} {er : Int32} {u : Nat → Nat} {R : Nat → Nat → Int64} (hDs : mDs y sa ua) (hu : uok u) (p h : Int32) (v : Int64) : MetX l y_MO_write [w_MO_write] (Lv 3 0 0) (Pq G [.ref y, .int p, .int h, .long v] (MOp G y sa ua er u R)) (QM none (MOp G y sa ua (nI (rdE u p h)) u (if rdE u p h = 0 then wrR u R (ncl p) (ncl h) v else R)) (mA y sa ua)) 0 0 (mA y sa ua) := by
  refine hd_code (by decide +kernel) (Nat.le_of_ble_eq_true rfl) ?_
  intro pp ee ss mm bl meth cd ls hF hr hlocks hex hnm had hP hl
  have hx := hF.1
  have hb := hF.2.1
  have hl : lv_has ls 10 [(0, .ref _), (1, .int _), (2, .int _), (3, .long _)] := hl
  have hS : va_S (mA y sa ua) ss.heap ss.heap [] := va_S.rf
  refine lv_aload_n hx hb d_MO_write_0 rfl (lv_at hl 0 rfl) ?_
  refine lv_aload_n hx hb d_MO_write_1 rfl (lv_at hl 0 rfl) ?_
  refine lv_iload_n hx hb d_MO_write_2 rfl (lv_at hl 1 rfl) ?_
  refine lv_iload_n hx hb d_MO_write_3 rfl (lv_at hl 2 rfl) ?_
  refine rV hF sV_MO_33 (c_MO_noPlace l G p h (fun _ => True)) trivial (rc_y hF.2.2.2.2 hP) (by decide) rfl rfl hl.1 (Nat.le_of_ble_eq_true rfl) d_MO_write_4 (by decide) ?_
  refine lv_iconst (v := (nI 1)) hx hb d_MO_write_7 (by decide) ?_
  refine mV hF sV_MO_36 (c_MO_fails l G hDs (!okP p h) (nI 1)) hP (rc_y hF.2.2.2.2 hP) hS (fun _ h => h) ⟨rfl, rfl, by decide, by decide⟩ rfl rfl hl.1 (Nat.le_of_ble_eq_true rfl) d_MO_write_8 (by decide) (fun H locs hP hS _ _ => ?_)
  refine zb_eq (tgt := 15) hx hb d_MO_write_11 (by decide) (fun hc => ?_) (fun hc => ?_)
  · have hok : okP p h = true := by simpa using hc
    obtain ⟨j, k, hj, hk, rfl, rfl⟩ := okP_nI hok
    have hE := rdE_nI (u := u) hj hok
    have hcl : ncl (nI j) = j ∧ ncl (nI k) = k := ⟨nI_clamp (by omega), nI_clamp (by omega)⟩
    rw [hcl.1, hcl.2]
    have h5 : j / 4 % 5 < 5 := Nat.mod_lt _ (by decide)
    refine lv_iload_n hx hb d_MO_write_15 rfl (lv_at hl 1 rfl) ?_
    refine rS hF sS_MO_40 (c_MO_disk l G (p := j) (by omega) (fun _ => True)) trivial (by decide) rfl rfl hl.1 (Nat.le_of_ble_eq_true rfl) d_MO_write_16 (by decide) ?_
    refine lv_istore hx hb d_MO_write_19 hl (by decide) rfl (fun ls hl => ?_)
    have hl : lv_has ls 10 [(5, .int _), (0, .ref _), (1, .int _), (2, .int _), (3, .long _)] := hl
    refine lv_iload_n hx hb d_MO_write_21 rfl (lv_at hl 2 rfl) ?_
    refine lv_iconst (v := (nI 4)) hx hb d_MO_write_22 (by decide) ?_
    refine lv_idiv hx hb d_MO_write_23 (by decide) ?_
    refine lv_eqi (z := nI (j / 4)) (pk_div (by omega) (by decide) (by decide)) ?_
    refine lv_istore hx hb d_MO_write_24 hl (by decide) rfl (fun ls hl => ?_)
    have hl : lv_has ls 10 [(6, .int _), (5, .int _), (0, .ref _), (1, .int _), (2, .int _), (3, .long _)] := hl
    refine lv_iload hx hb d_MO_write_26 (lv_at hl 0 rfl) ?_
    refine lv_iconst (v := (nI 5)) hx hb d_MO_write_28 (by decide) ?_
    refine lv_irem hx hb d_MO_write_29 (by decide) ?_
    refine lv_eqi (z := nI (j / 4 % 5)) (pk_rem (by omega) (by decide) (by decide)) ?_
    refine lv_istore hx hb d_MO_write_30 hl (by decide) rfl (fun ls hl => ?_)
    have hl : lv_has ls 10 [(7, .int _), (6, .int _), (5, .int _), (0, .ref _), (1, .int _), (2, .int _), (3, .long _)] := hl
    have tail : W pp l ee (Lv 3 0 0) ss mm ([.ref y, .int (nI j), .int (nI k), .long v] : List Value).toArray bl meth cd H locs 0 0 (MX bl (QM none (MOp G y sa ua (nI (rdE u (nI j) (nI k))) u (if rdE u (nI j) (nI k) = 0 then wrR u R j k v else R)) (mA y sa ua)) ([.ref y, .int (nI j), .int (nI k), .long v] : List Value).toArray ss 0 0 (mA y sa ua)) (F0 mm 71 ls [.int (b2i (lostB u (dsk j) (j / 4))), .ref y]) := by
      refine lv_iconst (v := (nI 2)) hx hb d_MO_write_71 (by decide) ?_
      refine mV hF sV_MO_36 (c_MO_fails l G hDs (lostB u (dsk j) (j / 4)) (nI 2)) hP (rc_y hF.2.2.2.2 hP) hS (fun _ h => h) ⟨rfl, rfl, by decide, by decide⟩ rfl rfl hl.1 (Nat.le_of_ble_eq_true rfl) d_MO_write_72 (by decide) (fun H locs hP hS _ _ => ?_)
      refine zb_eq (tgt := 79) hx hb d_MO_write_75 (by decide) (fun h2 => ?_) (fun h2 => ?_)
      · rw [h2, if_neg (by decide)] at hE hP
        rw [hE, if_pos rfl]
        refine lv_aload_n hx hb d_MO_write_79 rfl (lv_at hl 3 rfl) ?_
        refine lv_iload hx hb d_MO_write_80 (lv_at hl 2 rfl) ?_
        refine lv_iload hx hb d_MO_write_82 (lv_at hl 1 rfl) ?_
        refine lv_iload_n hx hb d_MO_write_84 rfl (lv_at hl 5 rfl) ?_
        refine rV hF sV_MO_47 (c_MO_has l G hu (dsk_lt j) (s := j / 4) (by omega) hk) hP (rc_y hF.2.2.2.2 hP) (by decide) rfl rfl hl.1 (Nat.le_of_ble_eq_true rfl) d_MO_write_85 (by decide) ?_
        refine lv_lstore hx hb d_MO_write_88 hl (by decide) rfl (fun ls hl => ?_)
        have hl : lv_has ls 10 [(8, .long _), (7, .int _), (6, .int _), (5, .int _), (0, .ref _), (1, .int _), (2, .int _), (3, .long _)] := hl
        refine lv_aload_n hx hb d_MO_write_90 rfl (lv_at hl 4 rfl) ?_
        refine lv_iload hx hb d_MO_write_91 (lv_at hl 1 rfl) ?_
        refine lv_iload hx hb d_MO_write_93 (lv_at hl 2 rfl) ?_
        refine rV hF sV_MO_21 (c_MO_usable l G hu h5 (s := j / 4) (by omega)) hP (rc_y hF.2.2.2.2 hP) (by decide) rfl rfl hl.1 (Nat.le_of_ble_eq_true rfl) d_MO_write_95 (by decide) ?_
        have second : ∀ (R1 : Nat → Nat → Int64) (H : Heap) (locs : List Loc), wrR u R j k v = (if usedB u (j / 4) (dsk j) = true then rset R1 (dsk j) (2 * (j / 4) + k) v else R1) → MOp G y sa ua (nI 0) u R1 H → va_S (mA y sa ua) ss.heap H locs → W pp l ee (Lv 3 0 0) ss mm ([.ref y, .int (nI j), .int (nI k), .long v] : List Value).toArray bl meth cd H locs 0 0 (MX bl (QM none (MOp G y sa ua (nI 0) u (wrR u R j k v)) (mA y sa ua)) ([.ref y, .int (nI j), .int (nI k), .long v] : List Value).toArray ss 0 0 (mA y sa ua)) (F0 mm 121 ls []) := by
          intro R1 H locs hw hP hS
          refine lv_aload_n hx hb d_MO_write_121 rfl (lv_at hl 4 rfl) ?_
          refine lv_iload hx hb d_MO_write_122 (lv_at hl 3 rfl) ?_
          refine lv_iload hx hb d_MO_write_124 (lv_at hl 2 rfl) ?_
          refine rV hF sV_MO_21 (c_MO_usable l G hu (dsk_lt j) (s := j / 4) (by omega)) hP (rc_y hF.2.2.2.2 hP) (by decide) rfl rfl hl.1 (Nat.le_of_ble_eq_true rfl) d_MO_write_126 (by decide) ?_
          refine zb_eq (tgt := 146) hx hb d_MO_write_129 (by decide) (fun h3 => ?_) (fun h3 => ?_)
          · rw [h3, if_neg (by decide)] at hw
            rw [hw]
            exact W.toX (W.vret hx hb hr (fun t ht _ => ⟨rfl, by rw [ht]; exact hP, hS.F ht⟩) hS.2.2 d_MO_write_146 hlocks)
          · refine lv_aload_n hx hb d_MO_write_132 rfl (lv_at hl 4 rfl) ?_
            refine mg_S hF hP d_MO_write_133 ?_
            refine lv_iload hx hb d_MO_write_136 (lv_at hl 3 rfl) ?_
            refine lv_iload hx hb d_MO_write_138 (lv_at hl 2 rfl) ?_
            refine lv_iload_n hx hb d_MO_write_140 rfl (lv_at hl 6 rfl) ?_
            refine rS hF sS_MO_25 (c_MO_at l G (dsk j) (j / 4) k (fun _ => True)) trivial (by decide) rfl rfl hl.1 (Nat.le_of_ble_eq_true rfl) d_MO_write_141 (by decide) ?_
            refine lv_lload_n hx hb d_MO_write_144 rfl (lv_at hl 7 rfl) ?_
            have hd5 := dsk_lt j
            refine ms_S (by omega) hDs hF hP hS d_MO_write_145 (fun H locs hP hS => ?_)
            rw [flat_set R1 (by omega)] at hP
            rw [h3, if_pos rfl] at hw
            rw [hw]
            exact W.toX (W.vret hx hb hr (fun t ht _ => ⟨rfl, by rw [ht]; exact hP, hS.F ht⟩) hS.2.2 d_MO_write_146 hlocks)
        refine zb_eq (tgt := 121) hx hb d_MO_write_98 (by decide) (fun h1 => ?_) (fun h1 => ?_)
        · exact second R H locs (by unfold wrR; simp only [h1]; rfl) hP hS
        · refine lv_aload_n hx hb d_MO_write_101 rfl (lv_at hl 4 rfl) ?_
          refine mg_S hF hP d_MO_write_102 ?_
          refine lv_iload hx hb d_MO_write_105 (lv_at hl 1 rfl) ?_
          refine lv_iload hx hb d_MO_write_107 (lv_at hl 2 rfl) ?_
          refine lv_iload_n hx hb d_MO_write_109 rfl (lv_at hl 6 rfl) ?_
          refine rS hF sS_MO_25 (c_MO_at l G (j / 4 % 5) (j / 4) k (fun _ => True)) trivial (by decide) rfl rfl hl.1 (Nat.le_of_ble_eq_true rfl) d_MO_write_110 (by decide) ?_
          refine lv_dup2_11 hx hb d_MO_write_113 rfl rfl ?_
          refine ml_S (by omega) hF hP d_MO_write_114 ?_
          rw [flat_at R (by omega)]
          refine lv_lload hx hb d_MO_write_115 (lv_at hl 0 rfl) ?_
          refine lv_lload_n hx hb d_MO_write_117 rfl (lv_at hl 7 rfl) ?_
          refine lv_lxor hx hb d_MO_write_118 ?_
          refine lv_lxor hx hb d_MO_write_119 ?_
          refine ms_S (by omega) hDs hF hP hS d_MO_write_120 (fun H locs hP hS => ?_)
          rw [flat_set R (by omega)] at hP
          exact second _ H locs (by unfold wrR; simp only [h1]; rfl) hP hS
      · rw [h2, if_pos rfl] at hE hP
        rw [hE, if_neg (by decide)]
        exact W.toX (W.vret hx hb hr (fun t ht _ => ⟨rfl, by rw [ht]; exact hP, hS.F ht⟩) hS.2.2 d_MO_write_78 hlocks)
    refine lv_aload_n hx hb d_MO_write_32 rfl (lv_at hl 3 rfl) ?_
    refine lv_aload_n hx hb d_MO_write_33 rfl (lv_at hl 3 rfl) ?_
    refine lv_iload hx hb d_MO_write_34 (lv_at hl 2 rfl) ?_
    refine lv_iload hx hb d_MO_write_36 (lv_at hl 1 rfl) ?_
    refine rV hF sV_MO_44 (c_MO_gone l G hu (dsk_lt j) (s := j / 4) (by omega)) hP (rc_y hF.2.2.2.2 hP) (by decide) rfl rfl hl.1 (Nat.le_of_ble_eq_true rfl) d_MO_write_38 (by decide) ?_
    refine zb_ne (tgt := 66) hx hb d_MO_write_41 (by decide) (fun h1 => ?_) (fun h1 => ?_)
    · refine lv_iconst (v := (nI 1)) hx hb d_MO_write_66 (by decide) ?_
      refine lv_goto (tgt := 71) hx hb d_MO_write_67 (by decide) ?_
      exact lv_eqi (by rw [h1]; rfl) tail
    · refine lv_aload_n hx hb d_MO_write_44 rfl (lv_at hl 3 rfl) ?_
      refine lv_iload hx hb d_MO_write_45 (lv_at hl 2 rfl) ?_
      refine lv_iload hx hb d_MO_write_47 (lv_at hl 1 rfl) ?_
      refine rV hF sV_MO_21 (c_MO_usable l G hu (dsk_lt j) (s := j / 4) (by omega)) hP (rc_y hF.2.2.2.2 hP) (by decide) rfl rfl hl.1 (Nat.le_of_ble_eq_true rfl) d_MO_write_49 (by decide) ?_
      refine zb_ne (tgt := 70) hx hb d_MO_write_52 (by decide) (fun h2 => ?_) (fun h2 => ?_)
      · refine lv_iconst (v := (nI 0)) hx hb d_MO_write_70 (by decide) ?_
        exact lv_eqi (by rw [h1]; rfl) tail
      · refine lv_aload_n hx hb d_MO_write_55 rfl (lv_at hl 3 rfl) ?_
        refine lv_iload hx hb d_MO_write_56 (lv_at hl 0 rfl) ?_
        refine lv_iload hx hb d_MO_write_58 (lv_at hl 1 rfl) ?_
        refine rV hF sV_MO_21 (c_MO_usable l G hu h5 (s := j / 4) (by omega)) hP (rc_y hF.2.2.2.2 hP) (by decide) rfl rfl hl.1 (Nat.le_of_ble_eq_true rfl) d_MO_write_60 (by decide) ?_
        refine zb_ne (tgt := 70) hx hb d_MO_write_63 (by decide) (fun h3 => ?_) (fun h3 => ?_)
        · refine lv_iconst (v := (nI 0)) hx hb d_MO_write_70 (by decide) ?_
          exact lv_eqi (by rw [h1]; rfl) tail
        · exact absurd (lostB_of h2 h3 (fun z => dsk_ne j z.symm) h5) (by rw [h1]; decide)
  · have hok : okP p h = false := by simpa using hc
    have hE : rdE u p h = 1 := by unfold rdE; rw [hok]; rfl
    rw [hc, if_pos rfl] at hP
    rw [hE, if_neg (by decide)]
    exact W.toX (W.vret hx hb hr (fun t ht _ => ⟨rfl, by rw [ht]; exact hP, hS.F ht⟩) hS.2.2 d_MO_write_14 hlocks)
set_option maxHeartbeats 4000000 in
set_option maxRecDepth 100000 in
theorem c_MO_fail (l : Launch) (G : Gx) {y sa ua : Nat} {er : Int32} {u : Nat → Nat} {R : Nat → Nat → Int64} (hDs : mDs y sa ua) (d : Int32) : MetX l y_MO_fail [w_MO_fail] (Lv 1 0 0) (Pq G [.ref y, .int d] (MOp G y sa ua er u R)) (QM none (MOp G y sa ua (nI (dE d)) (if dE d = 0 then va_up u (ncl d) 0 else u) R) (mA y sa ua)) 0 0 (mA y sa ua) := by
  refine hd_code (by decide +kernel) (Nat.le_of_ble_eq_true rfl) ?_
  intro pp ee ss mm bl meth cd ls hF hr hlocks hex hnm had hP hl
  have hx := hF.1
  have hb := hF.2.1
  have hl : lv_has ls 2 [(0, .ref _), (1, .int _)] := hl
  have hS : va_S (mA y sa ua) ss.heap ss.heap [] := va_S.rf
  refine lv_aload_n hx hb d_MO_fail_0 rfl (lv_at hl 0 rfl) ?_
  refine lv_iload_n hx hb d_MO_fail_1 rfl (lv_at hl 1 rfl) ?_
  refine rS hF sS_MO_50 (c_MO_none l G d (fun _ => True)) trivial (by decide) rfl rfl hl.1 (Nat.le_of_ble_eq_true rfl) d_MO_fail_2 (by decide) ?_
  refine lv_iconst (v := (nI 1)) hx hb d_MO_fail_5 (by decide) ?_
  refine mV hF sV_MO_36 (c_MO_fails l G hDs (!okD d) (nI 1)) hP (rc_y hF.2.2.2.2 hP) hS (fun _ h => h) ⟨rfl, rfl, by decide, by decide⟩ rfl rfl hl.1 (Nat.le_of_ble_eq_true rfl) d_MO_fail_6 (by decide) (fun H locs hP hS _ _ => ?_)
  refine zb_eq (tgt := 13) hx hb d_MO_fail_9 (by decide) (fun hc => ?_) (fun hc => ?_)
  · have hok : okD d = true := by simpa using hc
    obtain ⟨j, hj, rfl⟩ := okD_nI hok
    have hcl : ncl (nI j) = j := nI_clamp (by omega)
    try rw [hcl]
    rw [hc, if_neg (by decide)] at hP
    have hE : dE (nI j) = 0 := by unfold dE; rw [if_pos hok]
    rw [hE, if_pos rfl]
    refine lv_aload_n hx hb d_MO_fail_13 rfl (lv_at hl 0 rfl) ?_
    refine mg_U hF hP d_MO_fail_14 ?_
    refine lv_iload_n hx hb d_MO_fail_17 rfl (lv_at hl 1 rfl) ?_
    refine lv_iconst (v := (-1)) hx hb d_MO_fail_18 (by decide) ?_
    refine ms_U hj hDs hF hP hS d_MO_fail_19 (fun H locs hP hS => ?_)
    have e1 : va_up (fun d => mup (u d)) j (-1) = fun d => mup (va_up u j 0 d) := va_up_comp mup u j 0
    rw [e1] at hP
    exact W.toX (W.vret hx hb hr (fun t ht _ => ⟨rfl, by rw [ht]; exact hP, hS.F ht⟩) hS.2.2 d_MO_fail_20 hlocks)
  · have hok : okD d = false := by simpa using hc
    have hE : dE d = 1 := by unfold dE; rw [hok]; rfl
    rw [hc, if_pos rfl] at hP
    rw [hE, if_neg (by decide)]
    exact W.toX (W.vret hx hb hr (fun t ht _ => ⟨rfl, by rw [ht]; exact hP, hS.F ht⟩) hS.2.2 d_MO_fail_12 hlocks)
set_option maxHeartbeats 4000000 in
set_option maxRecDepth 100000 in
theorem c_MO_replace (l : Launch) (G : Gx) {y sa ua : Nat} {er : Int32} {u : Nat → Nat} {R : Nat → Nat → Int64} (hDs : mDs y sa ua) (hu : uok u) (d : Int32) : MetX l y_MO_replace [w_MO_replace] (Lv 1 0 0) (Pq G [.ref y, .int d] (MOp G y sa ua er u R)) (QM none (MOp G y sa ua (nI (rpE u d)) (if rpE u d = 0 then va_up u (ncl d) 1 else u) (if rpE u d = 0 then va_up R (ncl d) (zr (R (ncl d)) 200) else R)) (mA y sa ua)) 0 0 (mA y sa ua) := by
  refine hd_code (by decide +kernel) (Nat.le_of_ble_eq_true rfl) ?_
  intro pp ee ss mm bl meth cd ls hF hr hlocks hex hnm had hP hl
  have hx := hF.1
  have hb := hF.2.1
  have hl : lv_has ls 3 [(0, .ref _), (1, .int _)] := hl
  have hS : va_S (mA y sa ua) ss.heap ss.heap [] := va_S.rf
  refine lv_aload_n hx hb d_MO_replace_0 rfl (lv_at hl 0 rfl) ?_
  refine lv_iload_n hx hb d_MO_replace_1 rfl (lv_at hl 1 rfl) ?_
  refine rS hF sS_MO_50 (c_MO_none l G d (fun _ => True)) trivial (by decide) rfl rfl hl.1 (Nat.le_of_ble_eq_true rfl) d_MO_replace_2 (by decide) ?_
  refine lv_iconst (v := (nI 1)) hx hb d_MO_replace_5 (by decide) ?_
  refine mV hF sV_MO_36 (c_MO_fails l G hDs (!okD d) (nI 1)) hP (rc_y hF.2.2.2.2 hP) hS (fun _ h => h) ⟨rfl, rfl, by decide, by decide⟩ rfl rfl hl.1 (Nat.le_of_ble_eq_true rfl) d_MO_replace_6 (by decide) (fun H locs hP hS _ _ => ?_)
  refine zb_eq (tgt := 13) hx hb d_MO_replace_9 (by decide) (fun hc => ?_) (fun hc => ?_)
  · have hok : okD d = true := by simpa using hc
    obtain ⟨j, hj, rfl⟩ := okD_nI hok
    have hcl : ncl (nI j) = j := nI_clamp (by omega)
    try rw [hcl]
    rw [hc, if_neg (by decide)] at hP
    have hE : rpE u (nI j) = if u j = 0 then 0 else 2 := by unfold rpE; rw [if_pos hok, hcl]
    have huj := hu j hj
    have tail : W pp l ee (Lv 1 0 0) ss mm ([.ref y, .int (nI j)] : List Value).toArray bl meth cd H locs 0 0 (MX bl (QM none (MOp G y sa ua (nI (rpE u (nI j))) (if rpE u (nI j) = 0 then va_up u j 1 else u) (if rpE u (nI j) = 0 then va_up R j (zr (R j) 200) else R)) (mA y sa ua)) ([.ref y, .int (nI j)] : List Value).toArray ss 0 0 (mA y sa ua)) (F0 mm 28 ls [.int (b2i (!decide (u j = 0))), .ref y]) := by
      refine lv_iconst (v := (nI 2)) hx hb d_MO_replace_28 (by decide) ?_
      refine mV hF sV_MO_36 (c_MO_fails l G hDs (!decide (u j = 0)) (nI 2)) hP (rc_y hF.2.2.2.2 hP) hS (fun _ h => h) ⟨rfl, rfl, by decide, by decide⟩ rfl rfl hl.1 (Nat.le_of_ble_eq_true rfl) d_MO_replace_29 (by decide) (fun H locs hP hS _ _ => ?_)
      refine zb_eq (tgt := 36) hx hb d_MO_replace_32 (by decide) (fun h2 => ?_) (fun h2 => ?_)
      · have h0 : u j = 0 := by simpa using h2
        rw [h2, if_neg (by decide)] at hP
        rw [if_pos h0] at hE
        rw [hE, if_pos rfl, if_pos rfl]
        refine lv_aload_n hx hb d_MO_replace_36 rfl (lv_at hl 0 rfl) ?_
        refine mg_U hF hP d_MO_replace_37 ?_
        refine lv_iload_n hx hb d_MO_replace_40 rfl (lv_at hl 1 rfl) ?_
        refine lv_iconst (v := (nI 0)) hx hb d_MO_replace_41 (by decide) ?_
        refine ms_U hj hDs hF hP hS d_MO_replace_42 (fun H locs hP hS => ?_)
        have e1 : va_up (fun d => mup (u d)) j (nI 0) = fun d => mup (va_up u j 1 d) := va_up_comp mup u j 1
        rw [e1] at hP
        rw [← va_up_id R j, ← zr_0 (R j)] at hP
        refine lv_iconst (v := (nI 0)) hx hb d_MO_replace_43 (by decide) ?_
        refine lv_istore_n hx hb d_MO_replace_44 rfl hl (by decide) rfl (fun ls hl => ?_)
        have hl : lv_has ls 3 [(2, .int _), (0, .ref _), (1, .int _)] := hl
        have loop : ∀ (n k : Nat) (H : Heap) (locs : List Loc) (ls : Array Slot), k + n = 100 → lv_has ls 3 [(2, .int (nI k)), (0, .ref y), (1, .int (nI j))] → MOp G y sa ua (nI 0) (va_up u j 1) (va_up R j (zr (R j) (2 * k))) H → va_S (mA y sa ua) ss.heap H locs → W pp l ee (Lv 1 0 0) ss mm ([.ref y, .int (nI j)] : List Value).toArray bl meth cd H locs 0 0 (MX bl (QM none (MOp G y sa ua (nI 0) (va_up u j 1) (va_up R j (zr (R j) 200))) (mA y sa ua)) ([.ref y, .int (nI j)] : List Value).toArray ss 0 0 (mA y sa ua)) (F0 mm 45 ls []) := by
          intro n
          induction n with
          | zero =>
            intro k H locs ls hk hl hP hS
            obtain rfl : k = 100 := by omega
            refine lv_iload_n hx hb d_MO_replace_45 rfl (lv_at hl 0 rfl) ?_
            refine lv_bipush (v := nI 100) hx hb d_MO_replace_46 (by decide) ?_
            refine nb_ge (tgt := 81) hx hb d_MO_replace_48 (by decide) (by omega) (by omega) (fun _ => ?_) (fun hc => absurd hc (by omega))
            exact W.toX (W.vret hx hb hr (fun t ht _ => ⟨rfl, by rw [ht]; exact hP, hS.F ht⟩) hS.2.2 d_MO_replace_81 hlocks)
          | succ n ih =>
            intro k H locs ls hk hl hP hS
            refine lv_iload_n hx hb d_MO_replace_45 rfl (lv_at hl 0 rfl) ?_
            refine lv_bipush (v := nI 100) hx hb d_MO_replace_46 (by decide) ?_
            refine nb_ge (tgt := 81) hx hb d_MO_replace_48 (by decide) (by omega) (by omega) (fun hc => absurd hc (by omega)) (fun _ => ?_)
            refine lv_aload_n hx hb d_MO_replace_51 rfl (lv_at hl 1 rfl) ?_
            refine mg_S hF hP d_MO_replace_52 ?_
            refine lv_iload_n hx hb d_MO_replace_55 rfl (lv_at hl 2 rfl) ?_
            refine lv_iload_n hx hb d_MO_replace_56 rfl (lv_at hl 0 rfl) ?_
            refine lv_iconst (v := (nI 0)) hx hb d_MO_replace_57 (by decide) ?_
            refine rS hF sS_MO_25 (c_MO_at l G j k 0 (fun _ => True)) trivial (by decide) rfl rfl hl.1 (Nat.le_of_ble_eq_true rfl) d_MO_replace_58 (by decide) ?_
            refine lv_lconst (v := 0) hx hb d_MO_replace_61 (by decide) ?_
            refine ms_S (by omega) hDs hF hP hS d_MO_replace_62 (fun H locs hP hS => ?_)
            rw [flat_set _ (by omega)] at hP
            unfold rset at hP
            rw [va_up_uu, va_up_s, show 2 * k + 0 = 2 * k from rfl, zr_succ] at hP
            refine lv_aload_n hx hb d_MO_replace_63 rfl (lv_at hl 1 rfl) ?_
            refine mg_S hF hP d_MO_replace_64 ?_
            refine lv_iload_n hx hb d_MO_replace_67 rfl (lv_at hl 2 rfl) ?_
            refine lv_iload_n hx hb d_MO_replace_68 rfl (lv_at hl 0 rfl) ?_
            refine lv_iconst (v := (nI 1)) hx hb d_MO_replace_69 (by decide) ?_
            refine rS hF sS_MO_25 (c_MO_at l G j k 1 (fun _ => True)) trivial (by decide) rfl rfl hl.1 (Nat.le_of_ble_eq_true rfl) d_MO_replace_70 (by decide) ?_
            refine lv_lconst (v := 0) hx hb d_MO_replace_73 (by decide) ?_
            refine ms_S (by omega) hDs hF hP hS d_MO_replace_74 (fun H locs hP hS => ?_)
            rw [flat_set _ (by omega)] at hP
            unfold rset at hP
            rw [va_up_uu, va_up_s, show 2 * k + 1 = 2 * k + 1 from rfl, zr_succ] at hP
            refine lv_iinc (k := 0) hx hb d_MO_replace_75 hl rfl (nI_inc k) (by decide) rfl (fun ls hl => ?_)
            have hl : lv_has ls 3 [(2, .int _), (0, .ref _), (1, .int _)] := hl
            refine lv_goto (tgt := 45) hx hb d_MO_replace_78 (by decide) ?_
            exact ih (k + 1) H locs ls (by omega) (lv_sub hl [0, 1, 2] rfl) hP hS
        exact loop 100 0 H locs ls rfl hl hP hS
      · have h0 : ¬ u j = 0 := by simpa using h2
        rw [h2, if_pos rfl] at hP
        rw [if_neg h0] at hE
        rw [hE, if_neg (by decide), if_neg (by decide)]
        exact W.toX (W.vret hx hb hr (fun t ht _ => ⟨rfl, by rw [ht]; exact hP, hS.F ht⟩) hS.2.2 d_MO_replace_35 hlocks)
    refine lv_aload_n hx hb d_MO_replace_13 rfl (lv_at hl 0 rfl) ?_
    refine lv_aload_n hx hb d_MO_replace_14 rfl (lv_at hl 0 rfl) ?_
    refine mg_U hF hP d_MO_replace_15 ?_
    refine lv_iload_n hx hb d_MO_replace_18 rfl (lv_at hl 1 rfl) ?_
    refine ml_U hj hF hP d_MO_replace_19 ?_
    refine lv_if_lt (tgt := 27) hx hb d_MO_replace_20 (by decide) (fun h1 => ?_) (fun h1 => ?_)
    · have h1 := (mup_lt0 (by omega)).mp h1
      refine lv_iconst (v := (nI 0)) hx hb d_MO_replace_27 (by decide) ?_
      exact lv_eqi (by simp [h1, b2i, nI_0]) tail
    · have h1 : ¬ u j = 0 := fun z => h1 ((mup_lt0 (by omega)).mpr z)
      refine lv_iconst (v := (nI 1)) hx hb d_MO_replace_23 (by decide) ?_
      refine lv_goto (tgt := 28) hx hb d_MO_replace_24 (by decide) ?_
      exact lv_eqi (by simp [h1, b2i, nI1]) tail
  · have hok : okD d = false := by simpa using hc
    have hE : rpE u d = 1 := by unfold rpE; rw [hok]; rfl
    rw [hc, if_pos rfl] at hP
    rw [hE, if_neg (by decide), if_neg (by decide)]
    exact W.toX (W.vret hx hb hr (fun t ht _ => ⟨rfl, by rw [ht]; exact hP, hS.F ht⟩) hS.2.2 d_MO_replace_12 hlocks)
set_option maxHeartbeats 4000000 in
set_option maxRecDepth 100000 in
theorem c_MO_flip (l : Launch) (G : Gx) {y sa ua : Nat} {er : Int32} {u : Nat → Nat} {R : Nat → Nat → Int64} (hDs : mDs y sa ua) (hu : uok u) (d s h : Int32) (v : Int64) : MetX l y_MO_flip [w_MO_flip] (Lv 2 0 0) (Pq G [.ref y, .int d, .int s, .int h, .long v] (MOp G y sa ua er u R)) (QM none (MOp G y sa ua (nI (blE u d s h)) u (if blE u d s h = 0 then rset R (ncl d) (2 * ncl s + ncl h) (R (ncl d) (2 * ncl s + ncl h) ^^^ v) else R)) (mA y sa ua)) 0 0 (mA y sa ua) := by
  refine hd_code (by decide +kernel) (Nat.le_of_ble_eq_true rfl) ?_
  intro pp ee ss mm bl meth cd ls hF hr hlocks hex hnm had hP hl
  have hx := hF.1
  have hb := hF.2.1
  have hl : lv_has ls 6 [(0, .ref _), (1, .int _), (2, .int _), (3, .int _), (4, .long _)] := hl
  have hS : va_S (mA y sa ua) ss.heap ss.heap [] := va_S.rf
  refine lv_aload_n hx hb d_MO_flip_0 rfl (lv_at hl 0 rfl) ?_
  refine lv_aload_n hx hb d_MO_flip_1 rfl (lv_at hl 0 rfl) ?_
  refine lv_iload_n hx hb d_MO_flip_2 rfl (lv_at hl 1 rfl) ?_
  refine lv_iload_n hx hb d_MO_flip_3 rfl (lv_at hl 2 rfl) ?_
  refine lv_iload_n hx hb d_MO_flip_4 rfl (lv_at hl 3 rfl) ?_
  refine rV hF sV_MO_54 (c_MO_noBlock l G d s h (fun _ => True)) trivial (rc_y hF.2.2.2.2 hP) (by decide) rfl rfl hl.1 (Nat.le_of_ble_eq_true rfl) d_MO_flip_5 (by decide) ?_
  refine lv_iconst (v := (nI 1)) hx hb d_MO_flip_8 (by decide) ?_
  refine mV hF sV_MO_36 (c_MO_fails l G hDs (!okB d s h) (nI 1)) hP (rc_y hF.2.2.2.2 hP) hS (fun _ h => h) ⟨rfl, rfl, by decide, by decide⟩ rfl rfl hl.1 (Nat.le_of_ble_eq_true rfl) d_MO_flip_9 (by decide) (fun H locs hP hS _ _ => ?_)
  refine zb_eq (tgt := 16) hx hb d_MO_flip_12 (by decide) (fun hc => ?_) (fun hc => ?_)
  · have hok : okB d s h = true := by simpa using hc
    obtain ⟨i, j, k, hi, hj, hk, rfl, rfl, rfl⟩ := okB_nI hok
    have hci : ncl (nI i) = i := nI_clamp (by omega)
    have hcj : ncl (nI j) = j := nI_clamp (by omega)
    have hck : ncl (nI k) = k := nI_clamp (by omega)
    rw [hci, hcj, hck]
    rw [hc, if_neg (by decide)] at hP
    have hE : blE u (nI i) (nI j) (nI k) = if u i = 0 then 2 else 0 := by unfold blE; rw [if_pos hok, hci]
    have hui := hu i hi
    have tail : W pp l ee (Lv 2 0 0) ss mm ([.ref y, .int (nI i), .int (nI j), .int (nI k), .long v] : List Value).toArray bl meth cd H locs 0 0 (MX bl (QM none (MOp G y sa ua (nI (blE u (nI i) (nI j) (nI k))) u (if blE u (nI i) (nI j) (nI k) = 0 then rset R i (2 * j + k) (R i (2 * j + k) ^^^ v) else R)) (mA y sa ua)) ([.ref y, .int (nI i), .int (nI j), .int (nI k), .long v] : List Value).toArray ss 0 0 (mA y sa ua)) (F0 mm 31 ls [.int (b2i (decide (u i = 0))), .ref y]) := by
      refine lv_iconst (v := (nI 2)) hx hb d_MO_flip_31 (by decide) ?_
      refine mV hF sV_MO_36 (c_MO_fails l G hDs (decide (u i = 0)) (nI 2)) hP (rc_y hF.2.2.2.2 hP) hS (fun _ h => h) ⟨rfl, rfl, by decide, by decide⟩ rfl rfl hl.1 (Nat.le_of_ble_eq_true rfl) d_MO_flip_32 (by decide) (fun H locs hP hS _ _ => ?_)
      refine zb_eq (tgt := 39) hx hb d_MO_flip_35 (by decide) (fun h2 => ?_) (fun h2 => ?_)
      · have h0 : ¬ u i = 0 := by simpa using h2
        rw [h2, if_neg (by decide)] at hP
        rw [if_neg h0] at hE
        rw [hE, if_pos rfl]
        refine lv_aload_n hx hb d_MO_flip_39 rfl (lv_at hl 0 rfl) ?_
        refine mg_S hF hP d_MO_flip_40 ?_
        refine lv_iload_n hx hb d_MO_flip_43 rfl (lv_at hl 1 rfl) ?_
        refine lv_iload_n hx hb d_MO_flip_44 rfl (lv_at hl 2 rfl) ?_
        refine lv_iload_n hx hb d_MO_flip_45 rfl (lv_at hl 3 rfl) ?_
        refine rS hF sS_MO_25 (c_MO_at l G i j k (fun _ => True)) trivial (by decide) rfl rfl hl.1 (Nat.le_of_ble_eq_true rfl) d_MO_flip_46 (by decide) ?_
        refine lv_dup2_11 hx hb d_MO_flip_49 rfl rfl ?_
        refine ml_S (by omega) hF hP d_MO_flip_50 ?_
        rw [flat_at R (by omega)]
        refine lv_lload hx hb d_MO_flip_51 (lv_at hl 4 rfl) ?_
        refine lv_lxor hx hb d_MO_flip_53 ?_
        refine ms_S (by omega) hDs hF hP hS d_MO_flip_54 (fun H locs hP hS => ?_)
        rw [flat_set R (by omega)] at hP
        exact W.toX (W.vret hx hb hr (fun t ht _ => ⟨rfl, by rw [ht]; exact hP, hS.F ht⟩) hS.2.2 d_MO_flip_55 hlocks)
      · have h0 : u i = 0 := by simpa using h2
        rw [h2, if_pos rfl] at hP
        rw [if_pos h0] at hE
        rw [hE, if_neg (by decide)]
        exact W.toX (W.vret hx hb hr (fun t ht _ => ⟨rfl, by rw [ht]; exact hP, hS.F ht⟩) hS.2.2 d_MO_flip_38 hlocks)
    refine lv_aload_n hx hb d_MO_flip_16 rfl (lv_at hl 0 rfl) ?_
    refine lv_aload_n hx hb d_MO_flip_17 rfl (lv_at hl 0 rfl) ?_
    refine mg_U hF hP d_MO_flip_18 ?_
    refine lv_iload_n hx hb d_MO_flip_21 rfl (lv_at hl 1 rfl) ?_
    refine ml_U hi hF hP d_MO_flip_22 ?_
    refine lv_if_ge (tgt := 30) hx hb d_MO_flip_23 (by decide) (fun h1 => ?_) (fun h1 => ?_)
    · have h1 : ¬ u i = 0 := fun z => absurd ((mup_lt0 (n := u i) (by omega)).mpr z) (Int32.not_lt.mpr h1)
      refine lv_iconst (v := (nI 0)) hx hb d_MO_flip_30 (by decide) ?_
      exact lv_eqi (by simp [h1, b2i, nI_0]) tail
    · have h1 : u i = 0 := (mup_lt0 (by omega)).mp (Int32.not_le.mp h1)
      refine lv_iconst (v := (nI 1)) hx hb d_MO_flip_26 (by decide) ?_
      refine lv_goto (tgt := 31) hx hb d_MO_flip_27 (by decide) ?_
      exact lv_eqi (by simp [h1, b2i, nI1]) tail
  · have hok : okB d s h = false := by simpa using hc
    have hE : blE u d s h = 1 := by unfold blE; rw [hok]; rfl
    rw [hc, if_pos rfl] at hP
    rw [hE, if_neg (by decide)]
    exact W.toX (W.vret hx hb hr (fun t ht _ => ⟨rfl, by rw [ht]; exact hP, hS.F ht⟩) hS.2.2 d_MO_flip_15 hlocks)
set_option maxHeartbeats 4000000 in
set_option maxRecDepth 100000 in
theorem c_MO_block (l : Launch) (G : Gx) {y sa ua : Nat} {er : Int32} {u : Nat → Nat} {R : Nat → Nat → Int64} (hDs : mDs y sa ua) (hu : uok u) (d s h : Int32) : MetX l y_MO_block [w_MO_block] (Lv 2 0 0) (Pq G [.ref y, .int d, .int s, .int h] (MOp G y sa ua er u R)) (QM (some (.long (if blE u d s h = 0 then R (ncl d) (2 * ncl s + ncl h) else 0))) (MOp G y sa ua (nI (blE u d s h)) u R) (mA y sa ua)) 0 0 (mA y sa ua) := by
  refine hd_code (by decide +kernel) (Nat.le_of_ble_eq_true rfl) ?_
  intro pp ee ss mm bl meth cd ls hF hr hlocks hex hnm had hP hl
  have hx := hF.1
  have hb := hF.2.1
  have hl : lv_has ls 4 [(0, .ref _), (1, .int _), (2, .int _), (3, .int _)] := hl
  have hS : va_S (mA y sa ua) ss.heap ss.heap [] := va_S.rf
  refine lv_aload_n hx hb d_MO_block_0 rfl (lv_at hl 0 rfl) ?_
  refine lv_aload_n hx hb d_MO_block_1 rfl (lv_at hl 0 rfl) ?_
  refine lv_iload_n hx hb d_MO_block_2 rfl (lv_at hl 1 rfl) ?_
  refine lv_iload_n hx hb d_MO_block_3 rfl (lv_at hl 2 rfl) ?_
  refine lv_iload_n hx hb d_MO_block_4 rfl (lv_at hl 3 rfl) ?_
  refine rV hF sV_MO_54 (c_MO_noBlock l G d s h (fun _ => True)) trivial (rc_y hF.2.2.2.2 hP) (by decide) rfl rfl hl.1 (Nat.le_of_ble_eq_true rfl) d_MO_block_5 (by decide) ?_
  refine lv_iconst (v := (nI 1)) hx hb d_MO_block_8 (by decide) ?_
  refine mV hF sV_MO_36 (c_MO_fails l G hDs (!okB d s h) (nI 1)) hP (rc_y hF.2.2.2.2 hP) hS (fun _ h => h) ⟨rfl, rfl, by decide, by decide⟩ rfl rfl hl.1 (Nat.le_of_ble_eq_true rfl) d_MO_block_9 (by decide) (fun H locs hP hS _ _ => ?_)
  refine zb_eq (tgt := 17) hx hb d_MO_block_12 (by decide) (fun hc => ?_) (fun hc => ?_)
  · have hok : okB d s h = true := by simpa using hc
    obtain ⟨i, j, k, hi, hj, hk, rfl, rfl, rfl⟩ := okB_nI hok
    have hci : ncl (nI i) = i := nI_clamp (by omega)
    have hcj : ncl (nI j) = j := nI_clamp (by omega)
    have hck : ncl (nI k) = k := nI_clamp (by omega)
    rw [hci, hcj, hck]
    rw [hc, if_neg (by decide)] at hP
    have hE : blE u (nI i) (nI j) (nI k) = if u i = 0 then 2 else 0 := by unfold blE; rw [if_pos hok, hci]
    have hui := hu i hi
    have tail : W pp l ee (Lv 2 0 0) ss mm ([.ref y, .int (nI i), .int (nI j), .int (nI k)] : List Value).toArray bl meth cd H locs 0 0 (MX bl (QM (some (.long (if blE u (nI i) (nI j) (nI k) = 0 then R i (2 * j + k) else 0))) (MOp G y sa ua (nI (blE u (nI i) (nI j) (nI k))) u R) (mA y sa ua)) ([.ref y, .int (nI i), .int (nI j), .int (nI k)] : List Value).toArray ss 0 0 (mA y sa ua)) (F0 mm 32 ls [.int (b2i (decide (u i = 0))), .ref y]) := by
      refine lv_iconst (v := (nI 2)) hx hb d_MO_block_32 (by decide) ?_
      refine mV hF sV_MO_36 (c_MO_fails l G hDs (decide (u i = 0)) (nI 2)) hP (rc_y hF.2.2.2.2 hP) hS (fun _ h => h) ⟨rfl, rfl, by decide, by decide⟩ rfl rfl hl.1 (Nat.le_of_ble_eq_true rfl) d_MO_block_33 (by decide) (fun H locs hP hS _ _ => ?_)
      refine zb_eq (tgt := 43) hx hb d_MO_block_36 (by decide) (fun h2 => ?_) (fun h2 => ?_)
      · have h0 : ¬ u i = 0 := by simpa using h2
        rw [h2, if_neg (by decide)] at hP
        rw [if_neg h0] at hE
        rw [hE, if_pos rfl]
        refine lv_aload_n hx hb d_MO_block_43 rfl (lv_at hl 0 rfl) ?_
        refine mg_S hF hP d_MO_block_44 ?_
        refine lv_iload_n hx hb d_MO_block_47 rfl (lv_at hl 1 rfl) ?_
        refine lv_iload_n hx hb d_MO_block_48 rfl (lv_at hl 2 rfl) ?_
        refine lv_iload_n hx hb d_MO_block_49 rfl (lv_at hl 3 rfl) ?_
        refine rS hF sS_MO_25 (c_MO_at l G i j k (fun _ => True)) trivial (by decide) rfl rfl hl.1 (Nat.le_of_ble_eq_true rfl) d_MO_block_50 (by decide) ?_
        refine ml_S (by omega) hF hP d_MO_block_53 ?_
        rw [flat_at R (by omega)]
        exact W.toX (W.lret hx hb hr (fun t ht _ => ⟨rfl, by rw [ht]; exact hP, hS.F ht⟩) hS.2.2 d_MO_block_54 hlocks)
      · have h0 : u i = 0 := by simpa using h2
        rw [h2, if_pos rfl] at hP
        rw [if_pos h0] at hE
        rw [hE, if_neg (by decide)]
        refine lv_lconst (v := 0) hx hb d_MO_block_39 (by decide) ?_
        refine lv_goto (tgt := 54) hx hb d_MO_block_40 (by decide) ?_
        exact W.toX (W.lret hx hb hr (fun t ht _ => ⟨rfl, by rw [ht]; exact hP, hS.F ht⟩) hS.2.2 d_MO_block_54 hlocks)
    refine lv_aload_n hx hb d_MO_block_17 rfl (lv_at hl 0 rfl) ?_
    refine lv_aload_n hx hb d_MO_block_18 rfl (lv_at hl 0 rfl) ?_
    refine mg_U hF hP d_MO_block_19 ?_
    refine lv_iload_n hx hb d_MO_block_22 rfl (lv_at hl 1 rfl) ?_
    refine ml_U hi hF hP d_MO_block_23 ?_
    refine lv_if_ge (tgt := 31) hx hb d_MO_block_24 (by decide) (fun h1 => ?_) (fun h1 => ?_)
    · have h1 : ¬ u i = 0 := fun z => absurd ((mup_lt0 (n := u i) (by omega)).mpr z) (Int32.not_lt.mpr h1)
      refine lv_iconst (v := (nI 0)) hx hb d_MO_block_31 (by decide) ?_
      exact lv_eqi (by simp [h1, b2i, nI_0]) tail
    · have h1 : u i = 0 := (mup_lt0 (by omega)).mp (Int32.not_le.mp h1)
      refine lv_iconst (v := (nI 1)) hx hb d_MO_block_27 (by decide) ?_
      refine lv_goto (tgt := 32) hx hb d_MO_block_28 (by decide) ?_
      exact lv_eqi (by simp [h1, b2i, nI1]) tail
  · have hok : okB d s h = false := by simpa using hc
    have hE : blE u d s h = 1 := by unfold blE; rw [hok]; rfl
    rw [hc, if_pos rfl] at hP
    rw [hE, if_neg (by decide)]
    refine lv_lconst (v := 0) hx hb d_MO_block_15 (by decide) ?_
    exact W.toX (W.lret hx hb hr (fun t ht _ => ⟨rfl, by rw [ht]; exact hP, hS.F ht⟩) hS.2.2 d_MO_block_16 hlocks)
set_option maxHeartbeats 4000000 in
set_option maxRecDepth 100000 in
theorem c_MO_state (l : Launch) (G : Gx) {y sa ua : Nat} {er : Int32} {u : Nat → Nat} {R : Nat → Nat → Int64} (hDs : mDs y sa ua) (hu : uok u) (d : Int32) : MetX l y_MO_state [w_MO_state] (Lv 1 0 0) (Pq G [.ref y, .int d] (MOp G y sa ua er u R)) (QM (some (.int (if dE d = 0 then stV (u (ncl d)) else nI 0))) (MOp G y sa ua (nI (dE d)) u R) (mA y sa ua)) 0 0 (mA y sa ua) := by
  refine hd_code (by decide +kernel) (Nat.le_of_ble_eq_true rfl) ?_
  intro pp ee ss mm bl meth cd ls hF hr hlocks hex hnm had hP hl
  have hx := hF.1
  have hb := hF.2.1
  have hl : lv_has ls 2 [(0, .ref _), (1, .int _)] := hl
  have hS : va_S (mA y sa ua) ss.heap ss.heap [] := va_S.rf
  refine lv_aload_n hx hb d_MO_state_0 rfl (lv_at hl 0 rfl) ?_
  refine lv_iload_n hx hb d_MO_state_1 rfl (lv_at hl 1 rfl) ?_
  refine rS hF sS_MO_50 (c_MO_none l G d (fun _ => True)) trivial (by decide) rfl rfl hl.1 (Nat.le_of_ble_eq_true rfl) d_MO_state_2 (by decide) ?_
  refine lv_iconst (v := (nI 1)) hx hb d_MO_state_5 (by decide) ?_
  refine mV hF sV_MO_36 (c_MO_fails l G hDs (!okD d) (nI 1)) hP (rc_y hF.2.2.2.2 hP) hS (fun _ h => h) ⟨rfl, rfl, by decide, by decide⟩ rfl rfl hl.1 (Nat.le_of_ble_eq_true rfl) d_MO_state_6 (by decide) (fun H locs hP hS _ _ => ?_)
  refine zb_eq (tgt := 14) hx hb d_MO_state_9 (by decide) (fun hc => ?_) (fun hc => ?_)
  · have hok : okD d = true := by simpa using hc
    obtain ⟨j, hj, rfl⟩ := okD_nI hok
    have hcl : ncl (nI j) = j := nI_clamp (by omega)
    try rw [hcl]
    rw [hc, if_neg (by decide)] at hP
    have hE : dE (nI j) = 0 := by unfold dE; rw [if_pos hok]
    rw [hE, if_pos rfl]
    have huj := hu j hj
    refine lv_aload_n hx hb d_MO_state_14 rfl (lv_at hl 0 rfl) ?_
    refine mg_U hF hP d_MO_state_15 ?_
    refine lv_iload_n hx hb d_MO_state_18 rfl (lv_at hl 1 rfl) ?_
    refine ml_U hj hF hP d_MO_state_19 ?_
    refine lv_bipush (v := nI 100) hx hb d_MO_state_20 (by decide) ?_
    refine lv_icmp_ne (tgt := 29) hx hb d_MO_state_22 (by decide) (fun h1 => ?_) (fun h1 => ?_)
    · have h1 : ¬ u j = 101 := fun z => h1 ((mup_100 (by omega)).mpr z)
      refine lv_aload_n hx hb d_MO_state_29 rfl (lv_at hl 0 rfl) ?_
      refine mg_U hF hP d_MO_state_30 ?_
      refine lv_iload_n hx hb d_MO_state_33 rfl (lv_at hl 1 rfl) ?_
      refine ml_U hj hF hP d_MO_state_34 ?_
      refine lv_if_ge (tgt := 42) hx hb d_MO_state_35 (by decide) (fun h2 => ?_) (fun h2 => ?_)
      · have h2 : ¬ u j = 0 := fun z => absurd ((mup_lt0 (n := u j) (by omega)).mpr z) (Int32.not_lt.mpr h2)
        refine lv_iconst (v := (nI 2)) hx hb d_MO_state_42 (by decide) ?_
        refine lv_aload_n hx hb d_MO_state_43 rfl (lv_at hl 0 rfl) ?_
        refine mg_U hF hP d_MO_state_44 ?_
        refine lv_iload_n hx hb d_MO_state_47 rfl (lv_at hl 1 rfl) ?_
        refine ml_U hj hF hP d_MO_state_48 ?_
        refine lv_iadd hx hb d_MO_state_49 ?_
        refine lv_eqi (z := stV (u j)) (by unfold stV; rw [if_neg h2, if_neg h1, mup_nI h2, nI_add]; congr 1; omega) ?_
        exact W.toX (W.iret hx hb hr (fun t ht _ => ⟨rfl, by rw [ht]; exact hP, hS.F ht⟩) hS.2.2 d_MO_state_50 hlocks)
      · have h2 : u j = 0 := (mup_lt0 (by omega)).mp (Int32.not_le.mp h2)
        refine lv_iconst (v := (nI 1)) hx hb d_MO_state_38 (by decide) ?_
        refine lv_goto (tgt := 50) hx hb d_MO_state_39 (by decide) ?_
        refine lv_eqi (z := stV (u j)) (by unfold stV; rw [if_pos h2]) ?_
        exact W.toX (W.iret hx hb hr (fun t ht _ => ⟨rfl, by rw [ht]; exact hP, hS.F ht⟩) hS.2.2 d_MO_state_50 hlocks)
    · have h1 : u j = 101 := (mup_100 (by omega)).mp h1
      refine lv_iconst (v := (nI 0)) hx hb d_MO_state_25 (by decide) ?_
      refine lv_goto (tgt := 50) hx hb d_MO_state_26 (by decide) ?_
      refine lv_eqi (z := stV (u j)) (by unfold stV; rw [if_neg (by omega), if_pos h1]) ?_
      exact W.toX (W.iret hx hb hr (fun t ht _ => ⟨rfl, by rw [ht]; exact hP, hS.F ht⟩) hS.2.2 d_MO_state_50 hlocks)
  · have hok : okD d = false := by simpa using hc
    have hE : dE d = 1 := by unfold dE; rw [hok]; rfl
    rw [hc, if_pos rfl] at hP
    rw [hE, if_neg (by decide)]
    refine lv_iconst (v := (nI 0)) hx hb d_MO_state_12 (by decide) ?_
    exact W.toX (W.iret hx hb hr (fun t ht _ => ⟨rfl, by rw [ht]; exact hP, hS.F ht⟩) hS.2.2 d_MO_state_13 hlocks)
set_option maxHeartbeats 4000000 in
set_option maxRecDepth 100000 in
theorem c_MO_lost (l : Launch) (G : Gx) {y sa ua : Nat} {er : Int32} {u : Nat → Nat} {R : Nat → Nat → Int64} (hDs : mDs y sa ua) (hu : uok u) : MetX l y_MO_lost [w_MO_lost] (Lv 2 0 0) (Pq G [.ref y] (MOp G y sa ua er u R)) (QM (some (.int (nI (cntL u 400)))) (MOp G y sa ua (nI 0) u R) (mA y sa ua)) 0 0 (mA y sa ua) := by
  refine hd_code (by decide +kernel) (Nat.le_of_ble_eq_true rfl) ?_
  intro pp ee ss mm bl meth cd ls hF hr hlocks hex hnm had hP hl
  have hx := hF.1
  have hb := hF.2.1
  have hl : lv_has ls 3 [(0, .ref _)] := hl
  have hS : va_S (mA y sa ua) ss.heap ss.heap [] := va_S.rf
  refine lv_aload_n hx hb d_MO_lost_0 rfl (lv_at hl 0 rfl) ?_
  refine lv_iconst (v := (nI 0)) hx hb d_MO_lost_1 (by decide) ?_
  refine mp_E hDs hF hP hS d_MO_lost_2 (fun H locs hP hS => ?_)
  refine lv_iconst (v := (nI 0)) hx hb d_MO_lost_5 (by decide) ?_
  refine lv_istore_n hx hb d_MO_lost_6 rfl hl (by decide) rfl (fun ls hl => ?_)
  have hl : lv_has ls 3 [(1, .int _), (0, .ref _)] := hl
  refine lv_iconst (v := (nI 0)) hx hb d_MO_lost_7 (by decide) ?_
  refine lv_istore_n hx hb d_MO_lost_8 rfl hl (by decide) rfl (fun ls hl => ?_)
  have hl : lv_has ls 3 [(2, .int _), (1, .int _), (0, .ref _)] := hl
  have loop : ∀ (n k : Nat) (ls : Array Slot), k + n = 400 → lv_has ls 3 [(2, .int (nI k)), (1, .int (nI (cntL u k))), (0, .ref y)] → W pp l ee (Lv 2 0 0) ss mm ([.ref y] : List Value).toArray bl meth cd H locs 0 0 (MX bl (QM (some (.int (nI (cntL u 400)))) (MOp G y sa ua (nI 0) u R) (mA y sa ua)) ([.ref y] : List Value).toArray ss 0 0 (mA y sa ua)) (F0 mm 9 ls []) := by
    intro n
    induction n with
    | zero =>
      intro k ls hk hl
      obtain rfl : k = 400 := by omega
      refine lv_iload_n hx hb d_MO_lost_9 rfl (lv_at hl 0 rfl) ?_
      refine lv_sipush (v := nI 400) hx hb d_MO_lost_10 (by decide) ?_
      refine nb_ge (tgt := 39) hx hb d_MO_lost_13 (by decide) (by omega) (by omega) (fun _ => ?_) (fun hc => absurd hc (by omega))
      refine lv_iload_n hx hb d_MO_lost_39 rfl (lv_at hl 1 rfl) ?_
      exact W.toX (W.iret hx hb hr (fun t ht _ => ⟨rfl, by rw [ht]; exact hP, hS.F ht⟩) hS.2.2 d_MO_lost_40 hlocks)
    | succ n ih =>
      intro k ls hk hl
      refine lv_iload_n hx hb d_MO_lost_9 rfl (lv_at hl 0 rfl) ?_
      refine lv_sipush (v := nI 400) hx hb d_MO_lost_10 (by decide) ?_
      refine nb_ge (tgt := 39) hx hb d_MO_lost_13 (by decide) (by omega) (by omega) (fun hc => absurd hc (by omega)) (fun _ => ?_)
      refine lv_aload_n hx hb d_MO_lost_16 rfl (lv_at hl 2 rfl) ?_
      refine lv_iload_n hx hb d_MO_lost_17 rfl (lv_at hl 0 rfl) ?_
      refine rS hF sS_MO_40 (c_MO_disk l G (p := k) (by omega) (fun _ => True)) trivial (by decide) rfl rfl hl.1 (Nat.le_of_ble_eq_true rfl) d_MO_lost_18 (by decide) ?_
      refine lv_iload_n hx hb d_MO_lost_21 rfl (lv_at hl 0 rfl) ?_
      refine lv_iconst (v := (nI 4)) hx hb d_MO_lost_22 (by decide) ?_
      refine lv_idiv hx hb d_MO_lost_23 (by decide) ?_
      refine lv_eqi (z := nI (k / 4)) (pk_div (by omega) (by decide) (by decide)) ?_
      refine rV hF sV_MO_44 (c_MO_gone l G hu (dsk_lt k) (s := k / 4) (by omega)) hP (rc_y hF.2.2.2.2 hP) (by decide) rfl rfl hl.1 (Nat.le_of_ble_eq_true rfl) d_MO_lost_24 (by decide) ?_
      refine zb_eq (tgt := 33) hx hb d_MO_lost_27 (by decide) (fun hc => ?_) (fun hc => ?_)
      · refine lv_iinc (k := 0) hx hb d_MO_lost_33 hl rfl (nI_inc k) (by decide) rfl (fun ls hl => ?_)
        have hl : lv_has ls 3 [(2, .int _), (1, .int _), (0, .ref _)] := hl
        refine lv_goto (tgt := 9) hx hb d_MO_lost_36 (by decide) ?_
        exact ih (k + 1) ls (by omega) (lv_sub hl [0, 1, 2] (by simp [lv_pick, cntL, hc]))
      · refine lv_iinc (k := 1) hx hb d_MO_lost_30 hl rfl (nI_inc _) (by decide) rfl (fun ls hl => ?_)
        have hl : lv_has ls 3 [(1, .int _), (2, .int _), (0, .ref _)] := hl
        refine lv_iinc (k := 1) hx hb d_MO_lost_33 hl rfl (nI_inc k) (by decide) rfl (fun ls hl => ?_)
        have hl : lv_has ls 3 [(2, .int _), (1, .int _), (0, .ref _)] := hl
        refine lv_goto (tgt := 9) hx hb d_MO_lost_36 (by decide) ?_
        exact ih (k + 1) ls (by omega) (lv_sub hl [0, 1, 2] (by simp [lv_pick, cntL, hc]))
  exact loop 400 0 ls rfl hl
end
section
/-! the reference's rebuild and scrub -/
theorem x_bits {x y : Int64} (h : ∀ i, x.toBitVec.getLsbD i = y.toBitVec.getLsbD i) : x = y := Int64.toBitVec_inj.mp (BitVec.eq_of_getLsbD_eq (fun i _ => h i))
theorem oth_xal (R : Nat → Nat → Int64) {p : Nat} (k : Nat) (hp : p < 5) : R p k ^^^ xal R k 5 = oth R p k 5 := by
  rcases (show p = 0 ∨ p = 1 ∨ p = 2 ∨ p = 3 ∨ p = 4 by omega) with rfl | rfl | rfl | rfl | rfl <;>
    · simp only [xal, oth]
      generalize R 0 k = a0
      generalize R 1 k = a1
      generalize R 2 k = a2
      generalize R 3 k = a3
      generalize R 4 k = a4
      generalize (0 : Int64) = z
      try simp only [if_true, if_false, reduceIte, Nat.reduceEqDiff]
      refine x_bits (fun i => ?_)
      simp only [Int64.toBitVec_xor, BitVec.getLsbD_xor]
      cases a0.toBitVec.getLsbD i <;> cases a1.toBitVec.getLsbD i <;> cases a2.toBitVec.getLsbD i <;> cases a3.toBitVec.getLsbD i <;> cases a4.toBitVec.getLsbD i <;> cases z.toBitVec.getLsbD i <;> rfl
theorem x_zero (a b : Int64) : a ^^^ b = a ↔ b = 0 := by
  constructor
  · intro h
    refine x_bits (fun i => ?_)
    have h1 : (a ^^^ b).toBitVec.getLsbD i = a.toBitVec.getLsbD i := by rw [h]
    simp only [Int64.toBitVec_xor, BitVec.getLsbD_xor] at h1
    have h2 : (0 : Int64).toBitVec.getLsbD i = false := by simp
    rw [h2]
    cases h3 : a.toBitVec.getLsbD i <;> cases h4 : b.toBitVec.getLsbD i <;> simp [h3, h4] at h1 ⊢
  · intro h
    subst h
    simp
theorem xal_0 (R : Nat → Nat → Int64) {p : Nat} (k : Nat) (hp : p < 5) : xal R k 5 = 0 ↔ oth R p k 5 = R p k := by
  rw [← oth_xal R k hp, x_zero]
theorem hsR_eq (R : Nat → Nat → Int64) (s h : Nat) : hsR R s h = rset R (s % 5) (2 * s + h) (oth R (s % 5) (2 * s + h) 5) := by
  unfold hsR
  rw [oth_xal R _ (Nat.mod_lt _ (by decide))]
theorem hsR_id {R : Nat → Nat → Int64} {s h : Nat} (e : oth R (s % 5) (2 * s + h) 5 = R (s % 5) (2 * s + h)) : hsR R s h = R := by
  rw [hsR_eq, e, rset_id]
theorem scW_f {R : Nat → Nat → Int64} {s : Nat} (e0 : oth R (s % 5) (2 * s + 0) 5 = R (s % 5) (2 * s + 0)) (e1 : oth R (s % 5) (2 * s + 1) 5 = R (s % 5) (2 * s + 1)) : scW R s = false := by
  have h5 : s % 5 < 5 := Nat.mod_lt _ (by decide)
  unfold scW
  rw [hsR_id e0, (xal_0 R _ h5).mpr e0, (xal_0 R _ h5).mpr e1]
  rfl
theorem scW_t {R : Nat → Nat → Int64} {s : Nat} (h : ¬ (oth R (s % 5) (2 * s + 0) 5 = R (s % 5) (2 * s + 0) ∧ oth R (s % 5) (2 * s + 1) 5 = R (s % 5) (2 * s + 1))) : scW R s = true := by
  have h5 : s % 5 < 5 := Nat.mod_lt _ (by decide)
  unfold scW
  by_cases e0 : oth R (s % 5) (2 * s + 0) 5 = R (s % 5) (2 * s + 0)
  · have e1 : ¬ oth R (s % 5) (2 * s + 1) 5 = R (s % 5) (2 * s + 1) := fun z => h ⟨e0, z⟩
    rw [hsR_id e0]
    have h2 : ¬ xal R (2 * s + 1) 5 = 0 := fun z => e1 ((xal_0 R _ h5).mp z)
    simp [h2]
  · have h2 : ¬ xal R (2 * s + 0) 5 = 0 := fun z => e0 ((xal_0 R _ h5).mp z)
    simp only [h2]
    simp
set_option maxHeartbeats 4000000 in
set_option maxRecDepth 100000 in
theorem c_MO_rebuild (l : Launch) (G : Gx) {y sa ua : Nat} {er : Int32} {u : Nat → Nat} {R : Nat → Nat → Int64} (hDs : mDs y sa ua) (hu : uok u) (d n : Int32) : MetX l y_MO_rebuild [w_MO_rebuild] (Lv 2 0 0) (Pq G [.ref y, .int d, .int n] (MOp G y sa ua er u R)) (QM (some (.int (if rbE u d n = 0 then mup ((rb (ncl d) (ncl n) u R).1 (ncl d)) else nI 0))) (MOp G y sa ua (nI (rbE u d n)) (if rbE u d n = 0 then (rb (ncl d) (ncl n) u R).1 else u) (if rbE u d n = 0 then (rb (ncl d) (ncl n) u R).2 else R)) (mA y sa ua)) 0 0 (mA y sa ua) := by
  refine hd_code (by decide +kernel) (Nat.le_of_ble_eq_true rfl) ?_
  intro pp ee ss mm bl meth cd ls hF hr hlocks hex hnm had hP hl
  have hx := hF.1
  have hb := hF.2.1
  have hl : lv_has ls 5 [(0, .ref _), (1, .int _), (2, .int _)] := hl
  have hS : va_S (mA y sa ua) ss.heap ss.heap [] := va_S.rf
  have tail : W pp l ee (Lv 2 0 0) ss mm ([.ref y, .int d, .int n] : List Value).toArray bl meth cd ss.heap [] 0 0 (MX bl (QM (some (.int (if rbE u d n = 0 then mup ((rb (ncl d) (ncl n) u R).1 (ncl d)) else nI 0))) (MOp G y sa ua (nI (rbE u d n)) (if rbE u d n = 0 then (rb (ncl d) (ncl n) u R).1 else u) (if rbE u d n = 0 then (rb (ncl d) (ncl n) u R).2 else R)) (mA y sa ua)) ([.ref y, .int d, .int n] : List Value).toArray ss 0 0 (mA y sa ua)) (F0 mm 17 ls [.int (b2i (!okN d n)), .ref y]) := by
    refine lv_iconst (v := (nI 1)) hx hb d_MO_rebuild_17 (by decide) ?_
    refine mV hF sV_MO_36 (c_MO_fails l G hDs (!okN d n) (nI 1)) hP (rc_y hF.2.2.2.2 hP) hS (fun _ h => h) ⟨rfl, rfl, by decide, by decide⟩ rfl rfl hl.1 (Nat.le_of_ble_eq_true rfl) d_MO_rebuild_18 (by decide) (fun H locs hP hS _ _ => ?_)
    refine zb_eq (tgt := 26) hx hb d_MO_rebuild_21 (by decide) (fun hc => ?_) (fun hc => ?_)
    · have hok : okN d n = true := by simpa using hc
      obtain ⟨i, j, hi, hj, rfl, rfl⟩ := okN_nI hok
      have hci : ncl (nI i) = i := nI_clamp (by omega)
      have hcj : ncl (nI j) = j := nI_clamp hj
      rw [hci, hcj]
      rw [hc, if_neg (by decide)] at hP
      have hE : rbE u (nI i) (nI j) = if u i = 0 ∨ u i = 101 then 2 else 0 := by unfold rbE; rw [if_pos hok, hci]
      have hui := hu i hi
      have tail2 : W pp l ee (Lv 2 0 0) ss mm ([.ref y, .int (nI i), .int (nI j)] : List Value).toArray bl meth cd H locs 0 0 (MX bl (QM (some (.int (if rbE u (nI i) (nI j) = 0 then mup ((rb i j u R).1 i) else nI 0))) (MOp G y sa ua (nI (rbE u (nI i) (nI j))) (if rbE u (nI i) (nI j) = 0 then (rb i j u R).1 else u) (if rbE u (nI i) (nI j) = 0 then (rb i j u R).2 else R)) (mA y sa ua)) ([.ref y, .int (nI i), .int (nI j)] : List Value).toArray ss 0 0 (mA y sa ua)) (F0 mm 52 ls [.int (b2i (decide (u i = 0 ∨ u i = 101))), .ref y]) := by
        refine lv_iconst (v := (nI 2)) hx hb d_MO_rebuild_52 (by decide) ?_
        refine mV hF sV_MO_36 (c_MO_fails l G hDs (decide (u i = 0 ∨ u i = 101)) (nI 2)) hP (rc_y hF.2.2.2.2 hP) hS (fun _ h => h) ⟨rfl, rfl, by decide, by decide⟩ rfl rfl hl.1 (Nat.le_of_ble_eq_true rfl) d_MO_rebuild_53 (by decide) (fun H locs hP hS _ _ => ?_)
        refine zb_eq (tgt := 61) hx hb d_MO_rebuild_56 (by decide) (fun h2 => ?_) (fun h2 => ?_)
        · have h0 : ¬ (u i = 0 ∨ u i = 101) := by simpa using h2
          rw [h2, if_neg (by decide)] at hP
          rw [if_neg h0] at hE
          rw [hE, if_pos rfl, if_pos rfl, if_pos rfl]
          refine lv_iconst (v := (nI 0)) hx hb d_MO_rebuild_61 (by decide) ?_
          refine lv_istore_n hx hb d_MO_rebuild_62 rfl hl (by decide) rfl (fun ls hl => ?_)
          have hl : lv_has ls 5 [(3, .int _), (0, .ref _), (1, .int _), (2, .int _)] := hl
          have fin : ∀ (u1 : Nat → Nat) (R1 : Nat → Nat → Int64) (H : Heap) (locs : List Loc) (ls : Array Slot) (k : Nat), rb i j u R = (u1, R1) → lv_has ls 5 [(3, .int (nI k)), (0, .ref y), (1, .int (nI i)), (2, .int (nI j))] → MOp G y sa ua (nI 0) u1 R1 H → va_S (mA y sa ua) ss.heap H locs → W pp l ee (Lv 2 0 0) ss mm ([.ref y, .int (nI i), .int (nI j)] : List Value).toArray bl meth cd H locs 0 0 (MX bl (QM (some (.int (mup ((rb i j u R).1 i)))) (MOp G y sa ua (nI 0) (rb i j u R).1 (rb i j u R).2) (mA y sa ua)) ([.ref y, .int (nI i), .int (nI j)] : List Value).toArray ss 0 0 (mA y sa ua)) (F0 mm 154 ls []) := by
            intro u1 R1 H locs ls k hrb hl hP hS
            rw [hrb]
            refine lv_aload_n hx hb d_MO_rebuild_154 rfl (lv_at hl 1 rfl) ?_
            refine mg_U hF hP d_MO_rebuild_155 ?_
            refine lv_iload_n hx hb d_MO_rebuild_158 rfl (lv_at hl 2 rfl) ?_
            refine ml_U hi hF hP d_MO_rebuild_159 ?_
            exact W.toX (W.iret hx hb hr (fun t ht _ => ⟨rfl, by rw [ht]; exact hP, hS.F ht⟩) hS.2.2 d_MO_rebuild_160 hlocks)
          have loop : ∀ (f k : Nat) (u1 : Nat → Nat) (R1 : Nat → Nat → Int64) (H : Heap) (locs : List Loc) (ls : Array Slot), k + f = j → ¬ u1 i = 0 → uok u1 → rb i f u1 R1 = rb i j u R → lv_has ls 5 [(3, .int (nI k)), (0, .ref y), (1, .int (nI i)), (2, .int (nI j))] → MOp G y sa ua (nI 0) u1 R1 H → va_S (mA y sa ua) ss.heap H locs → W pp l ee (Lv 2 0 0) ss mm ([.ref y, .int (nI i), .int (nI j)] : List Value).toArray bl meth cd H locs 0 0 (MX bl (QM (some (.int (mup ((rb i j u R).1 i)))) (MOp G y sa ua (nI 0) (rb i j u R).1 (rb i j u R).2) (mA y sa ua)) ([.ref y, .int (nI i), .int (nI j)] : List Value).toArray ss 0 0 (mA y sa ua)) (F0 mm 63 ls []) := by
            intro f
            induction f with
            | zero =>
              intro k u1 R1 H locs ls hk hn1 hu1 hrb hl hP hS
              obtain rfl : k = j := by omega
              refine lv_iload_n hx hb d_MO_rebuild_63 rfl (lv_at hl 0 rfl) ?_
              refine lv_iload_n hx hb d_MO_rebuild_64 rfl (lv_at hl 3 rfl) ?_
              refine nb_ge (tgt := 154) hx hb d_MO_rebuild_65 (by decide) (by omega) (by omega) (fun _ => ?_) (fun hc => absurd hc (by omega))
              exact fin u1 R1 H locs ls _ hrb.symm hl hP hS
            | succ f ih =>
              intro k u1 R1 H locs ls hk hn1 hu1 hrb hl hP hS
              have hui1 := hu1 i hi
              refine lv_iload_n hx hb d_MO_rebuild_63 rfl (lv_at hl 0 rfl) ?_
              refine lv_iload_n hx hb d_MO_rebuild_64 rfl (lv_at hl 3 rfl) ?_
              refine nb_ge (tgt := 154) hx hb d_MO_rebuild_65 (by decide) (by omega) (by omega) (fun hc => absurd hc (by omega)) (fun _ => ?_)
              refine lv_aload_n hx hb d_MO_rebuild_68 rfl (lv_at hl 1 rfl) ?_
              refine mg_U hF hP d_MO_rebuild_69 ?_
              refine lv_iload_n hx hb d_MO_rebuild_72 rfl (lv_at hl 2 rfl) ?_
              refine ml_U hi hF hP d_MO_rebuild_73 ?_
              refine lv_bipush (v := nI 100) hx hb d_MO_rebuild_74 (by decide) ?_
              refine lv_icmp_ge (tgt := 154) hx hb d_MO_rebuild_76 (by decide) (fun h3 => ?_) (fun h3 => ?_)
              · have h3 := (mup_ge100 (by omega)).mp h3
                exact fin u1 R1 H locs ls _ (by rw [← hrb]; unfold rb; rw [if_neg (by omega)]) hl hP hS
              · have h3 : ¬ 101 ≤ u1 i := fun z => h3 ((mup_ge100 (by omega)).mpr z)
                refine lv_aload_n hx hb d_MO_rebuild_79 rfl (lv_at hl 1 rfl) ?_
                refine lv_iload_n hx hb d_MO_rebuild_80 rfl (lv_at hl 2 rfl) ?_
                refine lv_aload_n hx hb d_MO_rebuild_81 rfl (lv_at hl 1 rfl) ?_
                refine mg_U hF hP d_MO_rebuild_82 ?_
                refine lv_iload_n hx hb d_MO_rebuild_85 rfl (lv_at hl 2 rfl) ?_
                refine ml_U hi hF hP d_MO_rebuild_86 ?_
                refine lv_eqi (z := nI (u1 i - 1)) (mup_nI hn1) ?_
                refine rV hF sV_MO_44 (c_MO_gone l G hu1 hi (s := u1 i - 1) (by omega)) hP (rc_y hF.2.2.2.2 hP) (by decide) rfl rfl hl.1 (Nat.le_of_ble_eq_true rfl) d_MO_rebuild_87 (by decide) ?_
                refine zb_ne (tgt := 154) hx hb d_MO_rebuild_90 (by decide) (fun h4 => ?_) (fun h4 => ?_)
                · exact fin u1 R1 H locs ls _ (by rw [← hrb]; unfold rb; rw [if_neg (by rw [h4]; simp)]) hl hP hS
                · have hrb2 : rb i f (rbU u1 i) (rbR R1 i (u1 i - 1)) = rb i j u R := by rw [← hrb]; rw [rb, if_pos ⟨by omega, h4⟩]
                  refine lv_iconst (v := (nI 0)) hx hb d_MO_rebuild_93 (by decide) ?_
                  refine lv_istore hx hb d_MO_rebuild_94 hl (by decide) rfl (fun ls hl => ?_)
                  have hl : lv_has ls 5 [(4, .int _), (3, .int _), (0, .ref _), (1, .int _), (2, .int _)] := hl
                  refine lv_iload hx hb d_MO_rebuild_96 (lv_at hl 0 rfl) ?_
                  refine lv_iconst (v := (nI 2)) hx hb d_MO_rebuild_98 (by decide) ?_
                  refine nb_ge (tgt := 138) hx hb d_MO_rebuild_99 (by decide) (by omega) (by omega) (fun hc => absurd hc (by omega)) (fun _ => ?_)
                  refine lv_aload_n hx hb d_MO_rebuild_102 rfl (lv_at hl 2 rfl) ?_
                  refine mg_S hF hP d_MO_rebuild_103 ?_
                  refine lv_iload_n hx hb d_MO_rebuild_106 rfl (lv_at hl 3 rfl) ?_
                  refine lv_aload_n hx hb d_MO_rebuild_107 rfl (lv_at hl 2 rfl) ?_
                  refine mg_U hF hP d_MO_rebuild_108 ?_
                  refine lv_iload_n hx hb d_MO_rebuild_111 rfl (lv_at hl 3 rfl) ?_
                  refine ml_U hi hF hP d_MO_rebuild_112 ?_
                  refine lv_eqi (z := nI (u1 i - 1)) (mup_nI hn1) ?_
                  refine lv_iload hx hb d_MO_rebuild_113 (lv_at hl 0 rfl) ?_
                  refine rS hF sS_MO_25 (c_MO_at l G i (u1 i - 1) 0 (fun _ => True)) trivial (by decide) rfl rfl hl.1 (Nat.le_of_ble_eq_true rfl) d_MO_rebuild_115 (by decide) ?_
                  refine lv_aload_n hx hb d_MO_rebuild_118 rfl (lv_at hl 2 rfl) ?_
                  refine lv_iload_n hx hb d_MO_rebuild_119 rfl (lv_at hl 3 rfl) ?_
                  refine lv_aload_n hx hb d_MO_rebuild_120 rfl (lv_at hl 2 rfl) ?_
                  refine mg_U hF hP d_MO_rebuild_121 ?_
                  refine lv_iload_n hx hb d_MO_rebuild_124 rfl (lv_at hl 3 rfl) ?_
                  refine ml_U hi hF hP d_MO_rebuild_125 ?_
                  refine lv_eqi (z := nI (u1 i - 1)) (mup_nI hn1) ?_
                  refine lv_iload hx hb d_MO_rebuild_126 (lv_at hl 0 rfl) ?_
                  refine rV hF sV_MO_29 (c_MO_others l G hi (s := u1 i - 1) (h := 0) (by omega) (by decide)) hP (rc_y hF.2.2.2.2 hP) (by decide) rfl rfl hl.1 (Nat.le_of_ble_eq_true rfl) d_MO_rebuild_128 (by decide) ?_
                  refine ms_S (by omega) hDs hF hP hS d_MO_rebuild_131 (fun H locs hP hS => ?_)
                  rw [flat_set _ (by omega)] at hP
                  refine lv_iinc (k := 0) hx hb d_MO_rebuild_132 hl rfl (nI_inc 0) (by decide) rfl (fun ls hl => ?_)
                  have hl : lv_has ls 5 [(4, .int _), (3, .int _), (0, .ref _), (1, .int _), (2, .int _)] := hl
                  refine lv_goto (tgt := 96) hx hb d_MO_rebuild_135 (by decide) ?_
                  refine lv_iload hx hb d_MO_rebuild_96 (lv_at hl 0 rfl) ?_
                  refine lv_iconst (v := (nI 2)) hx hb d_MO_rebuild_98 (by decide) ?_
                  refine nb_ge (tgt := 138) hx hb d_MO_rebuild_99 (by decide) (by omega) (by omega) (fun hc => absurd hc (by omega)) (fun _ => ?_)
                  refine lv_aload_n hx hb d_MO_rebuild_102 rfl (lv_at hl 2 rfl) ?_
                  refine mg_S hF hP d_MO_rebuild_103 ?_
                  refine lv_iload_n hx hb d_MO_rebuild_106 rfl (lv_at hl 3 rfl) ?_
                  refine lv_aload_n hx hb d_MO_rebuild_107 rfl (lv_at hl 2 rfl) ?_
                  refine mg_U hF hP d_MO_rebuild_108 ?_
                  refine lv_iload_n hx hb d_MO_rebuild_111 rfl (lv_at hl 3 rfl) ?_
                  refine ml_U hi hF hP d_MO_rebuild_112 ?_
                  refine lv_eqi (z := nI (u1 i - 1)) (mup_nI hn1) ?_
                  refine lv_iload hx hb d_MO_rebuild_113 (lv_at hl 0 rfl) ?_
                  refine rS hF sS_MO_25 (c_MO_at l G i (u1 i - 1) 1 (fun _ => True)) trivial (by decide) rfl rfl hl.1 (Nat.le_of_ble_eq_true rfl) d_MO_rebuild_115 (by decide) ?_
                  refine lv_aload_n hx hb d_MO_rebuild_118 rfl (lv_at hl 2 rfl) ?_
                  refine lv_iload_n hx hb d_MO_rebuild_119 rfl (lv_at hl 3 rfl) ?_
                  refine lv_aload_n hx hb d_MO_rebuild_120 rfl (lv_at hl 2 rfl) ?_
                  refine mg_U hF hP d_MO_rebuild_121 ?_
                  refine lv_iload_n hx hb d_MO_rebuild_124 rfl (lv_at hl 3 rfl) ?_
                  refine ml_U hi hF hP d_MO_rebuild_125 ?_
                  refine lv_eqi (z := nI (u1 i - 1)) (mup_nI hn1) ?_
                  refine lv_iload hx hb d_MO_rebuild_126 (lv_at hl 0 rfl) ?_
                  refine rV hF sV_MO_29 (c_MO_others l G hi (s := u1 i - 1) (h := 1) (by omega) (by decide)) hP (rc_y hF.2.2.2.2 hP) (by decide) rfl rfl hl.1 (Nat.le_of_ble_eq_true rfl) d_MO_rebuild_128 (by decide) ?_
                  refine ms_S (by omega) hDs hF hP hS d_MO_rebuild_131 (fun H locs hP hS => ?_)
                  rw [flat_set _ (by omega)] at hP
                  refine lv_iinc (k := 0) hx hb d_MO_rebuild_132 hl rfl (nI_inc 1) (by decide) rfl (fun ls hl => ?_)
                  have hl : lv_has ls 5 [(4, .int _), (3, .int _), (0, .ref _), (1, .int _), (2, .int _)] := hl
                  refine lv_goto (tgt := 96) hx hb d_MO_rebuild_135 (by decide) ?_
                  refine lv_iload hx hb d_MO_rebuild_96 (lv_at hl 0 rfl) ?_
                  refine lv_iconst (v := (nI 2)) hx hb d_MO_rebuild_98 (by decide) ?_
                  refine nb_ge (tgt := 138) hx hb d_MO_rebuild_99 (by decide) (by omega) (by omega) (fun _ => ?_) (fun hc => absurd hc (by omega))
                  refine lv_aload_n hx hb d_MO_rebuild_138 rfl (lv_at hl 2 rfl) ?_
                  refine mg_U hF hP d_MO_rebuild_139 ?_
                  refine lv_iload_n hx hb d_MO_rebuild_142 rfl (lv_at hl 3 rfl) ?_
                  refine lv_dup2_11 hx hb d_MO_rebuild_143 rfl rfl ?_
                  refine ml_U hi hF hP d_MO_rebuild_144 ?_
                  refine lv_iconst (v := (nI 1)) hx hb d_MO_rebuild_145 (by decide) ?_
                  refine lv_iadd hx hb d_MO_rebuild_146 ?_
                  refine lv_eqi (z := mup (u1 i + 1)) (by rw [mup_nI hn1, mup_nI (by omega), nI_add]; congr 1; omega) ?_
                  refine ms_U hi hDs hF hP hS d_MO_rebuild_147 (fun H locs hP hS => ?_)
                  have e1 : va_up (fun d => mup (u1 d)) i (mup (u1 i + 1)) = fun k => mup (rbU u1 i k) := va_up_comp mup u1 i (u1 i + 1)
                  rw [e1] at hP
                  refine lv_iinc (k := 1) hx hb d_MO_rebuild_148 hl rfl (nI_inc k) (by decide) rfl (fun ls hl => ?_)
                  have hl : lv_has ls 5 [(3, .int _), (4, .int _), (0, .ref _), (1, .int _), (2, .int _)] := hl
                  refine lv_goto (tgt := 63) hx hb d_MO_rebuild_151 (by decide) ?_
                  exact ih (k + 1) (rbU u1 i) _ H locs ls (by omega) (by simp [rbU, va_up]) (uok_up hu1 (by omega)) hrb2 (lv_sub hl [0, 2, 3, 4] rfl) hP hS
          exact loop j 0 u R H locs ls (by omega) (by omega) hu rfl hl hP hS
        · have h0 : u i = 0 ∨ u i = 101 := by simpa using h2
          rw [h2, if_pos rfl] at hP
          rw [if_pos h0] at hE
          rw [hE, if_neg (by decide), if_neg (by decide), if_neg (by decide)]
          refine lv_iconst (v := (nI 0)) hx hb d_MO_rebuild_59 (by decide) ?_
          exact W.toX (W.iret hx hb hr (fun t ht _ => ⟨rfl, by rw [ht]; exact hP, hS.F ht⟩) hS.2.2 d_MO_rebuild_60 hlocks)
      refine lv_aload_n hx hb d_MO_rebuild_26 rfl (lv_at hl 0 rfl) ?_
      refine lv_aload_n hx hb d_MO_rebuild_27 rfl (lv_at hl 0 rfl) ?_
      refine mg_U hF hP d_MO_rebuild_28 ?_
      refine lv_iload_n hx hb d_MO_rebuild_31 rfl (lv_at hl 1 rfl) ?_
      refine ml_U hi hF hP d_MO_rebuild_32 ?_
      refine lv_if_lt (tgt := 47) hx hb d_MO_rebuild_33 (by decide) (fun h1 => ?_) (fun h1 => ?_)
      · have h1 := (mup_lt0 (by omega)).mp h1
        refine lv_iconst (v := (nI 1)) hx hb d_MO_rebuild_47 (by decide) ?_
        refine lv_goto (tgt := 52) hx hb d_MO_rebuild_48 (by decide) ?_
        exact lv_eqi (by simp [h1, b2i, nI1]) tail2
      · have h1 : ¬ u i = 0 := fun z => h1 ((mup_lt0 (by omega)).mpr z)
        refine lv_aload_n hx hb d_MO_rebuild_36 rfl (lv_at hl 0 rfl) ?_
        refine mg_U hF hP d_MO_rebuild_37 ?_
        refine lv_iload_n hx hb d_MO_rebuild_40 rfl (lv_at hl 1 rfl) ?_
        refine ml_U hi hF hP d_MO_rebuild_41 ?_
        refine lv_bipush (v := nI 100) hx hb d_MO_rebuild_42 (by decide) ?_
        refine lv_icmp_ne (tgt := 51) hx hb d_MO_rebuild_44 (by decide) (fun h2 => ?_) (fun h2 => ?_)
        · have h2 : ¬ u i = 101 := fun z => h2 ((mup_100 (by omega)).mpr z)
          refine lv_iconst (v := (nI 0)) hx hb d_MO_rebuild_51 (by decide) ?_
          exact lv_eqi (by simp [h1, h2, b2i, nI_0]) tail2
        · have h2 : u i = 101 := (mup_100 (by omega)).mp h2
          refine lv_iconst (v := (nI 1)) hx hb d_MO_rebuild_47 (by decide) ?_
          refine lv_goto (tgt := 52) hx hb d_MO_rebuild_48 (by decide) ?_
          exact lv_eqi (by simp [h2, b2i, nI1]) tail2
    · have hok : okN d n = false := by simpa using hc
      have hE : rbE u d n = 1 := by unfold rbE; rw [hok]; rfl
      rw [hc, if_pos rfl] at hP
      rw [hE, if_neg (by decide), if_neg (by decide), if_neg (by decide)]
      refine lv_iconst (v := (nI 0)) hx hb d_MO_rebuild_24 (by decide) ?_
      exact W.toX (W.iret hx hb hr (fun t ht _ => ⟨rfl, by rw [ht]; exact hP, hS.F ht⟩) hS.2.2 d_MO_rebuild_25 hlocks)
  refine lv_aload_n hx hb d_MO_rebuild_0 rfl (lv_at hl 0 rfl) ?_
  refine lv_iload_n hx hb d_MO_rebuild_1 rfl (lv_at hl 1 rfl) ?_
  refine rS hF sS_MO_50 (c_MO_none l G d (fun _ => True)) trivial (by decide) rfl rfl hl.1 (Nat.le_of_ble_eq_true rfl) d_MO_rebuild_2 (by decide) ?_
  refine zb_ne (tgt := 12) hx hb d_MO_rebuild_5 (by decide) (fun hc => ?_) (fun hc => ?_)
  · have h8 : okD d = false := by simpa using hc
    refine lv_iconst (v := (nI 1)) hx hb d_MO_rebuild_12 (by decide) ?_
    refine lv_goto (tgt := 17) hx hb d_MO_rebuild_13 (by decide) ?_
    exact lv_eqi (by simp [okN, h8, b2i, nI1]) tail
  · have h8 : okD d = true := by simpa using hc
    refine lv_iload_n hx hb d_MO_rebuild_8 rfl (lv_at hl 2 rfl) ?_
    refine lv_if_ge (tgt := 16) hx hb d_MO_rebuild_9 (by decide) (fun h2 => ?_) (fun h2 => ?_)
    · have h2 : ¬ n < 0 := Int32.not_lt.mpr h2
      refine lv_iconst (v := (nI 0)) hx hb d_MO_rebuild_16 (by decide) ?_
      exact lv_eqi (by simp [okN, h8, h2, b2i, nI_0]) tail
    · have h2 : n < 0 := Int32.not_le.mp h2
      refine lv_iconst (v := (nI 1)) hx hb d_MO_rebuild_12 (by decide) ?_
      refine lv_goto (tgt := 17) hx hb d_MO_rebuild_13 (by decide) ?_
      exact lv_eqi (by simp [okN, h2, b2i, nI1]) tail
set_option maxHeartbeats 4000000 in
set_option maxRecDepth 100000 in
theorem c_MO_scrub (l : Launch) (G : Gx) {y sa ua : Nat} {er : Int32} {u : Nat → Nat} {R : Nat → Nat → Int64} (hDs : mDs y sa ua) (hu : uok u) : MetX l y_MO_scrub [w_MO_scrub] (Lv 2 0 0) (Pq G [.ref y] (MOp G y sa ua er u R)) (QM (some (.int (nI (sc u R 100).2))) (MOp G y sa ua (nI 0) u (sc u R 100).1) (mA y sa ua)) 0 0 (mA y sa ua) := by
  refine hd_code (by decide +kernel) (Nat.le_of_ble_eq_true rfl) ?_
  intro pp ee ss mm bl meth cd ls hF hr hlocks hex hnm had hP hl
  have hx := hF.1
  have hb := hF.2.1
  have hl : lv_has ls 6 [(0, .ref _)] := hl
  have hS : va_S (mA y sa ua) ss.heap ss.heap [] := va_S.rf
  refine lv_aload_n hx hb d_MO_scrub_0 rfl (lv_at hl 0 rfl) ?_
  refine lv_iconst (v := (nI 0)) hx hb d_MO_scrub_1 (by decide) ?_
  refine mp_E hDs hF hP hS d_MO_scrub_2 (fun H locs hP hS => ?_)
  refine lv_iconst (v := (nI 0)) hx hb d_MO_scrub_5 (by decide) ?_
  refine lv_istore_n hx hb d_MO_scrub_6 rfl hl (by decide) rfl (fun ls hl => ?_)
  have hl : lv_has ls 6 [(1, .int _), (0, .ref _)] := hl
  refine lv_iconst (v := (nI 0)) hx hb d_MO_scrub_7 (by decide) ?_
  refine lv_istore_n hx hb d_MO_scrub_8 rfl hl (by decide) rfl (fun ls hl => ?_)
  have hl : lv_has ls 6 [(2, .int _), (1, .int _), (0, .ref _)] := hl
  have inner : ∀ (R1 : Nat → Nat → Int64) (H : Heap) (locs : List Loc) (s ct : Nat), s < 100 → MOp G y sa ua (nI 0) u R1 H → (∀ ls : Array Slot, lv_has ls 6 [(5, .int (nI 5)), (4, .int (b2i (decide (barF (usedB u s) 5 = 0)))), (3, .int (nI (s % 5))), (2, .int (nI s)), (1, .int (nI ct)), (0, .ref y)] → W pp l ee (Lv 2 0 0) ss mm ([.ref y] : List Value).toArray bl meth cd H locs 0 0 (MX bl (QM (some (.int (nI (sc u R 100).2))) (MOp G y sa ua (nI 0) u (sc u R 100).1) (mA y sa ua)) ([.ref y] : List Value).toArray ss 0 0 (mA y sa ua)) (F0 mm 50 ls [])) → ∀ (n d : Nat) (ls : Array Slot), d + n = 5 → lv_has ls 6 [(5, .int (nI d)), (4, .int (b2i (decide (barF (usedB u s) d = 0)))), (3, .int (nI (s % 5))), (2, .int (nI s)), (1, .int (nI ct)), (0, .ref y)] → W pp l ee (Lv 2 0 0) ss mm ([.ref y] : List Value).toArray bl meth cd H locs 0 0 (MX bl (QM (some (.int (nI (sc u R 100).2))) (MOp G y sa ua (nI 0) u (sc u R 100).1) (mA y sa ua)) ([.ref y] : List Value).toArray ss 0 0 (mA y sa ua)) (F0 mm 25 ls []) := by
    intro R1 H locs s ct hs hP K n
    induction n with
    | zero =>
      intro d ls hd hl
      obtain rfl : d = 5 := by omega
      refine lv_iload hx hb d_MO_scrub_25 (lv_at hl 0 rfl) ?_
      refine lv_iconst (v := (nI 5)) hx hb d_MO_scrub_27 (by decide) ?_
      refine nb_ge (tgt := 50) hx hb d_MO_scrub_28 (by decide) (by omega) (by omega) (fun _ => ?_) (fun hc => absurd hc (by omega))
      exact K ls hl
    | succ n ih =>
      intro d ls hd hl
      have hd5 : d < 5 := by omega
      refine lv_iload hx hb d_MO_scrub_25 (lv_at hl 0 rfl) ?_
      refine lv_iconst (v := (nI 5)) hx hb d_MO_scrub_27 (by decide) ?_
      refine nb_ge (tgt := 50) hx hb d_MO_scrub_28 (by decide) (by omega) (by omega) (fun hc => absurd hc (by omega)) (fun _ => ?_)
      refine lv_aload_n hx hb d_MO_scrub_31 rfl (lv_at hl 5 rfl) ?_
      refine lv_iload hx hb d_MO_scrub_32 (lv_at hl 0 rfl) ?_
      refine lv_iload_n hx hb d_MO_scrub_34 rfl (lv_at hl 3 rfl) ?_
      refine rV hF sV_MO_21 (c_MO_usable l G hu hd5 (s := s) (by omega)) hP (rc_y hF.2.2.2.2 hP) (by decide) rfl rfl hl.1 (Nat.le_of_ble_eq_true rfl) d_MO_scrub_35 (by decide) ?_
      refine zb_ne (tgt := 44) hx hb d_MO_scrub_38 (by decide) (fun hc => ?_) (fun hc => ?_)
      · refine lv_iinc (k := 0) hx hb d_MO_scrub_44 hl rfl (nI_inc d) (by decide) rfl (fun ls hl => ?_)
        have hl : lv_has ls 6 [(5, .int _), (4, .int _), (3, .int _), (2, .int _), (1, .int _), (0, .ref _)] := hl
        refine lv_goto (tgt := 25) hx hb d_MO_scrub_47 (by decide) ?_
        exact ih (d + 1) ls (by omega) (lv_sub hl [0, 1, 2, 3, 4, 5] (by simp [lv_pick, barF, hc]))
      · refine lv_iconst (v := (nI 0)) hx hb d_MO_scrub_41 (by decide) ?_
        refine lv_istore hx hb d_MO_scrub_42 hl (by decide) rfl (fun ls hl => ?_)
        have hl : lv_has ls 6 [(4, .int _), (5, .int _), (3, .int _), (2, .int _), (1, .int _), (0, .ref _)] := hl
        refine lv_iinc (k := 1) hx hb d_MO_scrub_44 hl rfl (nI_inc d) (by decide) rfl (fun ls hl => ?_)
        have hl : lv_has ls 6 [(5, .int _), (4, .int _), (3, .int _), (2, .int _), (1, .int _), (0, .ref _)] := hl
        refine lv_goto (tgt := 25) hx hb d_MO_scrub_47 (by decide) ?_
        have h9 : decide (barF (usedB u s) (d + 1) = 0) = false := decide_eq_false (by unfold barF; rw [hc, if_neg (by decide)]; have h8 := Nat.two_pow_pos d; omega)
        exact ih (d + 1) ls (by omega) (lv_sub hl [0, 1, 2, 3, 4, 5] (by rw [h9]; rfl))
  have loop : ∀ (n s : Nat) (H : Heap) (locs : List Loc) (ls : Array Slot), s + n = 100 → MOp G y sa ua (nI 0) u (sc u R s).1 H → va_S (mA y sa ua) ss.heap H locs → lv_has ls 6 [(2, .int (nI s)), (1, .int (nI (sc u R s).2)), (0, .ref y)] → W pp l ee (Lv 2 0 0) ss mm ([.ref y] : List Value).toArray bl meth cd H locs 0 0 (MX bl (QM (some (.int (nI (sc u R 100).2))) (MOp G y sa ua (nI 0) u (sc u R 100).1) (mA y sa ua)) ([.ref y] : List Value).toArray ss 0 0 (mA y sa ua)) (F0 mm 9 ls []) := by
    intro n
    induction n with
    | zero =>
      intro s H locs ls hs hP hS hl
      obtain rfl : s = 100 := by omega
      refine lv_iload_n hx hb d_MO_scrub_9 rfl (lv_at hl 0 rfl) ?_
      refine lv_bipush (v := nI 100) hx hb d_MO_scrub_10 (by decide) ?_
      refine nb_ge (tgt := 147) hx hb d_MO_scrub_12 (by decide) (by omega) (by omega) (fun _ => ?_) (fun hc => absurd hc (by omega))
      refine lv_iload_n hx hb d_MO_scrub_147 rfl (lv_at hl 1 rfl) ?_
      exact W.toX (W.iret hx hb hr (fun t ht _ => ⟨rfl, by rw [ht]; exact hP, hS.F ht⟩) hS.2.2 d_MO_scrub_148 hlocks)
    | succ n ih =>
      intro s H locs ls hs hP hS hl
      have hs1 : s < 100 := by omega
      have hle := sc_le u R s
      have h5 : s % 5 < 5 := Nat.mod_lt _ (by decide)
      refine lv_iload_n hx hb d_MO_scrub_9 rfl (lv_at hl 0 rfl) ?_
      refine lv_bipush (v := nI 100) hx hb d_MO_scrub_10 (by decide) ?_
      refine nb_ge (tgt := 147) hx hb d_MO_scrub_12 (by decide) (by omega) (by omega) (fun hc => absurd hc (by omega)) (fun _ => ?_)
      refine lv_iload_n hx hb d_MO_scrub_15 rfl (lv_at hl 0 rfl) ?_
      refine lv_iconst (v := (nI 5)) hx hb d_MO_scrub_16 (by decide) ?_
      refine lv_irem hx hb d_MO_scrub_17 (by decide) ?_
      refine lv_eqi (z := nI (s % 5)) (pk_rem (by omega) (by decide) (by decide)) ?_
      refine lv_istore_n hx hb d_MO_scrub_18 rfl hl (by decide) rfl (fun ls hl => ?_)
      have hl : lv_has ls 6 [(3, .int _), (2, .int _), (1, .int _), (0, .ref _)] := hl
      refine lv_iconst (v := (nI 1)) hx hb d_MO_scrub_19 (by decide) ?_
      refine lv_istore hx hb d_MO_scrub_20 hl (by decide) rfl (fun ls hl => ?_)
      have hl : lv_has ls 6 [(4, .int _), (3, .int _), (2, .int _), (1, .int _), (0, .ref _)] := hl
      refine lv_iconst (v := (nI 0)) hx hb d_MO_scrub_22 (by decide) ?_
      refine lv_istore hx hb d_MO_scrub_23 hl (by decide) rfl (fun ls hl => ?_)
      have hl : lv_has ls 6 [(5, .int _), (4, .int _), (3, .int _), (2, .int _), (1, .int _), (0, .ref _)] := hl
      refine inner (sc u R s).1 H locs s (sc u R s).2 hs1 hP (fun ls hl => ?_) 5 0 ls rfl (lv_sub hl [0, 1, 2, 3, 4, 5] rfl)
      generalize hR1 : (sc u R s).1 = R1 at hP
      have skip : ∀ (ls : Array Slot), (sc u R (s + 1)).1 = R1 → (sc u R (s + 1)).2 = (sc u R s).2 → lv_has ls 6 [(5, .int (nI 5)), (4, .int (b2i (decide (barF (usedB u s) 5 = 0)))), (3, .int (nI (s % 5))), (2, .int (nI s)), (1, .int (nI (sc u R s).2)), (0, .ref y)] → W pp l ee (Lv 2 0 0) ss mm ([.ref y] : List Value).toArray bl meth cd H locs 0 0 (MX bl (QM (some (.int (nI (sc u R 100).2))) (MOp G y sa ua (nI 0) u (sc u R 100).1) (mA y sa ua)) ([.ref y] : List Value).toArray ss 0 0 (mA y sa ua)) (F0 mm 141 ls []) := by
        intro ls e1 e2 hl
        rw [← e1] at hP
        refine lv_iinc (k := 3) hx hb d_MO_scrub_141 hl rfl (nI_inc s) (by decide) rfl (fun ls hl => ?_)
        have hl : lv_has ls 6 [(2, .int _), (5, .int _), (4, .int _), (3, .int _), (1, .int _), (0, .ref _)] := hl
        refine lv_goto (tgt := 9) hx hb d_MO_scrub_144 (by decide) ?_
        exact ih (s + 1) H locs ls (by omega) hP hS (lv_sub hl [0, 4, 5] (by rw [e2]; rfl))
      refine lv_iload hx hb d_MO_scrub_50 (lv_at hl 1 rfl) ?_
      refine zb_eq (tgt := 141) hx hb d_MO_scrub_52 (by decide) (fun hc => ?_) (fun hc => ?_)
      · have hc : ¬ barF (usedB u s) 5 = 0 := by simpa using hc
        exact skip ls (by show scS u (sc u R s).1 s = R1; unfold scS; rw [if_neg hc, hR1]) (by show (if barF (usedB u s) 5 = 0 ∧ _ then _ else _) = _; rw [if_neg (fun z => hc z.1)]) hl
      · have hc : barF (usedB u s) 5 = 0 := by simpa using hc
        have e1 : (sc u R (s + 1)).1 = hsR (hsR R1 s 0) s 1 := by show scS u (sc u R s).1 s = _; unfold scS; rw [if_pos hc, hR1]
        have wrt : ∀ (ls : Array Slot), ¬ (oth R1 (s % 5) (2 * s + 0) 5 = R1 (s % 5) (2 * s + 0) ∧ oth R1 (s % 5) (2 * s + 1) 5 = R1 (s % 5) (2 * s + 1)) → lv_has ls 6 [(5, .int (nI 5)), (4, .int (b2i (decide (barF (usedB u s) 5 = 0)))), (3, .int (nI (s % 5))), (2, .int (nI s)), (1, .int (nI (sc u R s).2)), (0, .ref y)] → W pp l ee (Lv 2 0 0) ss mm ([.ref y] : List Value).toArray bl meth cd H locs 0 0 (MX bl (QM (some (.int (nI (sc u R 100).2))) (MOp G y sa ua (nI 0) u (sc u R 100).1) (mA y sa ua)) ([.ref y] : List Value).toArray ss 0 0 (mA y sa ua)) (F0 mm 102 ls []) := by
          intro ls hne hl
          have e2 : (sc u R (s + 1)).2 = (sc u R s).2 + 1 := by show (if barF (usedB u s) 5 = 0 ∧ _ then _ else _) = _; rw [if_pos ⟨hc, by rw [hR1]; exact scW_t hne⟩]
          rw [hsR_eq, hsR_eq] at e1
          refine lv_iinc (k := 4) hx hb d_MO_scrub_102 hl rfl (nI_inc _) (by decide) rfl (fun ls hl => ?_)
          have hl : lv_has ls 6 [(1, .int _), (5, .int _), (4, .int _), (3, .int _), (2, .int _), (0, .ref _)] := hl
          refine lv_aload_n hx hb d_MO_scrub_105 rfl (lv_at hl 5 rfl) ?_
          refine mg_S hF hP d_MO_scrub_106 ?_
          refine lv_iload_n hx hb d_MO_scrub_109 rfl (lv_at hl 3 rfl) ?_
          refine lv_iload_n hx hb d_MO_scrub_110 rfl (lv_at hl 4 rfl) ?_
          refine lv_iconst (v := (nI 0)) hx hb d_MO_scrub_111 (by decide) ?_
          refine rS hF sS_MO_25 (c_MO_at l G (s % 5) s 0 (fun _ => True)) trivial (by decide) rfl rfl hl.1 (Nat.le_of_ble_eq_true rfl) d_MO_scrub_112 (by decide) ?_
          refine lv_aload_n hx hb d_MO_scrub_115 rfl (lv_at hl 5 rfl) ?_
          refine lv_iload_n hx hb d_MO_scrub_116 rfl (lv_at hl 3 rfl) ?_
          refine lv_iload_n hx hb d_MO_scrub_117 rfl (lv_at hl 4 rfl) ?_
          refine lv_iconst (v := (nI 0)) hx hb d_MO_scrub_118 (by decide) ?_
          refine rV hF sV_MO_29 (c_MO_others l G h5 hs1 (h := 0) (by decide)) hP (rc_y hF.2.2.2.2 hP) (by decide) rfl rfl hl.1 (Nat.le_of_ble_eq_true rfl) d_MO_scrub_119 (by decide) ?_
          refine ms_S (by omega) hDs hF hP hS d_MO_scrub_122 (fun H locs hP hS => ?_)
          rw [flat_set _ (by omega)] at hP
          refine lv_aload_n hx hb d_MO_scrub_123 rfl (lv_at hl 5 rfl) ?_
          refine mg_S hF hP d_MO_scrub_124 ?_
          refine lv_iload_n hx hb d_MO_scrub_127 rfl (lv_at hl 3 rfl) ?_
          refine lv_iload_n hx hb d_MO_scrub_128 rfl (lv_at hl 4 rfl) ?_
          refine lv_iconst (v := (nI 1)) hx hb d_MO_scrub_129 (by decide) ?_
          refine rS hF sS_MO_25 (c_MO_at l G (s % 5) s 1 (fun _ => True)) trivial (by decide) rfl rfl hl.1 (Nat.le_of_ble_eq_true rfl) d_MO_scrub_130 (by decide) ?_
          refine lv_aload_n hx hb d_MO_scrub_133 rfl (lv_at hl 5 rfl) ?_
          refine lv_iload_n hx hb d_MO_scrub_134 rfl (lv_at hl 3 rfl) ?_
          refine lv_iload_n hx hb d_MO_scrub_135 rfl (lv_at hl 4 rfl) ?_
          refine lv_iconst (v := (nI 1)) hx hb d_MO_scrub_136 (by decide) ?_
          refine rV hF sV_MO_29 (c_MO_others l G h5 hs1 (h := 1) (by decide)) hP (rc_y hF.2.2.2.2 hP) (by decide) rfl rfl hl.1 (Nat.le_of_ble_eq_true rfl) d_MO_scrub_137 (by decide) ?_
          refine ms_S (by omega) hDs hF hP hS d_MO_scrub_140 (fun H locs hP hS => ?_)
          rw [flat_set _ (by omega)] at hP
          rw [← e1] at hP
          refine lv_iinc (k := 4) hx hb d_MO_scrub_141 hl rfl (nI_inc s) (by decide) rfl (fun ls hl => ?_)
          have hl : lv_has ls 6 [(2, .int _), (1, .int _), (5, .int _), (4, .int _), (3, .int _), (0, .ref _)] := hl
          refine lv_goto (tgt := 9) hx hb d_MO_scrub_144 (by decide) ?_
          exact ih (s + 1) H locs ls (by omega) hP hS (lv_sub hl [0, 1, 5] (by rw [e2]; rfl))
        refine lv_aload_n hx hb d_MO_scrub_55 rfl (lv_at hl 5 rfl) ?_
        refine lv_iload_n hx hb d_MO_scrub_56 rfl (lv_at hl 2 rfl) ?_
        refine lv_iload_n hx hb d_MO_scrub_57 rfl (lv_at hl 3 rfl) ?_
        refine lv_iconst (v := (nI 0)) hx hb d_MO_scrub_58 (by decide) ?_
        refine rV hF sV_MO_29 (c_MO_others l G h5 hs1 (h := 0) (by decide)) hP (rc_y hF.2.2.2.2 hP) (by decide) rfl rfl hl.1 (Nat.le_of_ble_eq_true rfl) d_MO_scrub_59 (by decide) ?_
        refine lv_aload_n hx hb d_MO_scrub_62 rfl (lv_at hl 5 rfl) ?_
        refine mg_S hF hP d_MO_scrub_63 ?_
        refine lv_iload_n hx hb d_MO_scrub_66 rfl (lv_at hl 2 rfl) ?_
        refine lv_iload_n hx hb d_MO_scrub_67 rfl (lv_at hl 3 rfl) ?_
        refine lv_iconst (v := (nI 0)) hx hb d_MO_scrub_68 (by decide) ?_
        refine rS hF sS_MO_25 (c_MO_at l G (s % 5) s 0 (fun _ => True)) trivial (by decide) rfl rfl hl.1 (Nat.le_of_ble_eq_true rfl) d_MO_scrub_69 (by decide) ?_
        refine ml_S (by omega) hF hP d_MO_scrub_72 ?_
        rw [flat_at R1 (by omega)]
        refine W.lcmp hx hb d_MO_scrub_73 ?_
        refine lv_if_ne (tgt := 102) hx hb d_MO_scrub_74 (by decide) (fun h0 => ?_) (fun h0 => ?_)
        · exact wrt ls (fun z => h0 ((lg_cmp_eq _ _).mpr z.1)) hl
        · have h0 := (lg_cmp_eq _ _).mp h0
          refine lv_aload_n hx hb d_MO_scrub_77 rfl (lv_at hl 5 rfl) ?_
          refine lv_iload_n hx hb d_MO_scrub_78 rfl (lv_at hl 2 rfl) ?_
          refine lv_iload_n hx hb d_MO_scrub_79 rfl (lv_at hl 3 rfl) ?_
          refine lv_iconst (v := (nI 1)) hx hb d_MO_scrub_80 (by decide) ?_
          refine rV hF sV_MO_29 (c_MO_others l G h5 hs1 (h := 1) (by decide)) hP (rc_y hF.2.2.2.2 hP) (by decide) rfl rfl hl.1 (Nat.le_of_ble_eq_true rfl) d_MO_scrub_81 (by decide) ?_
          refine lv_aload_n hx hb d_MO_scrub_84 rfl (lv_at hl 5 rfl) ?_
          refine mg_S hF hP d_MO_scrub_85 ?_
          refine lv_iload_n hx hb d_MO_scrub_88 rfl (lv_at hl 2 rfl) ?_
          refine lv_iload_n hx hb d_MO_scrub_89 rfl (lv_at hl 3 rfl) ?_
          refine lv_iconst (v := (nI 1)) hx hb d_MO_scrub_90 (by decide) ?_
          refine rS hF sS_MO_25 (c_MO_at l G (s % 5) s 1 (fun _ => True)) trivial (by decide) rfl rfl hl.1 (Nat.le_of_ble_eq_true rfl) d_MO_scrub_91 (by decide) ?_
          refine ml_S (by omega) hF hP d_MO_scrub_94 ?_
          rw [flat_at R1 (by omega)]
          refine W.lcmp hx hb d_MO_scrub_95 ?_
          refine lv_if_ne (tgt := 102) hx hb d_MO_scrub_96 (by decide) (fun h1 => ?_) (fun h1 => ?_)
          · exact wrt ls (fun z => h1 ((lg_cmp_eq _ _).mpr z.2)) hl
          · have h1 := (lg_cmp_eq _ _).mp h1
            refine lv_goto (tgt := 141) hx hb d_MO_scrub_99 (by decide) ?_
            exact skip ls (by rw [e1, hsR_id h0, hsR_id h1]) (by show (if barF (usedB u s) 5 = 0 ∧ _ then _ else _) = _; rw [if_neg (fun z => by have h9 := z.2; rw [hR1, scW_f h0 h1] at h9; cases h9)]) hl
  exact loop 100 0 H locs ls rfl hP hS (lv_sub hl [0, 1, 2] rfl)
end
section
/-! the law's own wrappers -/
/-- the array out, of one place that holds v -/
def OUT (G : Gx) (o : Nat) (v : Int64) (H : Heap) : Prop := ∃ f : Nat → Int64, f 0 = v ∧ va_P G.1 classes [(o, .inl (G.2.1.2.1, 1, .inr (.inl f)))] H
theorem va_P.keep {D : va_G} {cl : List vw_C} {ws : va_W} {H H1 : Heap} {A : Nat → Prop} (h : va_P D cl ws H) (hk : ∀ q : Nat, q < H.size → ¬ A q → H1[q]? = H[q]?) (hA : ∀ z ∈ ws.map Prod.fst, ¬ A z) : va_P D cl ws H1 :=
  h.kept (fun k q hq => hk q.1 ((h k q hq).lt) (hA q.1 (List.mem_map.mpr ⟨q, List.mem_of_getElem? hq, rfl⟩)))
theorem OUT.keep {G : Gx} {o : Nat} {v : Int64} {H H1 : Heap} {A : Nat → Prop} (h : OUT G o v H) (hk : ∀ q : Nat, q < H.size → ¬ A q → H1[q]? = H[q]?) (hA : ¬ A o) : OUT G o v H1 := by
  obtain ⟨f, h1, h2⟩ := h
  exact ⟨f, h1, h2.keep hk (fun z hz => by rw [show z = o by simpa using hz]; exact hA)⟩
theorem tab1 {α β : Type} {f : α → β} {L : List α} {a : β} (h : L.map f = [a]) : ∃ E1, L = [E1] ∧ f E1 = a := by
  match L, h with
  | [E1], h => exact ⟨E1, rfl, by simpa using h⟩
theorem tab2 {α β : Type} {f : α → β} {L : List α} {a b : β} (h : L.map f = [a, b]) : ∃ E1 E2, L = [E1, E2] ∧ f E1 = a ∧ f E2 = b := by
  match L, h with
  | [E1, E2], h =>
    simp at h
    exact ⟨E1, E2, rfl, h.1, h.2⟩
section LWR
variable {p : Program} {l : Launch} {e : Env} {Rm : Room} {s : State} {m : MethodId} {args : Array Value} {below : List Frame} {meth : Method} {c : Code} {H : Heap} {locs : List Loc} {cells slots : Nat} {Q : State → Prop}
variable {cc : ByteArray} {nL pc : Nat} {ls : Array Slot} {rest : List Value} {G : Gx} {own : String} {x da : Nat} {ad ra : Nat → Nat} {up fl : Nat → Int32} {R : Nat → Nat → Int64} {o : Nat} {v0 v : Int64} {A : Nat → Prop} {H0 : Heap}
theorem s_out (hDs : pDs x da ad ra) (ho : ¬ pA x da ad ra o) (hA : ∀ z, pA x da ad ra z ∨ z = o → A z) (hF : Fx p m c cc nL s G own) (hP : PDg G x da ad ra up fl R H) (hO : OUT G o v0 H) (hS : va_S A H0 H locs) (hd : decode cc pc = .ok (.lastore, 1))
    (kk : ∀ (H1 : Heap) (locs1 : List Loc), PDg G x da ad ra up fl R H1 → OUT G o v H1 → va_S A H0 H1 locs1 → W p l e Rm s m args below meth c H1 locs1 cells slots Q (F0 m (pc + 1) ls rest)) : W p l e Rm s m args below meth c H locs cells slots Q (F0 m pc ls (.long v :: .int (nI 0) :: .ref o :: rest)) := by
  obtain ⟨f, h1, h2⟩ := hO
  have hD : va_D A (pw G x da ad ra up fl R ++ [(o, .inl (G.2.1.2.1, 1, .inr (.inl f)))]) := va_D.app ((pw_D hDs).weaken (fun _ q _ h => hA q.1 (Or.inl h))) (va_D_of (by simp) (fun z hz => hA z (Or.inr (by simpa using hz)))) (fun i j a b ha hb hab => ho (by
    have h3 := List.mem_of_getElem? hb
    have h4 : b.1 = o := by rw [List.mem_singleton.mp h3]
    rw [← h4, ← hab]
    exact (pw_D (G := G) (up := up) (fl := fl) (R := R) hDs).2 i a ha))
  refine va_last (D := G.1) (ws := pw G x da ad ra up fl R ++ [(o, .inl (G.2.1.2.1, 1, .inr (.inl f)))]) hF.1 hF.2.1 hF.2.2.2.2.1 (hP.app h2) hD hS 12 1 rfl rfl (i := nI 0) (vp_in_nI (by decide) (by decide)) hd (fun H1 locs1 g1 _ g3 => ?_)
  rw [nI_clamp (by decide)] at g1
  have g1 : va_P G.1 classes (pw G x da ad ra up fl R ++ [(o, .inl (G.2.1.2.1, 1, .inr (.inl (vp_updL f 0 v))))]) H1 := g1
  refine kk H1 locs1 (fun k q hk => g1 k q ?_) ⟨vp_updL f 0 v, by simp [vp_updL], fun k q hk => g1 (12 + k) q ?_⟩ g3
  · rw [List.getElem?_append_left (List.getElem?_eq_some_iff.mp hk).1]
    exact hk
  · rw [List.getElem?_append_right (show (pw G x da ad ra up fl R).length ≤ 12 + k from Nat.le_add_right _ _), show 12 + k - (pw G x da ad ra up fl R).length = k from Nat.add_sub_cancel_left 12 k]
    exact hk
theorem catchQ2 {er h1 h2 a1 b1 k2 : Nat} {X2 : String} {xx : Addr} {t : State} (hF : Fx p m c cc nL s G "ParityDisksLaw") (hex : c.exceptionTable.toList.map (fun h => (h.startPc, h.endPc, h.handlerPc, h.catchType)) = [(a1, b1, h1, 13), (a1, b1, h2, k2)]) (hpc : a1 ≤ pc ∧ pc < b1) (hk0 : k2 ≠ 0) (hl2 : Cond.classLink "ParityDisksLaw" k2 X2 ∈ TB) (hc2 : Cond.castable X2 X2 ∈ TB) (hnc : (Cond.not (.castable X2 xIA)).before #[] s = true)
    (hWt : s.WarmedH t.vm) (q : ∃ X, ((er = 1 ∧ X = xIA) ∨ (er = 2 ∧ X = X2)) ∧ Exc s.heap X xx t)
    (k1 : er = 1 → W p l e Rm s m args below meth c t.heap locs cells slots Q (F0 m h1 ls [.ref xx])) (k2' : er = 2 → W p l e Rm s m args below meth c t.heap locs cells slots Q (F0 m h2 ls [.ref xx])) : WT p l e Rm s m args below meth c t.heap locs cells slots Q (F0 m pc ls rest) xx := by
  obtain ⟨E1, E2, he, f1, f2⟩ := tab2 hex
  simp only [Prod.mk.injEq] at f1 f2
  obtain ⟨p1, p2, p3, p4⟩ := f1
  obtain ⟨r1, r2, r3, r4⟩ := f2
  have hE1 : Ent "ParityDisksLaw" E1 pc xIA := ⟨by simp only [covers, p1, p2]; simp [hpc.1, hpc.2], by rw [p4]; decide, by rw [p4]; exact t_74⟩
  have hE2 : Ent "ParityDisksLaw" E2 pc X2 := ⟨by simp only [covers, r1, r2]; simp [hpc.1, hpc.2], by rw [r4]; exact hk0, by rw [r4]; exact hl2⟩
  obtain ⟨X, hX, -, -, -, ce, g1, g2, g3⟩ := q
  have g4 : s.vm.findClass X = some ce.cls := by rw [← hWt.alike.findClass]; exact g3
  rcases hX with ⟨hX1, rfl⟩ | ⟨hX1, rfl⟩
  · refine WT.catch1 hF he hE1 g1 g2 g4 t_88 ?_
    rw [p3]
    exact k1 hX1
  · refine WT.catch2 hF he hE1 hE2 g1 g2 g4 hnc hc2 ?_
    rw [r3]
    exact k2' hX1
theorem catchQ1 {er h1 a1 b1 : Nat} {xx : Addr} {t : State} (hF : Fx p m c cc nL s G "ParityDisksLaw") (hex : c.exceptionTable.toList.map (fun h => (h.startPc, h.endPc, h.handlerPc, h.catchType)) = [(a1, b1, h1, 13)]) (hpc : a1 ≤ pc ∧ pc < b1) (hne : er ≠ 2)
    (hWt : s.WarmedH t.vm) (q : ∃ X, ((er = 1 ∧ X = xIA) ∨ (er = 2 ∧ X = xIA)) ∧ Exc s.heap X xx t)
    (k1 : er = 1 → W p l e Rm s m args below meth c t.heap locs cells slots Q (F0 m h1 ls [.ref xx])) : WT p l e Rm s m args below meth c t.heap locs cells slots Q (F0 m pc ls rest) xx := by
  obtain ⟨E1, he, f1⟩ := tab1 hex
  simp only [Prod.mk.injEq] at f1
  obtain ⟨p1, p2, p3, p4⟩ := f1
  have hE1 : Ent "ParityDisksLaw" E1 pc xIA := ⟨by simp only [covers, p1, p2]; simp [hpc.1, hpc.2], by rw [p4]; decide, by rw [p4]; exact t_74⟩
  obtain ⟨X, hX, -, -, -, ce, g1, g2, g3⟩ := q
  have g4 : s.vm.findClass X = some ce.cls := by rw [← hWt.alike.findClass]; exact g3
  rcases hX with ⟨hX1, rfl⟩ | ⟨hX1, rfl⟩
  · refine WT.catch1 hF he hE1 g1 g2 g4 t_88 ?_
    rw [p3]
    exact k1 hX1
  · exact absurd hX1 hne
end LWR
theorem dE_ne2 (d : Int32) : dE d ≠ 2 := by unfold dE; split <;> decide
/-- what an exception leaves: the worlds -/
theorem Exc.worlds {H : Heap} {X : String} {xx : Addr} {t : State} (h : Exc H X xx t) : ∀ q : Nat, q < H.size → ¬ (fun _ : Nat => False) q → t.heap[q]? = H[q]? := fun q hq _ => h.2.2.1 q hq
set_option maxHeartbeats 4000000 in
set_option maxRecDepth 100000 in
theorem c_LW_read (l : Launch) (hfl : l.flags = flags0) (G : Gx) {x da : Nat} {ad ra : Nat → Nat} {u : Nat → Nat} {R : Nat → Nat → Int64} {o : Nat} {v0 : Int64} (hu : uok u) (hDs : pDs x da ad ra) (ho : ¬ pA x da ad ra o) (p h : Int32) : MetX l y_LW_read [w_LW_read] (Lv 9 1 6) (Pq G [.ref x, .int p, .int h, .ref o] (fun H => PDp G x da ad ra u R H ∧ OUT G o v0 H ∧ zH G H)) (QM (some (.int (nI (rdE u p h)))) (fun H => PDp G x da ad ra u R H ∧ OUT G o (if rdE u p h = 0 then rdV u R p h else v0) H) (fun z => pA x da ad ra z ∨ z = o)) 1 6 (fun z => pA x da ad ra z ∨ z = o) := by
  refine hd_codeW (by decide +kernel) (Nat.le_of_ble_eq_true rfl) ?_
  intro pp ee ss mm bl meth cd ls hF hr hlocks hex had hP hl
  have hx := hF.1
  have hb := hF.2.1
  have hl : lv_has ls 5 [(0, .ref _), (1, .int _), (2, .int _), (3, .ref _)] := hl
  obtain ⟨hP, hO, hz⟩ := hP
  refine lv_aload_n hx hb d_LW_read_0 rfl (lv_at hl 3 rfl) ?_
  refine lv_iconst (v := (nI 0)) hx hb d_LW_read_1 (by decide) ?_
  refine lv_aload_n hx hb d_LW_read_2 rfl (lv_at hl 0 rfl) ?_
  refine lv_iload_n hx hb d_LW_read_3 rfl (lv_at hl 1 rfl) ?_
  refine lv_iload_n hx hb d_LW_read_4 rfl (lv_at hl 2 rfl) ?_
  refine cV hF sV_LW_7 (c_PD_read l hfl G hu p h) ⟨hP, hz⟩ (rc_x hF.2.2.2.2 hP) ⟨rfl, rfl, by decide, by decide⟩ rfl rfl hl.1 (Nat.le_of_ble_eq_true rfl) d_LW_read_5 (by decide) (fun v2 st t L e1 hWt q hL => ?_) (fun xx st t L e1 hWt q hL => ?_)
  · obtain ⟨hE, hv, hh⟩ := q
    subst hv
    have hth : t.heap = ss.heap := by rw [hh, e1]
    rw [hth]
    have hS : va_S (fun z => pA x da ad ra z ∨ z = o) ss.heap ss.heap ([] ++ L) := ⟨Nat.le_refl _, fun _ _ _ => rfl, fun q h => (hL q (by simpa using h)).elim⟩
    rw [show (rdE u p h) = 0 from hE, if_pos rfl]
    show W pp l ee _ ss mm _ bl meth cd _ _ _ _ _ (F0 mm 8 ls (.long _ :: .int (nI 0) :: .ref o :: []))
    refine s_out hDs ho (fun _ h => h) hF hP hO hS d_LW_read_8 (fun H locs hP hO hS => ?_)
    refine lv_goto (tgt := 20) hx hb d_LW_read_9 (by decide) ?_
    refine lv_iconst (v := (nI 0)) hx hb d_LW_read_20 (by decide) ?_
    exact W.toX (W.iret (cells := 1) (slots := 6) hx hb hr (fun t ht _ => ⟨rfl, ⟨by rw [ht]; exact hP, by rw [ht]; exact hO⟩, hS.F ht⟩) hS.2.2 d_LW_read_21 hlocks)
  · have hLf : ∀ q ∈ [] ++ L, (fun z => pA x da ad ra z ∨ z = o) q.base := fun q h => (hL q (by simpa using h)).elim
    obtain ⟨X, hX, hEx⟩ := q
    rw [e1] at hEx
    have hk9 := hEx.worlds
    have hP9 := va_P.keep hP hk9 (fun _ _ h => h)
    have hO9 := hO.keep hk9 (fun h => h)
    have hF9 : va_F (fun z => pA x da ad ra z ∨ z = o) ss t := ⟨hEx.2.1, fun q h1 _ => hEx.2.2.1 q h1⟩
    refine catchQ2 hF hex ⟨by decide, by decide⟩ (by decide) t_75 t_151 hF.2.2.2.2.2.2.2.1.1 hWt ⟨X, hX, hEx⟩ (fun hE => ?_) (fun hE => ?_)
    · rw [hE, if_neg (by decide)]
      refine lv_astore hx hb d_LW_read_12 hl (by decide) rfl (fun ls hl => ?_)
      have hl : lv_has ls 5 [(4, .ref _), (0, .ref _), (1, .int _), (2, .int _), (3, .ref _)] := hl
      refine lv_iconst (v := (nI 1)) hx hb d_LW_read_14 (by decide) ?_
      exact W.toX (W.iret (cells := 0 + 1) (slots := 0 + 6) hx hb hr (fun t2 ht2 _ => ⟨rfl, ⟨by rw [ht2]; exact hP9, by rw [ht2]; exact hO9⟩, by rw [ht2]; exact hF9.1, fun q h1 h2 => by rw [ht2]; exact hF9.2 q h1 h2⟩) hLf d_LW_read_15 hlocks)
    · rw [hE, if_neg (by decide)]
      refine lv_astore hx hb d_LW_read_16 hl (by decide) rfl (fun ls hl => ?_)
      have hl : lv_has ls 5 [(4, .ref _), (0, .ref _), (1, .int _), (2, .int _), (3, .ref _)] := hl
      refine lv_iconst (v := (nI 2)) hx hb d_LW_read_18 (by decide) ?_
      exact W.toX (W.iret (cells := 0 + 1) (slots := 0 + 6) hx hb hr (fun t2 ht2 _ => ⟨rfl, ⟨by rw [ht2]; exact hP9, by rw [ht2]; exact hO9⟩, by rw [ht2]; exact hF9.1, fun q h1 h2 => by rw [ht2]; exact hF9.2 q h1 h2⟩) hLf d_LW_read_19 hlocks)
set_option maxHeartbeats 4000000 in
set_option maxRecDepth 100000 in
theorem c_LW_write (l : Launch) (hfl : l.flags = flags0) (G : Gx) {x da : Nat} {ad ra : Nat → Nat} {u : Nat → Nat} {R : Nat → Nat → Int64} {o : Nat} {v0 : Int64} (hu : uok u) (hDs : pDs x da ad ra) (ho : ¬ pA x da ad ra o) (p h : Int32) (v : Int64) : MetX l y_LW_write [w_LW_write] (Lv 9 1 6) (Pq G [.ref x, .int p, .int h, .long v] (fun H => PDp G x da ad ra u R H ∧ OUT G o v0 H ∧ zH G H)) (QM (some (.int (nI (rdE u p h)))) (fun H => PDp G x da ad ra u (if rdE u p h = 0 then wrR u R (ncl p) (ncl h) v else R) H ∧ OUT G o v0 H) (fun z => pA x da ad ra z ∨ z = o)) 1 6 (fun z => pA x da ad ra z ∨ z = o) := by
  refine hd_codeW (by decide +kernel) (Nat.le_of_ble_eq_true rfl) ?_
  intro pp ee ss mm bl meth cd ls hF hr hlocks hex had hP hl
  have hx := hF.1
  have hb := hF.2.1
  have hl : lv_has ls 6 [(0, .ref _), (1, .int _), (2, .int _), (3, .long _)] := hl
  obtain ⟨hP, hO, hz⟩ := hP
  refine lv_aload_n hx hb d_LW_write_0 rfl (lv_at hl 0 rfl) ?_
  refine lv_iload_n hx hb d_LW_write_1 rfl (lv_at hl 1 rfl) ?_
  refine lv_iload_n hx hb d_LW_write_2 rfl (lv_at hl 2 rfl) ?_
  refine lv_lload_n hx hb d_LW_write_3 rfl (lv_at hl 3 rfl) ?_
  refine cV hF sV_LW_17 (c_PD_write l hfl G hu hDs p h v) ⟨hP, hz⟩ (rc_x hF.2.2.2.2 hP) ⟨rfl, rfl, by decide, by decide⟩ rfl rfl hl.1 (Nat.le_of_ble_eq_true rfl) d_LW_write_4 (by decide) (fun v2 st t L e1 hWt q hL => ?_) (fun xx st t L e1 hWt q hL => ?_)
  · obtain ⟨hE, hv, hP1, hF1⟩ := q
    subst hv
    have hS : va_S (fun z => pA x da ad ra z ∨ z = o) ss.heap t.heap ([] ++ L) := va_S.call va_S.rf e1 hF1 hL (fun _ _ h => Or.inl h) (fun _ h => Or.inl h)
    have hF2 := hF1.2
    rw [e1] at hF2
    have hO := hO.keep hF2 ho
    have hP := hP1
    generalize t.heap = H at hP hO hS ⊢
    generalize [] ++ L = locs at hS ⊢
    rw [show (rdE u p h) = 0 from hE, if_pos rfl]
    show W pp l ee _ ss mm _ bl meth cd _ _ _ _ _ (F0 mm 7 ls [])
    refine lv_goto (tgt := 18) hx hb d_LW_write_7 (by decide) ?_
    refine lv_iconst (v := (nI 0)) hx hb d_LW_write_18 (by decide) ?_
    exact W.toX (W.iret (cells := 1) (slots := 6) hx hb hr (fun t ht _ => ⟨rfl, ⟨by rw [ht]; exact hP, by rw [ht]; exact hO⟩, hS.F ht⟩) hS.2.2 d_LW_write_19 hlocks)
  · have hLf : ∀ q ∈ [] ++ L, (fun z => pA x da ad ra z ∨ z = o) q.base := fun q h => Or.inl (hL q (by simpa using h))
    obtain ⟨X, hX, hEx⟩ := q
    rw [e1] at hEx
    have hk9 := hEx.worlds
    have hP9 := va_P.keep hP hk9 (fun _ _ h => h)
    have hO9 := hO.keep hk9 (fun h => h)
    have hF9 : va_F (fun z => pA x da ad ra z ∨ z = o) ss t := ⟨hEx.2.1, fun q h1 _ => hEx.2.2.1 q h1⟩
    refine catchQ2 hF hex ⟨by decide, by decide⟩ (by decide) t_75 t_151 hF.2.2.2.2.2.2.2.1.1 hWt ⟨X, hX, hEx⟩ (fun hE => ?_) (fun hE => ?_)
    · rw [hE, if_neg (by decide)]
      refine lv_astore hx hb d_LW_write_10 hl (by decide) rfl (fun ls hl => ?_)
      have hl : lv_has ls 6 [(5, .ref _), (0, .ref _), (1, .int _), (2, .int _), (3, .long _)] := hl
      refine lv_iconst (v := (nI 1)) hx hb d_LW_write_12 (by decide) ?_
      exact W.toX (W.iret (cells := 0 + 1) (slots := 0 + 6) hx hb hr (fun t2 ht2 _ => ⟨rfl, ⟨by rw [ht2]; exact hP9, by rw [ht2]; exact hO9⟩, by rw [ht2]; exact hF9.1, fun q h1 h2 => by rw [ht2]; exact hF9.2 q h1 h2⟩) hLf d_LW_write_13 hlocks)
    · rw [hE, if_neg (by decide)]
      refine lv_astore hx hb d_LW_write_14 hl (by decide) rfl (fun ls hl => ?_)
      have hl : lv_has ls 6 [(5, .ref _), (0, .ref _), (1, .int _), (2, .int _), (3, .long _)] := hl
      refine lv_iconst (v := (nI 2)) hx hb d_LW_write_16 (by decide) ?_
      exact W.toX (W.iret (cells := 0 + 1) (slots := 0 + 6) hx hb hr (fun t2 ht2 _ => ⟨rfl, ⟨by rw [ht2]; exact hP9, by rw [ht2]; exact hO9⟩, by rw [ht2]; exact hF9.1, fun q h1 h2 => by rw [ht2]; exact hF9.2 q h1 h2⟩) hLf d_LW_write_17 hlocks)
set_option maxHeartbeats 4000000 in
set_option maxRecDepth 100000 in
theorem c_LW_fail (l : Launch) (hfl : l.flags = flags0) (G : Gx) {x da : Nat} {ad ra : Nat → Nat} {u : Nat → Nat} {R : Nat → Nat → Int64} {o : Nat} {v0 : Int64} (hu : uok u) (hDs : pDs x da ad ra) (ho : ¬ pA x da ad ra o) (d : Int32) : MetX l y_LW_fail [w_LW_fail] (Lv 9 1 6) (Pq G [.ref x, .int d] (fun H => PDp G x da ad ra u R H ∧ OUT G o v0 H ∧ zH G H)) (QM (some (.int (nI (dE d)))) (fun H => PDp G x da ad ra (if dE d = 0 then va_up u (ncl d) 0 else u) R H ∧ OUT G o v0 H) (fun z => pA x da ad ra z ∨ z = o)) 1 6 (fun z => pA x da ad ra z ∨ z = o) := by
  refine hd_codeW (by decide +kernel) (Nat.le_of_ble_eq_true rfl) ?_
  intro pp ee ss mm bl meth cd ls hF hr hlocks hex had hP hl
  have hx := hF.1
  have hb := hF.2.1
  have hl : lv_has ls 3 [(0, .ref _), (1, .int _)] := hl
  obtain ⟨hP, hO, hz⟩ := hP
  refine lv_aload_n hx hb d_LW_fail_0 rfl (lv_at hl 0 rfl) ?_
  refine lv_iload_n hx hb d_LW_fail_1 rfl (lv_at hl 1 rfl) ?_
  refine cV hF sV_LW_21 (c_PD_fail l hfl G hDs d) ⟨hP, hz⟩ (rc_x hF.2.2.2.2 hP) ⟨rfl, rfl, by decide, by decide⟩ rfl rfl hl.1 (Nat.le_of_ble_eq_true rfl) d_LW_fail_2 (by decide) (fun v2 st t L e1 hWt q hL => ?_) (fun xx st t L e1 hWt q hL => ?_)
  · obtain ⟨hE, hv, hP1, hF1⟩ := q
    subst hv
    have hS : va_S (fun z => pA x da ad ra z ∨ z = o) ss.heap t.heap ([] ++ L) := va_S.call va_S.rf e1 hF1 hL (fun _ _ h => Or.inl h) (fun _ h => Or.inl h)
    have hF2 := hF1.2
    rw [e1] at hF2
    have hO := hO.keep hF2 ho
    have hP := hP1
    generalize t.heap = H at hP hO hS ⊢
    generalize [] ++ L = locs at hS ⊢
    rw [show (dE d) = 0 from hE, if_pos rfl]
    show W pp l ee _ ss mm _ bl meth cd _ _ _ _ _ (F0 mm 5 ls [])
    refine lv_goto (tgt := 11) hx hb d_LW_fail_5 (by decide) ?_
    refine lv_iconst (v := (nI 0)) hx hb d_LW_fail_11 (by decide) ?_
    exact W.toX (W.iret (cells := 1) (slots := 6) hx hb hr (fun t ht _ => ⟨rfl, ⟨by rw [ht]; exact hP, by rw [ht]; exact hO⟩, hS.F ht⟩) hS.2.2 d_LW_fail_12 hlocks)
  · have hLf : ∀ q ∈ [] ++ L, (fun z => pA x da ad ra z ∨ z = o) q.base := fun q h => Or.inl (hL q (by simpa using h))
    obtain ⟨X, hX, hEx⟩ := q
    rw [e1] at hEx
    have hk9 := hEx.worlds
    have hP9 := va_P.keep hP hk9 (fun _ _ h => h)
    have hO9 := hO.keep hk9 (fun h => h)
    have hF9 : va_F (fun z => pA x da ad ra z ∨ z = o) ss t := ⟨hEx.2.1, fun q h1 _ => hEx.2.2.1 q h1⟩
    refine catchQ1 hF hex ⟨by decide, by decide⟩ (dE_ne2 d) hWt ⟨X, hX, hEx⟩ (fun hE => ?_)
    rw [hE, if_neg (by decide)]
    refine lv_astore_n hx hb d_LW_fail_8 rfl hl (by decide) rfl (fun ls hl => ?_)
    have hl : lv_has ls 3 [(2, .ref _), (0, .ref _), (1, .int _)] := hl
    refine lv_iconst (v := (nI 1)) hx hb d_LW_fail_9 (by decide) ?_
    exact W.toX (W.iret (cells := 0 + 1) (slots := 0 + 6) hx hb hr (fun t2 ht2 _ => ⟨rfl, ⟨by rw [ht2]; exact hP9, by rw [ht2]; exact hO9⟩, by rw [ht2]; exact hF9.1, fun q h1 h2 => by rw [ht2]; exact hF9.2 q h1 h2⟩) hLf d_LW_fail_10 hlocks)
set_option maxHeartbeats 4000000 in
set_option maxRecDepth 100000 in
theorem c_LW_replace (l : Launch) (hfl : l.flags = flags0) (G : Gx) {x da : Nat} {ad ra : Nat → Nat} {u : Nat → Nat} {R : Nat → Nat → Int64} {o : Nat} {v0 : Int64} (hu : uok u) (hDs : pDs x da ad ra) (ho : ¬ pA x da ad ra o) (d : Int32) : MetX l y_LW_replace [w_LW_replace] (Lv 9 1 6) (Pq G [.ref x, .int d] (fun H => PDp G x da ad ra u R H ∧ OUT G o v0 H ∧ zH G H)) (QM (some (.int (nI (rpE u d)))) (fun H => PDp G x da ad ra (if rpE u d = 0 then va_up u (ncl d) 1 else u) (if rpE u d = 0 then va_up R (ncl d) (zr (R (ncl d)) 200) else R) H ∧ OUT G o v0 H) (fun z => pA x da ad ra z ∨ z = o)) 1 6 (fun z => pA x da ad ra z ∨ z = o) := by
  refine hd_codeW (by decide +kernel) (Nat.le_of_ble_eq_true rfl) ?_
  intro pp ee ss mm bl meth cd ls hF hr hlocks hex had hP hl
  have hx := hF.1
  have hb := hF.2.1
  have hl : lv_has ls 3 [(0, .ref _), (1, .int _)] := hl
  obtain ⟨hP, hO, hz⟩ := hP
  refine lv_aload_n hx hb d_LW_replace_0 rfl (lv_at hl 0 rfl) ?_
  refine lv_iload_n hx hb d_LW_replace_1 rfl (lv_at hl 1 rfl) ?_
  refine cV hF sV_LW_25 (c_PD_replace l hfl G hDs d) ⟨hP, hz⟩ (rc_x hF.2.2.2.2 hP) ⟨rfl, rfl, by decide, by decide⟩ rfl rfl hl.1 (Nat.le_of_ble_eq_true rfl) d_LW_replace_2 (by decide) (fun v2 st t L e1 hWt q hL => ?_) (fun xx st t L e1 hWt q hL => ?_)
  · obtain ⟨hE, hv, hP1, hF1⟩ := q
    subst hv
    have hS : va_S (fun z => pA x da ad ra z ∨ z = o) ss.heap t.heap ([] ++ L) := va_S.call va_S.rf e1 hF1 hL (fun _ _ h => Or.inl h) (fun _ h => Or.inl h)
    have hF2 := hF1.2
    rw [e1] at hF2
    have hO := hO.keep hF2 ho
    have hP := hP1
    generalize t.heap = H at hP hO hS ⊢
    generalize [] ++ L = locs at hS ⊢
    rw [show (rpE u d) = 0 from hE, if_pos rfl, if_pos rfl]
    show W pp l ee _ ss mm _ bl meth cd _ _ _ _ _ (F0 mm 5 ls [])
    refine lv_goto (tgt := 14) hx hb d_LW_replace_5 (by decide) ?_
    refine lv_iconst (v := (nI 0)) hx hb d_LW_replace_14 (by decide) ?_
    exact W.toX (W.iret (cells := 1) (slots := 6) hx hb hr (fun t ht _ => ⟨rfl, ⟨by rw [ht]; exact hP, by rw [ht]; exact hO⟩, hS.F ht⟩) hS.2.2 d_LW_replace_15 hlocks)
  · have hLf : ∀ q ∈ [] ++ L, (fun z => pA x da ad ra z ∨ z = o) q.base := fun q h => Or.inl (hL q (by simpa using h))
    obtain ⟨X, hX, hEx⟩ := q
    rw [e1] at hEx
    have hk9 := hEx.worlds
    have hP9 := va_P.keep hP hk9 (fun _ _ h => h)
    have hO9 := hO.keep hk9 (fun h => h)
    have hF9 : va_F (fun z => pA x da ad ra z ∨ z = o) ss t := ⟨hEx.2.1, fun q h1 _ => hEx.2.2.1 q h1⟩
    refine catchQ2 hF hex ⟨by decide, by decide⟩ (by decide) t_192 t_199 hF.2.2.2.2.2.2.2.1.2 hWt ⟨X, hX, hEx⟩ (fun hE => ?_) (fun hE => ?_)
    · rw [hE, if_neg (by decide), if_neg (by decide)]
      refine lv_astore_n hx hb d_LW_replace_8 rfl hl (by decide) rfl (fun ls hl => ?_)
      have hl : lv_has ls 3 [(2, .ref _), (0, .ref _), (1, .int _)] := hl
      refine lv_iconst (v := (nI 1)) hx hb d_LW_replace_9 (by decide) ?_
      exact W.toX (W.iret (cells := 0 + 1) (slots := 0 + 6) hx hb hr (fun t2 ht2 _ => ⟨rfl, ⟨by rw [ht2]; exact hP9, by rw [ht2]; exact hO9⟩, by rw [ht2]; exact hF9.1, fun q h1 h2 => by rw [ht2]; exact hF9.2 q h1 h2⟩) hLf d_LW_replace_10 hlocks)
    · rw [hE, if_neg (by decide), if_neg (by decide)]
      refine lv_astore_n hx hb d_LW_replace_11 rfl hl (by decide) rfl (fun ls hl => ?_)
      have hl : lv_has ls 3 [(2, .ref _), (0, .ref _), (1, .int _)] := hl
      refine lv_iconst (v := (nI 2)) hx hb d_LW_replace_12 (by decide) ?_
      exact W.toX (W.iret (cells := 0 + 1) (slots := 0 + 6) hx hb hr (fun t2 ht2 _ => ⟨rfl, ⟨by rw [ht2]; exact hP9, by rw [ht2]; exact hO9⟩, by rw [ht2]; exact hF9.1, fun q h1 h2 => by rw [ht2]; exact hF9.2 q h1 h2⟩) hLf d_LW_replace_13 hlocks)
set_option maxHeartbeats 4000000 in
set_option maxRecDepth 100000 in
theorem c_LW_rebuild (l : Launch) (hfl : l.flags = flags0) (G : Gx) {x da : Nat} {ad ra : Nat → Nat} {u : Nat → Nat} {R : Nat → Nat → Int64} {o : Nat} {v0 : Int64} (hu : uok u) (hDs : pDs x da ad ra) (ho : ¬ pA x da ad ra o) (d n : Int32) : MetX l y_LW_rebuild [w_LW_rebuild] (Lv 9 1 6) (Pq G [.ref x, .int d, .int n, .ref o] (fun H => PDp G x da ad ra u R H ∧ OUT G o v0 H ∧ zH G H)) (QM (some (.int (nI (rbE u d n)))) (fun H => PDp G x da ad ra (if rbE u d n = 0 then (rb (ncl d) (ncl n) u R).1 else u) (if rbE u d n = 0 then (rb (ncl d) (ncl n) u R).2 else R) H ∧ OUT G o (if rbE u d n = 0 then (upv ((rb (ncl d) (ncl n) u R).1 (ncl d))).toInt64 else v0) H) (fun z => pA x da ad ra z ∨ z = o)) 1 6 (fun z => pA x da ad ra z ∨ z = o) := by
  refine hd_codeW (by decide +kernel) (Nat.le_of_ble_eq_true rfl) ?_
  intro pp ee ss mm bl meth cd ls hF hr hlocks hex had hP hl
  have hx := hF.1
  have hb := hF.2.1
  have hl : lv_has ls 5 [(0, .ref _), (1, .int _), (2, .int _), (3, .ref _)] := hl
  obtain ⟨hP, hO, hz⟩ := hP
  refine lv_aload_n hx hb d_LW_rebuild_0 rfl (lv_at hl 3 rfl) ?_
  refine lv_iconst (v := (nI 0)) hx hb d_LW_rebuild_1 (by decide) ?_
  refine lv_aload_n hx hb d_LW_rebuild_2 rfl (lv_at hl 0 rfl) ?_
  refine lv_iload_n hx hb d_LW_rebuild_3 rfl (lv_at hl 1 rfl) ?_
  refine lv_iload_n hx hb d_LW_rebuild_4 rfl (lv_at hl 2 rfl) ?_
  refine cV hF sV_LW_30 (c_PD_rebuild l hfl G hu hDs d n) ⟨hP, hz⟩ (rc_x hF.2.2.2.2 hP) ⟨rfl, rfl, by decide, by decide⟩ rfl rfl hl.1 (Nat.le_of_ble_eq_true rfl) d_LW_rebuild_5 (by decide) (fun v2 st t L e1 hWt q hL => ?_) (fun xx st t L e1 hWt q hL => ?_)
  · obtain ⟨hE, hv, hP1, hF1⟩ := q
    subst hv
    have hS : va_S (fun z => pA x da ad ra z ∨ z = o) ss.heap t.heap ([] ++ L) := va_S.call va_S.rf e1 hF1 hL (fun _ _ h => Or.inl h) (fun _ h => Or.inl h)
    have hF2 := hF1.2
    rw [e1] at hF2
    have hO := hO.keep hF2 ho
    have hP := hP1
    generalize t.heap = H at hP hO hS ⊢
    generalize [] ++ L = locs at hS ⊢
    rw [show (rbE u d n) = 0 from hE, if_pos rfl, if_pos rfl, if_pos rfl]
    show W pp l ee _ ss mm _ bl meth cd _ _ _ _ _ (F0 mm 8 ls (.int _ :: .int (nI 0) :: .ref o :: []))
    refine lv_i2l hx hb d_LW_rebuild_8 rfl ?_
    refine s_out hDs ho (fun _ h => h) hF hP hO hS d_LW_rebuild_9 (fun H locs hP hO hS => ?_)
    refine lv_goto (tgt := 21) hx hb d_LW_rebuild_10 (by decide) ?_
    refine lv_iconst (v := (nI 0)) hx hb d_LW_rebuild_21 (by decide) ?_
    exact W.toX (W.iret (cells := 1) (slots := 6) hx hb hr (fun t ht _ => ⟨rfl, ⟨by rw [ht]; exact hP, by rw [ht]; exact hO⟩, hS.F ht⟩) hS.2.2 d_LW_rebuild_22 hlocks)
  · have hLf : ∀ q ∈ [] ++ L, (fun z => pA x da ad ra z ∨ z = o) q.base := fun q h => Or.inl (hL q (by simpa using h))
    obtain ⟨X, hX, hEx⟩ := q
    rw [e1] at hEx
    have hk9 := hEx.worlds
    have hP9 := va_P.keep hP hk9 (fun _ _ h => h)
    have hO9 := hO.keep hk9 (fun h => h)
    have hF9 : va_F (fun z => pA x da ad ra z ∨ z = o) ss t := ⟨hEx.2.1, fun q h1 _ => hEx.2.2.1 q h1⟩
    refine catchQ2 hF hex ⟨by decide, by decide⟩ (by decide) t_192 t_199 hF.2.2.2.2.2.2.2.1.2 hWt ⟨X, hX, hEx⟩ (fun hE => ?_) (fun hE => ?_)
    · rw [hE, if_neg (by decide), if_neg (by decide), if_neg (by decide)]
      refine lv_astore hx hb d_LW_rebuild_13 hl (by decide) rfl (fun ls hl => ?_)
      have hl : lv_has ls 5 [(4, .ref _), (0, .ref _), (1, .int _), (2, .int _), (3, .ref _)] := hl
      refine lv_iconst (v := (nI 1)) hx hb d_LW_rebuild_15 (by decide) ?_
      exact W.toX (W.iret (cells := 0 + 1) (slots := 0 + 6) hx hb hr (fun t2 ht2 _ => ⟨rfl, ⟨by rw [ht2]; exact hP9, by rw [ht2]; exact hO9⟩, by rw [ht2]; exact hF9.1, fun q h1 h2 => by rw [ht2]; exact hF9.2 q h1 h2⟩) hLf d_LW_rebuild_16 hlocks)
    · rw [hE, if_neg (by decide), if_neg (by decide), if_neg (by decide)]
      refine lv_astore hx hb d_LW_rebuild_17 hl (by decide) rfl (fun ls hl => ?_)
      have hl : lv_has ls 5 [(4, .ref _), (0, .ref _), (1, .int _), (2, .int _), (3, .ref _)] := hl
      refine lv_iconst (v := (nI 2)) hx hb d_LW_rebuild_19 (by decide) ?_
      exact W.toX (W.iret (cells := 0 + 1) (slots := 0 + 6) hx hb hr (fun t2 ht2 _ => ⟨rfl, ⟨by rw [ht2]; exact hP9, by rw [ht2]; exact hO9⟩, by rw [ht2]; exact hF9.1, fun q h1 h2 => by rw [ht2]; exact hF9.2 q h1 h2⟩) hLf d_LW_rebuild_20 hlocks)
set_option maxHeartbeats 4000000 in
set_option maxRecDepth 100000 in
theorem c_LW_flip (l : Launch) (hfl : l.flags = flags0) (G : Gx) {x da : Nat} {ad ra : Nat → Nat} {u : Nat → Nat} {R : Nat → Nat → Int64} {o : Nat} {v0 : Int64} (hu : uok u) (hDs : pDs x da ad ra) (ho : ¬ pA x da ad ra o) (d s h : Int32) (v : Int64) : MetX l y_LW_flip [w_LW_flip] (Lv 9 1 6) (Pq G [.ref x, .int d, .int s, .int h, .long v] (fun H => PDp G x da ad ra u R H ∧ OUT G o v0 H ∧ zH G H)) (QM (some (.int (nI (blE u d s h)))) (fun H => PDp G x da ad ra u (if blE u d s h = 0 then rset R (ncl d) (2 * ncl s + ncl h) (R (ncl d) (2 * ncl s + ncl h) ^^^ v) else R) H ∧ OUT G o v0 H) (fun z => pA x da ad ra z ∨ z = o)) 1 6 (fun z => pA x da ad ra z ∨ z = o) := by
  refine hd_codeW (by decide +kernel) (Nat.le_of_ble_eq_true rfl) ?_
  intro pp ee ss mm bl meth cd ls hF hr hlocks hex had hP hl
  have hx := hF.1
  have hb := hF.2.1
  have hl : lv_has ls 7 [(0, .ref _), (1, .int _), (2, .int _), (3, .int _), (4, .long _)] := hl
  obtain ⟨hP, hO, hz⟩ := hP
  refine lv_aload_n hx hb d_LW_flip_0 rfl (lv_at hl 0 rfl) ?_
  refine lv_iload_n hx hb d_LW_flip_1 rfl (lv_at hl 1 rfl) ?_
  refine lv_iload_n hx hb d_LW_flip_2 rfl (lv_at hl 2 rfl) ?_
  refine lv_iload_n hx hb d_LW_flip_3 rfl (lv_at hl 3 rfl) ?_
  refine lv_lload hx hb d_LW_flip_4 (lv_at hl 4 rfl) ?_
  refine cV hF sV_LW_34 (c_PD_flip l hfl G hDs d s h v) ⟨hP, hz⟩ (rc_x hF.2.2.2.2 hP) ⟨rfl, rfl, by decide, by decide⟩ rfl rfl hl.1 (Nat.le_of_ble_eq_true rfl) d_LW_flip_6 (by decide) (fun v2 st t L e1 hWt q hL => ?_) (fun xx st t L e1 hWt q hL => ?_)
  · obtain ⟨hE, hv, hP1, hF1⟩ := q
    subst hv
    have hS : va_S (fun z => pA x da ad ra z ∨ z = o) ss.heap t.heap ([] ++ L) := va_S.call va_S.rf e1 hF1 hL (fun _ _ h => Or.inl h) (fun _ h => Or.inl h)
    have hF2 := hF1.2
    rw [e1] at hF2
    have hO := hO.keep hF2 ho
    have hP := hP1
    generalize t.heap = H at hP hO hS ⊢
    generalize [] ++ L = locs at hS ⊢
    rw [show (blE u d s h) = 0 from hE, if_pos rfl]
    show W pp l ee _ ss mm _ bl meth cd _ _ _ _ _ (F0 mm 9 ls [])
    refine lv_goto (tgt := 20) hx hb d_LW_flip_9 (by decide) ?_
    refine lv_iconst (v := (nI 0)) hx hb d_LW_flip_20 (by decide) ?_
    exact W.toX (W.iret (cells := 1) (slots := 6) hx hb hr (fun t ht _ => ⟨rfl, ⟨by rw [ht]; exact hP, by rw [ht]; exact hO⟩, hS.F ht⟩) hS.2.2 d_LW_flip_21 hlocks)
  · have hLf : ∀ q ∈ [] ++ L, (fun z => pA x da ad ra z ∨ z = o) q.base := fun q h => Or.inl (hL q (by simpa using h))
    obtain ⟨X, hX, hEx⟩ := q
    rw [e1] at hEx
    have hk9 := hEx.worlds
    have hP9 := va_P.keep hP hk9 (fun _ _ h => h)
    have hO9 := hO.keep hk9 (fun h => h)
    have hF9 : va_F (fun z => pA x da ad ra z ∨ z = o) ss t := ⟨hEx.2.1, fun q h1 _ => hEx.2.2.1 q h1⟩
    refine catchQ2 hF hex ⟨by decide, by decide⟩ (by decide) t_192 t_199 hF.2.2.2.2.2.2.2.1.2 hWt ⟨X, hX, hEx⟩ (fun hE => ?_) (fun hE => ?_)
    · rw [hE, if_neg (by decide)]
      refine lv_astore hx hb d_LW_flip_12 hl (by decide) rfl (fun ls hl => ?_)
      have hl : lv_has ls 7 [(6, .ref _), (0, .ref _), (1, .int _), (2, .int _), (3, .int _), (4, .long _)] := hl
      refine lv_iconst (v := (nI 1)) hx hb d_LW_flip_14 (by decide) ?_
      exact W.toX (W.iret (cells := 0 + 1) (slots := 0 + 6) hx hb hr (fun t2 ht2 _ => ⟨rfl, ⟨by rw [ht2]; exact hP9, by rw [ht2]; exact hO9⟩, by rw [ht2]; exact hF9.1, fun q h1 h2 => by rw [ht2]; exact hF9.2 q h1 h2⟩) hLf d_LW_flip_15 hlocks)
    · rw [hE, if_neg (by decide)]
      refine lv_astore hx hb d_LW_flip_16 hl (by decide) rfl (fun ls hl => ?_)
      have hl : lv_has ls 7 [(6, .ref _), (0, .ref _), (1, .int _), (2, .int _), (3, .int _), (4, .long _)] := hl
      refine lv_iconst (v := (nI 2)) hx hb d_LW_flip_18 (by decide) ?_
      exact W.toX (W.iret (cells := 0 + 1) (slots := 0 + 6) hx hb hr (fun t2 ht2 _ => ⟨rfl, ⟨by rw [ht2]; exact hP9, by rw [ht2]; exact hO9⟩, by rw [ht2]; exact hF9.1, fun q h1 h2 => by rw [ht2]; exact hF9.2 q h1 h2⟩) hLf d_LW_flip_19 hlocks)
set_option maxHeartbeats 4000000 in
set_option maxRecDepth 100000 in
theorem c_LW_block (l : Launch) (hfl : l.flags = flags0) (G : Gx) {x da : Nat} {ad ra : Nat → Nat} {u : Nat → Nat} {R : Nat → Nat → Int64} {o : Nat} {v0 : Int64} (hu : uok u) (hDs : pDs x da ad ra) (ho : ¬ pA x da ad ra o) (d s h : Int32) : MetX l y_LW_block [w_LW_block] (Lv 9 1 6) (Pq G [.ref x, .int d, .int s, .int h, .ref o] (fun H => PDp G x da ad ra u R H ∧ OUT G o v0 H ∧ zH G H)) (QM (some (.int (nI (blE u d s h)))) (fun H => PDp G x da ad ra u R H ∧ OUT G o (if blE u d s h = 0 then R (ncl d) (2 * ncl s + ncl h) else v0) H) (fun z => pA x da ad ra z ∨ z = o)) 1 6 (fun z => pA x da ad ra z ∨ z = o) := by
  refine hd_codeW (by decide +kernel) (Nat.le_of_ble_eq_true rfl) ?_
  intro pp ee ss mm bl meth cd ls hF hr hlocks hex had hP hl
  have hx := hF.1
  have hb := hF.2.1
  have hl : lv_has ls 6 [(0, .ref _), (1, .int _), (2, .int _), (3, .int _), (4, .ref _)] := hl
  obtain ⟨hP, hO, hz⟩ := hP
  refine lv_aload hx hb d_LW_block_0 (lv_at hl 4 rfl) ?_
  refine lv_iconst (v := (nI 0)) hx hb d_LW_block_2 (by decide) ?_
  refine lv_aload_n hx hb d_LW_block_3 rfl (lv_at hl 0 rfl) ?_
  refine lv_iload_n hx hb d_LW_block_4 rfl (lv_at hl 1 rfl) ?_
  refine lv_iload_n hx hb d_LW_block_5 rfl (lv_at hl 2 rfl) ?_
  refine lv_iload_n hx hb d_LW_block_6 rfl (lv_at hl 3 rfl) ?_
  refine cV hF sV_LW_38 (c_PD_block l hfl G d s h) ⟨hP, hz⟩ (rc_x hF.2.2.2.2 hP) ⟨rfl, rfl, by decide, by decide⟩ rfl rfl hl.1 (Nat.le_of_ble_eq_true rfl) d_LW_block_7 (by decide) (fun v2 st t L e1 hWt q hL => ?_) (fun xx st t L e1 hWt q hL => ?_)
  · obtain ⟨hE, hv, hh⟩ := q
    subst hv
    have hth : t.heap = ss.heap := by rw [hh, e1]
    rw [hth]
    have hS : va_S (fun z => pA x da ad ra z ∨ z = o) ss.heap ss.heap ([] ++ L) := ⟨Nat.le_refl _, fun _ _ _ => rfl, fun q h => (hL q (by simpa using h)).elim⟩
    rw [show (blE u d s h) = 0 from hE, if_pos rfl]
    show W pp l ee _ ss mm _ bl meth cd _ _ _ _ _ (F0 mm 10 ls (.long _ :: .int (nI 0) :: .ref o :: []))
    refine s_out hDs ho (fun _ h => h) hF hP hO hS d_LW_block_10 (fun H locs hP hO hS => ?_)
    refine lv_goto (tgt := 22) hx hb d_LW_block_11 (by decide) ?_
    refine lv_iconst (v := (nI 0)) hx hb d_LW_block_22 (by decide) ?_
    exact W.toX (W.iret (cells := 1) (slots := 6) hx hb hr (fun t ht _ => ⟨rfl, ⟨by rw [ht]; exact hP, by rw [ht]; exact hO⟩, hS.F ht⟩) hS.2.2 d_LW_block_23 hlocks)
  · have hLf : ∀ q ∈ [] ++ L, (fun z => pA x da ad ra z ∨ z = o) q.base := fun q h => (hL q (by simpa using h)).elim
    obtain ⟨X, hX, hEx⟩ := q
    rw [e1] at hEx
    have hk9 := hEx.worlds
    have hP9 := va_P.keep hP hk9 (fun _ _ h => h)
    have hO9 := hO.keep hk9 (fun h => h)
    have hF9 : va_F (fun z => pA x da ad ra z ∨ z = o) ss t := ⟨hEx.2.1, fun q h1 _ => hEx.2.2.1 q h1⟩
    refine catchQ2 hF hex ⟨by decide, by decide⟩ (by decide) t_192 t_199 hF.2.2.2.2.2.2.2.1.2 hWt ⟨X, hX, hEx⟩ (fun hE => ?_) (fun hE => ?_)
    · rw [hE, if_neg (by decide)]
      refine lv_astore hx hb d_LW_block_14 hl (by decide) rfl (fun ls hl => ?_)
      have hl : lv_has ls 6 [(5, .ref _), (0, .ref _), (1, .int _), (2, .int _), (3, .int _), (4, .ref _)] := hl
      refine lv_iconst (v := (nI 1)) hx hb d_LW_block_16 (by decide) ?_
      exact W.toX (W.iret (cells := 0 + 1) (slots := 0 + 6) hx hb hr (fun t2 ht2 _ => ⟨rfl, ⟨by rw [ht2]; exact hP9, by rw [ht2]; exact hO9⟩, by rw [ht2]; exact hF9.1, fun q h1 h2 => by rw [ht2]; exact hF9.2 q h1 h2⟩) hLf d_LW_block_17 hlocks)
    · rw [hE, if_neg (by decide)]
      refine lv_astore hx hb d_LW_block_18 hl (by decide) rfl (fun ls hl => ?_)
      have hl : lv_has ls 6 [(5, .ref _), (0, .ref _), (1, .int _), (2, .int _), (3, .int _), (4, .ref _)] := hl
      refine lv_iconst (v := (nI 2)) hx hb d_LW_block_20 (by decide) ?_
      exact W.toX (W.iret (cells := 0 + 1) (slots := 0 + 6) hx hb hr (fun t2 ht2 _ => ⟨rfl, ⟨by rw [ht2]; exact hP9, by rw [ht2]; exact hO9⟩, by rw [ht2]; exact hF9.1, fun q h1 h2 => by rw [ht2]; exact hF9.2 q h1 h2⟩) hLf d_LW_block_21 hlocks)
set_option maxHeartbeats 4000000 in
set_option maxRecDepth 100000 in
theorem c_LW_state (l : Launch) (hfl : l.flags = flags0) (G : Gx) {x da : Nat} {ad ra : Nat → Nat} {u : Nat → Nat} {R : Nat → Nat → Int64} {o : Nat} {v0 : Int64} (hu : uok u) (hDs : pDs x da ad ra) (ho : ¬ pA x da ad ra o) (d : Int32) : MetX l y_LW_state [w_LW_state] (Lv 9 1 6) (Pq G [.ref x, .int d, .ref o] (fun H => PDp G x da ad ra u R H ∧ OUT G o v0 H ∧ zH G H)) (QM (some (.int (nI (dE d)))) (fun H => PDp G x da ad ra u R H ∧ OUT G o (if dE d = 0 then (stV (u (ncl d))).toInt64 else v0) H) (fun z => pA x da ad ra z ∨ z = o)) 1 6 (fun z => pA x da ad ra z ∨ z = o) := by
  refine hd_codeW (by decide +kernel) (Nat.le_of_ble_eq_true rfl) ?_
  intro pp ee ss mm bl meth cd ls hF hr hlocks hex had hP hl
  have hx := hF.1
  have hb := hF.2.1
  have hl : lv_has ls 4 [(0, .ref _), (1, .int _), (2, .ref _)] := hl
  obtain ⟨hP, hO, hz⟩ := hP
  refine lv_aload_n hx hb d_LW_state_0 rfl (lv_at hl 2 rfl) ?_
  refine lv_iconst (v := (nI 0)) hx hb d_LW_state_1 (by decide) ?_
  refine lv_aload_n hx hb d_LW_state_2 rfl (lv_at hl 0 rfl) ?_
  refine lv_iload_n hx hb d_LW_state_3 rfl (lv_at hl 1 rfl) ?_
  refine cV hF sV_LW_42 (c_PD_state l hfl G hu d) ⟨hP, hz⟩ (rc_x hF.2.2.2.2 hP) ⟨rfl, rfl, by decide, by decide⟩ rfl rfl hl.1 (Nat.le_of_ble_eq_true rfl) d_LW_state_4 (by decide) (fun v2 st t L e1 hWt q hL => ?_) (fun xx st t L e1 hWt q hL => ?_)
  · obtain ⟨hE, hv, hh⟩ := q
    subst hv
    have hth : t.heap = ss.heap := by rw [hh, e1]
    rw [hth]
    have hS : va_S (fun z => pA x da ad ra z ∨ z = o) ss.heap ss.heap ([] ++ L) := ⟨Nat.le_refl _, fun _ _ _ => rfl, fun q h => (hL q (by simpa using h)).elim⟩
    rw [show (dE d) = 0 from hE, if_pos rfl]
    show W pp l ee _ ss mm _ bl meth cd _ _ _ _ _ (F0 mm 7 ls (.int _ :: .int (nI 0) :: .ref o :: []))
    refine lv_i2l hx hb d_LW_state_7 rfl ?_
    refine s_out hDs ho (fun _ h => h) hF hP hO hS d_LW_state_8 (fun H locs hP hO hS => ?_)
    refine lv_goto (tgt := 15) hx hb d_LW_state_9 (by decide) ?_
    refine lv_iconst (v := (nI 0)) hx hb d_LW_state_15 (by decide) ?_
    exact W.toX (W.iret (cells := 1) (slots := 6) hx hb hr (fun t ht _ => ⟨rfl, ⟨by rw [ht]; exact hP, by rw [ht]; exact hO⟩, hS.F ht⟩) hS.2.2 d_LW_state_16 hlocks)
  · have hLf : ∀ q ∈ [] ++ L, (fun z => pA x da ad ra z ∨ z = o) q.base := fun q h => (hL q (by simpa using h)).elim
    obtain ⟨X, hX, hEx⟩ := q
    rw [e1] at hEx
    have hk9 := hEx.worlds
    have hP9 := va_P.keep hP hk9 (fun _ _ h => h)
    have hO9 := hO.keep hk9 (fun h => h)
    have hF9 : va_F (fun z => pA x da ad ra z ∨ z = o) ss t := ⟨hEx.2.1, fun q h1 _ => hEx.2.2.1 q h1⟩
    refine catchQ1 hF hex ⟨by decide, by decide⟩ (dE_ne2 d) hWt ⟨X, hX, hEx⟩ (fun hE => ?_)
    rw [hE, if_neg (by decide)]
    refine lv_astore_n hx hb d_LW_state_12 rfl hl (by decide) rfl (fun ls hl => ?_)
    have hl : lv_has ls 4 [(3, .ref _), (0, .ref _), (1, .int _), (2, .ref _)] := hl
    refine lv_iconst (v := (nI 1)) hx hb d_LW_state_13 (by decide) ?_
    exact W.toX (W.iret (cells := 0 + 1) (slots := 0 + 6) hx hb hr (fun t2 ht2 _ => ⟨rfl, ⟨by rw [ht2]; exact hP9, by rw [ht2]; exact hO9⟩, by rw [ht2]; exact hF9.1, fun q h1 h2 => by rw [ht2]; exact hF9.2 q h1 h2⟩) hLf d_LW_state_14 hlocks)
end
section
/-! the context at the law's start -/
theorem zlays {args : Array Value} {s : State} {C n d : String} (h : (Cond.laysStatic C n d).before args s = true) : ∃ (c : ClassId) (k : Class) (zA : Nat) (zc : Cell), s.vm.findClass C = some c ∧ s.vm.classes[c]? = some k ∧ k.statics = some zA ∧ s.heap[zA]? = some zc ∧ zc.vm.isStatics = true ∧
    ∀ (V : State) (a' : Array Value), s.vm.Alike V.vm → V.heap[zA]? = some zc → (Cond.laysStatic C n d).before a' V = true ∧ ((Cond.isRef (.static C n d)).before args s = true → (Cond.isRef (.static C n d)).before a' V = true) := by
  obtain ⟨c, k, i, f, a, cell, hc, hi, hst, ha, hcell, hs, hcls, hlt, hty⟩ := Cond.laysStatic_spec h
  refine ⟨c, k, a, cell, hc, (State.fieldFound?_spec hi).1, ha, hcell, hs, fun V a' hV hz => ?_⟩
  obtain ⟨k', hi', he⟩ := State.fieldFound?_setVm hV hi
  have hi' : V.fieldFound? C n d = some (c, k', i, f) := hi'
  have hc' : V.vm.findClass C = some c := by rw [hV.findClass]; exact hc
  have ha' : k'.statics = some a := by rw [he]; exact ha
  have hty' : k'.staticTypes[f.slot]? = some f.type := by rw [he]; exact hty
  refine ⟨?_, fun hr => ?_⟩
  · simp [Cond.before, Cond.holds, Cond.value, hc', hi', ha', hz, hst, hs, hcls, hlt, hty']
  · have e1 : (Term.static C n d).eval args s none [] s = cell.slots[f.slot]? := by
      simp [Term.eval, State.fieldNamed?, hi, hst, ha, hcell, hs]
    have e2 : (Term.static C n d).eval a' V none [] V = cell.slots[f.slot]? := by
      simp [Term.eval, State.fieldNamed?, hi', hst, ha', hz, hs]
    simp only [Cond.before, Cond.holds, Cond.value, e1] at hr
    simp only [Cond.before, Cond.holds, Cond.value, e2]
    exact hr
theorem zOK_of {args : Array Value} {s : State} (h1 : (Cond.laysStatic "java/lang/Throwable" "UNASSIGNED_STACK" "[Ljava/lang/StackTraceElement;").before args s = true) (h2 : (Cond.laysStatic "java/lang/Throwable" "SUPPRESSED_SENTINEL" "Ljava/util/List;").before args s = true)
    (h3 : (Cond.isRef (.static "java/lang/Throwable" "UNASSIGNED_STACK" "[Ljava/lang/StackTraceElement;")).before args s = true) (h4 : (Cond.isRef (.static "java/lang/Throwable" "SUPPRESSED_SENTINEL" "Ljava/util/List;")).before args s = true) : ∃ (zA : Nat) (zc : Cell), s.heap[zA]? = some zc ∧ zOK zA zc s.vm := by
  obtain ⟨c, k, zA, zc, a1, a2, a3, a4, a5, a6⟩ := zlays h1
  obtain ⟨c', k', zA', zc', b1, b2, b3, b4, b5, b6⟩ := zlays h2
  cases a1.symm.trans b1
  cases a2.symm.trans b2
  cases a3.symm.trans b3
  cases a4.symm.trans b4
  refine ⟨zA, zc, a4, a5, fun V a hV hz w hw => ?_⟩
  obtain ⟨g1, g2⟩ := a6 V a hV hz
  obtain ⟨g3, g4⟩ := b6 V a hV hz
  simp only [zAtoms, List.mem_cons, List.not_mem_nil, or_false] at hw
  rcases hw with rfl | rfl | rfl | rfl
  · exact g1
  · exact g3
  · exact g2 h3
  · exact g4 h4
theorem arr_prim {args : Array Value} {s : State} {ty : FieldType} (h : (Cond.arrayClass ty).before args s = true) : ∃ cA, ArrOfT s cA ty ∧ s.vm.findClass ("[" ++ ty.toString) = some cA := by
  obtain ⟨c, k, comp, h1, h2, h3⟩ := Cond.arrayClass_spec h
  exact ⟨c, fun n z => ⟨fun k h => (by cases h), k, h2, comp, h3⟩, h1⟩
theorem arr_obj {s : State} {C : String} (h : va_AO C s) : ∃ cA, ArrOfT s cA (.object C) ∧ va_RA s cA (.object C) := by
  obtain ⟨comp, c, k, h1, h2, h3, h4, h5⟩ := Cond.arrayOver_spec h
  exact ⟨c, fun n z => ⟨fun k h => (by cases h), k, h3, comp, h4⟩, k, comp, h3, h4, h1, h5⟩
theorem nest_in : nestW ∈ lw_tbl := List.mem_of_getElem? (i := 32) (by with_unfolding_all rfl)
theorem over_in : (Cond.arrayOver (.object "ParityDisks$Disk")) ∈ lw_tbl := List.mem_of_getElem? (i := 30) (by with_unfolding_all rfl)
theorem ls1_in : (Cond.laysStatic "java/lang/Throwable" "UNASSIGNED_STACK" "[Ljava/lang/StackTraceElement;") ∈ lw_tbl := List.mem_of_getElem? (i := 124) (by with_unfolding_all rfl)
theorem ls2_in : (Cond.laysStatic "java/lang/Throwable" "SUPPRESSED_SENTINEL" "Ljava/util/List;") ∈ lw_tbl := List.mem_of_getElem? (i := 126) (by with_unfolding_all rfl)
theorem cx_start {args : Array Value} {s : State} (hts : ∀ w ∈ lw_tbl, w.before args s = true) (hgv : (Jvm.Cond.and given_1 narrow_1).before args s = true) : ∃ G : Gx, CX G s ∧ zH G s.heap := by
  have hg := flat_of_before _ hgv
  have hT : ∀ w ∈ TB, w.before args s = true := fun w hw => hts w (List.mem_filter.mp hw).1
  obtain ⟨zA, zc, hz, hzk⟩ := zOK_of (hts _ ls1_in) (hts _ ls2_in) (hg _ (by decide +kernel)) (hg _ (by decide +kernel))
  have hAO : va_AO "ParityDisks$Disk" s := va_AO.of (hts _ over_in)
  obtain ⟨cI, i1, i2⟩ := arr_prim (hT _ t_268)
  obtain ⟨cL, l1, l2⟩ := arr_prim (hT _ t_38)
  obtain ⟨cQ, q1, q2⟩ := arr_obj hAO
  obtain ⟨c0, s0, k0⟩ := u_known hT in_PD (hT _ t_11)
  obtain ⟨c1, s1, k1⟩ := u_known hT in_DK (hT _ t_20)
  obtain ⟨c2, s2, k2⟩ := u_known hT in_MO (hT _ t_253)
  refine ⟨((fun c => if c = 0 then c0 else if c = 1 then c1 else c2, fun c => if c = 0 then s0 else if c = 1 then s1 else s2), (cI, cL, cQ), (zA, zc)), ⟨⟨fun c q hq => ?_, fun k q hq => ?_⟩, fun w hw => tb_warm (State.WarmedH.refl s) hw (hT w hw), ⟨va_Nw.of rfl (hts _ nest_in), hAO⟩, ⟨hg nc1 (by decide +kernel), hg nc2 (by decide +kernel)⟩, hzk⟩, hz⟩
  · rcases c with _ | _ | _ | c
    · cases hq; exact k0
    · cases hq; exact k1
    · cases hq; exact k2
    · cases hq
  · rcases k with _ | _ | _ | k
    · cases hq; exact ⟨i1, i2⟩
    · cases hq; exact ⟨l1, l2⟩
    · cases hq; exact ⟨q1, q2⟩
    · cases hq
end
section
/-! the law's cases -/
theorem rdE_le (u : Nat → Nat) (p h : Int32) : rdE u p h ≤ 2 := by unfold rdE; split <;> (try split) <;> decide
theorem dE_le (d : Int32) : dE d ≤ 2 := by unfold dE; split <;> decide
theorem rpE_le (u : Nat → Nat) (d : Int32) : rpE u d ≤ 2 := by unfold rpE; split <;> (try split) <;> decide
theorem blE_le (u : Nat → Nat) (d s h : Int32) : blE u d s h ≤ 2 := by unfold blE; split <;> (try split) <;> decide
theorem rbE_le (u : Nat → Nat) (d n : Int32) : rbE u d n ≤ 2 := by unfold rbE; split <;> (try split) <;> decide
theorem E_0 {n : Nat} (hn : n ≤ 2) (h : nI n = 0) : n = 0 := Decidable.byContradiction (fun z => nI_ne0 (n := n) (by omega) (by omega) h)
theorem rb_inv (d : Nat) : ∀ (n : Nat) (u : Nat → Nat) (R : Nat → Nat → Int64), ¬ u d = 0 → uok u → ¬ (rb d n u R).1 d = 0 ∧ uok (rb d n u R).1
  | 0, u, R, h1, h2 => ⟨h1, h2⟩
  | n + 1, u, R, h1, h2 => by
    unfold rb
    by_cases h : u d < 101 ∧ lostB u d (u d - 1) = false
    · rw [if_pos h]
      exact rb_inv d n _ _ (by simp [rbU, va_up]) (uok_up h2 (by omega))
    · rw [if_neg h]
      exact ⟨h1, h2⟩
theorem rbE_0 {u : Nat → Nat} {d n : Int32} (e : rbE u d n = 0) : ¬ u (ncl d) = 0 := by
  unfold rbE at e
  by_cases h1 : okN d n = true
  · rw [if_pos h1] at e
    by_cases h2 : u (ncl d) = 0 ∨ u (ncl d) = 101
    · rw [if_pos h2] at e; cases e
    · exact fun z => h2 (Or.inl z)
  · rw [if_neg h1] at e; cases e
theorem upv_mup {n : Nat} (h : ¬ n = 0) : upv n = mup n := (mup_nI h).symm
theorem uok_if {u v : Nat → Nat} {c : Prop} [Decidable c] (hu : uok u) (hv : c → uok v) : uok (if c then v else u) := by
  split
  · exact hv (by assumption)
  · exact hu
/-- where the law's cells lie -/
def DJ (s : State) (x da : Nat) (ad ra : Nat → Nat) (y sa ua o : Nat) : Prop := pDs x da ad ra ∧ mDs y sa ua ∧ ¬ pA x da ad ra o ∧ ¬ mA y sa ua o ∧ (∀ z, pA x da ad ra z → ¬ mA y sa ua z) ∧ (∀ z, pA x da ad ra z → s.heap.size ≤ z) ∧ (∀ z, mA y sa ua z → s.heap.size ≤ z) ∧ s.heap.size ≤ o
/-- the law's invariant: both sides hold one state -/
def Inv (G : Gx) (x da : Nat) (ad ra : Nat → Nat) (y sa ua o : Nat) (u : Nat → Nat) (R : Nat → Nat → Int64) (er : Int32) (v0 : Int64) (H : Heap) : Prop := uok u ∧ PDp G x da ad ra u R H ∧ MOp G y sa ua er u R H ∧ OUT G o v0 H
abbrev newA (s : State) : Nat → Prop := fun q => s.heap.size ≤ q
section LC
variable {p : Program} {l : Launch} {e : Env} {Rm : Room} {s : State} {m : MethodId} {args : Array Value} {below : List Frame} {meth : Method} {c : Code} {H : Heap} {locs : List Loc} {cells slots : Nat} {Q : State → Prop}
variable {cc : ByteArray} {nL pc idx maxL n : Nat} {ls : Array Slot} {rest st0 : List Value} {G : Gx} {own : String} {y : MethodName} {w : Cond} {rm : Room} {As : List Value} {P P' : Heap → Prop} {mc ms : Nat} {v : Option Value} {A A' : Nat → Prop} {H0 : Heap}
theorem mS (hF : Fx p m c cc nL s G own) (hs : SiteS own idx y w maxL n) (hM : MetX l y [w] rm (Pq G As P) (QM v P' A) mc ms A) (hP : P H) (hS : va_S A' H0 H locs) (hA : ∀ q, A q → A' q) (hrm : rm.cells = mc ∧ rm.slots = ms ∧ rm.frames + 1 ≤ Rm.frames ∧ 8 + (maxL + 11) + rm.locals ≤ Rm.locals)
    (hn : As.length = n) (hst : st0 = As.reverse ++ rest) (hls : ls.size = nL) (hW : (rest.map fun v => v.category).sum ≤ 8) (hd : decode cc pc = .ok (.invokestatic idx, 3)) (hcl : cells + mc ≤ Rm.cells ∧ slots + ms ≤ Rm.slots)
    (kk : ∀ (H1 : Heap) (locs1 : List Loc), P' H1 → va_S A' H0 H1 locs1 → H.size ≤ H1.size → (∀ q : Nat, q < H.size → ¬ A q → H1[q]? = H[q]?) → W p l e Rm s m args below meth c H1 locs1 (cells + mc) (slots + ms) Q (F0 m (pc + 3) ls (v.toList ++ rest))) :
    W p l e Rm s m args below meth c H locs cells slots Q (F0 m pc ls st0) := by
  refine cS hF hs hM hP hrm hn hst hls hW hd hcl (fun v2 st t L e1 hWt q hL => ?_) (fun x st t L e1 hWt q hL => by cases q.1)
  obtain ⟨q1, q2, q3⟩ := q
  cases q1
  have hz := q3.1
  have hk := q3.2
  rw [e1] at hz hk
  exact kk t.heap (locs ++ L) q2 (hS.call e1 q3 hL (fun q _ h => hA q h) hA) hz hk
theorem l_scr {b L k : Nat} {xs : Nat → Int32} (hx : p.tables.exec = Jvm.exec) (hb : c.code = cc) (hX : va_X b L xs s s.heap) (hbl : b < s.heap.size) (hS : va_S (newA s) s.heap H locs) (hk : k < L) (hL : L ≤ 3072) (hd : decode cc pc = .ok (.iaload, 1)) (kk : W p l e Rm s m args below meth c H locs cells slots Q (F0 m (pc + 1) ls (.int (xs k) :: rest))) : W p l e Rm s m args below meth c H locs cells slots Q (F0 m pc ls (.int (nI k) :: .ref b :: rest)) := by
  refine va_sld hx hb hX hbl (show ¬ s.heap.size ≤ b by omega) hS (vp_in_nI hk (by omega)) hd ?_
  rw [nI_clamp (by omega)]
  exact kk
theorem zH_of {H : Heap} (hz : zH G s.heap) (hS : va_S (newA s) s.heap H locs) : zH G H := by
  have h1 : G.2.2.1 < s.heap.size := (Array.getElem?_eq_some_iff.mp hz).1
  show H[G.2.2.1]? = _
  rw [hS.2.1 _ h1 (show ¬ s.heap.size ≤ G.2.2.1 by omega)]
  exact hz
theorem l_out {o : Nat} {v0 : Int64} (hF : Fx p m c cc nL s G own) (hO : OUT G o v0 H) (hd : decode cc pc = .ok (.laload, 1)) (kk : W p l e Rm s m args below meth c H locs cells slots Q (F0 m (pc + 1) ls (.long v0 :: rest))) : W p l e Rm s m args below meth c H locs cells slots Q (F0 m pc ls (.int (nI 0) :: .ref o :: rest)) := by
  obtain ⟨f, h1, h2⟩ := hO
  refine va_lald (D := G.1) hF.1 hF.2.1 hF.2.2.2.2.1 h2 0 1 rfl rfl (vp_in_nI (by decide) (by decide)) hd ?_
  rw [nI_clamp (by decide), h1]
  exact kk
end LC
set_option maxHeartbeats 4000000 in
set_option maxRecDepth 100000 in
theorem lc_0 {p : Program} {l : Launch} {e : Env} {s : State} {m : MethodId} {args : Array Value} {below : List Frame} {meth : Method} {c : Code} {H : Heap} {locs : List Loc} {cells slots : Nat} {Q : State → Prop} {ls : Array Slot} {G : Gx} {b L i : Nat} {xs : Nat → Int32} {x da : Nat} {ad ra : Nat → Nat} {y sa ua o : Nat} {u : Nat → Nat} {R : Nat → Nat → Int64} {er : Int32} {v0 : Int64}
    (hfl : l.flags = flags0) (hF : Fx p m c code 8 s G "ParityDisksLaw") (hX : va_X b L xs s s.heap) (hbl : b < s.heap.size) (hz : zH G s.heap) (hJ : DJ s x da ad ra y sa ua o) (hi : i + 6 ≤ L) (hL : L ≤ 3072) (hI : Inv G x da ad ra y sa ua o u R er v0 H) (hS : va_S (newA s) s.heap H locs) (hcl : cells + 1 ≤ room_1.cells ∧ slots + 6 ≤ room_1.slots)
    (hl : lv_has ls 8 [(4, .int (nI i)), (0, .ref b), (1, .ref x), (2, .ref y), (3, .ref o)])
    (nxt : ∀ (u : Nat → Nat) (R : Nat → Nat → Int64) (er : Int32) (v0 : Int64) (H : Heap) (locs : List Loc) (ls : Array Slot), Inv G x da ad ra y sa ua o u R er v0 H → va_S (newA s) s.heap H locs → lv_has ls 8 [(4, .int (nI i)), (0, .ref b), (1, .ref x), (2, .ref y), (3, .ref o)] → W p l e room_1 s m args below meth c H locs (cells + 1) (slots + 6) Q (F0 m 660 ls [])) :
    W p l e room_1 s m args below meth c H locs cells slots Q (F0 m 96 ls []) := by
  have hx := hF.1
  have hb := hF.2.1
  obtain ⟨hDs, mDs, ho, hom, hpm, hpA, hmA, hoA⟩ := hJ
  obtain ⟨hu, hP, hM, hO⟩ := hI
  have hAO : ∀ q, (pA x da ad ra q ∨ q = o) → newA s q := fun q h => h.elim (hpA q) (fun z => by rw [z]; exact hoA)
  refine lv_aload_n hx hb d_LW_law_96 rfl (lv_at hl 2 rfl) ?_
  refine lv_aload_n hx hb d_LW_law_97 rfl (lv_at hl 1 rfl) ?_
  refine lv_iload hx hb d_LW_law_98 (lv_at hl 0 rfl) ?_
  refine lv_iconst (v := (nI 1)) hx hb d_LW_law_100 (by decide) ?_
  refine lv_iadd hx hb d_LW_law_101 ?_
  refine lv_eqi (z := nI (i + 1)) (nI_add _ _) ?_
  refine l_scr hx hb hX hbl hS (show i + 1 < L by omega) hL d_LW_law_102 ?_
  refine lv_aload_n hx hb d_LW_law_103 rfl (lv_at hl 1 rfl) ?_
  refine lv_iload hx hb d_LW_law_104 (lv_at hl 0 rfl) ?_
  refine lv_iconst (v := (nI 2)) hx hb d_LW_law_106 (by decide) ?_
  refine lv_iadd hx hb d_LW_law_107 ?_
  refine lv_eqi (z := nI (i + 2)) (nI_add _ _) ?_
  refine l_scr hx hb hX hbl hS (show i + 2 < L by omega) hL d_LW_law_108 ?_
  refine lv_aload_n hx hb d_LW_law_109 rfl (lv_at hl 4 rfl) ?_
  refine mS hF sS_LW_50 (c_LW_read l hfl G hu hDs ho (xs (i + 1)) (xs (i + 2))) ⟨hP, hO, zH_of hz hS⟩ hS hAO ⟨rfl, rfl, by decide, by decide⟩ rfl rfl hl.1 (Nat.le_of_ble_eq_true rfl) d_LW_law_110 hcl (fun H locs hPO hS hsz hkp => ?_)
  obtain ⟨hP, hO⟩ := hPO
  have hM := va_P.keep hM hkp (fun z hz h => h.elim (fun h9 => hpm z h9 hz) (fun h9 => hom (by rw [← h9]; exact hz)))
  clear hsz hkp
  refine lv_istore hx hb d_LW_law_113 hl (by decide) rfl (fun ls hl => ?_)
  have hl : lv_has ls 8 [(5, .int _), (4, .int _), (0, .ref _), (1, .ref _), (2, .ref _), (3, .ref _)] := hl
  refine lv_aload_n hx hb d_LW_law_115 rfl (lv_at hl 4 rfl) ?_
  refine lv_aload_n hx hb d_LW_law_116 rfl (lv_at hl 2 rfl) ?_
  refine lv_iload hx hb d_LW_law_117 (lv_at hl 1 rfl) ?_
  refine lv_iconst (v := (nI 1)) hx hb d_LW_law_119 (by decide) ?_
  refine lv_iadd hx hb d_LW_law_120 ?_
  refine lv_eqi (z := nI (i + 1)) (nI_add _ _) ?_
  refine l_scr hx hb hX hbl hS (show i + 1 < L by omega) hL d_LW_law_121 ?_
  refine lv_aload_n hx hb d_LW_law_122 rfl (lv_at hl 2 rfl) ?_
  refine lv_iload hx hb d_LW_law_123 (lv_at hl 1 rfl) ?_
  refine lv_iconst (v := (nI 2)) hx hb d_LW_law_125 (by decide) ?_
  refine lv_iadd hx hb d_LW_law_126 ?_
  refine lv_eqi (z := nI (i + 2)) (nI_add _ _) ?_
  refine l_scr hx hb hX hbl hS (show i + 2 < L by omega) hL d_LW_law_127 ?_
  refine mV hF sV_LW_55 (c_MO_read l G mDs hu (xs (i + 1)) (xs (i + 2))) hM (rc_y hF.2.2.2.2 hM) hS hmA ⟨rfl, rfl, by decide, by decide⟩ rfl rfl hl.1 (Nat.le_of_ble_eq_true rfl) d_LW_law_128 ⟨by omega, by omega⟩ (fun H locs hM hS hsz hkp => ?_)
  have hP := va_P.keep hP hkp (fun z hz h => hpm z hz h)
  have hO := hO.keep hkp hom
  clear hsz hkp
  refine lv_lstore hx hb d_LW_law_131 hl (by decide) rfl (fun ls hl => ?_)
  have hl : lv_has ls 8 [(6, .long _), (5, .int _), (4, .int _), (0, .ref _), (1, .ref _), (2, .ref _), (3, .ref _)] := hl
  refine lv_aload_n hx hb d_LW_law_133 rfl (lv_at hl 5 rfl) ?_
  refine rV hF sV_LW_56 (c_MO_thrown l G) hM (rc_y hF.2.2.2.2 hM) (by decide) rfl rfl hl.1 (Nat.le_of_ble_eq_true rfl) d_LW_law_134 ⟨by omega, by omega⟩ ?_
  refine lv_iload hx hb d_LW_law_137 (lv_at hl 1 rfl) ?_
  refine lv_icmp_eq (tgt := 144) hx hb d_LW_law_139 (by decide) (fun _ => ?_) (fun hc => absurd rfl hc)
  refine lv_iload hx hb d_LW_law_144 (lv_at hl 1 rfl) ?_
  refine lv_if_ne (tgt := 160) hx hb d_LW_law_146 (by decide) (fun hc => ?_) (fun hc => ?_)
  · refine lv_goto (tgt := 660) hx hb d_LW_law_160 (by decide) ?_
    exact nxt _ _ _ _ H locs ls ⟨hu, hP, hM, hO⟩ hS (lv_sub hl [2, 3, 4, 5, 6] rfl)
  · have hE := E_0 (rdE_le _ _ _) hc
    refine lv_aload_n hx hb d_LW_law_149 rfl (lv_at hl 6 rfl) ?_
    refine lv_iconst (v := (nI 0)) hx hb d_LW_law_150 (by decide) ?_
    refine l_out hF hO d_LW_law_151 ?_
    refine lv_lload hx hb d_LW_law_152 (lv_at hl 0 rfl) ?_
    refine W.lcmp hx hb d_LW_law_154 ?_
    refine lv_if_eq (tgt := 160) hx hb d_LW_law_155 (by decide) (fun _ => ?_) (fun hc9 => absurd ((lg_cmp_eq _ _).mpr (by unfold moRd; rw [if_pos hE, if_pos hE])) hc9)
    refine lv_goto (tgt := 660) hx hb d_LW_law_160 (by decide) ?_
    exact nxt _ _ _ _ H locs ls ⟨hu, hP, hM, hO⟩ hS (lv_sub hl [2, 3, 4, 5, 6] rfl)
set_option maxHeartbeats 4000000 in
set_option maxRecDepth 100000 in
theorem lc_1 {p : Program} {l : Launch} {e : Env} {s : State} {m : MethodId} {args : Array Value} {below : List Frame} {meth : Method} {c : Code} {H : Heap} {locs : List Loc} {cells slots : Nat} {Q : State → Prop} {ls : Array Slot} {G : Gx} {b L i : Nat} {xs : Nat → Int32} {x da : Nat} {ad ra : Nat → Nat} {y sa ua o : Nat} {u : Nat → Nat} {R : Nat → Nat → Int64} {er : Int32} {v0 : Int64}
    (hfl : l.flags = flags0) (hF : Fx p m c code 8 s G "ParityDisksLaw") (hX : va_X b L xs s s.heap) (hbl : b < s.heap.size) (hz : zH G s.heap) (hJ : DJ s x da ad ra y sa ua o) (hi : i + 6 ≤ L) (hL : L ≤ 3072) (hI : Inv G x da ad ra y sa ua o u R er v0 H) (hS : va_S (newA s) s.heap H locs) (hcl : cells + 1 ≤ room_1.cells ∧ slots + 6 ≤ room_1.slots)
    (hl : lv_has ls 8 [(4, .int (nI i)), (0, .ref b), (1, .ref x), (2, .ref y), (3, .ref o)])
    (nxt : ∀ (u : Nat → Nat) (R : Nat → Nat → Int64) (er : Int32) (v0 : Int64) (H : Heap) (locs : List Loc) (ls : Array Slot), Inv G x da ad ra y sa ua o u R er v0 H → va_S (newA s) s.heap H locs → lv_has ls 8 [(4, .int (nI i)), (0, .ref b), (1, .ref x), (2, .ref y), (3, .ref o)] → W p l e room_1 s m args below meth c H locs (cells + 1) (slots + 6) Q (F0 m 660 ls [])) :
    W p l e room_1 s m args below meth c H locs cells slots Q (F0 m 163 ls []) := by
  have hx := hF.1
  have hb := hF.2.1
  obtain ⟨hDs, mDs, ho, hom, hpm, hpA, hmA, hoA⟩ := hJ
  obtain ⟨hu, hP, hM, hO⟩ := hI
  have hAO : ∀ q, (pA x da ad ra q ∨ q = o) → newA s q := fun q h => h.elim (hpA q) (fun z => by rw [z]; exact hoA)
  refine lv_aload_n hx hb d_LW_law_163 rfl (lv_at hl 2 rfl) ?_
  refine lv_aload_n hx hb d_LW_law_164 rfl (lv_at hl 1 rfl) ?_
  refine lv_iload hx hb d_LW_law_165 (lv_at hl 0 rfl) ?_
  refine lv_iconst (v := (nI 1)) hx hb d_LW_law_167 (by decide) ?_
  refine lv_iadd hx hb d_LW_law_168 ?_
  refine lv_eqi (z := nI (i + 1)) (nI_add _ _) ?_
  refine l_scr hx hb hX hbl hS (show i + 1 < L by omega) hL d_LW_law_169 ?_
  refine lv_aload_n hx hb d_LW_law_170 rfl (lv_at hl 1 rfl) ?_
  refine lv_iload hx hb d_LW_law_171 (lv_at hl 0 rfl) ?_
  refine lv_iconst (v := (nI 2)) hx hb d_LW_law_173 (by decide) ?_
  refine lv_iadd hx hb d_LW_law_174 ?_
  refine lv_eqi (z := nI (i + 2)) (nI_add _ _) ?_
  refine l_scr hx hb hX hbl hS (show i + 2 < L by omega) hL d_LW_law_175 ?_
  refine lv_aload_n hx hb d_LW_law_176 rfl (lv_at hl 1 rfl) ?_
  refine lv_iload hx hb d_LW_law_177 (lv_at hl 0 rfl) ?_
  refine lv_iconst (v := (nI 3)) hx hb d_LW_law_179 (by decide) ?_
  refine lv_iadd hx hb d_LW_law_180 ?_
  refine lv_eqi (z := nI (i + 3)) (nI_add _ _) ?_
  refine l_scr hx hb hX hbl hS (show i + 3 < L by omega) hL d_LW_law_181 ?_
  refine lv_i2l hx hb d_LW_law_182 rfl ?_
  refine lv_bipush (v := nI 32) hx hb d_LW_law_183 (by decide) ?_
  refine lv_lshl hx hb d_LW_law_185 rfl ?_
  refine lv_aload_n hx hb d_LW_law_186 rfl (lv_at hl 1 rfl) ?_
  refine lv_iload hx hb d_LW_law_187 (lv_at hl 0 rfl) ?_
  refine lv_iconst (v := (nI 4)) hx hb d_LW_law_189 (by decide) ?_
  refine lv_iadd hx hb d_LW_law_190 ?_
  refine lv_eqi (z := nI (i + 4)) (nI_add _ _) ?_
  refine l_scr hx hb hX hbl hS (show i + 4 < L by omega) hL d_LW_law_191 ?_
  refine lv_i2l hx hb d_LW_law_192 rfl ?_
  refine lv_ldc2 (v := 4294967295) hx hb hF.2.2.2.1 (hF.2.2.2.2.ts _ _ t_350) d_LW_law_193 ?_
  refine lv_land hx hb d_LW_law_196 ?_
  refine lv_lor hx hb d_LW_law_197 ?_
  refine mS hF sS_LW_62 (c_LW_write l hfl G hu hDs ho (xs (i + 1)) (xs (i + 2)) ((xs (i + 3)).toInt64 <<< ((nI 32).toInt64 &&& 63) ||| (xs (i + 4)).toInt64 &&& 4294967295)) ⟨hP, hO, zH_of hz hS⟩ hS hAO ⟨rfl, rfl, by decide, by decide⟩ rfl rfl hl.1 (Nat.le_of_ble_eq_true rfl) d_LW_law_198 hcl (fun H locs hPO hS hsz hkp => ?_)
  obtain ⟨hP, hO⟩ := hPO
  have hM := va_P.keep hM hkp (fun z hz h => h.elim (fun h9 => hpm z h9 hz) (fun h9 => hom (by rw [← h9]; exact hz)))
  clear hsz hkp
  refine lv_istore hx hb d_LW_law_201 hl (by decide) rfl (fun ls hl => ?_)
  have hl : lv_has ls 8 [(5, .int _), (4, .int _), (0, .ref _), (1, .ref _), (2, .ref _), (3, .ref _)] := hl
  refine lv_aload_n hx hb d_LW_law_203 rfl (lv_at hl 4 rfl) ?_
  refine lv_aload_n hx hb d_LW_law_204 rfl (lv_at hl 2 rfl) ?_
  refine lv_iload hx hb d_LW_law_205 (lv_at hl 1 rfl) ?_
  refine lv_iconst (v := (nI 1)) hx hb d_LW_law_207 (by decide) ?_
  refine lv_iadd hx hb d_LW_law_208 ?_
  refine lv_eqi (z := nI (i + 1)) (nI_add _ _) ?_
  refine l_scr hx hb hX hbl hS (show i + 1 < L by omega) hL d_LW_law_209 ?_
  refine lv_aload_n hx hb d_LW_law_210 rfl (lv_at hl 2 rfl) ?_
  refine lv_iload hx hb d_LW_law_211 (lv_at hl 1 rfl) ?_
  refine lv_iconst (v := (nI 2)) hx hb d_LW_law_213 (by decide) ?_
  refine lv_iadd hx hb d_LW_law_214 ?_
  refine lv_eqi (z := nI (i + 2)) (nI_add _ _) ?_
  refine l_scr hx hb hX hbl hS (show i + 2 < L by omega) hL d_LW_law_215 ?_
  refine lv_aload_n hx hb d_LW_law_216 rfl (lv_at hl 2 rfl) ?_
  refine lv_iload hx hb d_LW_law_217 (lv_at hl 1 rfl) ?_
  refine lv_iconst (v := (nI 3)) hx hb d_LW_law_219 (by decide) ?_
  refine lv_iadd hx hb d_LW_law_220 ?_
  refine lv_eqi (z := nI (i + 3)) (nI_add _ _) ?_
  refine l_scr hx hb hX hbl hS (show i + 3 < L by omega) hL d_LW_law_221 ?_
  refine lv_i2l hx hb d_LW_law_222 rfl ?_
  refine lv_bipush (v := nI 32) hx hb d_LW_law_223 (by decide) ?_
  refine lv_lshl hx hb d_LW_law_225 rfl ?_
  refine lv_aload_n hx hb d_LW_law_226 rfl (lv_at hl 2 rfl) ?_
  refine lv_iload hx hb d_LW_law_227 (lv_at hl 1 rfl) ?_
  refine lv_iconst (v := (nI 4)) hx hb d_LW_law_229 (by decide) ?_
  refine lv_iadd hx hb d_LW_law_230 ?_
  refine lv_eqi (z := nI (i + 4)) (nI_add _ _) ?_
  refine l_scr hx hb hX hbl hS (show i + 4 < L by omega) hL d_LW_law_231 ?_
  refine lv_i2l hx hb d_LW_law_232 rfl ?_
  refine lv_ldc2 (v := 4294967295) hx hb hF.2.2.2.1 (hF.2.2.2.2.ts _ _ t_350) d_LW_law_233 ?_
  refine lv_land hx hb d_LW_law_236 ?_
  refine lv_lor hx hb d_LW_law_237 ?_
  refine mV hF sV_LW_65 (c_MO_write l G mDs hu (xs (i + 1)) (xs (i + 2)) ((xs (i + 3)).toInt64 <<< ((nI 32).toInt64 &&& 63) ||| (xs (i + 4)).toInt64 &&& 4294967295)) hM (rc_y hF.2.2.2.2 hM) hS hmA ⟨rfl, rfl, by decide, by decide⟩ rfl rfl hl.1 (Nat.le_of_ble_eq_true rfl) d_LW_law_238 ⟨by omega, by omega⟩ (fun H locs hM hS hsz hkp => ?_)
  have hP := va_P.keep hP hkp (fun z hz h => hpm z hz h)
  have hO := hO.keep hkp hom
  clear hsz hkp
  refine lv_aload_n hx hb d_LW_law_241 rfl (lv_at hl 4 rfl) ?_
  refine rV hF sV_LW_56 (c_MO_thrown l G) hM (rc_y hF.2.2.2.2 hM) (by decide) rfl rfl hl.1 (Nat.le_of_ble_eq_true rfl) d_LW_law_242 ⟨by omega, by omega⟩ ?_
  refine lv_iload hx hb d_LW_law_245 (lv_at hl 0 rfl) ?_
  refine lv_icmp_eq (tgt := 252) hx hb d_LW_law_247 (by decide) (fun _ => ?_) (fun hc => absurd rfl hc)
  refine lv_goto (tgt := 660) hx hb d_LW_law_252 (by decide) ?_
  exact nxt _ _ _ _ H locs ls ⟨hu, hP, hM, hO⟩ hS (lv_sub hl [1, 2, 3, 4, 5] rfl)
set_option maxHeartbeats 4000000 in
set_option maxRecDepth 100000 in
theorem lc_2 {p : Program} {l : Launch} {e : Env} {s : State} {m : MethodId} {args : Array Value} {below : List Frame} {meth : Method} {c : Code} {H : Heap} {locs : List Loc} {cells slots : Nat} {Q : State → Prop} {ls : Array Slot} {G : Gx} {b L i : Nat} {xs : Nat → Int32} {x da : Nat} {ad ra : Nat → Nat} {y sa ua o : Nat} {u : Nat → Nat} {R : Nat → Nat → Int64} {er : Int32} {v0 : Int64}
    (hfl : l.flags = flags0) (hF : Fx p m c code 8 s G "ParityDisksLaw") (hX : va_X b L xs s s.heap) (hbl : b < s.heap.size) (hz : zH G s.heap) (hJ : DJ s x da ad ra y sa ua o) (hi : i + 6 ≤ L) (hL : L ≤ 3072) (hI : Inv G x da ad ra y sa ua o u R er v0 H) (hS : va_S (newA s) s.heap H locs) (hcl : cells + 1 ≤ room_1.cells ∧ slots + 6 ≤ room_1.slots)
    (hl : lv_has ls 8 [(4, .int (nI i)), (0, .ref b), (1, .ref x), (2, .ref y), (3, .ref o)])
    (nxt : ∀ (u : Nat → Nat) (R : Nat → Nat → Int64) (er : Int32) (v0 : Int64) (H : Heap) (locs : List Loc) (ls : Array Slot), Inv G x da ad ra y sa ua o u R er v0 H → va_S (newA s) s.heap H locs → lv_has ls 8 [(4, .int (nI i)), (0, .ref b), (1, .ref x), (2, .ref y), (3, .ref o)] → W p l e room_1 s m args below meth c H locs (cells + 1) (slots + 6) Q (F0 m 660 ls [])) :
    W p l e room_1 s m args below meth c H locs cells slots Q (F0 m 255 ls []) := by
  have hx := hF.1
  have hb := hF.2.1
  obtain ⟨hDs, mDs, ho, hom, hpm, hpA, hmA, hoA⟩ := hJ
  obtain ⟨hu, hP, hM, hO⟩ := hI
  have hAO : ∀ q, (pA x da ad ra q ∨ q = o) → newA s q := fun q h => h.elim (hpA q) (fun z => by rw [z]; exact hoA)
  refine lv_aload_n hx hb d_LW_law_255 rfl (lv_at hl 2 rfl) ?_
  refine lv_aload_n hx hb d_LW_law_256 rfl (lv_at hl 1 rfl) ?_
  refine lv_iload hx hb d_LW_law_257 (lv_at hl 0 rfl) ?_
  refine lv_iconst (v := (nI 1)) hx hb d_LW_law_259 (by decide) ?_
  refine lv_iadd hx hb d_LW_law_260 ?_
  refine lv_eqi (z := nI (i + 1)) (nI_add _ _) ?_
  refine l_scr hx hb hX hbl hS (show i + 1 < L by omega) hL d_LW_law_261 ?_
  refine mS hF sS_LW_66 (c_LW_fail l hfl G hu hDs ho (xs (i + 1))) ⟨hP, hO, zH_of hz hS⟩ hS hAO ⟨rfl, rfl, by decide, by decide⟩ rfl rfl hl.1 (Nat.le_of_ble_eq_true rfl) d_LW_law_262 hcl (fun H locs hPO hS hsz hkp => ?_)
  obtain ⟨hP, hO⟩ := hPO
  have hM := va_P.keep hM hkp (fun z hz h => h.elim (fun h9 => hpm z h9 hz) (fun h9 => hom (by rw [← h9]; exact hz)))
  clear hsz hkp
  refine lv_istore hx hb d_LW_law_265 hl (by decide) rfl (fun ls hl => ?_)
  have hl : lv_has ls 8 [(5, .int _), (4, .int _), (0, .ref _), (1, .ref _), (2, .ref _), (3, .ref _)] := hl
  refine lv_aload_n hx hb d_LW_law_267 rfl (lv_at hl 4 rfl) ?_
  refine lv_aload_n hx hb d_LW_law_268 rfl (lv_at hl 2 rfl) ?_
  refine lv_iload hx hb d_LW_law_269 (lv_at hl 1 rfl) ?_
  refine lv_iconst (v := (nI 1)) hx hb d_LW_law_271 (by decide) ?_
  refine lv_iadd hx hb d_LW_law_272 ?_
  refine lv_eqi (z := nI (i + 1)) (nI_add _ _) ?_
  refine l_scr hx hb hX hbl hS (show i + 1 < L by omega) hL d_LW_law_273 ?_
  refine mV hF sV_LW_69 (c_MO_fail l G mDs (xs (i + 1))) hM (rc_y hF.2.2.2.2 hM) hS hmA ⟨rfl, rfl, by decide, by decide⟩ rfl rfl hl.1 (Nat.le_of_ble_eq_true rfl) d_LW_law_274 ⟨by omega, by omega⟩ (fun H locs hM hS hsz hkp => ?_)
  have hP := va_P.keep hP hkp (fun z hz h => hpm z hz h)
  have hO := hO.keep hkp hom
  clear hsz hkp
  refine lv_aload_n hx hb d_LW_law_277 rfl (lv_at hl 4 rfl) ?_
  refine rV hF sV_LW_56 (c_MO_thrown l G) hM (rc_y hF.2.2.2.2 hM) (by decide) rfl rfl hl.1 (Nat.le_of_ble_eq_true rfl) d_LW_law_278 ⟨by omega, by omega⟩ ?_
  refine lv_iload hx hb d_LW_law_281 (lv_at hl 0 rfl) ?_
  refine lv_icmp_eq (tgt := 288) hx hb d_LW_law_283 (by decide) (fun _ => ?_) (fun hc => absurd rfl hc)
  refine lv_goto (tgt := 660) hx hb d_LW_law_288 (by decide) ?_
  exact nxt _ _ _ _ H locs ls ⟨uok_if hu (fun _ => uok_up hu (by decide)), hP, hM, hO⟩ hS (lv_sub hl [1, 2, 3, 4, 5] rfl)
set_option maxHeartbeats 4000000 in
set_option maxRecDepth 100000 in
theorem lc_3 {p : Program} {l : Launch} {e : Env} {s : State} {m : MethodId} {args : Array Value} {below : List Frame} {meth : Method} {c : Code} {H : Heap} {locs : List Loc} {cells slots : Nat} {Q : State → Prop} {ls : Array Slot} {G : Gx} {b L i : Nat} {xs : Nat → Int32} {x da : Nat} {ad ra : Nat → Nat} {y sa ua o : Nat} {u : Nat → Nat} {R : Nat → Nat → Int64} {er : Int32} {v0 : Int64}
    (hfl : l.flags = flags0) (hF : Fx p m c code 8 s G "ParityDisksLaw") (hX : va_X b L xs s s.heap) (hbl : b < s.heap.size) (hz : zH G s.heap) (hJ : DJ s x da ad ra y sa ua o) (hi : i + 6 ≤ L) (hL : L ≤ 3072) (hI : Inv G x da ad ra y sa ua o u R er v0 H) (hS : va_S (newA s) s.heap H locs) (hcl : cells + 1 ≤ room_1.cells ∧ slots + 6 ≤ room_1.slots)
    (hl : lv_has ls 8 [(4, .int (nI i)), (0, .ref b), (1, .ref x), (2, .ref y), (3, .ref o)])
    (nxt : ∀ (u : Nat → Nat) (R : Nat → Nat → Int64) (er : Int32) (v0 : Int64) (H : Heap) (locs : List Loc) (ls : Array Slot), Inv G x da ad ra y sa ua o u R er v0 H → va_S (newA s) s.heap H locs → lv_has ls 8 [(4, .int (nI i)), (0, .ref b), (1, .ref x), (2, .ref y), (3, .ref o)] → W p l e room_1 s m args below meth c H locs (cells + 1) (slots + 6) Q (F0 m 660 ls [])) :
    W p l e room_1 s m args below meth c H locs cells slots Q (F0 m 291 ls []) := by
  have hx := hF.1
  have hb := hF.2.1
  obtain ⟨hDs, mDs, ho, hom, hpm, hpA, hmA, hoA⟩ := hJ
  obtain ⟨hu, hP, hM, hO⟩ := hI
  have hAO : ∀ q, (pA x da ad ra q ∨ q = o) → newA s q := fun q h => h.elim (hpA q) (fun z => by rw [z]; exact hoA)
  refine lv_aload_n hx hb d_LW_law_291 rfl (lv_at hl 2 rfl) ?_
  refine lv_aload_n hx hb d_LW_law_292 rfl (lv_at hl 1 rfl) ?_
  refine lv_iload hx hb d_LW_law_293 (lv_at hl 0 rfl) ?_
  refine lv_iconst (v := (nI 1)) hx hb d_LW_law_295 (by decide) ?_
  refine lv_iadd hx hb d_LW_law_296 ?_
  refine lv_eqi (z := nI (i + 1)) (nI_add _ _) ?_
  refine l_scr hx hb hX hbl hS (show i + 1 < L by omega) hL d_LW_law_297 ?_
  refine mS hF sS_LW_70 (c_LW_replace l hfl G hu hDs ho (xs (i + 1))) ⟨hP, hO, zH_of hz hS⟩ hS hAO ⟨rfl, rfl, by decide, by decide⟩ rfl rfl hl.1 (Nat.le_of_ble_eq_true rfl) d_LW_law_298 hcl (fun H locs hPO hS hsz hkp => ?_)
  obtain ⟨hP, hO⟩ := hPO
  have hM := va_P.keep hM hkp (fun z hz h => h.elim (fun h9 => hpm z h9 hz) (fun h9 => hom (by rw [← h9]; exact hz)))
  clear hsz hkp
  refine lv_istore hx hb d_LW_law_301 hl (by decide) rfl (fun ls hl => ?_)
  have hl : lv_has ls 8 [(5, .int _), (4, .int _), (0, .ref _), (1, .ref _), (2, .ref _), (3, .ref _)] := hl
  refine lv_aload_n hx hb d_LW_law_303 rfl (lv_at hl 4 rfl) ?_
  refine lv_aload_n hx hb d_LW_law_304 rfl (lv_at hl 2 rfl) ?_
  refine lv_iload hx hb d_LW_law_305 (lv_at hl 1 rfl) ?_
  refine lv_iconst (v := (nI 1)) hx hb d_LW_law_307 (by decide) ?_
  refine lv_iadd hx hb d_LW_law_308 ?_
  refine lv_eqi (z := nI (i + 1)) (nI_add _ _) ?_
  refine l_scr hx hb hX hbl hS (show i + 1 < L by omega) hL d_LW_law_309 ?_
  refine mV hF sV_LW_72 (c_MO_replace l G mDs hu (xs (i + 1))) hM (rc_y hF.2.2.2.2 hM) hS hmA ⟨rfl, rfl, by decide, by decide⟩ rfl rfl hl.1 (Nat.le_of_ble_eq_true rfl) d_LW_law_310 ⟨by omega, by omega⟩ (fun H locs hM hS hsz hkp => ?_)
  have hP := va_P.keep hP hkp (fun z hz h => hpm z hz h)
  have hO := hO.keep hkp hom
  clear hsz hkp
  refine lv_aload_n hx hb d_LW_law_313 rfl (lv_at hl 4 rfl) ?_
  refine rV hF sV_LW_56 (c_MO_thrown l G) hM (rc_y hF.2.2.2.2 hM) (by decide) rfl rfl hl.1 (Nat.le_of_ble_eq_true rfl) d_LW_law_314 ⟨by omega, by omega⟩ ?_
  refine lv_iload hx hb d_LW_law_317 (lv_at hl 0 rfl) ?_
  refine lv_icmp_eq (tgt := 324) hx hb d_LW_law_319 (by decide) (fun _ => ?_) (fun hc => absurd rfl hc)
  refine lv_goto (tgt := 660) hx hb d_LW_law_324 (by decide) ?_
  exact nxt _ _ _ _ H locs ls ⟨uok_if hu (fun _ => uok_up hu (by decide)), hP, hM, hO⟩ hS (lv_sub hl [1, 2, 3, 4, 5] rfl)
set_option maxHeartbeats 4000000 in
set_option maxRecDepth 100000 in
theorem lc_4 {p : Program} {l : Launch} {e : Env} {s : State} {m : MethodId} {args : Array Value} {below : List Frame} {meth : Method} {c : Code} {H : Heap} {locs : List Loc} {cells slots : Nat} {Q : State → Prop} {ls : Array Slot} {G : Gx} {b L i : Nat} {xs : Nat → Int32} {x da : Nat} {ad ra : Nat → Nat} {y sa ua o : Nat} {u : Nat → Nat} {R : Nat → Nat → Int64} {er : Int32} {v0 : Int64}
    (hfl : l.flags = flags0) (hF : Fx p m c code 8 s G "ParityDisksLaw") (hX : va_X b L xs s s.heap) (hbl : b < s.heap.size) (hz : zH G s.heap) (hJ : DJ s x da ad ra y sa ua o) (hi : i + 6 ≤ L) (hL : L ≤ 3072) (hI : Inv G x da ad ra y sa ua o u R er v0 H) (hS : va_S (newA s) s.heap H locs) (hcl : cells + 1 ≤ room_1.cells ∧ slots + 6 ≤ room_1.slots)
    (hl : lv_has ls 8 [(4, .int (nI i)), (0, .ref b), (1, .ref x), (2, .ref y), (3, .ref o)])
    (nxt : ∀ (u : Nat → Nat) (R : Nat → Nat → Int64) (er : Int32) (v0 : Int64) (H : Heap) (locs : List Loc) (ls : Array Slot), Inv G x da ad ra y sa ua o u R er v0 H → va_S (newA s) s.heap H locs → lv_has ls 8 [(4, .int (nI i)), (0, .ref b), (1, .ref x), (2, .ref y), (3, .ref o)] → W p l e room_1 s m args below meth c H locs (cells + 1) (slots + 6) Q (F0 m 660 ls [])) :
    W p l e room_1 s m args below meth c H locs cells slots Q (F0 m 327 ls []) := by
  have hx := hF.1
  have hb := hF.2.1
  obtain ⟨hDs, mDs, ho, hom, hpm, hpA, hmA, hoA⟩ := hJ
  obtain ⟨hu, hP, hM, hO⟩ := hI
  have hAO : ∀ q, (pA x da ad ra q ∨ q = o) → newA s q := fun q h => h.elim (hpA q) (fun z => by rw [z]; exact hoA)
  refine lv_aload_n hx hb d_LW_law_327 rfl (lv_at hl 2 rfl) ?_
  refine lv_aload_n hx hb d_LW_law_328 rfl (lv_at hl 1 rfl) ?_
  refine lv_iload hx hb d_LW_law_329 (lv_at hl 0 rfl) ?_
  refine lv_iconst (v := (nI 1)) hx hb d_LW_law_331 (by decide) ?_
  refine lv_iadd hx hb d_LW_law_332 ?_
  refine lv_eqi (z := nI (i + 1)) (nI_add _ _) ?_
  refine l_scr hx hb hX hbl hS (show i + 1 < L by omega) hL d_LW_law_333 ?_
  refine lv_aload_n hx hb d_LW_law_334 rfl (lv_at hl 1 rfl) ?_
  refine lv_iload hx hb d_LW_law_335 (lv_at hl 0 rfl) ?_
  refine lv_iconst (v := (nI 2)) hx hb d_LW_law_337 (by decide) ?_
  refine lv_iadd hx hb d_LW_law_338 ?_
  refine lv_eqi (z := nI (i + 2)) (nI_add _ _) ?_
  refine l_scr hx hb hX hbl hS (show i + 2 < L by omega) hL d_LW_law_339 ?_
  refine lv_aload_n hx hb d_LW_law_340 rfl (lv_at hl 4 rfl) ?_
  refine mS hF sS_LW_73 (c_LW_rebuild l hfl G hu hDs ho (xs (i + 1)) (xs (i + 2))) ⟨hP, hO, zH_of hz hS⟩ hS hAO ⟨rfl, rfl, by decide, by decide⟩ rfl rfl hl.1 (Nat.le_of_ble_eq_true rfl) d_LW_law_341 hcl (fun H locs hPO hS hsz hkp => ?_)
  obtain ⟨hP, hO⟩ := hPO
  have hM := va_P.keep hM hkp (fun z hz h => h.elim (fun h9 => hpm z h9 hz) (fun h9 => hom (by rw [← h9]; exact hz)))
  clear hsz hkp
  refine lv_istore hx hb d_LW_law_344 hl (by decide) rfl (fun ls hl => ?_)
  have hl : lv_has ls 8 [(5, .int _), (4, .int _), (0, .ref _), (1, .ref _), (2, .ref _), (3, .ref _)] := hl
  refine lv_aload_n hx hb d_LW_law_346 rfl (lv_at hl 4 rfl) ?_
  refine lv_aload_n hx hb d_LW_law_347 rfl (lv_at hl 2 rfl) ?_
  refine lv_iload hx hb d_LW_law_348 (lv_at hl 1 rfl) ?_
  refine lv_iconst (v := (nI 1)) hx hb d_LW_law_350 (by decide) ?_
  refine lv_iadd hx hb d_LW_law_351 ?_
  refine lv_eqi (z := nI (i + 1)) (nI_add _ _) ?_
  refine l_scr hx hb hX hbl hS (show i + 1 < L by omega) hL d_LW_law_352 ?_
  refine lv_aload_n hx hb d_LW_law_353 rfl (lv_at hl 2 rfl) ?_
  refine lv_iload hx hb d_LW_law_354 (lv_at hl 1 rfl) ?_
  refine lv_iconst (v := (nI 2)) hx hb d_LW_law_356 (by decide) ?_
  refine lv_iadd hx hb d_LW_law_357 ?_
  refine lv_eqi (z := nI (i + 2)) (nI_add _ _) ?_
  refine l_scr hx hb hX hbl hS (show i + 2 < L by omega) hL d_LW_law_358 ?_
  refine mV hF sV_LW_75 (c_MO_rebuild l G mDs hu (xs (i + 1)) (xs (i + 2))) hM (rc_y hF.2.2.2.2 hM) hS hmA ⟨rfl, rfl, by decide, by decide⟩ rfl rfl hl.1 (Nat.le_of_ble_eq_true rfl) d_LW_law_359 ⟨by omega, by omega⟩ (fun H locs hM hS hsz hkp => ?_)
  have hP := va_P.keep hP hkp (fun z hz h => hpm z hz h)
  have hO := hO.keep hkp hom
  clear hsz hkp
  refine lv_istore hx hb d_LW_law_362 hl (by decide) rfl (fun ls hl => ?_)
  have hl : lv_has ls 8 [(6, .int _), (5, .int _), (4, .int _), (0, .ref _), (1, .ref _), (2, .ref _), (3, .ref _)] := hl
  refine lv_aload_n hx hb d_LW_law_364 rfl (lv_at hl 5 rfl) ?_
  refine rV hF sV_LW_56 (c_MO_thrown l G) hM (rc_y hF.2.2.2.2 hM) (by decide) rfl rfl hl.1 (Nat.le_of_ble_eq_true rfl) d_LW_law_365 ⟨by omega, by omega⟩ ?_
  refine lv_iload hx hb d_LW_law_368 (lv_at hl 1 rfl) ?_
  refine lv_icmp_eq (tgt := 375) hx hb d_LW_law_370 (by decide) (fun _ => ?_) (fun hc => absurd rfl hc)
  refine lv_iload hx hb d_LW_law_375 (lv_at hl 1 rfl) ?_
  refine lv_if_ne (tgt := 392) hx hb d_LW_law_377 (by decide) (fun hc => ?_) (fun hc => ?_)
  · refine lv_goto (tgt := 660) hx hb d_LW_law_392 (by decide) ?_
    exact nxt _ _ _ _ H locs ls ⟨uok_if hu (fun h9 => (rb_inv _ _ u R (rbE_0 h9) hu).2), hP, hM, hO⟩ hS (lv_sub hl [2, 3, 4, 5, 6] rfl)
  · have hE := E_0 (rbE_le _ _ _) hc
    refine lv_aload_n hx hb d_LW_law_380 rfl (lv_at hl 6 rfl) ?_
    refine lv_iconst (v := (nI 0)) hx hb d_LW_law_381 (by decide) ?_
    refine l_out hF hO d_LW_law_382 ?_
    refine lv_iload hx hb d_LW_law_383 (lv_at hl 0 rfl) ?_
    refine lv_i2l hx hb d_LW_law_385 rfl ?_
    refine W.lcmp hx hb d_LW_law_386 ?_
    refine lv_if_eq (tgt := 392) hx hb d_LW_law_387 (by decide) (fun _ => ?_) (fun hc9 => absurd ((lg_cmp_eq _ _).mpr (by rw [if_pos hE, if_pos hE, upv_mup (rb_inv _ _ u R (rbE_0 hE) hu).1])) hc9)
    refine lv_goto (tgt := 660) hx hb d_LW_law_392 (by decide) ?_
    exact nxt _ _ _ _ H locs ls ⟨uok_if hu (fun h9 => (rb_inv _ _ u R (rbE_0 h9) hu).2), hP, hM, hO⟩ hS (lv_sub hl [2, 3, 4, 5, 6] rfl)
set_option maxHeartbeats 4000000 in
set_option maxRecDepth 100000 in
theorem lc_5 {p : Program} {l : Launch} {e : Env} {s : State} {m : MethodId} {args : Array Value} {below : List Frame} {meth : Method} {c : Code} {H : Heap} {locs : List Loc} {cells slots : Nat} {Q : State → Prop} {ls : Array Slot} {G : Gx} {b L i : Nat} {xs : Nat → Int32} {x da : Nat} {ad ra : Nat → Nat} {y sa ua o : Nat} {u : Nat → Nat} {R : Nat → Nat → Int64} {er : Int32} {v0 : Int64}
    (hfl : l.flags = flags0) (hF : Fx p m c code 8 s G "ParityDisksLaw") (hX : va_X b L xs s s.heap) (hbl : b < s.heap.size) (hz : zH G s.heap) (hJ : DJ s x da ad ra y sa ua o) (hi : i + 6 ≤ L) (hL : L ≤ 3072) (hI : Inv G x da ad ra y sa ua o u R er v0 H) (hS : va_S (newA s) s.heap H locs) (hcl : cells + 1 ≤ room_1.cells ∧ slots + 6 ≤ room_1.slots)
    (hl : lv_has ls 8 [(4, .int (nI i)), (0, .ref b), (1, .ref x), (2, .ref y), (3, .ref o)])
    (nxt : ∀ (u : Nat → Nat) (R : Nat → Nat → Int64) (er : Int32) (v0 : Int64) (H : Heap) (locs : List Loc) (ls : Array Slot), Inv G x da ad ra y sa ua o u R er v0 H → va_S (newA s) s.heap H locs → lv_has ls 8 [(4, .int (nI i)), (0, .ref b), (1, .ref x), (2, .ref y), (3, .ref o)] → W p l e room_1 s m args below meth c H locs (cells + 1) (slots + 6) Q (F0 m 660 ls [])) :
    W p l e room_1 s m args below meth c H locs cells slots Q (F0 m 395 ls []) := by
  have hx := hF.1
  have hb := hF.2.1
  obtain ⟨hDs, mDs, ho, hom, hpm, hpA, hmA, hoA⟩ := hJ
  obtain ⟨hu, hP, hM, hO⟩ := hI
  have hAO : ∀ q, (pA x da ad ra q ∨ q = o) → newA s q := fun q h => h.elim (hpA q) (fun z => by rw [z]; exact hoA)
  refine lv_aload_n hx hb d_LW_law_395 rfl (lv_at hl 2 rfl) ?_
  refine lv_aload_n hx hb d_LW_law_396 rfl (lv_at hl 1 rfl) ?_
  refine lv_iload hx hb d_LW_law_397 (lv_at hl 0 rfl) ?_
  refine lv_iconst (v := (nI 1)) hx hb d_LW_law_399 (by decide) ?_
  refine lv_iadd hx hb d_LW_law_400 ?_
  refine lv_eqi (z := nI (i + 1)) (nI_add _ _) ?_
  refine l_scr hx hb hX hbl hS (show i + 1 < L by omega) hL d_LW_law_401 ?_
  refine lv_aload_n hx hb d_LW_law_402 rfl (lv_at hl 1 rfl) ?_
  refine lv_iload hx hb d_LW_law_403 (lv_at hl 0 rfl) ?_
  refine lv_iconst (v := (nI 2)) hx hb d_LW_law_405 (by decide) ?_
  refine lv_iadd hx hb d_LW_law_406 ?_
  refine lv_eqi (z := nI (i + 2)) (nI_add _ _) ?_
  refine l_scr hx hb hX hbl hS (show i + 2 < L by omega) hL d_LW_law_407 ?_
  refine lv_aload_n hx hb d_LW_law_408 rfl (lv_at hl 1 rfl) ?_
  refine lv_iload hx hb d_LW_law_409 (lv_at hl 0 rfl) ?_
  refine lv_iconst (v := (nI 3)) hx hb d_LW_law_411 (by decide) ?_
  refine lv_iadd hx hb d_LW_law_412 ?_
  refine lv_eqi (z := nI (i + 3)) (nI_add _ _) ?_
  refine l_scr hx hb hX hbl hS (show i + 3 < L by omega) hL d_LW_law_413 ?_
  refine lv_aload_n hx hb d_LW_law_414 rfl (lv_at hl 1 rfl) ?_
  refine lv_iload hx hb d_LW_law_415 (lv_at hl 0 rfl) ?_
  refine lv_iconst (v := (nI 4)) hx hb d_LW_law_417 (by decide) ?_
  refine lv_iadd hx hb d_LW_law_418 ?_
  refine lv_eqi (z := nI (i + 4)) (nI_add _ _) ?_
  refine l_scr hx hb hX hbl hS (show i + 4 < L by omega) hL d_LW_law_419 ?_
  refine lv_i2l hx hb d_LW_law_420 rfl ?_
  refine lv_bipush (v := nI 32) hx hb d_LW_law_421 (by decide) ?_
  refine lv_lshl hx hb d_LW_law_423 rfl ?_
  refine lv_aload_n hx hb d_LW_law_424 rfl (lv_at hl 1 rfl) ?_
  refine lv_iload hx hb d_LW_law_425 (lv_at hl 0 rfl) ?_
  refine lv_iconst (v := (nI 5)) hx hb d_LW_law_427 (by decide) ?_
  refine lv_iadd hx hb d_LW_law_428 ?_
  refine lv_eqi (z := nI (i + 5)) (nI_add _ _) ?_
  refine l_scr hx hb hX hbl hS (show i + 5 < L by omega) hL d_LW_law_429 ?_
  refine lv_i2l hx hb d_LW_law_430 rfl ?_
  refine lv_ldc2 (v := 4294967295) hx hb hF.2.2.2.1 (hF.2.2.2.2.ts _ _ t_350) d_LW_law_431 ?_
  refine lv_land hx hb d_LW_law_434 ?_
  refine lv_lor hx hb d_LW_law_435 ?_
  refine mS hF sS_LW_76 (c_LW_flip l hfl G hu hDs ho (xs (i + 1)) (xs (i + 2)) (xs (i + 3)) ((xs (i + 4)).toInt64 <<< ((nI 32).toInt64 &&& 63) ||| (xs (i + 5)).toInt64 &&& 4294967295)) ⟨hP, hO, zH_of hz hS⟩ hS hAO ⟨rfl, rfl, by decide, by decide⟩ rfl rfl hl.1 (Nat.le_of_ble_eq_true rfl) d_LW_law_436 hcl (fun H locs hPO hS hsz hkp => ?_)
  obtain ⟨hP, hO⟩ := hPO
  have hM := va_P.keep hM hkp (fun z hz h => h.elim (fun h9 => hpm z h9 hz) (fun h9 => hom (by rw [← h9]; exact hz)))
  clear hsz hkp
  refine lv_istore hx hb d_LW_law_439 hl (by decide) rfl (fun ls hl => ?_)
  have hl : lv_has ls 8 [(5, .int _), (4, .int _), (0, .ref _), (1, .ref _), (2, .ref _), (3, .ref _)] := hl
  refine lv_aload_n hx hb d_LW_law_441 rfl (lv_at hl 4 rfl) ?_
  refine lv_aload_n hx hb d_LW_law_442 rfl (lv_at hl 2 rfl) ?_
  refine lv_iload hx hb d_LW_law_443 (lv_at hl 1 rfl) ?_
  refine lv_iconst (v := (nI 1)) hx hb d_LW_law_445 (by decide) ?_
  refine lv_iadd hx hb d_LW_law_446 ?_
  refine lv_eqi (z := nI (i + 1)) (nI_add _ _) ?_
  refine l_scr hx hb hX hbl hS (show i + 1 < L by omega) hL d_LW_law_447 ?_
  refine lv_aload_n hx hb d_LW_law_448 rfl (lv_at hl 2 rfl) ?_
  refine lv_iload hx hb d_LW_law_449 (lv_at hl 1 rfl) ?_
  refine lv_iconst (v := (nI 2)) hx hb d_LW_law_451 (by decide) ?_
  refine lv_iadd hx hb d_LW_law_452 ?_
  refine lv_eqi (z := nI (i + 2)) (nI_add _ _) ?_
  refine l_scr hx hb hX hbl hS (show i + 2 < L by omega) hL d_LW_law_453 ?_
  refine lv_aload_n hx hb d_LW_law_454 rfl (lv_at hl 2 rfl) ?_
  refine lv_iload hx hb d_LW_law_455 (lv_at hl 1 rfl) ?_
  refine lv_iconst (v := (nI 3)) hx hb d_LW_law_457 (by decide) ?_
  refine lv_iadd hx hb d_LW_law_458 ?_
  refine lv_eqi (z := nI (i + 3)) (nI_add _ _) ?_
  refine l_scr hx hb hX hbl hS (show i + 3 < L by omega) hL d_LW_law_459 ?_
  refine lv_aload_n hx hb d_LW_law_460 rfl (lv_at hl 2 rfl) ?_
  refine lv_iload hx hb d_LW_law_461 (lv_at hl 1 rfl) ?_
  refine lv_iconst (v := (nI 4)) hx hb d_LW_law_463 (by decide) ?_
  refine lv_iadd hx hb d_LW_law_464 ?_
  refine lv_eqi (z := nI (i + 4)) (nI_add _ _) ?_
  refine l_scr hx hb hX hbl hS (show i + 4 < L by omega) hL d_LW_law_465 ?_
  refine lv_i2l hx hb d_LW_law_466 rfl ?_
  refine lv_bipush (v := nI 32) hx hb d_LW_law_467 (by decide) ?_
  refine lv_lshl hx hb d_LW_law_469 rfl ?_
  refine lv_aload_n hx hb d_LW_law_470 rfl (lv_at hl 2 rfl) ?_
  refine lv_iload hx hb d_LW_law_471 (lv_at hl 1 rfl) ?_
  refine lv_iconst (v := (nI 5)) hx hb d_LW_law_473 (by decide) ?_
  refine lv_iadd hx hb d_LW_law_474 ?_
  refine lv_eqi (z := nI (i + 5)) (nI_add _ _) ?_
  refine l_scr hx hb hX hbl hS (show i + 5 < L by omega) hL d_LW_law_475 ?_
  refine lv_i2l hx hb d_LW_law_476 rfl ?_
  refine lv_ldc2 (v := 4294967295) hx hb hF.2.2.2.1 (hF.2.2.2.2.ts _ _ t_350) d_LW_law_477 ?_
  refine lv_land hx hb d_LW_law_480 ?_
  refine lv_lor hx hb d_LW_law_481 ?_
  refine mV hF sV_LW_79 (c_MO_flip l G mDs hu (xs (i + 1)) (xs (i + 2)) (xs (i + 3)) ((xs (i + 4)).toInt64 <<< ((nI 32).toInt64 &&& 63) ||| (xs (i + 5)).toInt64 &&& 4294967295)) hM (rc_y hF.2.2.2.2 hM) hS hmA ⟨rfl, rfl, by decide, by decide⟩ rfl rfl hl.1 (Nat.le_of_ble_eq_true rfl) d_LW_law_482 ⟨by omega, by omega⟩ (fun H locs hM hS hsz hkp => ?_)
  have hP := va_P.keep hP hkp (fun z hz h => hpm z hz h)
  have hO := hO.keep hkp hom
  clear hsz hkp
  refine lv_aload_n hx hb d_LW_law_485 rfl (lv_at hl 4 rfl) ?_
  refine rV hF sV_LW_56 (c_MO_thrown l G) hM (rc_y hF.2.2.2.2 hM) (by decide) rfl rfl hl.1 (Nat.le_of_ble_eq_true rfl) d_LW_law_486 ⟨by omega, by omega⟩ ?_
  refine lv_iload hx hb d_LW_law_489 (lv_at hl 0 rfl) ?_
  refine lv_icmp_eq (tgt := 496) hx hb d_LW_law_491 (by decide) (fun _ => ?_) (fun hc => absurd rfl hc)
  refine lv_goto (tgt := 660) hx hb d_LW_law_496 (by decide) ?_
  exact nxt _ _ _ _ H locs ls ⟨hu, hP, hM, hO⟩ hS (lv_sub hl [1, 2, 3, 4, 5] rfl)
set_option maxHeartbeats 4000000 in
set_option maxRecDepth 100000 in
theorem lc_6 {p : Program} {l : Launch} {e : Env} {s : State} {m : MethodId} {args : Array Value} {below : List Frame} {meth : Method} {c : Code} {H : Heap} {locs : List Loc} {cells slots : Nat} {Q : State → Prop} {ls : Array Slot} {G : Gx} {b L i : Nat} {xs : Nat → Int32} {x da : Nat} {ad ra : Nat → Nat} {y sa ua o : Nat} {u : Nat → Nat} {R : Nat → Nat → Int64} {er : Int32} {v0 : Int64}
    (hfl : l.flags = flags0) (hF : Fx p m c code 8 s G "ParityDisksLaw") (hX : va_X b L xs s s.heap) (hbl : b < s.heap.size) (hz : zH G s.heap) (hJ : DJ s x da ad ra y sa ua o) (hi : i + 6 ≤ L) (hL : L ≤ 3072) (hI : Inv G x da ad ra y sa ua o u R er v0 H) (hS : va_S (newA s) s.heap H locs) (hcl : cells + 1 ≤ room_1.cells ∧ slots + 6 ≤ room_1.slots)
    (hl : lv_has ls 8 [(4, .int (nI i)), (0, .ref b), (1, .ref x), (2, .ref y), (3, .ref o)])
    (nxt : ∀ (u : Nat → Nat) (R : Nat → Nat → Int64) (er : Int32) (v0 : Int64) (H : Heap) (locs : List Loc) (ls : Array Slot), Inv G x da ad ra y sa ua o u R er v0 H → va_S (newA s) s.heap H locs → lv_has ls 8 [(4, .int (nI i)), (0, .ref b), (1, .ref x), (2, .ref y), (3, .ref o)] → W p l e room_1 s m args below meth c H locs (cells + 1) (slots + 6) Q (F0 m 660 ls [])) :
    W p l e room_1 s m args below meth c H locs cells slots Q (F0 m 499 ls []) := by
  have hx := hF.1
  have hb := hF.2.1
  obtain ⟨hDs, mDs, ho, hom, hpm, hpA, hmA, hoA⟩ := hJ
  obtain ⟨hu, hP, hM, hO⟩ := hI
  have hAO : ∀ q, (pA x da ad ra q ∨ q = o) → newA s q := fun q h => h.elim (hpA q) (fun z => by rw [z]; exact hoA)
  refine lv_aload_n hx hb d_LW_law_499 rfl (lv_at hl 2 rfl) ?_
  refine lv_aload_n hx hb d_LW_law_500 rfl (lv_at hl 1 rfl) ?_
  refine lv_iload hx hb d_LW_law_501 (lv_at hl 0 rfl) ?_
  refine lv_iconst (v := (nI 1)) hx hb d_LW_law_503 (by decide) ?_
  refine lv_iadd hx hb d_LW_law_504 ?_
  refine lv_eqi (z := nI (i + 1)) (nI_add _ _) ?_
  refine l_scr hx hb hX hbl hS (show i + 1 < L by omega) hL d_LW_law_505 ?_
  refine lv_aload_n hx hb d_LW_law_506 rfl (lv_at hl 1 rfl) ?_
  refine lv_iload hx hb d_LW_law_507 (lv_at hl 0 rfl) ?_
  refine lv_iconst (v := (nI 2)) hx hb d_LW_law_509 (by decide) ?_
  refine lv_iadd hx hb d_LW_law_510 ?_
  refine lv_eqi (z := nI (i + 2)) (nI_add _ _) ?_
  refine l_scr hx hb hX hbl hS (show i + 2 < L by omega) hL d_LW_law_511 ?_
  refine lv_aload_n hx hb d_LW_law_512 rfl (lv_at hl 1 rfl) ?_
  refine lv_iload hx hb d_LW_law_513 (lv_at hl 0 rfl) ?_
  refine lv_iconst (v := (nI 3)) hx hb d_LW_law_515 (by decide) ?_
  refine lv_iadd hx hb d_LW_law_516 ?_
  refine lv_eqi (z := nI (i + 3)) (nI_add _ _) ?_
  refine l_scr hx hb hX hbl hS (show i + 3 < L by omega) hL d_LW_law_517 ?_
  refine lv_aload_n hx hb d_LW_law_518 rfl (lv_at hl 4 rfl) ?_
  refine mS hF sS_LW_80 (c_LW_block l hfl G hu hDs ho (xs (i + 1)) (xs (i + 2)) (xs (i + 3))) ⟨hP, hO, zH_of hz hS⟩ hS hAO ⟨rfl, rfl, by decide, by decide⟩ rfl rfl hl.1 (Nat.le_of_ble_eq_true rfl) d_LW_law_519 hcl (fun H locs hPO hS hsz hkp => ?_)
  obtain ⟨hP, hO⟩ := hPO
  have hM := va_P.keep hM hkp (fun z hz h => h.elim (fun h9 => hpm z h9 hz) (fun h9 => hom (by rw [← h9]; exact hz)))
  clear hsz hkp
  refine lv_istore hx hb d_LW_law_522 hl (by decide) rfl (fun ls hl => ?_)
  have hl : lv_has ls 8 [(5, .int _), (4, .int _), (0, .ref _), (1, .ref _), (2, .ref _), (3, .ref _)] := hl
  refine lv_aload_n hx hb d_LW_law_524 rfl (lv_at hl 4 rfl) ?_
  refine lv_aload_n hx hb d_LW_law_525 rfl (lv_at hl 2 rfl) ?_
  refine lv_iload hx hb d_LW_law_526 (lv_at hl 1 rfl) ?_
  refine lv_iconst (v := (nI 1)) hx hb d_LW_law_528 (by decide) ?_
  refine lv_iadd hx hb d_LW_law_529 ?_
  refine lv_eqi (z := nI (i + 1)) (nI_add _ _) ?_
  refine l_scr hx hb hX hbl hS (show i + 1 < L by omega) hL d_LW_law_530 ?_
  refine lv_aload_n hx hb d_LW_law_531 rfl (lv_at hl 2 rfl) ?_
  refine lv_iload hx hb d_LW_law_532 (lv_at hl 1 rfl) ?_
  refine lv_iconst (v := (nI 2)) hx hb d_LW_law_534 (by decide) ?_
  refine lv_iadd hx hb d_LW_law_535 ?_
  refine lv_eqi (z := nI (i + 2)) (nI_add _ _) ?_
  refine l_scr hx hb hX hbl hS (show i + 2 < L by omega) hL d_LW_law_536 ?_
  refine lv_aload_n hx hb d_LW_law_537 rfl (lv_at hl 2 rfl) ?_
  refine lv_iload hx hb d_LW_law_538 (lv_at hl 1 rfl) ?_
  refine lv_iconst (v := (nI 3)) hx hb d_LW_law_540 (by decide) ?_
  refine lv_iadd hx hb d_LW_law_541 ?_
  refine lv_eqi (z := nI (i + 3)) (nI_add _ _) ?_
  refine l_scr hx hb hX hbl hS (show i + 3 < L by omega) hL d_LW_law_542 ?_
  refine mV hF sV_LW_83 (c_MO_block l G mDs hu (xs (i + 1)) (xs (i + 2)) (xs (i + 3))) hM (rc_y hF.2.2.2.2 hM) hS hmA ⟨rfl, rfl, by decide, by decide⟩ rfl rfl hl.1 (Nat.le_of_ble_eq_true rfl) d_LW_law_543 ⟨by omega, by omega⟩ (fun H locs hM hS hsz hkp => ?_)
  have hP := va_P.keep hP hkp (fun z hz h => hpm z hz h)
  have hO := hO.keep hkp hom
  clear hsz hkp
  refine lv_lstore hx hb d_LW_law_546 hl (by decide) rfl (fun ls hl => ?_)
  have hl : lv_has ls 8 [(6, .long _), (5, .int _), (4, .int _), (0, .ref _), (1, .ref _), (2, .ref _), (3, .ref _)] := hl
  refine lv_aload_n hx hb d_LW_law_548 rfl (lv_at hl 5 rfl) ?_
  refine rV hF sV_LW_56 (c_MO_thrown l G) hM (rc_y hF.2.2.2.2 hM) (by decide) rfl rfl hl.1 (Nat.le_of_ble_eq_true rfl) d_LW_law_549 ⟨by omega, by omega⟩ ?_
  refine lv_iload hx hb d_LW_law_552 (lv_at hl 1 rfl) ?_
  refine lv_icmp_eq (tgt := 559) hx hb d_LW_law_554 (by decide) (fun _ => ?_) (fun hc => absurd rfl hc)
  refine lv_iload hx hb d_LW_law_559 (lv_at hl 1 rfl) ?_
  refine lv_if_ne (tgt := 575) hx hb d_LW_law_561 (by decide) (fun hc => ?_) (fun hc => ?_)
  · refine lv_goto (tgt := 660) hx hb d_LW_law_575 (by decide) ?_
    exact nxt _ _ _ _ H locs ls ⟨hu, hP, hM, hO⟩ hS (lv_sub hl [2, 3, 4, 5, 6] rfl)
  · have hE := E_0 (blE_le _ _ _ _) hc
    refine lv_aload_n hx hb d_LW_law_564 rfl (lv_at hl 6 rfl) ?_
    refine lv_iconst (v := (nI 0)) hx hb d_LW_law_565 (by decide) ?_
    refine l_out hF hO d_LW_law_566 ?_
    refine lv_lload hx hb d_LW_law_567 (lv_at hl 0 rfl) ?_
    refine W.lcmp hx hb d_LW_law_569 ?_
    refine lv_if_eq (tgt := 575) hx hb d_LW_law_570 (by decide) (fun _ => ?_) (fun hc9 => absurd ((lg_cmp_eq _ _).mpr (by rw [if_pos hE, if_pos hE])) hc9)
    refine lv_goto (tgt := 660) hx hb d_LW_law_575 (by decide) ?_
    exact nxt _ _ _ _ H locs ls ⟨hu, hP, hM, hO⟩ hS (lv_sub hl [2, 3, 4, 5, 6] rfl)
set_option maxHeartbeats 4000000 in
set_option maxRecDepth 100000 in
theorem lc_8 {p : Program} {l : Launch} {e : Env} {s : State} {m : MethodId} {args : Array Value} {below : List Frame} {meth : Method} {c : Code} {H : Heap} {locs : List Loc} {cells slots : Nat} {Q : State → Prop} {ls : Array Slot} {G : Gx} {b L i : Nat} {xs : Nat → Int32} {x da : Nat} {ad ra : Nat → Nat} {y sa ua o : Nat} {u : Nat → Nat} {R : Nat → Nat → Int64} {er : Int32} {v0 : Int64}
    (hfl : l.flags = flags0) (hF : Fx p m c code 8 s G "ParityDisksLaw") (hX : va_X b L xs s s.heap) (hbl : b < s.heap.size) (hz : zH G s.heap) (hJ : DJ s x da ad ra y sa ua o) (hi : i + 6 ≤ L) (hL : L ≤ 3072) (hI : Inv G x da ad ra y sa ua o u R er v0 H) (hS : va_S (newA s) s.heap H locs) (hcl : cells + 1 ≤ room_1.cells ∧ slots + 6 ≤ room_1.slots)
    (hl : lv_has ls 8 [(4, .int (nI i)), (0, .ref b), (1, .ref x), (2, .ref y), (3, .ref o)])
    (nxt : ∀ (u : Nat → Nat) (R : Nat → Nat → Int64) (er : Int32) (v0 : Int64) (H : Heap) (locs : List Loc) (ls : Array Slot), Inv G x da ad ra y sa ua o u R er v0 H → va_S (newA s) s.heap H locs → lv_has ls 8 [(4, .int (nI i)), (0, .ref b), (1, .ref x), (2, .ref y), (3, .ref o)] → W p l e room_1 s m args below meth c H locs (cells + 1) (slots + 6) Q (F0 m 660 ls [])) :
    W p l e room_1 s m args below meth c H locs cells slots Q (F0 m 591 ls []) := by
  have hx := hF.1
  have hb := hF.2.1
  obtain ⟨hDs, mDs, ho, hom, hpm, hpA, hmA, hoA⟩ := hJ
  obtain ⟨hu, hP, hM, hO⟩ := hI
  have hAO : ∀ q, (pA x da ad ra q ∨ q = o) → newA s q := fun q h => h.elim (hpA q) (fun z => by rw [z]; exact hoA)
  refine lv_aload_n hx hb d_LW_law_591 rfl (lv_at hl 2 rfl) ?_
  refine lv_aload_n hx hb d_LW_law_592 rfl (lv_at hl 1 rfl) ?_
  refine lv_iload hx hb d_LW_law_593 (lv_at hl 0 rfl) ?_
  refine lv_iconst (v := (nI 1)) hx hb d_LW_law_595 (by decide) ?_
  refine lv_iadd hx hb d_LW_law_596 ?_
  refine lv_eqi (z := nI (i + 1)) (nI_add _ _) ?_
  refine l_scr hx hb hX hbl hS (show i + 1 < L by omega) hL d_LW_law_597 ?_
  refine lv_aload_n hx hb d_LW_law_598 rfl (lv_at hl 4 rfl) ?_
  refine mS hF sS_LW_88 (c_LW_state l hfl G hu hDs ho (xs (i + 1))) ⟨hP, hO, zH_of hz hS⟩ hS hAO ⟨rfl, rfl, by decide, by decide⟩ rfl rfl hl.1 (Nat.le_of_ble_eq_true rfl) d_LW_law_599 hcl (fun H locs hPO hS hsz hkp => ?_)
  obtain ⟨hP, hO⟩ := hPO
  have hM := va_P.keep hM hkp (fun z hz h => h.elim (fun h9 => hpm z h9 hz) (fun h9 => hom (by rw [← h9]; exact hz)))
  clear hsz hkp
  refine lv_istore hx hb d_LW_law_602 hl (by decide) rfl (fun ls hl => ?_)
  have hl : lv_has ls 8 [(5, .int _), (4, .int _), (0, .ref _), (1, .ref _), (2, .ref _), (3, .ref _)] := hl
  refine lv_aload_n hx hb d_LW_law_604 rfl (lv_at hl 4 rfl) ?_
  refine lv_aload_n hx hb d_LW_law_605 rfl (lv_at hl 2 rfl) ?_
  refine lv_iload hx hb d_LW_law_606 (lv_at hl 1 rfl) ?_
  refine lv_iconst (v := (nI 1)) hx hb d_LW_law_608 (by decide) ?_
  refine lv_iadd hx hb d_LW_law_609 ?_
  refine lv_eqi (z := nI (i + 1)) (nI_add _ _) ?_
  refine l_scr hx hb hX hbl hS (show i + 1 < L by omega) hL d_LW_law_610 ?_
  refine mV hF sV_LW_91 (c_MO_state l G mDs hu (xs (i + 1))) hM (rc_y hF.2.2.2.2 hM) hS hmA ⟨rfl, rfl, by decide, by decide⟩ rfl rfl hl.1 (Nat.le_of_ble_eq_true rfl) d_LW_law_611 ⟨by omega, by omega⟩ (fun H locs hM hS hsz hkp => ?_)
  have hP := va_P.keep hP hkp (fun z hz h => hpm z hz h)
  have hO := hO.keep hkp hom
  clear hsz hkp
  refine lv_istore hx hb d_LW_law_614 hl (by decide) rfl (fun ls hl => ?_)
  have hl : lv_has ls 8 [(6, .int _), (5, .int _), (4, .int _), (0, .ref _), (1, .ref _), (2, .ref _), (3, .ref _)] := hl
  refine lv_aload_n hx hb d_LW_law_616 rfl (lv_at hl 5 rfl) ?_
  refine rV hF sV_LW_56 (c_MO_thrown l G) hM (rc_y hF.2.2.2.2 hM) (by decide) rfl rfl hl.1 (Nat.le_of_ble_eq_true rfl) d_LW_law_617 ⟨by omega, by omega⟩ ?_
  refine lv_iload hx hb d_LW_law_620 (lv_at hl 1 rfl) ?_
  refine lv_icmp_eq (tgt := 627) hx hb d_LW_law_622 (by decide) (fun _ => ?_) (fun hc => absurd rfl hc)
  refine lv_iload hx hb d_LW_law_627 (lv_at hl 1 rfl) ?_
  refine lv_if_ne (tgt := 644) hx hb d_LW_law_629 (by decide) (fun hc => ?_) (fun hc => ?_)
  · refine lv_goto (tgt := 660) hx hb d_LW_law_644 (by decide) ?_
    exact nxt _ _ _ _ H locs ls ⟨hu, hP, hM, hO⟩ hS (lv_sub hl [2, 3, 4, 5, 6] rfl)
  · have hE := E_0 (dE_le _) hc
    refine lv_aload_n hx hb d_LW_law_632 rfl (lv_at hl 6 rfl) ?_
    refine lv_iconst (v := (nI 0)) hx hb d_LW_law_633 (by decide) ?_
    refine l_out hF hO d_LW_law_634 ?_
    refine lv_iload hx hb d_LW_law_635 (lv_at hl 0 rfl) ?_
    refine lv_i2l hx hb d_LW_law_637 rfl ?_
    refine W.lcmp hx hb d_LW_law_638 ?_
    refine lv_if_eq (tgt := 644) hx hb d_LW_law_639 (by decide) (fun _ => ?_) (fun hc9 => absurd ((lg_cmp_eq _ _).mpr (by rw [if_pos hE, if_pos hE])) hc9)
    refine lv_goto (tgt := 660) hx hb d_LW_law_644 (by decide) ?_
    exact nxt _ _ _ _ H locs ls ⟨hu, hP, hM, hO⟩ hS (lv_sub hl [2, 3, 4, 5, 6] rfl)
set_option maxHeartbeats 4000000 in
set_option maxRecDepth 100000 in
theorem lc_7 {p : Program} {l : Launch} {e : Env} {s : State} {m : MethodId} {args : Array Value} {below : List Frame} {meth : Method} {c : Code} {H : Heap} {locs : List Loc} {cells slots : Nat} {Q : State → Prop} {ls : Array Slot} {G : Gx} {b L i : Nat} {xs : Nat → Int32} {x da : Nat} {ad ra : Nat → Nat} {y sa ua o : Nat} {u : Nat → Nat} {R : Nat → Nat → Int64} {er : Int32} {v0 : Int64}
    (hfl : l.flags = flags0) (hF : Fx p m c code 8 s G "ParityDisksLaw") (hX : va_X b L xs s s.heap) (hbl : b < s.heap.size) (hz : zH G s.heap) (hJ : DJ s x da ad ra y sa ua o) (hi : i + 6 ≤ L) (hL : L ≤ 3072) (hI : Inv G x da ad ra y sa ua o u R er v0 H) (hS : va_S (newA s) s.heap H locs) (hcl : cells + 1 ≤ room_1.cells ∧ slots + 6 ≤ room_1.slots)
    (hl : lv_has ls 8 [(4, .int (nI i)), (0, .ref b), (1, .ref x), (2, .ref y), (3, .ref o)])
    (nxt : ∀ (u : Nat → Nat) (R : Nat → Nat → Int64) (er : Int32) (v0 : Int64) (H : Heap) (locs : List Loc) (ls : Array Slot), Inv G x da ad ra y sa ua o u R er v0 H → va_S (newA s) s.heap H locs → lv_has ls 8 [(4, .int (nI i)), (0, .ref b), (1, .ref x), (2, .ref y), (3, .ref o)] → W p l e room_1 s m args below meth c H locs (cells + 1) (slots + 6) Q (F0 m 660 ls [])) :
    W p l e room_1 s m args below meth c H locs cells slots Q (F0 m 578 ls []) := by
  have hx := hF.1
  have hb := hF.2.1
  obtain ⟨hDs, mDs, ho, hom, hpm, hpA, hmA, hoA⟩ := hJ
  obtain ⟨hu, hP, hM, hO⟩ := hI
  have hAO : ∀ q, (pA x da ad ra q ∨ q = o) → newA s q := fun q h => h.elim (hpA q) (fun z => by rw [z]; exact hoA)
  refine W.widen (k := cells + 1) (n := slots + 6) (by omega) (by omega) ?_
  refine lv_aload_n hx hb d_LW_law_578 rfl (lv_at hl 2 rfl) ?_
  refine mV hF sV_LW_84 (c_PD_scrub l G hu hDs) hP (rc_x hF.2.2.2.2 hP) hS hpA ⟨rfl, rfl, by decide, by decide⟩ rfl rfl hl.1 (Nat.le_of_ble_eq_true rfl) d_LW_law_579 ⟨by omega, by omega⟩ (fun H locs hP hS hsz hkp => ?_)
  have hM := va_P.keep hM hkp (fun z hz h => hpm z h hz)
  have hO := hO.keep hkp ho
  clear hsz hkp
  refine lv_aload_n hx hb d_LW_law_582 rfl (lv_at hl 3 rfl) ?_
  refine mV hF sV_LW_87 (c_MO_scrub l G mDs hu) hM (rc_y hF.2.2.2.2 hM) hS hmA ⟨rfl, rfl, by decide, by decide⟩ rfl rfl hl.1 (Nat.le_of_ble_eq_true rfl) d_LW_law_583 ⟨by omega, by omega⟩ (fun H locs hM hS hsz hkp => ?_)
  have hP := va_P.keep hP hkp (fun z hz h => hpm z hz h)
  have hO := hO.keep hkp hom
  clear hsz hkp
  refine lv_icmp_eq (tgt := 660) hx hb d_LW_law_586 (by decide) (fun _ => ?_) (fun hc => absurd rfl hc)
  exact nxt _ _ _ _ H locs ls ⟨hu, hP, hM, hO⟩ hS (lv_sub hl [0, 1, 2, 3, 4] rfl)
set_option maxHeartbeats 4000000 in
set_option maxRecDepth 100000 in
theorem lc_9 {p : Program} {l : Launch} {e : Env} {s : State} {m : MethodId} {args : Array Value} {below : List Frame} {meth : Method} {c : Code} {H : Heap} {locs : List Loc} {cells slots : Nat} {Q : State → Prop} {ls : Array Slot} {G : Gx} {b L i : Nat} {xs : Nat → Int32} {x da : Nat} {ad ra : Nat → Nat} {y sa ua o : Nat} {u : Nat → Nat} {R : Nat → Nat → Int64} {er : Int32} {v0 : Int64}
    (hfl : l.flags = flags0) (hF : Fx p m c code 8 s G "ParityDisksLaw") (hX : va_X b L xs s s.heap) (hbl : b < s.heap.size) (hz : zH G s.heap) (hJ : DJ s x da ad ra y sa ua o) (hi : i + 6 ≤ L) (hL : L ≤ 3072) (hI : Inv G x da ad ra y sa ua o u R er v0 H) (hS : va_S (newA s) s.heap H locs) (hcl : cells + 1 ≤ room_1.cells ∧ slots + 6 ≤ room_1.slots)
    (hl : lv_has ls 8 [(4, .int (nI i)), (0, .ref b), (1, .ref x), (2, .ref y), (3, .ref o)])
    (nxt : ∀ (u : Nat → Nat) (R : Nat → Nat → Int64) (er : Int32) (v0 : Int64) (H : Heap) (locs : List Loc) (ls : Array Slot), Inv G x da ad ra y sa ua o u R er v0 H → va_S (newA s) s.heap H locs → lv_has ls 8 [(4, .int (nI i)), (0, .ref b), (1, .ref x), (2, .ref y), (3, .ref o)] → W p l e room_1 s m args below meth c H locs (cells + 1) (slots + 6) Q (F0 m 660 ls [])) :
    W p l e room_1 s m args below meth c H locs cells slots Q (F0 m 647 ls []) := by
  have hx := hF.1
  have hb := hF.2.1
  obtain ⟨hDs, mDs, ho, hom, hpm, hpA, hmA, hoA⟩ := hJ
  obtain ⟨hu, hP, hM, hO⟩ := hI
  have hAO : ∀ q, (pA x da ad ra q ∨ q = o) → newA s q := fun q h => h.elim (hpA q) (fun z => by rw [z]; exact hoA)
  refine W.widen (k := cells + 1) (n := slots + 6) (by omega) (by omega) ?_
  refine lv_aload_n hx hb d_LW_law_647 rfl (lv_at hl 2 rfl) ?_
  refine rV hF sV_LW_92 (c_PD_lost l G hu) hP (rc_x hF.2.2.2.2 hP) (by decide) rfl rfl hl.1 (Nat.le_of_ble_eq_true rfl) d_LW_law_648 ⟨by omega, by omega⟩ ?_
  refine lv_aload_n hx hb d_LW_law_651 rfl (lv_at hl 3 rfl) ?_
  refine mV hF sV_LW_95 (c_MO_lost l G mDs hu) hM (rc_y hF.2.2.2.2 hM) hS hmA ⟨rfl, rfl, by decide, by decide⟩ rfl rfl hl.1 (Nat.le_of_ble_eq_true rfl) d_LW_law_652 ⟨by omega, by omega⟩ (fun H locs hM hS hsz hkp => ?_)
  have hP := va_P.keep hP hkp (fun z hz h => hpm z hz h)
  have hO := hO.keep hkp hom
  clear hsz hkp
  refine lv_icmp_eq (tgt := 660) hx hb d_LW_law_655 (by decide) (fun _ => ?_) (fun hc => absurd rfl hc)
  exact nxt _ _ _ _ H locs ls ⟨hu, hP, hM, hO⟩ hS (lv_sub hl [0, 1, 2, 3, 4] rfl)
end
section
/-! THE CLAIM OUT OF ONE WALK OF THE LAW'S BODY. Your part is whole_start (and what it stands on); all else here is the same for every law, but numbers. -/
def R_law : String := "ParityDisksLaw"
def lw_P (b : Addr) (xs : List Int32) (args : Array Value) (s : State) : Prop := args = #[.ref b] ∧ s.IntsAt b xs ∧ xs.length ≤ 3072 ∧ (Jvm.Cond.and given_1 narrow_1).before args s = true
def lw_Q (_ : Array Value) (s : State) (o : Outcome) (t : State) : Prop := o = .returned (some (.int 1)) ∧ Framed s o t [] 601024 7293034
def lw_Z (below : List Frame) (a : Array Value) (s : State) : State → Prop := fun t => ∃ o, t.status = .running ∧ Ended t below o ∧ lw_Q a s o t
/-- the law's own end, with 1 on the stack, nothing written that was there before, its room as the claim has it -/
theorem lw_ret {p : Program} {l : Launch} {e : Env} {s : State} {m : MethodId} {below : List Frame} {meth : Method} {c : Code} {b : Nat} (hx : p.tables.exec = Jvm.exec) (hb : c.code = code) (hr : meth.sig.returnType = ret) (hlocks : meth.locks = false) {pc : Nat} {H : Heap} {ls : Array Slot} (hdg : decode code pc = .ok (.ireturn, 1)) : W p l e room_1 s m #[Value.ref b] below meth c H [] 601024 7293034 (lw_Z below #[Value.ref b] s) (F0 m pc ls [.int 1]) := by
  intro T hT X
  obtain ⟨fs, hret, hrun, hended, hW, hframe⟩ := X.leave (v := some (.int 1)) (hlocks := hlocks) (fun h => by rw [hr] at h; cases h)
  have hmeth' : T.vm.method? m = some meth := X.method'
  refine ⟨T.setFrames fs, ?_, .returned (some (.int 1)), hrun, hended, rfl, ⟨_, rfl⟩, hW, hframe⟩
  jvm_step X.here [X.here.top, hx, hb, hdg, hmeth', hr, ret, narrow_b1]
  (try refine ⟨rfl, ?_⟩); (try refine ⟨rfl, ?_⟩)
  first | (intro acts; rw [hret _ acts rfl rfl rfl]) | rw [hret _ _ rfl rfl rfl]
  exact Steps.refl _
/-- what holds at the law's entry: the machine, the code, the tables' words (any of lw_tbl by 'hts w (by decide +kernel)'), the script of L ints xs at the cell b, what the Statement gives of the start (any of its parts by flat_of_before) -/
def lw_At (p : Program) (s : State) (m : MethodId) (meth : Method) (c : Code) (b L : Nat) (xs : Nat → Int32) : Prop :=
  p.tables.exec = Jvm.exec ∧ c.code = code ∧ meth.sig.returnType = ret ∧ c.maxLocals = 8 ∧ s.vm.findClass R_law = some m.cls ∧ (∀ w ∈ lw_tbl, w.before #[Value.ref b] s = true) ∧ va_X b L xs s s.heap ∧ b < s.heap.size ∧ meth.locks = false ∧ (Jvm.Cond.and given_1 narrow_1).before #[Value.ref b] s = true
set_option maxHeartbeats 4000000 in
set_option maxRecDepth 100000 in
theorem law_loop {p : Program} {l : Launch} {e : Env} {s : State} {m : MethodId} {below : List Frame} {meth : Method} {c : Code} {G : Gx} {b L : Nat} {xs : Nat → Int32} {x da : Nat} {ad ra : Nat → Nat} {y sa ua o : Nat}
    (hfl : l.flags = flags0) (hF : Fx p m c code 8 s G "ParityDisksLaw") (hr : meth.sig.returnType = ret) (hlocks : meth.locks = false) (hX : va_X b L xs s s.heap) (hbl : b < s.heap.size) (hz : zH G s.heap) (hJ : DJ s x da ad ra y sa ua o) (hL : L ≤ 3072) : ∀ (n k : Nat) (u : Nat → Nat) (R : Nat → Nat → Int64) (er : Int32) (v0 : Int64) (H : Heap) (locs : List Loc) (ls : Array Slot), k ≤ 512 → L < 6 * (k + n) + 6 → Inv G x da ad ra y sa ua o u R er v0 H → va_S (newA s) s.heap H locs → lv_has ls 8 [(4, .int (nI (6 * k))), (0, .ref b), (1, .ref x), (2, .ref y), (3, .ref o)] →
    W p l e room_1 s m #[Value.ref b] below meth c H locs (16 + k) (2030 + 6 * k) (lw_Z below #[Value.ref b] s) (F0 m 23 ls []) := by
  have hx := hF.1
  have hb := hF.2.1
  intro n
  induction n with
  | zero =>
    intro k u R er v0 H locs ls hk hn hI hS hl
    refine lv_iload hx hb d_LW_law_23 (lv_at hl 0 rfl) ?_
    refine lv_aload_n hx hb d_LW_law_25 rfl (lv_at hl 1 rfl) ?_
    refine va_slen hx hb hX hbl (show ¬ s.heap.size ≤ b by omega) hS d_LW_law_26 ?_
    refine lv_eqi (z := nI L) rfl ?_
    refine lv_bipush (v := nI 6) hx hb d_LW_law_27 (by decide) ?_
    refine lv_isub hx hb d_LW_law_29 ?_
    have hgt : (nI (6 * k) > nI L - nI 6) ↔ L < 6 * k + 6 := by
      show nI L - nI 6 < nI (6 * k) ↔ _
      rw [Int32.lt_iff_toInt_lt, pk_sub_toInt (by omega) (by decide), nI_toInt (by omega)]
      omega
    refine lv_icmp_gt (tgt := 666) hx hb d_LW_law_30 (by decide) (fun hc => ?_) (fun hc => absurd (hgt.mpr (by omega)) hc)
    refine va_forget hS.2.2 ?_
    refine W.widen (k := 601024) (n := 7293034) (by omega) (by omega) ?_
    refine lv_iconst (v := 1) hx hb d_LW_law_666 (by decide) ?_
    exact lw_ret hx hb hr hlocks d_LW_law_667
  | succ n ih =>
    intro k u R er v0 H locs ls hk hn hI hS hl
    refine lv_iload hx hb d_LW_law_23 (lv_at hl 0 rfl) ?_
    refine lv_aload_n hx hb d_LW_law_25 rfl (lv_at hl 1 rfl) ?_
    refine va_slen hx hb hX hbl (show ¬ s.heap.size ≤ b by omega) hS d_LW_law_26 ?_
    refine lv_eqi (z := nI L) rfl ?_
    refine lv_bipush (v := nI 6) hx hb d_LW_law_27 (by decide) ?_
    refine lv_isub hx hb d_LW_law_29 ?_
    have hgt : (nI (6 * k) > nI L - nI 6) ↔ L < 6 * k + 6 := by
      show nI L - nI 6 < nI (6 * k) ↔ _
      rw [Int32.lt_iff_toInt_lt, pk_sub_toInt (by omega) (by decide), nI_toInt (by omega)]
      omega
    refine lv_icmp_gt (tgt := 666) hx hb d_LW_law_30 (by decide) (fun hc => ?_) (fun hc => ?_)
    · refine va_forget hS.2.2 ?_
      refine W.widen (k := 601024) (n := 7293034) (by omega) (by omega) ?_
      refine lv_iconst (v := 1) hx hb d_LW_law_666 (by decide) ?_
      exact lw_ret hx hb hr hlocks d_LW_law_667
    · have hi : 6 * k + 6 ≤ L := Nat.not_lt.mp (fun z => hc (hgt.mpr z))
      have hcl : 16 + k + 1 ≤ room_1.cells ∧ 2030 + 6 * k + 6 ≤ room_1.slots := ⟨by show 16 + k + 1 ≤ 601024; omega, by show 2030 + 6 * k + 6 ≤ 7293034; omega⟩
      have nxt : ∀ (u : Nat → Nat) (R : Nat → Nat → Int64) (er : Int32) (v0 : Int64) (H : Heap) (locs : List Loc) (ls : Array Slot), Inv G x da ad ra y sa ua o u R er v0 H → va_S (newA s) s.heap H locs → lv_has ls 8 [(4, .int (nI (6 * k))), (0, .ref b), (1, .ref x), (2, .ref y), (3, .ref o)] → W p l e room_1 s m #[Value.ref b] below meth c H locs (16 + k + 1) (2030 + 6 * k + 6) (lw_Z below #[Value.ref b] s) (F0 m 660 ls []) := by
        intro u R er v0 H locs ls hI hS hl
        refine lv_iinc (k := 0) hx hb d_LW_law_660 hl rfl (v := nI (6 * (k + 1))) (show nI (6 * k) + Int32.ofInt 6 = nI (6 * (k + 1)) from by rw [show Int32.ofInt 6 = nI 6 from rfl, nI_add]; rfl) (by decide) rfl (fun ls hl => ?_)
        have hl : lv_has ls 8 [(4, .int _), (0, .ref _), (1, .ref _), (2, .ref _), (3, .ref _)] := hl
        refine lv_goto (tgt := 23) hx hb d_LW_law_663 (by decide) ?_
        refine W.cs (cells' := 16 + (k + 1)) (slots' := 2030 + 6 * (k + 1)) (by omega) (by omega) ?_
        exact ih (k + 1) u R er v0 H locs ls (by omega) (by omega) hI hS hl
      refine lv_aload_n hx hb d_LW_law_33 rfl (lv_at hl 1 rfl) ?_
      refine lv_iload hx hb d_LW_law_34 (lv_at hl 0 rfl) ?_
      refine l_scr hx hb hX hbl hS (show 6 * k < L by omega) hL d_LW_law_36 ?_
      refine lv_bipush (v := nI 15) hx hb d_LW_law_37 (by decide) ?_
      refine lv_iand hx hb d_LW_law_39 ?_
      obtain ⟨j, hj, hj2⟩ := pk_andE (xs (6 * k)) (m := nI 15) 4 (by decide)
      refine lv_eqi hj2 ?_
      have hj : j < 16 := hj
      rcases (show j = 0 ∨ j = 1 ∨ j = 2 ∨ j = 3 ∨ j = 4 ∨ j = 5 ∨ j = 6 ∨ j = 7 ∨ j = 8 ∨ j = 9 ∨ j = 10 ∨ j = 11 ∨ j = 12 ∨ j = 13 ∨ j = 14 ∨ j = 15 by omega) with rfl | rfl | rfl | rfl | rfl | rfl | rfl | rfl | rfl | rfl | rfl | rfl | rfl | rfl | rfl | rfl
      · refine lv_tableIn (tgt := 96) (off := 56) hx hb d_LW_law_40 (by decide) (by decide) (by decide) (by decide) ?_
        exact lc_0 hfl hF hX hbl hz hJ hi hL hI hS hcl hl nxt
      · refine lv_tableIn (tgt := 163) (off := 123) hx hb d_LW_law_40 (by decide) (by decide) (by decide) (by decide) ?_
        exact lc_1 hfl hF hX hbl hz hJ hi hL hI hS hcl hl nxt
      · refine lv_tableIn (tgt := 255) (off := 215) hx hb d_LW_law_40 (by decide) (by decide) (by decide) (by decide) ?_
        exact lc_2 hfl hF hX hbl hz hJ hi hL hI hS hcl hl nxt
      · refine lv_tableIn (tgt := 291) (off := 251) hx hb d_LW_law_40 (by decide) (by decide) (by decide) (by decide) ?_
        exact lc_3 hfl hF hX hbl hz hJ hi hL hI hS hcl hl nxt
      · refine lv_tableIn (tgt := 327) (off := 287) hx hb d_LW_law_40 (by decide) (by decide) (by decide) (by decide) ?_
        exact lc_4 hfl hF hX hbl hz hJ hi hL hI hS hcl hl nxt
      · refine lv_tableIn (tgt := 395) (off := 355) hx hb d_LW_law_40 (by decide) (by decide) (by decide) (by decide) ?_
        exact lc_5 hfl hF hX hbl hz hJ hi hL hI hS hcl hl nxt
      · refine lv_tableIn (tgt := 499) (off := 459) hx hb d_LW_law_40 (by decide) (by decide) (by decide) (by decide) ?_
        exact lc_6 hfl hF hX hbl hz hJ hi hL hI hS hcl hl nxt
      · refine lv_tableIn (tgt := 578) (off := 538) hx hb d_LW_law_40 (by decide) (by decide) (by decide) (by decide) ?_
        exact lc_7 hfl hF hX hbl hz hJ hi hL hI hS hcl hl nxt
      · refine lv_tableIn (tgt := 591) (off := 551) hx hb d_LW_law_40 (by decide) (by decide) (by decide) (by decide) ?_
        exact lc_8 hfl hF hX hbl hz hJ hi hL hI hS hcl hl nxt
      · refine lv_tableIn (tgt := 647) (off := 607) hx hb d_LW_law_40 (by decide) (by decide) (by decide) (by decide) ?_
        exact lc_9 hfl hF hX hbl hz hJ hi hL hI hS hcl hl nxt
      · refine lv_tableOut (tgt := 660) hx hb d_LW_law_40 (Or.inr (by decide)) (by decide) ?_
        refine W.widen (k := 16 + k + 1) (n := 2030 + 6 * k + 6) (by omega) (by omega) ?_
        exact nxt u R er v0 H locs ls hI hS hl
      · refine lv_tableOut (tgt := 660) hx hb d_LW_law_40 (Or.inr (by decide)) (by decide) ?_
        refine W.widen (k := 16 + k + 1) (n := 2030 + 6 * k + 6) (by omega) (by omega) ?_
        exact nxt u R er v0 H locs ls hI hS hl
      · refine lv_tableOut (tgt := 660) hx hb d_LW_law_40 (Or.inr (by decide)) (by decide) ?_
        refine W.widen (k := 16 + k + 1) (n := 2030 + 6 * k + 6) (by omega) (by omega) ?_
        exact nxt u R er v0 H locs ls hI hS hl
      · refine lv_tableOut (tgt := 660) hx hb d_LW_law_40 (Or.inr (by decide)) (by decide) ?_
        refine W.widen (k := 16 + k + 1) (n := 2030 + 6 * k + 6) (by omega) (by omega) ?_
        exact nxt u R er v0 H locs ls hI hS hl
      · refine lv_tableOut (tgt := 660) hx hb d_LW_law_40 (Or.inr (by decide)) (by decide) ?_
        refine W.widen (k := 16 + k + 1) (n := 2030 + 6 * k + 6) (by omega) (by omega) ?_
        exact nxt u R er v0 H locs ls hI hS hl
      · refine lv_tableOut (tgt := 660) hx hb d_LW_law_40 (Or.inr (by decide)) (by decide) ?_
        refine W.widen (k := 16 + k + 1) (n := 2030 + 6 * k + 6) (by omega) (by omega) ?_
        exact nxt u R er v0 H locs ls hI hS hl
theorem va_P.left {D : va_G} {cl : List vw_C} {w1 w2 : va_W} {H : Heap} (h : va_P D cl (w1 ++ w2) H) : va_P D cl w1 H := fun k q hk => h k q (by rw [List.getElem?_append_left (List.getElem?_eq_some_iff.mp hk).1]; exact hk)
theorem va_P.right {D : va_G} {cl : List vw_C} {w1 w2 : va_W} {H : Heap} (h : va_P D cl (w1 ++ w2) H) : va_P D cl w2 H := fun k q hk => h (w1.length + k) q (by rw [List.getElem?_append_right (Nat.le_add_right _ _), Nat.add_sub_cancel_left]; exact hk)
theorem va_D.apart {A : Nat → Prop} {w1 w2 : va_W} (h : va_D A (w1 ++ w2)) {z : Nat} (h1 : z ∈ w1.map Prod.fst) (h2 : z ∈ w2.map Prod.fst) : False := by
  have hn := nod_map h
  rw [List.map_append] at hn
  exact (List.nodup_append.mp hn).2.2 z h1 z h2 rfl
theorem va_F.mono {A B : Nat → Prop} {st t : State} (h : va_F A st t) (hAB : ∀ q, A q → B q) : va_F B st t := ⟨h.1, fun q h1 h2 => h.2 q h1 (fun z => h2 (hAB q z))⟩
set_option maxHeartbeats 4000000 in
set_option maxRecDepth 100000 in
theorem whole_start {p : Program} {e : Env} {s : State} {m : MethodId} {below : List Frame} {meth : Method} {c : Code} (l : Launch) (hfl : l.flags = flags0) {b L : Nat} {xs : Nat → Int32} (hL : L ≤ 3072) (C0 : lw_At p s m meth c b L xs) : W p l e room_1 s m #[Value.ref b] below meth c s.heap [] 0 0 (lw_Z below #[Value.ref b] s) (entryFrame m ([Value.ref b] : List Value).toArray 8) := by
  obtain ⟨hx, hb, hr, hml, hown, hts, hX, hbl, hlocks, hgv⟩ := C0
  obtain ⟨G, hC, hz⟩ := cx_start hts hgv
  have hF : Fx p m c code 8 s G "ParityDisksLaw" := ⟨hx, hb, hml, hown, hC⟩
  have hT := hC.ts #[Value.ref b]
  have hl := lv_entry [Value.ref b] (n := 8) (Nat.le_of_ble_eq_true rfl)
  rw [lg_entry_eq]
  generalize (lg_sl ([Value.ref b]) ++ List.replicate (8 - (lg_sl ([Value.ref b])).length) Slot.unset).toArray = ls at hl ⊢
  have hl : lv_has ls 8 [(0, .ref _)] := hl
  have hA : ∀ q : Nat, s.heap.size ≤ q → newA s q := fun q h => h
  have hS : va_S (newA s) s.heap s.heap [] := va_S.rf
  have hP0 : va_P G.1 classes [] s.heap := fun k q hk => by cases hk
  have hD0 : va_D (newA s) [] := va_D_of (by simp) (fun z hz => by cases hz)
  refine va_new (D := G.1) (ci := 0) (fs := [.null]) (C := "ParityDisks") (T := F_PD) (N := 1) hx hb hT in_PD ft_PD ft_PD_ok hown (hT _ t_10) (hT _ t_11) (hT _ t_1) hC.1 hP0 hD0 hS hA rfl (fun j hj => by rcases (show j = 0 by omega) with rfl; rfl) (by decide) (by decide) d_LW_law_0 (fun x H hP hD hS => ?_)
  have hP : va_P G.1 classes [(x, .inr (0, [.null]))] H := hP
  have hxA : s.heap.size ≤ x := hD.2 0 _ rfl
  have hx9 : x < H.size := (hP 0 _ rfl).lt
  refine lv_dup hx hb d_LW_law_3 rfl ?_
  refine cI (nest := false) (host := "") hF sI_LW_46 (hT _ t_12) (c_PD_init l G x H.size) ⟨rfl, hP⟩ ⟨rfl, rfl, by decide, by decide⟩ rfl rfl hl.1 (Nat.le_of_ble_eq_true rfl) d_LW_law_4 (by decide) (fun v2 st t L9 e1 hWt q9 hL9 => ?_) (fun z st t L9 e1 hWt q9 hL9 => by cases q9.1)
  obtain ⟨h1, da, ad, ra, hDs, hP, hpA, hF1⟩ := q9
  cases h1
  have hsz := hS.1
  have hS := hS.call e1 (hF1.mono (fun _ h => Or.inl h)) hL9 (fun z _ h => h.elim (fun h9 => by rw [h9]; exact hxA) (fun h9 => Nat.le_trans hsz h9)) (fun z h => h.elim (fun h9 => by rw [h9]; exact hxA) (fun h9 => Nat.le_trans hsz h9))
  have hpA : ∀ z, pA x da ad ra z → s.heap.size ≤ z := fun z hz => (hpA z hz).elim (fun h9 => by rw [h9]; exact hxA) (fun h9 => Nat.le_trans hsz (by rw [e1] at h9; exact h9))
  clear hF1 hsz hD hD0 hP0
  generalize t.heap = H at hP hS ⊢
  generalize [] ++ L9 = locs at hS ⊢
  refine W.widen (k := 12) (n := 1021) (by decide) (by decide) ?_
  show W p l e room_1 s m _ below meth c H locs _ _ _ (F0 m 7 ls [.ref x])
  refine lv_astore_n hx hb d_LW_law_7 rfl hl (by decide) rfl (fun ls hl => ?_)
  have hl : lv_has ls 8 [(1, .ref _), (0, .ref _)] := hl
  have hD : va_D (newA s) (pw G x da ad ra (fun i => upv ((fun _ => 101) i)) (fun i => flv ((fun _ => 101) i)) (fun _ _ => 0)) := (pw_D hDs).weaken (fun _ q _ h => hpA q.1 h)
  refine va_new (D := G.1) (ci := 2) (fs := [.int 0, .null, .null]) (C := "ParityDisksModel") (T := F_MO) (N := 3) hx hb hT in_MO ft_MO ft_MO_ok hown (hT _ t_252) (hT _ t_253) (hT _ t_3) hC.1 hP hD hS hA rfl (fun j hj => by rcases (show j = 0 ∨ j = 1 ∨ j = 2 by omega) with rfl | rfl | rfl <;> rfl) (by decide) (by decide) d_LW_law_8 (fun y H hPM hD hS => ?_)
  have hP := hPM.left
  have hM := hPM.right
  have hyA : s.heap.size ≤ y := in_map hD y (by rw [List.map_append]; exact List.mem_append.mpr (Or.inr (by simp)))
  have hyp : ¬ pA x da ad ra y := fun h => hD.apart h (by simp)
  have hplt : ∀ z, pA x da ad ra z → z < H.size := fun z hz => by
    obtain ⟨q, hq, rfl⟩ := List.mem_map.mp (show z ∈ (pw G x da ad ra (fun i => upv ((fun _ => 101) i)) (fun i => flv ((fun _ => 101) i)) (fun _ _ => 0)).map Prod.fst from hz)
    obtain ⟨k, hk⟩ := List.getElem?_of_mem hq
    exact (hP k q hk).lt
  refine lv_dup hx hb d_LW_law_11 rfl ?_
  refine cI (nest := false) (host := "") hF sI_LW_49 (hT _ t_254) (c_MO_init l G y H.size) ⟨rfl, hM⟩ ⟨rfl, rfl, by decide, by decide⟩ rfl rfl hl.1 (Nat.le_of_ble_eq_true rfl) d_LW_law_12 (by decide) (fun v2 st t L9 e1 hWt q9 hL9 => ?_) (fun z st t L9 e1 hWt q9 hL9 => by cases q9.1)
  obtain ⟨h1, sa, ua, mDs, hM, hmA, hF1⟩ := q9
  cases h1
  have hsz := hS.1
  have hS := hS.call e1 (hF1.mono (fun _ h => Or.inl h)) hL9 (fun z _ h => h.elim (fun h9 => by rw [h9]; exact hyA) (fun h9 => Nat.le_trans hsz h9)) (fun z h => h.elim (fun h9 => by rw [h9]; exact hyA) (fun h9 => Nat.le_trans hsz h9))
  have hk9 := hF1.2
  rw [e1] at hk9 hmA
  have hP := va_P.keep hP hk9 (fun z hz h => hyp (by rw [← h]; exact hz))
  have hpm : ∀ z, pA x da ad ra z → ¬ mA y sa ua z := fun z h1 h2 => (hmA z h2).elim (fun h9 => hyp (by rw [← h9]; exact h1)) (fun h9 => by have := hplt z h1; omega)
  have hmA : ∀ z, mA y sa ua z → s.heap.size ≤ z := fun z hz => (hmA z hz).elim (fun h9 => by rw [h9]; exact hyA) (fun h9 => Nat.le_trans hsz h9)
  clear hF1 hsz hD hplt hPM hk9
  generalize t.heap = H at hP hM hS ⊢
  generalize _ ++ L9 = locs at hS ⊢
  refine W.widen (k := 15) (n := 2029) (by decide) (by decide) ?_
  show W p l e room_1 s m _ below meth c H locs _ _ _ (F0 m 15 ls [.ref y])
  refine lv_astore_n hx hb d_LW_law_15 rfl hl (by decide) rfl (fun ls hl => ?_)
  have hl : lv_has ls 8 [(2, .ref _), (1, .ref _), (0, .ref _)] := hl
  refine lv_iconst (v := (nI 1)) hx hb d_LW_law_16 (by decide) ?_
  have hD : va_D (newA s) (pw G x da ad ra (fun i => upv ((fun _ => 101) i)) (fun i => flv ((fun _ => 101) i)) (fun _ _ => 0) ++ mw G y sa ua 0 (flat (fun _ _ => 0)) (fun d => mup ((fun _ => 101) d))) := va_D.app ((pw_D hDs).weaken (fun _ q _ h => hpA q.1 h)) ((mw_D mDs).weaken (fun _ q _ h => hmA q.1 h)) (fun i j a b ha hb hab => hpm a.1 ((pw_D hDs).2 i a ha) (by rw [hab]; exact (mw_D mDs).2 j b hb))
  refine nw_long (N := 1) hF (hP.app hM) hD hS hA (by decide) (by decide) (by decide) (by decide) (by decide) d_LW_law_17 (fun o H hPMO hD hS => ?_)
  have hP := hPMO.left.left
  have hM := hPMO.left.right
  have hO : OUT G o 0 H := ⟨fun _ => 0, rfl, hPMO.right⟩
  have hoA : s.heap.size ≤ o := in_map hD o (by rw [List.map_append]; exact List.mem_append.mpr (Or.inr (by simp)))
  have ho : ¬ pA x da ad ra o := fun h => hD.apart (by rw [List.map_append]; exact List.mem_append.mpr (Or.inl h)) (by simp)
  have hom : ¬ mA y sa ua o := fun h => hD.apart (by rw [List.map_append]; exact List.mem_append.mpr (Or.inr h)) (by simp)
  refine W.widen (k := 16) (n := 2030) (by decide) (by decide) ?_
  refine lv_astore_n hx hb d_LW_law_19 rfl hl (by decide) rfl (fun ls hl => ?_)
  have hl : lv_has ls 8 [(3, .ref _), (2, .ref _), (1, .ref _), (0, .ref _)] := hl
  refine lv_iconst (v := (nI 0)) hx hb d_LW_law_20 (by decide) ?_
  refine lv_istore hx hb d_LW_law_21 hl (by decide) rfl (fun ls hl => ?_)
  have hl : lv_has ls 8 [(4, .int _), (3, .ref _), (2, .ref _), (1, .ref _), (0, .ref _)] := hl
  exact law_loop hfl hF hr hlocks hX hbl hz ⟨hDs, mDs, ho, hom, hpm, hpA, hmA, hoA⟩ hL 512 0 (fun _ => 101) (fun _ _ => 0) 0 0 H locs ls (by decide) (by omega) ⟨fun _ _ => Nat.le_refl _, hP, hM, hO⟩ hS (lv_sub hl [0, 4, 3, 2, 1] rfl)
end
section
set_option maxHeartbeats 4000000 in
theorem lw_walk (l : Launch) (hfl : l.flags = flags0) (b : Addr) (xs : List Int32) : MetFree l x (headSpec (Jvm.Cond.code x code maxLocals ret :: tables_1) room_1) (lw_P b xs) (fun _ _ _ _ _ => True) lw_Q := by
  refine MetFree.of_bodyS (code := code) (maxLocals := maxLocals) (ret := ret) (by decide) ?_ ?_
  · intro args s m h hn
    obtain ⟨meth, c, h1, h2, h3, h4, h5, h6, -, -⟩ := Cond.code_spec hn (atoms_spec (ws := Jvm.Cond.code x code maxLocals ret :: tables_1) h _ List.mem_cons_self)
    exact ⟨meth, c, h1, h2, h3, h4, h5, h6⟩
  · intro p e s m args below meth c s₁ B hml0 hP _
    obtain ⟨rfl, hx, hbd, hgv⟩ := hP
    obtain ⟨scr, harrAt, hlist, hof, hsmall⟩ := hx
    obtain ⟨hcb, hkn, -, -⟩ := State.arrayAt?_spec harrAt
    have hown : s.vm.findClass R_law = some m.cls := findClass_of_methodNamed B.named
    have hts0 : ∀ c ∈ (Jvm.Cond.code x code maxLocals ret :: tables_1), c.before #[Value.ref b] s = true := atoms_spec (ws := Jvm.Cond.code x code maxLocals ret :: tables_1) B.pre
    have hts : ∀ w ∈ lw_tbl, w.before #[Value.ref b] s = true := k2_hts_sels lw_privs (fun w hw => hts0 w (List.mem_cons_of_mem _ hw)) lw_privs_ok
    have hml : c.maxLocals = 8 := B.maxLocals_eq (hts0 _ List.mem_cons_self)
    have X₀ : Stand p l e room_1 s m #[Value.ref b] below meth c s₁ [] 0 0 := Stand.of_body B
    have hh0 : s₁.heap = s.heap := by rw [B.state]; rfl
    have hsz : scr.slots.size = xs.length := by rw [← Array.length_toList, hlist, List.length_map]
    have hval : ∀ j : Nat, j < xs.length → scr.slots[j]? = some (.int (xs.getD j 0)) := fun j hj => by
      rw [← Array.getElem?_toList, hlist]
      simp [hj]
    have hbl : b < s.heap.size := (Array.getElem?_eq_some_iff.mp hcb).1
    have hX : va_X b xs.length (fun j => xs.getD j 0) s s.heap := ⟨scr, hcb, hof, hkn, hsz, hval⟩
    have K : W p l e room_1 s m #[Value.ref b] below meth c s₁.heap [] 0 0 (lw_Z below #[Value.ref b] s) (entryFrame m ([Value.ref b] : List Value).toArray 8) := by
      rw [hh0]
      exact whole_start l hfl hbd ⟨B.exec, B.bytes, B.returns, hml, hown, hts, hX, hbl, B.notSynchronized, hgv⟩
    obtain ⟨t, a1, o, b1, b2, b3⟩ := K s₁ rfl X₀
    exact ⟨t, o, a1, b1, b2, b3⟩
theorem lw_pre_spec {args : Array Value} {s : State} (h : (Jvm.Cond.and given_1 narrow_1).before args s = true) (hr : rest_1_c.before args s = true) : ∃ (b : Addr) (xs : List Int32), lw_P b xs args s := by
  have hs := flat_of_before _ h
  have hq := flat_of_before _ hr
  have hc : (Cond.count 1).before args s = true := hs _ (by decide +kernel)
  have harr : (Cond.arrayOf (.arg 0) .int).before args s = true := hs _ (by decide +kernel)
  have hle : (Cond.le (.length (.arg 0)) (.int 3072)).before args s = true := hs _ (by decide +kernel)
  have hlen : (Cond.isInt (.length (.arg 0))).before args s = true := hq _ (by decide +kernel)
  have hall : (Cond.all (.arg 0) (.isInt (.elem (.arg 0) (.index 0)))).before args s = true := hq _ (by decide +kernel)
  obtain ⟨b, xs, hb, hx⟩ := State.ints_of_pre rfl harr hlen hall
  have hsm : xs.length < 2 ^ 31 := hx.choose_spec.2.2.2
  have hev : (Term.length (.arg 0)).eval args s none [] s = some (.int xs.length.toInt32) := hx.length_eval hb
  have hv := Cond.le_ints hev (show (Term.int 3072).eval args s none [] s = some (.int 3072) from rfl)
  have hd : xs.length.toInt32 ≤ 3072 := by
    simpa [Cond.before, Cond.holds, hv] using hle
  have hN : xs.length ≤ 3072 := (Int32.ofNat_le_ofNat hsm (by decide)).mp (show Int32.ofNat xs.length ≤ Int32.ofNat 3072 from hd)
  exact ⟨b, xs, Cond.one_arg hc (show args[0]? = some (.ref b) from hb), hx, hN, h⟩
theorem lw_comes (l : Launch) (hfl : l.flags = flags0) : Comes l x (Jvm.Cond.code x code maxLocals ret :: tables_1) room_1 (fun tb e args s => Calls_1 tb e args s ∧ rest_1 tb e args s ∧ Pre_1 tb e args s)
    (fun _ _ args s o t => lw_Q args s o t) := by
  intro p e ha hc hk s m args below hf hfit hheap happ hpre
  obtain ⟨b, xs, hP⟩ := lw_pre_spec hpre.2.2 hpre.2.1
  obtain ⟨k, o, h1, h2, h3, hQ⟩ := lw_walk l hfl b xs p e ha hc hk s m args below hf ((Spec.applies_iff_loose hf).mp happ).1 hP trivial
  exact ⟨k, o, h1, h2, h3, hQ⟩
theorem lw_frame {s t : State} {o : Outcome} {args : Array Value} (h : Framed s o t [] 601024 7293034) :
    Framed s o t (fieldLocs frame_1_writes args s ++ arrayLocs frame_1_arrays args s ++ staticLocs frame_1_statics s) 601024 7293034 := h
theorem lw_limb (L : Cond) (hL : ∀ (args : Array Value) (s t : State), L.after args s (.returned (some (.int 1))) t = true) :
    ArmFor flags0 classFile x code maxLocals ret World_1 tables_1 room_1 Calls_1 rest_1 Pre_1
      (fun tb e a s o t => postC L tb e a s o t ∧ Framed s o t (fieldLocs frame_1_writes a s ++ arrayLocs frame_1_arrays a s ++ staticLocs frame_1_statics s) 601024 7293034) := by
  intro l hfl _ _ p e ha hc hk s m args below hf hfit hheap happ hpre
  obtain ⟨k, o, h1, h2, h3, rfl, hF⟩ := lw_comes l hfl p e ha hc hk s m args below hf hfit hheap happ hpre
  exact ⟨k, _, h1, h2, h3, hL args s _, lw_frame hF⟩
theorem i_vc : Claimed_1_1 ∧ Claimed_1_2 := ⟨lw_limb limb_1_1 (fun args s t => by simp [limb_1_1, Cond.after, Cond.holds, Cond.value]), lw_limb limb_1_2 (fun args s t => Cond.after_iff.mpr (by
  first | (rw [show limb_1_2 = Cond.eq .result (.int 1) from rfl, Cond.eq_ints (x := 1) (y := 1) rfl rfl]; simp; done) | (simp [limb_1_2, Cond.value, Term.eval]; done)))⟩
end
