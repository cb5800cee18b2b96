section
-- ===== PART A: goes FIRST, ahead of the names: the tables' words, and 'selects' of the private methods out of them =====
/-- a private method of a class that the tables say can be made, by its rows of tables_1 -/
def lw_okq (q : MethodName × Nat) : Prop := (q.1.cls ≠ "java/lang/invoke/MethodHandle" ∧ q.1.cls ≠ "java/lang/invoke/VarHandle") ∧ Cond.instantiable q.1.cls q.2 ∈ tables_1 ∧ Cond.privateMethod q.1 ∈ tables_1 ∧ Cond.instanceMethod q.1 ∈ tables_1
theorem lw_p0 : lw_okq (⟨"MeldTree", "isVersion", "(I)V"⟩, 11) := ⟨⟨by decide +kernel, by decide +kernel⟩, List.mem_of_getElem? (i := 10) (by decide +kernel), List.mem_of_getElem? (i := 76) (by decide +kernel), List.mem_of_getElem? (i := 77) (by decide +kernel)⟩
theorem lw_p1 : lw_okq (⟨"java/lang/Throwable", "fillInStackTrace", "(I)Ljava/lang/Throwable;"⟩, 6) := ⟨⟨by decide +kernel, by decide +kernel⟩, List.mem_of_getElem? (i := 121) (by decide +kernel), List.mem_of_getElem? (i := 119) (by decide +kernel), List.mem_of_getElem? (i := 120) (by decide +kernel)⟩
theorem lw_p2 : lw_okq (⟨"MeldTree", "may", "()V"⟩, 11) := ⟨⟨by decide +kernel, by decide +kernel⟩, List.mem_of_getElem? (i := 10) (by decide +kernel), List.mem_of_getElem? (i := 149) (by decide +kernel), List.mem_of_getElem? (i := 150) (by decide +kernel)⟩
theorem lw_p3 : lw_okq (⟨"MeldTree", "find", "(II)I"⟩, 11) := ⟨⟨by decide +kernel, by decide +kernel⟩, List.mem_of_getElem? (i := 10) (by decide +kernel), List.mem_of_getElem? (i := 168) (by decide +kernel), List.mem_of_getElem? (i := 169) (by decide +kernel)⟩
theorem lw_p4 : lw_okq (⟨"MeldTree", "add", "(I)I"⟩, 11) := ⟨⟨by decide +kernel, by decide +kernel⟩, List.mem_of_getElem? (i := 10) (by decide +kernel), List.mem_of_getElem? (i := 172) (by decide +kernel), List.mem_of_getElem? (i := 173) (by decide +kernel)⟩
theorem lw_p5 : lw_okq (⟨"MeldTree", "make", "(IIII)I"⟩, 11) := ⟨⟨by decide +kernel, by decide +kernel⟩, List.mem_of_getElem? (i := 10) (by decide +kernel), List.mem_of_getElem? (i := 176) (by decide +kernel), List.mem_of_getElem? (i := 177) (by decide +kernel)⟩
theorem lw_p6 : lw_okq (⟨"MeldTree", "below", "(II)I"⟩, 11) := ⟨⟨by decide +kernel, by decide +kernel⟩, List.mem_of_getElem? (i := 10) (by decide +kernel), List.mem_of_getElem? (i := 180) (by decide +kernel), List.mem_of_getElem? (i := 181) (by decide +kernel)⟩
theorem lw_p7 : lw_okq (⟨"MeldTree", "both", "(II)I"⟩, 11) := ⟨⟨by decide +kernel, by decide +kernel⟩, List.mem_of_getElem? (i := 10) (by decide +kernel), List.mem_of_getElem? (i := 184) (by decide +kernel), List.mem_of_getElem? (i := 185) (by decide +kernel)⟩
theorem lw_p8 : lw_okq (⟨"MeldTree", "from", "(II)I"⟩, 11) := ⟨⟨by decide +kernel, by decide +kernel⟩, List.mem_of_getElem? (i := 10) (by decide +kernel), List.mem_of_getElem? (i := 188) (by decide +kernel), List.mem_of_getElem? (i := 189) (by decide +kernel)⟩
theorem lw_p9 : lw_okq (⟨"MeldTree", "pass", "(II)V"⟩, 11) := ⟨⟨by decide +kernel, by decide +kernel⟩, List.mem_of_getElem? (i := 10) (by decide +kernel), List.mem_of_getElem? (i := 243) (by decide +kernel), List.mem_of_getElem? (i := 244) (by decide +kernel)⟩
theorem lw_p10 : lw_okq (⟨"MeldTree", "others", "(II)I"⟩, 11) := ⟨⟨by decide +kernel, by decide +kernel⟩, List.mem_of_getElem? (i := 10) (by decide +kernel), List.mem_of_getElem? (i := 261) (by decide +kernel), List.mem_of_getElem? (i := 262) (by decide +kernel)⟩
theorem lw_p11 : lw_okq (⟨"MeldTree", "digested", "(IJ)J"⟩, 11) := ⟨⟨by decide +kernel, by decide +kernel⟩, List.mem_of_getElem? (i := 10) (by decide +kernel), List.mem_of_getElem? (i := 273) (by decide +kernel), List.mem_of_getElem? (i := 274) (by decide +kernel)⟩
theorem lw_p12 : lw_okq (⟨"MeldTreeModel", "isOne", "(I)Z"⟩, 4) := ⟨⟨by decide +kernel, by decide +kernel⟩, List.mem_of_getElem? (i := 278) (by decide +kernel), List.mem_of_getElem? (i := 307) (by decide +kernel), List.mem_of_getElem? (i := 308) (by decide +kernel)⟩
theorem lw_p13 : lw_okq (⟨"MeldTreeModel", "made", "(III)I"⟩, 4) := ⟨⟨by decide +kernel, by decide +kernel⟩, List.mem_of_getElem? (i := 278) (by decide +kernel), List.mem_of_getElem? (i := 314) (by decide +kernel), List.mem_of_getElem? (i := 315) (by decide +kernel)⟩
def lw_privs_1 : List (MethodName × Nat) := [(⟨"MeldTree", "isVersion", "(I)V"⟩, 11), (⟨"java/lang/Throwable", "fillInStackTrace", "(I)Ljava/lang/Throwable;"⟩, 6), (⟨"MeldTree", "may", "()V"⟩, 11), (⟨"MeldTree", "find", "(II)I"⟩, 11), (⟨"MeldTree", "add", "(I)I"⟩, 11), (⟨"MeldTree", "make", "(IIII)I"⟩, 11), (⟨"MeldTree", "below", "(II)I"⟩, 11), (⟨"MeldTree", "both", "(II)I"⟩, 11), (⟨"MeldTree", "from", "(II)I"⟩, 11), (⟨"MeldTree", "pass", "(II)V"⟩, 11), (⟨"MeldTree", "others", "(II)I"⟩, 11), (⟨"MeldTree", "digested", "(IJ)J"⟩, 11), (⟨"MeldTreeModel", "isOne", "(I)Z"⟩, 4), (⟨"MeldTreeModel", "made", "(III)I"⟩, 4)]
theorem lw_r1 : ∀ q ∈ lw_privs_1, lw_okq q := List.forall_mem_cons.mpr ⟨lw_p0, List.forall_mem_cons.mpr ⟨lw_p1, List.forall_mem_cons.mpr ⟨lw_p2, List.forall_mem_cons.mpr ⟨lw_p3, List.forall_mem_cons.mpr ⟨lw_p4, List.forall_mem_cons.mpr ⟨lw_p5, List.forall_mem_cons.mpr ⟨lw_p6, List.forall_mem_cons.mpr ⟨lw_p7, List.forall_mem_cons.mpr ⟨lw_p8, List.forall_mem_cons.mpr ⟨lw_p9, List.forall_mem_cons.mpr ⟨lw_p10, List.forall_mem_cons.mpr ⟨lw_p11, List.forall_mem_cons.mpr ⟨lw_p12, List.forall_mem_cons.mpr ⟨lw_p13, fun _ h => absurd h List.not_mem_nil⟩⟩⟩⟩⟩⟩⟩⟩⟩⟩⟩⟩⟩⟩
def lw_privs : List (MethodName × Nat) := lw_privs_1
def lw_tbl : List Cond := k2_sels lw_privs ++ tables_1
theorem lw_privs_ok : ∀ q ∈ lw_privs, lw_okq q := lw_r1
-- names of classes
abbrev R_T : String := "MeldTree"
abbrev R_M : String := "MeldTreeModel"
abbrev R_L : String := "MeldTreeLaw"
-- method names, their bytes
abbrev y_T_init : MethodName := ⟨"MeldTree", "<init>", "()V"⟩
abbrev b_T_init : ByteArray := prog_1_method_1_code
abbrev y_O_init : MethodName := ⟨"java/lang/Object", "<init>", "()V"⟩
abbrev b_O_init : ByteArray := object_method_1_code
abbrev y_T_versions : MethodName := ⟨"MeldTree", "versions", "()I"⟩
abbrev b_T_versions : ByteArray := prog_1_method_25_code
abbrev y_T_check : MethodName := ⟨"MeldTree", "check", "()I"⟩
abbrev b_T_check : ByteArray := prog_1_method_26_code
abbrev y_T_height : MethodName := ⟨"MeldTree", "height", "(I)I"⟩
abbrev b_T_height : ByteArray := prog_1_method_6_code
abbrev y_L_put : MethodName := ⟨"MeldTreeLaw", "put", "(LMeldTree;III[J)I"⟩
abbrev b_L_put : ByteArray := method_3_code
abbrev h_L_put : List (Nat × Nat × Nat × Nat) := [(0, 12, 15, 13), (0, 12, 19, 15)]
abbrev y_T_put : MethodName := ⟨"MeldTree", "put", "(III)I"⟩
abbrev b_T_put : ByteArray := prog_1_method_13_code
abbrev y_T_isVersion : MethodName := ⟨"MeldTree", "isVersion", "(I)V"⟩
abbrev b_T_isVersion : ByteArray := prog_1_method_3_code
abbrev y_T_there : MethodName := ⟨"MeldTree", "there", "(Z)V"⟩
abbrev b_T_there : ByteArray := prog_1_method_2_code
abbrev y_Rt_init : MethodName := ⟨"java/lang/RuntimeException", "<init>", "()V"⟩
abbrev y_Rt_initS : MethodName := ⟨"java/lang/RuntimeException", "<init>", "(Ljava/lang/String;)V"⟩
abbrev y_Ex_init : MethodName := ⟨"java/lang/Exception", "<init>", "()V"⟩
abbrev y_Ex_initS : MethodName := ⟨"java/lang/Exception", "<init>", "(Ljava/lang/String;)V"⟩
abbrev y_Th_init : MethodName := ⟨"java/lang/Throwable", "<init>", "()V"⟩
abbrev y_Th_initS : MethodName := ⟨"java/lang/Throwable", "<init>", "(Ljava/lang/String;)V"⟩
abbrev y_Th_fillInStackTrace0 : MethodName := ⟨"java/lang/Throwable", "fillInStackTrace", "(I)Ljava/lang/Throwable;"⟩
abbrev y_Th_fillInStackTrace : MethodName := ⟨"java/lang/Throwable", "fillInStackTrace", "()Ljava/lang/Throwable;"⟩
abbrev b_Th_init : ByteArray := prog_8_method_1_code
abbrev b_Th_fillInStackTrace : ByteArray := prog_8_method_18_code
abbrev y_Io_init : MethodName := ⟨"java/lang/IndexOutOfBoundsException", "<init>", "()V"⟩
abbrev b_Io_init : ByteArray := prog_6_method_1_code
abbrev b_Rt_init : ByteArray := prog_7_method_1_code
abbrev b_Ex_init : ByteArray := prog_4_method_1_code
abbrev y_T_isKey : MethodName := ⟨"MeldTree", "isKey", "(I)V"⟩
abbrev b_T_isKey : ByteArray := prog_1_method_4_code
abbrev y_T_may : MethodName := ⟨"MeldTree", "may", "()V"⟩
abbrev b_T_may : ByteArray := prog_1_method_5_code
abbrev y_Is_init : MethodName := ⟨"java/lang/IllegalStateException", "<init>", "()V"⟩
abbrev b_Is_init : ByteArray := prog_5_method_1_code
abbrev y_T_find : MethodName := ⟨"MeldTree", "find", "(II)I"⟩
abbrev b_T_find : ByteArray := prog_1_method_11_code
abbrev y_T_add : MethodName := ⟨"MeldTree", "add", "(I)I"⟩
abbrev b_T_add : ByteArray := prog_1_method_12_code
abbrev y_T_make : MethodName := ⟨"MeldTree", "make", "(IIII)I"⟩
abbrev b_T_make : ByteArray := prog_1_method_7_code
abbrev y_T_below : MethodName := ⟨"MeldTree", "below", "(II)I"⟩
abbrev b_T_below : ByteArray := prog_1_method_8_code
abbrev y_T_both : MethodName := ⟨"MeldTree", "both", "(II)I"⟩
abbrev b_T_both : ByteArray := prog_1_method_10_code
abbrev y_T_from : MethodName := ⟨"MeldTree", "from", "(II)I"⟩
abbrev b_T_from : ByteArray := prog_1_method_9_code
abbrev y_L_remove : MethodName := ⟨"MeldTreeLaw", "remove", "(LMeldTree;II[J)I"⟩
abbrev b_L_remove : ByteArray := method_4_code
abbrev h_L_remove : List (Nat × Nat × Nat × Nat) := [(0, 10, 13, 13), (0, 10, 17, 15), (0, 10, 21, 21)]
abbrev y_T_remove : MethodName := ⟨"MeldTree", "remove", "(II)I"⟩
abbrev b_T_remove : ByteArray := prog_1_method_14_code
abbrev y_Ns_init : MethodName := ⟨"java/util/NoSuchElementException", "<init>", "()V"⟩
abbrev b_Ns_init : ByteArray := prog_9_method_1_code
abbrev y_L_join : MethodName := ⟨"MeldTreeLaw", "join", "(LMeldTree;III[J)I"⟩
abbrev b_L_join : ByteArray := method_5_code
abbrev h_L_join : List (Nat × Nat × Nat × Nat) := [(0, 12, 15, 13), (0, 12, 19, 15)]
abbrev y_T_join : MethodName := ⟨"MeldTree", "join", "(III)I"⟩
abbrev b_T_join : ByteArray := prog_1_method_15_code
abbrev y_L_get : MethodName := ⟨"MeldTreeLaw", "get", "(LMeldTree;II[J)I"⟩
abbrev b_L_get : ByteArray := method_6_code
abbrev h_L_get : List (Nat × Nat × Nat × Nat) := [(0, 10, 13, 13), (0, 10, 17, 21)]
abbrev y_T_get : MethodName := ⟨"MeldTree", "get", "(II)I"⟩
abbrev b_T_get : ByteArray := prog_1_method_16_code
abbrev y_L_select : MethodName := ⟨"MeldTreeLaw", "select", "(LMeldTree;II[J)I"⟩
abbrev b_L_select : ByteArray := method_7_code
abbrev h_L_select : List (Nat × Nat × Nat × Nat) := [(0, 10, 13, 13)]
abbrev y_T_select : MethodName := ⟨"MeldTree", "select", "(II)I"⟩
abbrev b_T_select : ByteArray := prog_1_method_17_code
abbrev y_L_many : MethodName := ⟨"MeldTreeLaw", "many", "(LMeldTree;III[J)I"⟩
abbrev b_L_many : ByteArray := method_8_code
abbrev h_L_many : List (Nat × Nat × Nat × Nat) := [(0, 12, 15, 13)]
abbrev y_T_many : MethodName := ⟨"MeldTree", "many", "(III)I"⟩
abbrev b_T_many : ByteArray := prog_1_method_19_code
abbrev y_T_pass : MethodName := ⟨"MeldTree", "pass", "(II)V"⟩
abbrev b_T_pass : ByteArray := prog_1_method_18_code
abbrev y_L_sum : MethodName := ⟨"MeldTreeLaw", "sum", "(LMeldTree;III[J)I"⟩
abbrev b_L_sum : ByteArray := method_9_code
abbrev h_L_sum : List (Nat × Nat × Nat × Nat) := [(0, 11, 14, 13)]
abbrev y_T_sum : MethodName := ⟨"MeldTree", "sum", "(III)J"⟩
abbrev b_T_sum : ByteArray := prog_1_method_20_code
abbrev y_L_differ : MethodName := ⟨"MeldTreeLaw", "differ", "(LMeldTree;II[J)I"⟩
abbrev b_L_differ : ByteArray := method_10_code
abbrev h_L_differ : List (Nat × Nat × Nat × Nat) := [(0, 10, 13, 13)]
abbrev y_T_differ : MethodName := ⟨"MeldTree", "differ", "(II)I"⟩
abbrev b_T_differ : ByteArray := prog_1_method_22_code
abbrev y_T_others : MethodName := ⟨"MeldTree", "others", "(II)I"⟩
abbrev b_T_others : ByteArray := prog_1_method_21_code
abbrev y_L_digest : MethodName := ⟨"MeldTreeLaw", "digest", "(LMeldTree;I[J)I"⟩
abbrev b_L_digest : ByteArray := method_11_code
abbrev h_L_digest : List (Nat × Nat × Nat × Nat) := [(0, 8, 11, 13)]
abbrev y_T_digest : MethodName := ⟨"MeldTree", "digest", "(I)J"⟩
abbrev b_T_digest : ByteArray := prog_1_method_24_code
abbrev y_T_digested : MethodName := ⟨"MeldTree", "digested", "(IJ)J"⟩
abbrev b_T_digested : ByteArray := prog_1_method_23_code
abbrev y_M_init : MethodName := ⟨"MeldTreeModel", "<init>", "()V"⟩
abbrev b_M_init : ByteArray := prog_3_method_1_code
abbrev y_M_thrown : MethodName := ⟨"MeldTreeModel", "thrown", "()I"⟩
abbrev b_M_thrown : ByteArray := prog_3_method_2_code
abbrev y_M_put : MethodName := ⟨"MeldTreeModel", "put", "(III)I"⟩
abbrev b_M_put : ByteArray := prog_3_method_6_code
abbrev y_M_isOne : MethodName := ⟨"MeldTreeModel", "isOne", "(I)Z"⟩
abbrev b_M_isOne : ByteArray := prog_3_method_3_code
abbrev y_M_isKey : MethodName := ⟨"MeldTreeModel", "isKey", "(I)Z"⟩
abbrev b_M_isKey : ByteArray := prog_3_method_4_code
abbrev y_M_made : MethodName := ⟨"MeldTreeModel", "made", "(III)I"⟩
abbrev b_M_made : ByteArray := prog_3_method_5_code
abbrev y_M_remove : MethodName := ⟨"MeldTreeModel", "remove", "(II)I"⟩
abbrev b_M_remove : ByteArray := prog_3_method_7_code
abbrev y_M_join : MethodName := ⟨"MeldTreeModel", "join", "(III)I"⟩
abbrev b_M_join : ByteArray := prog_3_method_8_code
abbrev y_M_get : MethodName := ⟨"MeldTreeModel", "get", "(II)I"⟩
abbrev b_M_get : ByteArray := prog_3_method_9_code
abbrev y_M_select : MethodName := ⟨"MeldTreeModel", "select", "(II)I"⟩
abbrev b_M_select : ByteArray := prog_3_method_10_code
abbrev y_M_many : MethodName := ⟨"MeldTreeModel", "many", "(III)I"⟩
abbrev b_M_many : ByteArray := prog_3_method_11_code
abbrev y_M_sum : MethodName := ⟨"MeldTreeModel", "sum", "(III)J"⟩
abbrev b_M_sum : ByteArray := prog_3_method_12_code
abbrev y_M_differ : MethodName := ⟨"MeldTreeModel", "differ", "(II)I"⟩
abbrev b_M_differ : ByteArray := prog_3_method_13_code
abbrev y_M_digest : MethodName := ⟨"MeldTreeModel", "digest", "(I)J"⟩
abbrev b_M_digest : ByteArray := prog_3_method_14_code
abbrev y_M_versions : MethodName := ⟨"MeldTreeModel", "versions", "()I"⟩
abbrev b_M_versions : ByteArray := prog_3_method_15_code
abbrev y_M_check : MethodName := ⟨"MeldTreeModel", "check", "()I"⟩
abbrev b_M_check : ByteArray := prog_3_method_16_code
/-- the tables' words that a callee may be handed -/
def lw_t : List Cond := lw_tbl.filter goodWord
theorem lw_in {w : Cond} (h : w ∈ lw_tbl) (g : goodWord w = true) : w ∈ lw_t := List.mem_filter.mpr ⟨h, g⟩
theorem lw_good : ∀ w ∈ lw_t, (w.onTables && w.keeps) = true ∨ ∃ ty, w = .arrayClass ty := fun w h => good_of_word (List.mem_filter.mp h).2
theorem lw_sub {w : Cond} (h : w ∈ lw_t) : w ∈ lw_tbl := (List.mem_filter.mp h).1
-- words of the tables, by name
set_option maxRecDepth 20000 in
theorem wv_T_T_isVersion : Cond.selects "MeldTree" y_T_isVersion y_T_isVersion ∈ lw_t := lw_in (List.mem_of_getElem? (i := 0) rfl) rfl
set_option maxRecDepth 20000 in
theorem wv_Th_Th_fillInStackTrace0 : Cond.selects "java/lang/Throwable" y_Th_fillInStackTrace0 y_Th_fillInStackTrace0 ∈ lw_t := lw_in (List.mem_of_getElem? (i := 1) rfl) rfl
set_option maxRecDepth 20000 in
theorem wv_T_T_may : Cond.selects "MeldTree" y_T_may y_T_may ∈ lw_t := lw_in (List.mem_of_getElem? (i := 2) rfl) rfl
set_option maxRecDepth 20000 in
theorem wv_T_T_find : Cond.selects "MeldTree" y_T_find y_T_find ∈ lw_t := lw_in (List.mem_of_getElem? (i := 3) rfl) rfl
set_option maxRecDepth 20000 in
theorem wv_T_T_add : Cond.selects "MeldTree" y_T_add y_T_add ∈ lw_t := lw_in (List.mem_of_getElem? (i := 4) rfl) rfl
set_option maxRecDepth 20000 in
theorem wv_T_T_make : Cond.selects "MeldTree" y_T_make y_T_make ∈ lw_t := lw_in (List.mem_of_getElem? (i := 5) rfl) rfl
set_option maxRecDepth 20000 in
theorem wv_T_T_below : Cond.selects "MeldTree" y_T_below y_T_below ∈ lw_t := lw_in (List.mem_of_getElem? (i := 6) rfl) rfl
set_option maxRecDepth 20000 in
theorem wv_T_T_both : Cond.selects "MeldTree" y_T_both y_T_both ∈ lw_t := lw_in (List.mem_of_getElem? (i := 7) rfl) rfl
set_option maxRecDepth 20000 in
theorem wv_T_T_from : Cond.selects "MeldTree" y_T_from y_T_from ∈ lw_t := lw_in (List.mem_of_getElem? (i := 8) rfl) rfl
set_option maxRecDepth 20000 in
theorem wv_T_T_pass : Cond.selects "MeldTree" y_T_pass y_T_pass ∈ lw_t := lw_in (List.mem_of_getElem? (i := 9) rfl) rfl
set_option maxRecDepth 20000 in
theorem wv_T_T_others : Cond.selects "MeldTree" y_T_others y_T_others ∈ lw_t := lw_in (List.mem_of_getElem? (i := 10) rfl) rfl
set_option maxRecDepth 20000 in
theorem wv_T_T_digested : Cond.selects "MeldTree" y_T_digested y_T_digested ∈ lw_t := lw_in (List.mem_of_getElem? (i := 11) rfl) rfl
set_option maxRecDepth 20000 in
theorem wv_M_M_isOne : Cond.selects "MeldTreeModel" y_M_isOne y_M_isOne ∈ lw_t := lw_in (List.mem_of_getElem? (i := 12) rfl) rfl
set_option maxRecDepth 20000 in
theorem wv_M_M_made : Cond.selects "MeldTreeModel" y_M_made y_M_made ∈ lw_t := lw_in (List.mem_of_getElem? (i := 13) rfl) rfl
set_option maxRecDepth 20000 in
theorem wI_L : Cond.initialized "MeldTreeLaw" ∈ lw_t := lw_in (List.mem_of_getElem? (i := 14) rfl) rfl
set_option maxRecDepth 20000 in
theorem wI_T : Cond.initialized "MeldTree" ∈ lw_t := lw_in (List.mem_of_getElem? (i := 15) rfl) rfl
set_option maxRecDepth 20000 in
theorem wI_M : Cond.initialized "MeldTreeModel" ∈ lw_t := lw_in (List.mem_of_getElem? (i := 16) rfl) rfl
set_option maxRecDepth 20000 in
theorem wI_Th : Cond.initialized "java/lang/Throwable" ∈ lw_t := lw_in (List.mem_of_getElem? (i := 17) rfl) rfl
set_option maxRecDepth 20000 in
theorem wI_Ex : Cond.initialized "java/lang/Exception" ∈ lw_t := lw_in (List.mem_of_getElem? (i := 18) rfl) rfl
set_option maxRecDepth 20000 in
theorem wI_Rt : Cond.initialized "java/lang/RuntimeException" ∈ lw_t := lw_in (List.mem_of_getElem? (i := 19) rfl) rfl
set_option maxRecDepth 20000 in
theorem wI_Io : Cond.initialized "java/lang/IndexOutOfBoundsException" ∈ lw_t := lw_in (List.mem_of_getElem? (i := 20) rfl) rfl
set_option maxRecDepth 20000 in
theorem wI_Is : Cond.initialized "java/lang/IllegalStateException" ∈ lw_t := lw_in (List.mem_of_getElem? (i := 21) rfl) rfl
set_option maxRecDepth 20000 in
theorem wI_Ns : Cond.initialized "java/util/NoSuchElementException" ∈ lw_t := lw_in (List.mem_of_getElem? (i := 22) rfl) rfl
set_option maxRecDepth 20000 in
theorem wK_L_8 : Cond.classLink "MeldTreeLaw" 8 "MeldTree" ∈ lw_t := lw_in (List.mem_of_getElem? (i := 23) rfl) rfl
set_option maxRecDepth 20000 in
theorem wN_T : Cond.instantiable "MeldTree" 11 ∈ lw_t := lw_in (List.mem_of_getElem? (i := 24) rfl) rfl
set_option maxRecDepth 20000 in
theorem wL_L_46 : Cond.methodLink "MeldTreeLaw" 46 y_T_init ∈ lw_t := lw_in (List.mem_of_getElem? (i := 25) rfl) rfl
set_option maxRecDepth 20000 in
theorem wi_T_init : Cond.instanceMethod y_T_init ∈ lw_t := lw_in (List.mem_of_getElem? (i := 26) rfl) rfl
set_option maxRecDepth 20000 in
theorem wc_T_init : Cond.code y_T_init b_T_init 1 none ∈ lw_t := lw_in (List.mem_of_getElem? (i := 27) rfl) rfl
set_option maxRecDepth 20000 in
theorem wL_T_1 : Cond.methodLink "MeldTree" 1 y_O_init ∈ lw_t := lw_in (List.mem_of_getElem? (i := 28) rfl) rfl
set_option maxRecDepth 20000 in
theorem wi_O_init : Cond.instanceMethod y_O_init ∈ lw_t := lw_in (List.mem_of_getElem? (i := 29) rfl) rfl
set_option maxRecDepth 20000 in
theorem wc_O_init : Cond.code y_O_init b_O_init 1 none ∈ lw_t := lw_in (List.mem_of_getElem? (i := 30) rfl) rfl
set_option maxRecDepth 20000 in
theorem wq_T_17 : Cond.constant "MeldTree" 17 (80000 : Int32) ∈ lw_t := lw_in (List.mem_of_getElem? (i := 31) rfl) rfl
set_option maxRecDepth 20000 in
theorem wF_T_7 : Cond.fieldLink "MeldTree" 7 "MeldTree" "root" "[I" ∈ lw_t := lw_in (List.mem_of_getElem? (i := 32) rfl) rfl
set_option maxRecDepth 20000 in
theorem wF_T_13 : Cond.fieldLink "MeldTree" 13 "MeldTree" "versions" "I" ∈ lw_t := lw_in (List.mem_of_getElem? (i := 33) rfl) rfl
set_option maxRecDepth 20000 in
theorem wF_T_18 : Cond.fieldLink "MeldTree" 18 "MeldTree" "left" "[I" ∈ lw_t := lw_in (List.mem_of_getElem? (i := 34) rfl) rfl
set_option maxRecDepth 20000 in
theorem wF_T_21 : Cond.fieldLink "MeldTree" 21 "MeldTree" "right" "[I" ∈ lw_t := lw_in (List.mem_of_getElem? (i := 35) rfl) rfl
set_option maxRecDepth 20000 in
theorem wF_T_24 : Cond.fieldLink "MeldTree" 24 "MeldTree" "key" "[S" ∈ lw_t := lw_in (List.mem_of_getElem? (i := 36) rfl) rfl
set_option maxRecDepth 20000 in
theorem wF_T_28 : Cond.fieldLink "MeldTree" 28 "MeldTree" "value" "[I" ∈ lw_t := lw_in (List.mem_of_getElem? (i := 37) rfl) rfl
set_option maxRecDepth 20000 in
theorem wF_T_31 : Cond.fieldLink "MeldTree" 31 "MeldTree" "size" "[S" ∈ lw_t := lw_in (List.mem_of_getElem? (i := 38) rfl) rfl
set_option maxRecDepth 20000 in
theorem wF_T_34 : Cond.fieldLink "MeldTree" 34 "MeldTree" "total" "[J" ∈ lw_t := lw_in (List.mem_of_getElem? (i := 39) rfl) rfl
set_option maxRecDepth 20000 in
theorem wF_T_38 : Cond.fieldLink "MeldTree" 38 "MeldTree" "nodes" "I" ∈ lw_t := lw_in (List.mem_of_getElem? (i := 40) rfl) rfl
set_option maxRecDepth 20000 in
theorem wF_T_88 : Cond.fieldLink "MeldTree" 88 "MeldTree" "passed" "I" ∈ lw_t := lw_in (List.mem_of_getElem? (i := 41) rfl) rfl
set_option maxRecDepth 20000 in
theorem wF_T_91 : Cond.fieldLink "MeldTree" 91 "MeldTree" "passedSum" "J" ∈ lw_t := lw_in (List.mem_of_getElem? (i := 42) rfl) rfl
set_option maxRecDepth 20000 in
theorem wy_T_root : Cond.laysFinal "MeldTree" "MeldTree" "root" "[I" ∈ lw_t := lw_in (List.mem_of_getElem? (i := 43) rfl) rfl
set_option maxRecDepth 20000 in
theorem wy_T_versions : Cond.lays "MeldTree" "MeldTree" "versions" "I" ∈ lw_t := lw_in (List.mem_of_getElem? (i := 45) rfl) rfl
set_option maxRecDepth 20000 in
theorem wy_T_left : Cond.laysFinal "MeldTree" "MeldTree" "left" "[I" ∈ lw_t := lw_in (List.mem_of_getElem? (i := 47) rfl) rfl
set_option maxRecDepth 20000 in
theorem wy_T_right : Cond.laysFinal "MeldTree" "MeldTree" "right" "[I" ∈ lw_t := lw_in (List.mem_of_getElem? (i := 49) rfl) rfl
set_option maxRecDepth 20000 in
theorem wy_T_key : Cond.laysFinal "MeldTree" "MeldTree" "key" "[S" ∈ lw_t := lw_in (List.mem_of_getElem? (i := 51) rfl) rfl
set_option maxRecDepth 20000 in
theorem wy_T_value : Cond.laysFinal "MeldTree" "MeldTree" "value" "[I" ∈ lw_t := lw_in (List.mem_of_getElem? (i := 53) rfl) rfl
set_option maxRecDepth 20000 in
theorem wy_T_size : Cond.laysFinal "MeldTree" "MeldTree" "size" "[S" ∈ lw_t := lw_in (List.mem_of_getElem? (i := 55) rfl) rfl
set_option maxRecDepth 20000 in
theorem wy_T_total : Cond.laysFinal "MeldTree" "MeldTree" "total" "[J" ∈ lw_t := lw_in (List.mem_of_getElem? (i := 57) rfl) rfl
set_option maxRecDepth 20000 in
theorem wy_T_nodes : Cond.lays "MeldTree" "MeldTree" "nodes" "I" ∈ lw_t := lw_in (List.mem_of_getElem? (i := 59) rfl) rfl
set_option maxRecDepth 20000 in
theorem wy_T_passed : Cond.lays "MeldTree" "MeldTree" "passed" "I" ∈ lw_t := lw_in (List.mem_of_getElem? (i := 61) rfl) rfl
set_option maxRecDepth 20000 in
theorem wy_T_passedSum : Cond.lays "MeldTree" "MeldTree" "passedSum" "J" ∈ lw_t := lw_in (List.mem_of_getElem? (i := 63) rfl) rfl
set_option maxRecDepth 20000 in
theorem wS_T : Cond.superclass "MeldTree" "java/lang/Object" ∈ lw_t := lw_in (List.mem_of_getElem? (i := 65) rfl) rfl
set_option maxRecDepth 20000 in
theorem wA_int : Cond.arrayClass .int ∈ lw_t := lw_in (List.mem_of_getElem? (i := 66) rfl) rfl
set_option maxRecDepth 20000 in
theorem wA_short : Cond.arrayClass .short ∈ lw_t := lw_in (List.mem_of_getElem? (i := 67) rfl) rfl
set_option maxRecDepth 20000 in
theorem wA_long : Cond.arrayClass .long ∈ lw_t := lw_in (List.mem_of_getElem? (i := 68) rfl) rfl
set_option maxRecDepth 20000 in
theorem wL_L_86 : Cond.methodLink "MeldTreeLaw" 86 y_T_versions ∈ lw_t := lw_in (List.mem_of_getElem? (i := 69) rfl) rfl
set_option maxRecDepth 20000 in
theorem wi_T_versions : Cond.instanceMethod y_T_versions ∈ lw_t := lw_in (List.mem_of_getElem? (i := 70) rfl) rfl
set_option maxRecDepth 20000 in
theorem wv_T_T_versions : Cond.selects "MeldTree" y_T_versions y_T_versions ∈ lw_t := lw_in (List.mem_of_getElem? (i := 71) rfl) rfl
set_option maxRecDepth 20000 in
theorem wc_T_versions : Cond.code y_T_versions b_T_versions 1 (some .int) ∈ lw_t := lw_in (List.mem_of_getElem? (i := 72) rfl) rfl
set_option maxRecDepth 20000 in
theorem wL_L_90 : Cond.methodLink "MeldTreeLaw" 90 y_T_check ∈ lw_t := lw_in (List.mem_of_getElem? (i := 73) rfl) rfl
set_option maxRecDepth 20000 in
theorem wi_T_check : Cond.instanceMethod y_T_check ∈ lw_t := lw_in (List.mem_of_getElem? (i := 74) rfl) rfl
set_option maxRecDepth 20000 in
theorem wv_T_T_check : Cond.selects "MeldTree" y_T_check y_T_check ∈ lw_t := lw_in (List.mem_of_getElem? (i := 75) rfl) rfl
set_option maxRecDepth 20000 in
theorem wc_T_check : Cond.code y_T_check b_T_check 5 (some .int) ∈ lw_t := lw_in (List.mem_of_getElem? (i := 76) rfl) rfl
set_option maxRecDepth 20000 in
theorem wL_T_62 : Cond.methodLink "MeldTree" 62 y_T_height ∈ lw_t := lw_in (List.mem_of_getElem? (i := 77) rfl) rfl
set_option maxRecDepth 20000 in
theorem ws_T_height : Cond.static y_T_height ∈ lw_t := lw_in (List.mem_of_getElem? (i := 78) rfl) rfl
set_option maxRecDepth 20000 in
theorem wc_T_height : Cond.code y_T_height b_T_height 1 (some .int) ∈ lw_t := lw_in (List.mem_of_getElem? (i := 79) rfl) rfl
set_option maxRecDepth 20000 in
theorem wL_L_50 : Cond.methodLink "MeldTreeLaw" 50 y_L_put ∈ lw_t := lw_in (List.mem_of_getElem? (i := 80) rfl) rfl
set_option maxRecDepth 20000 in
theorem ws_L_put : Cond.static y_L_put ∈ lw_t := lw_in (List.mem_of_getElem? (i := 81) rfl) rfl
set_option maxRecDepth 20000 in
theorem wc_L_put : Cond.codeWith y_L_put b_L_put 6 (some .int) h_L_put ∈ lw_t := lw_in (List.mem_of_getElem? (i := 82) rfl) rfl
set_option maxRecDepth 20000 in
theorem wK_L_13 : Cond.classLink "MeldTreeLaw" 13 "java/lang/IndexOutOfBoundsException" ∈ lw_t := lw_in (List.mem_of_getElem? (i := 83) rfl) rfl
set_option maxRecDepth 20000 in
theorem wK_L_15 : Cond.classLink "MeldTreeLaw" 15 "java/lang/IllegalStateException" ∈ lw_t := lw_in (List.mem_of_getElem? (i := 84) rfl) rfl
set_option maxRecDepth 20000 in
theorem wL_L_7 : Cond.methodLink "MeldTreeLaw" 7 y_T_put ∈ lw_t := lw_in (List.mem_of_getElem? (i := 85) rfl) rfl
set_option maxRecDepth 20000 in
theorem wi_T_put : Cond.instanceMethod y_T_put ∈ lw_t := lw_in (List.mem_of_getElem? (i := 86) rfl) rfl
set_option maxRecDepth 20000 in
theorem wv_T_T_put : Cond.selects "MeldTree" y_T_put y_T_put ∈ lw_t := lw_in (List.mem_of_getElem? (i := 87) rfl) rfl
set_option maxRecDepth 20000 in
theorem wc_T_put : Cond.code y_T_put b_T_put 6 (some .int) ∈ lw_t := lw_in (List.mem_of_getElem? (i := 88) rfl) rfl
set_option maxRecDepth 20000 in
theorem wL_T_69 : Cond.methodLink "MeldTree" 69 y_T_isVersion ∈ lw_t := lw_in (List.mem_of_getElem? (i := 89) rfl) rfl
set_option maxRecDepth 20000 in
theorem wi_T_isVersion : Cond.instanceMethod y_T_isVersion ∈ lw_t := lw_in (List.mem_of_getElem? (i := 91) rfl) rfl
set_option maxRecDepth 20000 in
theorem wc_T_isVersion : Cond.code y_T_isVersion b_T_isVersion 2 none ∈ lw_t := lw_in (List.mem_of_getElem? (i := 92) rfl) rfl
set_option maxRecDepth 20000 in
theorem wL_T_44 : Cond.methodLink "MeldTree" 44 y_T_there ∈ lw_t := lw_in (List.mem_of_getElem? (i := 93) rfl) rfl
set_option maxRecDepth 20000 in
theorem ws_T_there : Cond.static y_T_there ∈ lw_t := lw_in (List.mem_of_getElem? (i := 94) rfl) rfl
set_option maxRecDepth 20000 in
theorem wc_T_there : Cond.code y_T_there b_T_there 1 none ∈ lw_t := lw_in (List.mem_of_getElem? (i := 95) rfl) rfl
set_option maxRecDepth 20000 in
theorem wK_T_41 : Cond.classLink "MeldTree" 41 "java/lang/IndexOutOfBoundsException" ∈ lw_t := lw_in (List.mem_of_getElem? (i := 96) rfl) rfl
set_option maxRecDepth 20000 in
theorem wN_Io : Cond.instantiable "java/lang/IndexOutOfBoundsException" 6 ∈ lw_t := lw_in (List.mem_of_getElem? (i := 97) rfl) rfl
set_option maxRecDepth 20000 in
theorem wC_Io_Io : Cond.castable "java/lang/IndexOutOfBoundsException" "java/lang/IndexOutOfBoundsException" ∈ lw_tbl := List.mem_of_getElem? (i := 98) rfl
set_option maxRecDepth 20000 in
theorem wd_Rt_init : Cond.declares y_Rt_init ∈ lw_tbl := List.mem_of_getElem? (i := 99) rfl
set_option maxRecDepth 20000 in
theorem wd_Rt_initS : Cond.declares y_Rt_initS ∈ lw_tbl := List.mem_of_getElem? (i := 100) rfl
set_option maxRecDepth 20000 in
theorem wd_Ex_init : Cond.declares y_Ex_init ∈ lw_tbl := List.mem_of_getElem? (i := 101) rfl
set_option maxRecDepth 20000 in
theorem wd_Ex_initS : Cond.declares y_Ex_initS ∈ lw_tbl := List.mem_of_getElem? (i := 102) rfl
set_option maxRecDepth 20000 in
theorem wd_Th_init : Cond.declares y_Th_init ∈ lw_tbl := List.mem_of_getElem? (i := 103) rfl
set_option maxRecDepth 20000 in
theorem wd_Th_initS : Cond.declares y_Th_initS ∈ lw_tbl := List.mem_of_getElem? (i := 104) rfl
set_option maxRecDepth 20000 in
theorem wv_Io_Th_fillInStackTrace0 : Cond.selects "java/lang/IndexOutOfBoundsException" y_Th_fillInStackTrace0 y_Th_fillInStackTrace0 ∈ lw_t := lw_in (List.mem_of_getElem? (i := 105) rfl) rfl
set_option maxRecDepth 20000 in
theorem wv_Io_Th_fillInStackTrace : Cond.selects "java/lang/IndexOutOfBoundsException" y_Th_fillInStackTrace y_Th_fillInStackTrace ∈ lw_t := lw_in (List.mem_of_getElem? (i := 106) rfl) rfl
set_option maxRecDepth 20000 in
theorem wy_Io_cause : Cond.lays "java/lang/IndexOutOfBoundsException" "java/lang/Throwable" "cause" "Ljava/lang/Throwable;" ∈ lw_t := lw_in (List.mem_of_getElem? (i := 107) rfl) rfl
set_option maxRecDepth 20000 in
theorem wy_Th_cause : Cond.lays "java/lang/Throwable" "java/lang/Throwable" "cause" "Ljava/lang/Throwable;" ∈ lw_t := lw_in (List.mem_of_getElem? (i := 108) rfl) rfl
set_option maxRecDepth 20000 in
theorem wy_Io_stackTrace : Cond.lays "java/lang/IndexOutOfBoundsException" "java/lang/Throwable" "stackTrace" "[Ljava/lang/StackTraceElement;" ∈ lw_t := lw_in (List.mem_of_getElem? (i := 109) rfl) rfl
set_option maxRecDepth 20000 in
theorem wy_Th_stackTrace : Cond.lays "java/lang/Throwable" "java/lang/Throwable" "stackTrace" "[Ljava/lang/StackTraceElement;" ∈ lw_t := lw_in (List.mem_of_getElem? (i := 110) rfl) rfl
set_option maxRecDepth 20000 in
theorem wy_Io_suppressedExceptions : Cond.lays "java/lang/IndexOutOfBoundsException" "java/lang/Throwable" "suppressedExceptions" "Ljava/util/List;" ∈ lw_t := lw_in (List.mem_of_getElem? (i := 111) rfl) rfl
set_option maxRecDepth 20000 in
theorem wy_Th_suppressedExceptions : Cond.lays "java/lang/Throwable" "java/lang/Throwable" "suppressedExceptions" "Ljava/util/List;" ∈ lw_t := lw_in (List.mem_of_getElem? (i := 112) rfl) rfl
set_option maxRecDepth 20000 in
theorem wy_Io_detailMessage : Cond.lays "java/lang/IndexOutOfBoundsException" "java/lang/Throwable" "detailMessage" "Ljava/lang/String;" ∈ lw_t := lw_in (List.mem_of_getElem? (i := 113) rfl) rfl
set_option maxRecDepth 20000 in
theorem wy_Th_detailMessage : Cond.lays "java/lang/Throwable" "java/lang/Throwable" "detailMessage" "Ljava/lang/String;" ∈ lw_t := lw_in (List.mem_of_getElem? (i := 114) rfl) rfl
set_option maxRecDepth 20000 in
theorem wy_Io_backtrace : Cond.lays "java/lang/IndexOutOfBoundsException" "java/lang/Throwable" "backtrace" "Ljava/lang/Object;" ∈ lw_t := lw_in (List.mem_of_getElem? (i := 115) rfl) rfl
set_option maxRecDepth 20000 in
theorem wy_Th_backtrace : Cond.lays "java/lang/Throwable" "java/lang/Throwable" "backtrace" "Ljava/lang/Object;" ∈ lw_t := lw_in (List.mem_of_getElem? (i := 116) rfl) rfl
set_option maxRecDepth 20000 in
theorem wF_Th_198 : Cond.fieldLink "java/lang/Throwable" 198 "java/lang/Throwable" "backtrace" "Ljava/lang/Object;" ∈ lw_t := lw_in (List.mem_of_getElem? (i := 117) rfl) rfl
set_option maxRecDepth 20000 in
theorem wS_Th : Cond.superclass "java/lang/Throwable" "java/lang/Object" ∈ lw_t := lw_in (List.mem_of_getElem? (i := 118) rfl) rfl
set_option maxRecDepth 20000 in
theorem wi_Th_init : Cond.instanceMethod y_Th_init ∈ lw_t := lw_in (List.mem_of_getElem? (i := 119) rfl) rfl
set_option maxRecDepth 20000 in
theorem wc_Th_init : Cond.code y_Th_init b_Th_init 1 none ∈ lw_t := lw_in (List.mem_of_getElem? (i := 120) rfl) rfl
set_option maxRecDepth 20000 in
theorem wL_Th_1 : Cond.methodLink "java/lang/Throwable" 1 y_O_init ∈ lw_t := lw_in (List.mem_of_getElem? (i := 121) rfl) rfl
set_option maxRecDepth 20000 in
theorem wF_Th_13 : Cond.fieldLink "java/lang/Throwable" 13 "java/lang/Throwable" "UNASSIGNED_STACK" "[Ljava/lang/StackTraceElement;" ∈ lw_t := lw_in (List.mem_of_getElem? (i := 122) rfl) rfl
set_option maxRecDepth 20000 in
theorem wyS_Th_UNASSIGNED_STACK : Cond.laysStatic "java/lang/Throwable" "UNASSIGNED_STACK" "[Ljava/lang/StackTraceElement;" ∈ lw_tbl := List.mem_of_getElem? (i := 123) rfl
set_option maxRecDepth 20000 in
theorem wF_Th_20 : Cond.fieldLink "java/lang/Throwable" 20 "java/lang/Throwable" "SUPPRESSED_SENTINEL" "Ljava/util/List;" ∈ lw_t := lw_in (List.mem_of_getElem? (i := 124) rfl) rfl
set_option maxRecDepth 20000 in
theorem wyS_Th_SUPPRESSED_SENTINEL : Cond.laysStatic "java/lang/Throwable" "SUPPRESSED_SENTINEL" "Ljava/util/List;" ∈ lw_tbl := List.mem_of_getElem? (i := 125) rfl
set_option maxRecDepth 20000 in
theorem wL_Th_27 : Cond.methodLink "java/lang/Throwable" 27 y_Th_fillInStackTrace ∈ lw_t := lw_in (List.mem_of_getElem? (i := 126) rfl) rfl
set_option maxRecDepth 20000 in
theorem wi_Th_fillInStackTrace : Cond.instanceMethod y_Th_fillInStackTrace ∈ lw_t := lw_in (List.mem_of_getElem? (i := 127) rfl) rfl
set_option maxRecDepth 20000 in
theorem wv_Is_Th_fillInStackTrace : Cond.selects "java/lang/IllegalStateException" y_Th_fillInStackTrace y_Th_fillInStackTrace ∈ lw_t := lw_in (List.mem_of_getElem? (i := 129) rfl) rfl
set_option maxRecDepth 20000 in
theorem wv_Ns_Th_fillInStackTrace : Cond.selects "java/util/NoSuchElementException" y_Th_fillInStackTrace y_Th_fillInStackTrace ∈ lw_t := lw_in (List.mem_of_getElem? (i := 130) rfl) rfl
set_option maxRecDepth 20000 in
theorem wc_Th_fillInStackTrace : Cond.codeSync y_Th_fillInStackTrace b_Th_fillInStackTrace 1 (Option.some (.object "java/lang/Throwable")) ∈ lw_t := lw_in (List.mem_of_getElem? (i := 131) rfl) rfl
set_option maxRecDepth 20000 in
theorem wL_Th_202 : Cond.methodLink "java/lang/Throwable" 202 y_Th_fillInStackTrace0 ∈ lw_t := lw_in (List.mem_of_getElem? (i := 132) rfl) rfl
set_option maxRecDepth 20000 in
theorem wi_Th_fillInStackTrace0 : Cond.instanceMethod y_Th_fillInStackTrace0 ∈ lw_t := lw_in (List.mem_of_getElem? (i := 134) rfl) rfl
set_option maxRecDepth 20000 in
theorem wN_Th : Cond.instantiable "java/lang/Throwable" 6 ∈ lw_t := lw_in (List.mem_of_getElem? (i := 135) rfl) rfl
set_option maxRecDepth 20000 in
theorem wn_Th_fillInStackTrace0 : Cond.native y_Th_fillInStackTrace0 ∈ lw_t := lw_in (List.mem_of_getElem? (i := 136) rfl) rfl
set_option maxRecDepth 20000 in
theorem wL_T_43 : Cond.methodLink "MeldTree" 43 y_Io_init ∈ lw_t := lw_in (List.mem_of_getElem? (i := 137) rfl) rfl
set_option maxRecDepth 20000 in
theorem wi_Io_init : Cond.instanceMethod y_Io_init ∈ lw_t := lw_in (List.mem_of_getElem? (i := 138) rfl) rfl
set_option maxRecDepth 20000 in
theorem wc_Io_init : Cond.code y_Io_init b_Io_init 1 none ∈ lw_t := lw_in (List.mem_of_getElem? (i := 139) rfl) rfl
set_option maxRecDepth 20000 in
theorem wL_Io_1 : Cond.methodLink "java/lang/IndexOutOfBoundsException" 1 y_Rt_init ∈ lw_t := lw_in (List.mem_of_getElem? (i := 140) rfl) rfl
set_option maxRecDepth 20000 in
theorem wi_Rt_init : Cond.instanceMethod y_Rt_init ∈ lw_t := lw_in (List.mem_of_getElem? (i := 141) rfl) rfl
set_option maxRecDepth 20000 in
theorem wc_Rt_init : Cond.code y_Rt_init b_Rt_init 1 none ∈ lw_t := lw_in (List.mem_of_getElem? (i := 142) rfl) rfl
set_option maxRecDepth 20000 in
theorem wL_Rt_1 : Cond.methodLink "java/lang/RuntimeException" 1 y_Ex_init ∈ lw_t := lw_in (List.mem_of_getElem? (i := 143) rfl) rfl
set_option maxRecDepth 20000 in
theorem wi_Ex_init : Cond.instanceMethod y_Ex_init ∈ lw_t := lw_in (List.mem_of_getElem? (i := 144) rfl) rfl
set_option maxRecDepth 20000 in
theorem wc_Ex_init : Cond.code y_Ex_init b_Ex_init 1 none ∈ lw_t := lw_in (List.mem_of_getElem? (i := 145) rfl) rfl
set_option maxRecDepth 20000 in
theorem wL_Ex_1 : Cond.methodLink "java/lang/Exception" 1 y_Th_init ∈ lw_t := lw_in (List.mem_of_getElem? (i := 146) rfl) rfl
set_option maxRecDepth 20000 in
theorem wF_Th_198_133 : Cond.fieldLink "java/lang/Throwable" 198 "java/lang/Throwable" "backtrace" "Ljava/lang/Object;" ∈ lw_t := lw_in (List.mem_of_getElem? (i := 147) rfl) rfl
set_option maxRecDepth 20000 in
theorem wF_Th_7 : Cond.fieldLink "java/lang/Throwable" 7 "java/lang/Throwable" "cause" "Ljava/lang/Throwable;" ∈ lw_t := lw_in (List.mem_of_getElem? (i := 148) rfl) rfl
set_option maxRecDepth 20000 in
theorem wF_Th_17 : Cond.fieldLink "java/lang/Throwable" 17 "java/lang/Throwable" "stackTrace" "[Ljava/lang/StackTraceElement;" ∈ lw_t := lw_in (List.mem_of_getElem? (i := 149) rfl) rfl
set_option maxRecDepth 20000 in
theorem wF_Th_24 : Cond.fieldLink "java/lang/Throwable" 24 "java/lang/Throwable" "suppressedExceptions" "Ljava/util/List;" ∈ lw_t := lw_in (List.mem_of_getElem? (i := 150) rfl) rfl
set_option maxRecDepth 20000 in
theorem wy_Io_depth : Cond.lays "java/lang/IndexOutOfBoundsException" "java/lang/Throwable" "depth" "I" ∈ lw_t := lw_in (List.mem_of_getElem? (i := 155) rfl) rfl
set_option maxRecDepth 20000 in
theorem wS_Io : Cond.superclass "java/lang/IndexOutOfBoundsException" "java/lang/RuntimeException" ∈ lw_t := lw_in (List.mem_of_getElem? (i := 158) rfl) rfl
set_option maxRecDepth 20000 in
theorem wL_T_73 : Cond.methodLink "MeldTree" 73 y_T_isKey ∈ lw_t := lw_in (List.mem_of_getElem? (i := 159) rfl) rfl
set_option maxRecDepth 20000 in
theorem ws_T_isKey : Cond.static y_T_isKey ∈ lw_t := lw_in (List.mem_of_getElem? (i := 160) rfl) rfl
set_option maxRecDepth 20000 in
theorem wc_T_isKey : Cond.code y_T_isKey b_T_isKey 1 none ∈ lw_t := lw_in (List.mem_of_getElem? (i := 161) rfl) rfl
set_option maxRecDepth 20000 in
theorem wL_T_76 : Cond.methodLink "MeldTree" 76 y_T_may ∈ lw_t := lw_in (List.mem_of_getElem? (i := 162) rfl) rfl
set_option maxRecDepth 20000 in
theorem wi_T_may : Cond.instanceMethod y_T_may ∈ lw_t := lw_in (List.mem_of_getElem? (i := 164) rfl) rfl
set_option maxRecDepth 20000 in
theorem wc_T_may : Cond.code y_T_may b_T_may 1 none ∈ lw_t := lw_in (List.mem_of_getElem? (i := 165) rfl) rfl
set_option maxRecDepth 20000 in
theorem wK_T_48 : Cond.classLink "MeldTree" 48 "java/lang/IllegalStateException" ∈ lw_t := lw_in (List.mem_of_getElem? (i := 166) rfl) rfl
set_option maxRecDepth 20000 in
theorem wN_Is : Cond.instantiable "java/lang/IllegalStateException" 6 ∈ lw_t := lw_in (List.mem_of_getElem? (i := 167) rfl) rfl
set_option maxRecDepth 20000 in
theorem wC_Is_Is : Cond.castable "java/lang/IllegalStateException" "java/lang/IllegalStateException" ∈ lw_tbl := List.mem_of_getElem? (i := 168) rfl
set_option maxRecDepth 20000 in
theorem wv_Is_Th_fillInStackTrace0 : Cond.selects "java/lang/IllegalStateException" y_Th_fillInStackTrace0 y_Th_fillInStackTrace0 ∈ lw_t := lw_in (List.mem_of_getElem? (i := 169) rfl) rfl
set_option maxRecDepth 20000 in
theorem wy_Is_cause : Cond.lays "java/lang/IllegalStateException" "java/lang/Throwable" "cause" "Ljava/lang/Throwable;" ∈ lw_t := lw_in (List.mem_of_getElem? (i := 170) rfl) rfl
set_option maxRecDepth 20000 in
theorem wy_Is_stackTrace : Cond.lays "java/lang/IllegalStateException" "java/lang/Throwable" "stackTrace" "[Ljava/lang/StackTraceElement;" ∈ lw_t := lw_in (List.mem_of_getElem? (i := 171) rfl) rfl
set_option maxRecDepth 20000 in
theorem wy_Is_suppressedExceptions : Cond.lays "java/lang/IllegalStateException" "java/lang/Throwable" "suppressedExceptions" "Ljava/util/List;" ∈ lw_t := lw_in (List.mem_of_getElem? (i := 172) rfl) rfl
set_option maxRecDepth 20000 in
theorem wy_Is_detailMessage : Cond.lays "java/lang/IllegalStateException" "java/lang/Throwable" "detailMessage" "Ljava/lang/String;" ∈ lw_t := lw_in (List.mem_of_getElem? (i := 173) rfl) rfl
set_option maxRecDepth 20000 in
theorem wy_Is_backtrace : Cond.lays "java/lang/IllegalStateException" "java/lang/Throwable" "backtrace" "Ljava/lang/Object;" ∈ lw_t := lw_in (List.mem_of_getElem? (i := 174) rfl) rfl
set_option maxRecDepth 20000 in
theorem wL_T_50 : Cond.methodLink "MeldTree" 50 y_Is_init ∈ lw_t := lw_in (List.mem_of_getElem? (i := 175) rfl) rfl
set_option maxRecDepth 20000 in
theorem wi_Is_init : Cond.instanceMethod y_Is_init ∈ lw_t := lw_in (List.mem_of_getElem? (i := 176) rfl) rfl
set_option maxRecDepth 20000 in
theorem wc_Is_init : Cond.code y_Is_init b_Is_init 1 none ∈ lw_t := lw_in (List.mem_of_getElem? (i := 177) rfl) rfl
set_option maxRecDepth 20000 in
theorem wL_Is_1 : Cond.methodLink "java/lang/IllegalStateException" 1 y_Rt_init ∈ lw_t := lw_in (List.mem_of_getElem? (i := 178) rfl) rfl
set_option maxRecDepth 20000 in
theorem wy_Is_depth : Cond.lays "java/lang/IllegalStateException" "java/lang/Throwable" "depth" "I" ∈ lw_t := lw_in (List.mem_of_getElem? (i := 179) rfl) rfl
set_option maxRecDepth 20000 in
theorem wS_Is : Cond.superclass "java/lang/IllegalStateException" "java/lang/RuntimeException" ∈ lw_t := lw_in (List.mem_of_getElem? (i := 180) rfl) rfl
set_option maxRecDepth 20000 in
theorem wL_T_79 : Cond.methodLink "MeldTree" 79 y_T_find ∈ lw_t := lw_in (List.mem_of_getElem? (i := 181) rfl) rfl
set_option maxRecDepth 20000 in
theorem wi_T_find : Cond.instanceMethod y_T_find ∈ lw_t := lw_in (List.mem_of_getElem? (i := 183) rfl) rfl
set_option maxRecDepth 20000 in
theorem wc_T_find : Cond.code y_T_find b_T_find 4 (some .int) ∈ lw_t := lw_in (List.mem_of_getElem? (i := 184) rfl) rfl
set_option maxRecDepth 20000 in
theorem wL_T_82 : Cond.methodLink "MeldTree" 82 y_T_add ∈ lw_t := lw_in (List.mem_of_getElem? (i := 185) rfl) rfl
set_option maxRecDepth 20000 in
theorem wi_T_add : Cond.instanceMethod y_T_add ∈ lw_t := lw_in (List.mem_of_getElem? (i := 187) rfl) rfl
set_option maxRecDepth 20000 in
theorem wc_T_add : Cond.code y_T_add b_T_add 2 (some .int) ∈ lw_t := lw_in (List.mem_of_getElem? (i := 188) rfl) rfl
set_option maxRecDepth 20000 in
theorem wL_T_55 : Cond.methodLink "MeldTree" 55 y_T_make ∈ lw_t := lw_in (List.mem_of_getElem? (i := 189) rfl) rfl
set_option maxRecDepth 20000 in
theorem wi_T_make : Cond.instanceMethod y_T_make ∈ lw_t := lw_in (List.mem_of_getElem? (i := 191) rfl) rfl
set_option maxRecDepth 20000 in
theorem wc_T_make : Cond.code y_T_make b_T_make 6 (some .int) ∈ lw_t := lw_in (List.mem_of_getElem? (i := 192) rfl) rfl
set_option maxRecDepth 20000 in
theorem wL_T_51 : Cond.methodLink "MeldTree" 51 y_T_below ∈ lw_t := lw_in (List.mem_of_getElem? (i := 193) rfl) rfl
set_option maxRecDepth 20000 in
theorem wi_T_below : Cond.instanceMethod y_T_below ∈ lw_t := lw_in (List.mem_of_getElem? (i := 195) rfl) rfl
set_option maxRecDepth 20000 in
theorem wc_T_below : Cond.code y_T_below b_T_below 4 (some .int) ∈ lw_t := lw_in (List.mem_of_getElem? (i := 196) rfl) rfl
set_option maxRecDepth 20000 in
theorem wL_T_66 : Cond.methodLink "MeldTree" 66 y_T_both ∈ lw_t := lw_in (List.mem_of_getElem? (i := 197) rfl) rfl
set_option maxRecDepth 20000 in
theorem wi_T_both : Cond.instanceMethod y_T_both ∈ lw_t := lw_in (List.mem_of_getElem? (i := 199) rfl) rfl
set_option maxRecDepth 20000 in
theorem wc_T_both : Cond.code y_T_both b_T_both 3 (some .int) ∈ lw_t := lw_in (List.mem_of_getElem? (i := 200) rfl) rfl
set_option maxRecDepth 20000 in
theorem wL_T_59 : Cond.methodLink "MeldTree" 59 y_T_from ∈ lw_t := lw_in (List.mem_of_getElem? (i := 201) rfl) rfl
set_option maxRecDepth 20000 in
theorem wi_T_from : Cond.instanceMethod y_T_from ∈ lw_t := lw_in (List.mem_of_getElem? (i := 203) rfl) rfl
set_option maxRecDepth 20000 in
theorem wc_T_from : Cond.code y_T_from b_T_from 4 (some .int) ∈ lw_t := lw_in (List.mem_of_getElem? (i := 204) rfl) rfl
set_option maxRecDepth 20000 in
theorem wL_L_60 : Cond.methodLink "MeldTreeLaw" 60 y_L_remove ∈ lw_t := lw_in (List.mem_of_getElem? (i := 205) rfl) rfl
set_option maxRecDepth 20000 in
theorem ws_L_remove : Cond.static y_L_remove ∈ lw_t := lw_in (List.mem_of_getElem? (i := 206) rfl) rfl
set_option maxRecDepth 20000 in
theorem wc_L_remove : Cond.codeWith y_L_remove b_L_remove 5 (some .int) h_L_remove ∈ lw_t := lw_in (List.mem_of_getElem? (i := 207) rfl) rfl
set_option maxRecDepth 20000 in
theorem wK_L_21 : Cond.classLink "MeldTreeLaw" 21 "java/util/NoSuchElementException" ∈ lw_t := lw_in (List.mem_of_getElem? (i := 208) rfl) rfl
set_option maxRecDepth 20000 in
theorem wL_L_17 : Cond.methodLink "MeldTreeLaw" 17 y_T_remove ∈ lw_t := lw_in (List.mem_of_getElem? (i := 209) rfl) rfl
set_option maxRecDepth 20000 in
theorem wi_T_remove : Cond.instanceMethod y_T_remove ∈ lw_t := lw_in (List.mem_of_getElem? (i := 210) rfl) rfl
set_option maxRecDepth 20000 in
theorem wv_T_T_remove : Cond.selects "MeldTree" y_T_remove y_T_remove ∈ lw_t := lw_in (List.mem_of_getElem? (i := 211) rfl) rfl
set_option maxRecDepth 20000 in
theorem wc_T_remove : Cond.code y_T_remove b_T_remove 3 (some .int) ∈ lw_t := lw_in (List.mem_of_getElem? (i := 212) rfl) rfl
set_option maxRecDepth 20000 in
theorem wK_T_85 : Cond.classLink "MeldTree" 85 "java/util/NoSuchElementException" ∈ lw_t := lw_in (List.mem_of_getElem? (i := 213) rfl) rfl
set_option maxRecDepth 20000 in
theorem wN_Ns : Cond.instantiable "java/util/NoSuchElementException" 6 ∈ lw_t := lw_in (List.mem_of_getElem? (i := 214) rfl) rfl
set_option maxRecDepth 20000 in
theorem wC_Ns_Ns : Cond.castable "java/util/NoSuchElementException" "java/util/NoSuchElementException" ∈ lw_tbl := List.mem_of_getElem? (i := 215) rfl
set_option maxRecDepth 20000 in
theorem wv_Ns_Th_fillInStackTrace0 : Cond.selects "java/util/NoSuchElementException" y_Th_fillInStackTrace0 y_Th_fillInStackTrace0 ∈ lw_t := lw_in (List.mem_of_getElem? (i := 216) rfl) rfl
set_option maxRecDepth 20000 in
theorem wy_Ns_cause : Cond.lays "java/util/NoSuchElementException" "java/lang/Throwable" "cause" "Ljava/lang/Throwable;" ∈ lw_t := lw_in (List.mem_of_getElem? (i := 217) rfl) rfl
set_option maxRecDepth 20000 in
theorem wy_Ns_stackTrace : Cond.lays "java/util/NoSuchElementException" "java/lang/Throwable" "stackTrace" "[Ljava/lang/StackTraceElement;" ∈ lw_t := lw_in (List.mem_of_getElem? (i := 218) rfl) rfl
set_option maxRecDepth 20000 in
theorem wy_Ns_suppressedExceptions : Cond.lays "java/util/NoSuchElementException" "java/lang/Throwable" "suppressedExceptions" "Ljava/util/List;" ∈ lw_t := lw_in (List.mem_of_getElem? (i := 219) rfl) rfl
set_option maxRecDepth 20000 in
theorem wy_Ns_detailMessage : Cond.lays "java/util/NoSuchElementException" "java/lang/Throwable" "detailMessage" "Ljava/lang/String;" ∈ lw_t := lw_in (List.mem_of_getElem? (i := 220) rfl) rfl
set_option maxRecDepth 20000 in
theorem wy_Ns_backtrace : Cond.lays "java/util/NoSuchElementException" "java/lang/Throwable" "backtrace" "Ljava/lang/Object;" ∈ lw_t := lw_in (List.mem_of_getElem? (i := 221) rfl) rfl
set_option maxRecDepth 20000 in
theorem wL_T_87 : Cond.methodLink "MeldTree" 87 y_Ns_init ∈ lw_t := lw_in (List.mem_of_getElem? (i := 222) rfl) rfl
set_option maxRecDepth 20000 in
theorem wi_Ns_init : Cond.instanceMethod y_Ns_init ∈ lw_t := lw_in (List.mem_of_getElem? (i := 223) rfl) rfl
set_option maxRecDepth 20000 in
theorem wc_Ns_init : Cond.code y_Ns_init b_Ns_init 1 none ∈ lw_t := lw_in (List.mem_of_getElem? (i := 224) rfl) rfl
set_option maxRecDepth 20000 in
theorem wL_Ns_1 : Cond.methodLink "java/util/NoSuchElementException" 1 y_Rt_init ∈ lw_t := lw_in (List.mem_of_getElem? (i := 225) rfl) rfl
set_option maxRecDepth 20000 in
theorem wy_Ns_depth : Cond.lays "java/util/NoSuchElementException" "java/lang/Throwable" "depth" "I" ∈ lw_t := lw_in (List.mem_of_getElem? (i := 226) rfl) rfl
set_option maxRecDepth 20000 in
theorem wS_Ns : Cond.superclass "java/util/NoSuchElementException" "java/lang/RuntimeException" ∈ lw_t := lw_in (List.mem_of_getElem? (i := 227) rfl) rfl
set_option maxRecDepth 20000 in
theorem wL_L_64 : Cond.methodLink "MeldTreeLaw" 64 y_L_join ∈ lw_t := lw_in (List.mem_of_getElem? (i := 228) rfl) rfl
set_option maxRecDepth 20000 in
theorem ws_L_join : Cond.static y_L_join ∈ lw_t := lw_in (List.mem_of_getElem? (i := 229) rfl) rfl
set_option maxRecDepth 20000 in
theorem wc_L_join : Cond.codeWith y_L_join b_L_join 6 (some .int) h_L_join ∈ lw_t := lw_in (List.mem_of_getElem? (i := 230) rfl) rfl
set_option maxRecDepth 20000 in
theorem wL_L_23 : Cond.methodLink "MeldTreeLaw" 23 y_T_join ∈ lw_t := lw_in (List.mem_of_getElem? (i := 231) rfl) rfl
set_option maxRecDepth 20000 in
theorem wi_T_join : Cond.instanceMethod y_T_join ∈ lw_t := lw_in (List.mem_of_getElem? (i := 232) rfl) rfl
set_option maxRecDepth 20000 in
theorem wv_T_T_join : Cond.selects "MeldTree" y_T_join y_T_join ∈ lw_t := lw_in (List.mem_of_getElem? (i := 233) rfl) rfl
set_option maxRecDepth 20000 in
theorem wc_T_join : Cond.code y_T_join b_T_join 4 (some .int) ∈ lw_t := lw_in (List.mem_of_getElem? (i := 234) rfl) rfl
set_option maxRecDepth 20000 in
theorem wL_L_67 : Cond.methodLink "MeldTreeLaw" 67 y_L_get ∈ lw_t := lw_in (List.mem_of_getElem? (i := 235) rfl) rfl
set_option maxRecDepth 20000 in
theorem ws_L_get : Cond.static y_L_get ∈ lw_t := lw_in (List.mem_of_getElem? (i := 236) rfl) rfl
set_option maxRecDepth 20000 in
theorem wc_L_get : Cond.codeWith y_L_get b_L_get 5 (some .int) h_L_get ∈ lw_t := lw_in (List.mem_of_getElem? (i := 237) rfl) rfl
set_option maxRecDepth 20000 in
theorem wL_L_26 : Cond.methodLink "MeldTreeLaw" 26 y_T_get ∈ lw_t := lw_in (List.mem_of_getElem? (i := 238) rfl) rfl
set_option maxRecDepth 20000 in
theorem wi_T_get : Cond.instanceMethod y_T_get ∈ lw_t := lw_in (List.mem_of_getElem? (i := 239) rfl) rfl
set_option maxRecDepth 20000 in
theorem wv_T_T_get : Cond.selects "MeldTree" y_T_get y_T_get ∈ lw_t := lw_in (List.mem_of_getElem? (i := 240) rfl) rfl
set_option maxRecDepth 20000 in
theorem wc_T_get : Cond.code y_T_get b_T_get 4 (some .int) ∈ lw_t := lw_in (List.mem_of_getElem? (i := 241) rfl) rfl
set_option maxRecDepth 20000 in
theorem wL_L_70 : Cond.methodLink "MeldTreeLaw" 70 y_L_select ∈ lw_t := lw_in (List.mem_of_getElem? (i := 242) rfl) rfl
set_option maxRecDepth 20000 in
theorem ws_L_select : Cond.static y_L_select ∈ lw_t := lw_in (List.mem_of_getElem? (i := 243) rfl) rfl
set_option maxRecDepth 20000 in
theorem wc_L_select : Cond.codeWith y_L_select b_L_select 5 (some .int) h_L_select ∈ lw_t := lw_in (List.mem_of_getElem? (i := 244) rfl) rfl
set_option maxRecDepth 20000 in
theorem wL_L_29 : Cond.methodLink "MeldTreeLaw" 29 y_T_select ∈ lw_t := lw_in (List.mem_of_getElem? (i := 245) rfl) rfl
set_option maxRecDepth 20000 in
theorem wi_T_select : Cond.instanceMethod y_T_select ∈ lw_t := lw_in (List.mem_of_getElem? (i := 246) rfl) rfl
set_option maxRecDepth 20000 in
theorem wv_T_T_select : Cond.selects "MeldTree" y_T_select y_T_select ∈ lw_t := lw_in (List.mem_of_getElem? (i := 247) rfl) rfl
set_option maxRecDepth 20000 in
theorem wc_T_select : Cond.code y_T_select b_T_select 5 (some .int) ∈ lw_t := lw_in (List.mem_of_getElem? (i := 248) rfl) rfl
set_option maxRecDepth 20000 in
theorem wL_L_73 : Cond.methodLink "MeldTreeLaw" 73 y_L_many ∈ lw_t := lw_in (List.mem_of_getElem? (i := 249) rfl) rfl
set_option maxRecDepth 20000 in
theorem ws_L_many : Cond.static y_L_many ∈ lw_t := lw_in (List.mem_of_getElem? (i := 250) rfl) rfl
set_option maxRecDepth 20000 in
theorem wc_L_many : Cond.codeWith y_L_many b_L_many 6 (some .int) h_L_many ∈ lw_t := lw_in (List.mem_of_getElem? (i := 251) rfl) rfl
set_option maxRecDepth 20000 in
theorem wL_L_32 : Cond.methodLink "MeldTreeLaw" 32 y_T_many ∈ lw_t := lw_in (List.mem_of_getElem? (i := 252) rfl) rfl
set_option maxRecDepth 20000 in
theorem wi_T_many : Cond.instanceMethod y_T_many ∈ lw_t := lw_in (List.mem_of_getElem? (i := 253) rfl) rfl
set_option maxRecDepth 20000 in
theorem wv_T_T_many : Cond.selects "MeldTree" y_T_many y_T_many ∈ lw_t := lw_in (List.mem_of_getElem? (i := 254) rfl) rfl
set_option maxRecDepth 20000 in
theorem wc_T_many : Cond.code y_T_many b_T_many 5 (some .int) ∈ lw_t := lw_in (List.mem_of_getElem? (i := 255) rfl) rfl
set_option maxRecDepth 20000 in
theorem wL_T_95 : Cond.methodLink "MeldTree" 95 y_T_pass ∈ lw_t := lw_in (List.mem_of_getElem? (i := 256) rfl) rfl
set_option maxRecDepth 20000 in
theorem wi_T_pass : Cond.instanceMethod y_T_pass ∈ lw_t := lw_in (List.mem_of_getElem? (i := 258) rfl) rfl
set_option maxRecDepth 20000 in
theorem wc_T_pass : Cond.code y_T_pass b_T_pass 4 none ∈ lw_t := lw_in (List.mem_of_getElem? (i := 259) rfl) rfl
set_option maxRecDepth 20000 in
theorem wL_L_76 : Cond.methodLink "MeldTreeLaw" 76 y_L_sum ∈ lw_t := lw_in (List.mem_of_getElem? (i := 260) rfl) rfl
set_option maxRecDepth 20000 in
theorem ws_L_sum : Cond.static y_L_sum ∈ lw_t := lw_in (List.mem_of_getElem? (i := 261) rfl) rfl
set_option maxRecDepth 20000 in
theorem wc_L_sum : Cond.codeWith y_L_sum b_L_sum 6 (some .int) h_L_sum ∈ lw_t := lw_in (List.mem_of_getElem? (i := 262) rfl) rfl
set_option maxRecDepth 20000 in
theorem wL_L_35 : Cond.methodLink "MeldTreeLaw" 35 y_T_sum ∈ lw_t := lw_in (List.mem_of_getElem? (i := 263) rfl) rfl
set_option maxRecDepth 20000 in
theorem wi_T_sum : Cond.instanceMethod y_T_sum ∈ lw_t := lw_in (List.mem_of_getElem? (i := 264) rfl) rfl
set_option maxRecDepth 20000 in
theorem wv_T_T_sum : Cond.selects "MeldTree" y_T_sum y_T_sum ∈ lw_t := lw_in (List.mem_of_getElem? (i := 265) rfl) rfl
set_option maxRecDepth 20000 in
theorem wc_T_sum : Cond.code y_T_sum b_T_sum 6 (some .long) ∈ lw_t := lw_in (List.mem_of_getElem? (i := 266) rfl) rfl
set_option maxRecDepth 20000 in
theorem wL_L_79 : Cond.methodLink "MeldTreeLaw" 79 y_L_differ ∈ lw_t := lw_in (List.mem_of_getElem? (i := 267) rfl) rfl
set_option maxRecDepth 20000 in
theorem ws_L_differ : Cond.static y_L_differ ∈ lw_t := lw_in (List.mem_of_getElem? (i := 268) rfl) rfl
set_option maxRecDepth 20000 in
theorem wc_L_differ : Cond.codeWith y_L_differ b_L_differ 5 (some .int) h_L_differ ∈ lw_t := lw_in (List.mem_of_getElem? (i := 269) rfl) rfl
set_option maxRecDepth 20000 in
theorem wL_L_39 : Cond.methodLink "MeldTreeLaw" 39 y_T_differ ∈ lw_t := lw_in (List.mem_of_getElem? (i := 270) rfl) rfl
set_option maxRecDepth 20000 in
theorem wi_T_differ : Cond.instanceMethod y_T_differ ∈ lw_t := lw_in (List.mem_of_getElem? (i := 271) rfl) rfl
set_option maxRecDepth 20000 in
theorem wv_T_T_differ : Cond.selects "MeldTree" y_T_differ y_T_differ ∈ lw_t := lw_in (List.mem_of_getElem? (i := 272) rfl) rfl
set_option maxRecDepth 20000 in
theorem wc_T_differ : Cond.code y_T_differ b_T_differ 3 (some .int) ∈ lw_t := lw_in (List.mem_of_getElem? (i := 273) rfl) rfl
set_option maxRecDepth 20000 in
theorem wL_T_99 : Cond.methodLink "MeldTree" 99 y_T_others ∈ lw_t := lw_in (List.mem_of_getElem? (i := 274) rfl) rfl
set_option maxRecDepth 20000 in
theorem wi_T_others : Cond.instanceMethod y_T_others ∈ lw_t := lw_in (List.mem_of_getElem? (i := 276) rfl) rfl
set_option maxRecDepth 20000 in
theorem wc_T_others : Cond.code y_T_others b_T_others 7 (some .int) ∈ lw_t := lw_in (List.mem_of_getElem? (i := 277) rfl) rfl
set_option maxRecDepth 20000 in
theorem wL_L_82 : Cond.methodLink "MeldTreeLaw" 82 y_L_digest ∈ lw_t := lw_in (List.mem_of_getElem? (i := 278) rfl) rfl
set_option maxRecDepth 20000 in
theorem ws_L_digest : Cond.static y_L_digest ∈ lw_t := lw_in (List.mem_of_getElem? (i := 279) rfl) rfl
set_option maxRecDepth 20000 in
theorem wc_L_digest : Cond.codeWith y_L_digest b_L_digest 4 (some .int) h_L_digest ∈ lw_t := lw_in (List.mem_of_getElem? (i := 280) rfl) rfl
set_option maxRecDepth 20000 in
theorem wL_L_42 : Cond.methodLink "MeldTreeLaw" 42 y_T_digest ∈ lw_t := lw_in (List.mem_of_getElem? (i := 281) rfl) rfl
set_option maxRecDepth 20000 in
theorem wi_T_digest : Cond.instanceMethod y_T_digest ∈ lw_t := lw_in (List.mem_of_getElem? (i := 282) rfl) rfl
set_option maxRecDepth 20000 in
theorem wv_T_T_digest : Cond.selects "MeldTree" y_T_digest y_T_digest ∈ lw_t := lw_in (List.mem_of_getElem? (i := 283) rfl) rfl
set_option maxRecDepth 20000 in
theorem wc_T_digest : Cond.code y_T_digest b_T_digest 2 (some .long) ∈ lw_t := lw_in (List.mem_of_getElem? (i := 284) rfl) rfl
set_option maxRecDepth 20000 in
theorem wq_T_108 : Cond.constantLong "MeldTree" 108 (7 : Int64) ∈ lw_t := lw_in (List.mem_of_getElem? (i := 285) rfl) rfl
set_option maxRecDepth 20000 in
theorem wL_T_104 : Cond.methodLink "MeldTree" 104 y_T_digested ∈ lw_t := lw_in (List.mem_of_getElem? (i := 286) rfl) rfl
set_option maxRecDepth 20000 in
theorem wi_T_digested : Cond.instanceMethod y_T_digested ∈ lw_t := lw_in (List.mem_of_getElem? (i := 288) rfl) rfl
set_option maxRecDepth 20000 in
theorem wc_T_digested : Cond.code y_T_digested b_T_digested 4 (some .long) ∈ lw_t := lw_in (List.mem_of_getElem? (i := 289) rfl) rfl
set_option maxRecDepth 20000 in
theorem wq_T_102 : Cond.constantLong "MeldTree" 102 (31 : Int64) ∈ lw_t := lw_in (List.mem_of_getElem? (i := 290) rfl) rfl
set_option maxRecDepth 20000 in
theorem wK_L_47 : Cond.classLink "MeldTreeLaw" 47 "MeldTreeModel" ∈ lw_t := lw_in (List.mem_of_getElem? (i := 291) rfl) rfl
set_option maxRecDepth 20000 in
theorem wN_M : Cond.instantiable "MeldTreeModel" 4 ∈ lw_t := lw_in (List.mem_of_getElem? (i := 292) rfl) rfl
set_option maxRecDepth 20000 in
theorem wL_L_49 : Cond.methodLink "MeldTreeLaw" 49 y_M_init ∈ lw_t := lw_in (List.mem_of_getElem? (i := 293) rfl) rfl
set_option maxRecDepth 20000 in
theorem wi_M_init : Cond.instanceMethod y_M_init ∈ lw_t := lw_in (List.mem_of_getElem? (i := 294) rfl) rfl
set_option maxRecDepth 20000 in
theorem wc_M_init : Cond.code y_M_init b_M_init 1 none ∈ lw_t := lw_in (List.mem_of_getElem? (i := 295) rfl) rfl
set_option maxRecDepth 20000 in
theorem wL_M_1 : Cond.methodLink "MeldTreeModel" 1 y_O_init ∈ lw_t := lw_in (List.mem_of_getElem? (i := 296) rfl) rfl
set_option maxRecDepth 20000 in
theorem wq_M_9 : Cond.constant "MeldTreeModel" 9 (153600 : Int32) ∈ lw_t := lw_in (List.mem_of_getElem? (i := 297) rfl) rfl
set_option maxRecDepth 20000 in
theorem wF_M_10 : Cond.fieldLink "MeldTreeModel" 10 "MeldTreeModel" "value" "[I" ∈ lw_t := lw_in (List.mem_of_getElem? (i := 298) rfl) rfl
set_option maxRecDepth 20000 in
theorem wF_M_14 : Cond.fieldLink "MeldTreeModel" 14 "MeldTreeModel" "has" "[Z" ∈ lw_t := lw_in (List.mem_of_getElem? (i := 299) rfl) rfl
set_option maxRecDepth 20000 in
theorem wF_M_18 : Cond.fieldLink "MeldTreeModel" 18 "MeldTreeModel" "versions" "I" ∈ lw_t := lw_in (List.mem_of_getElem? (i := 300) rfl) rfl
set_option maxRecDepth 20000 in
theorem wF_M_22 : Cond.fieldLink "MeldTreeModel" 22 "MeldTreeModel" "thrown" "I" ∈ lw_t := lw_in (List.mem_of_getElem? (i := 301) rfl) rfl
set_option maxRecDepth 20000 in
theorem wy_M_value : Cond.laysFinal "MeldTreeModel" "MeldTreeModel" "value" "[I" ∈ lw_t := lw_in (List.mem_of_getElem? (i := 302) rfl) rfl
set_option maxRecDepth 20000 in
theorem wy_M_has : Cond.laysFinal "MeldTreeModel" "MeldTreeModel" "has" "[Z" ∈ lw_t := lw_in (List.mem_of_getElem? (i := 304) rfl) rfl
set_option maxRecDepth 20000 in
theorem wy_M_versions : Cond.lays "MeldTreeModel" "MeldTreeModel" "versions" "I" ∈ lw_t := lw_in (List.mem_of_getElem? (i := 306) rfl) rfl
set_option maxRecDepth 20000 in
theorem wy_M_thrown : Cond.lays "MeldTreeModel" "MeldTreeModel" "thrown" "I" ∈ lw_t := lw_in (List.mem_of_getElem? (i := 308) rfl) rfl
set_option maxRecDepth 20000 in
theorem wS_M : Cond.superclass "MeldTreeModel" "java/lang/Object" ∈ lw_t := lw_in (List.mem_of_getElem? (i := 310) rfl) rfl
set_option maxRecDepth 20000 in
theorem wA_boolean : Cond.arrayClass .boolean ∈ lw_t := lw_in (List.mem_of_getElem? (i := 311) rfl) rfl
set_option maxRecDepth 20000 in
theorem wL_L_56 : Cond.methodLink "MeldTreeLaw" 56 y_M_thrown ∈ lw_t := lw_in (List.mem_of_getElem? (i := 312) rfl) rfl
set_option maxRecDepth 20000 in
theorem wi_M_thrown : Cond.instanceMethod y_M_thrown ∈ lw_t := lw_in (List.mem_of_getElem? (i := 313) rfl) rfl
set_option maxRecDepth 20000 in
theorem wv_M_M_thrown : Cond.selects "MeldTreeModel" y_M_thrown y_M_thrown ∈ lw_t := lw_in (List.mem_of_getElem? (i := 314) rfl) rfl
set_option maxRecDepth 20000 in
theorem wc_M_thrown : Cond.code y_M_thrown b_M_thrown 1 (some .int) ∈ lw_t := lw_in (List.mem_of_getElem? (i := 315) rfl) rfl
set_option maxRecDepth 20000 in
theorem wL_L_55 : Cond.methodLink "MeldTreeLaw" 55 y_M_put ∈ lw_t := lw_in (List.mem_of_getElem? (i := 316) rfl) rfl
set_option maxRecDepth 20000 in
theorem wi_M_put : Cond.instanceMethod y_M_put ∈ lw_t := lw_in (List.mem_of_getElem? (i := 317) rfl) rfl
set_option maxRecDepth 20000 in
theorem wv_M_M_put : Cond.selects "MeldTreeModel" y_M_put y_M_put ∈ lw_t := lw_in (List.mem_of_getElem? (i := 318) rfl) rfl
set_option maxRecDepth 20000 in
theorem wc_M_put : Cond.code y_M_put b_M_put 5 (some .int) ∈ lw_t := lw_in (List.mem_of_getElem? (i := 319) rfl) rfl
set_option maxRecDepth 20000 in
theorem wL_M_25 : Cond.methodLink "MeldTreeModel" 25 y_M_isOne ∈ lw_t := lw_in (List.mem_of_getElem? (i := 320) rfl) rfl
set_option maxRecDepth 20000 in
theorem wi_M_isOne : Cond.instanceMethod y_M_isOne ∈ lw_t := lw_in (List.mem_of_getElem? (i := 322) rfl) rfl
set_option maxRecDepth 20000 in
theorem wc_M_isOne : Cond.code y_M_isOne b_M_isOne 2 (some .boolean) ∈ lw_t := lw_in (List.mem_of_getElem? (i := 323) rfl) rfl
set_option maxRecDepth 20000 in
theorem wL_M_29 : Cond.methodLink "MeldTreeModel" 29 y_M_isKey ∈ lw_t := lw_in (List.mem_of_getElem? (i := 324) rfl) rfl
set_option maxRecDepth 20000 in
theorem ws_M_isKey : Cond.static y_M_isKey ∈ lw_t := lw_in (List.mem_of_getElem? (i := 325) rfl) rfl
set_option maxRecDepth 20000 in
theorem wc_M_isKey : Cond.code y_M_isKey b_M_isKey 1 (some .boolean) ∈ lw_t := lw_in (List.mem_of_getElem? (i := 326) rfl) rfl
set_option maxRecDepth 20000 in
theorem wL_M_32 : Cond.methodLink "MeldTreeModel" 32 y_M_made ∈ lw_t := lw_in (List.mem_of_getElem? (i := 327) rfl) rfl
set_option maxRecDepth 20000 in
theorem wi_M_made : Cond.instanceMethod y_M_made ∈ lw_t := lw_in (List.mem_of_getElem? (i := 329) rfl) rfl
set_option maxRecDepth 20000 in
theorem wc_M_made : Cond.code y_M_made b_M_made 7 (some .int) ∈ lw_t := lw_in (List.mem_of_getElem? (i := 330) rfl) rfl
set_option maxRecDepth 20000 in
theorem wL_L_63 : Cond.methodLink "MeldTreeLaw" 63 y_M_remove ∈ lw_t := lw_in (List.mem_of_getElem? (i := 331) rfl) rfl
set_option maxRecDepth 20000 in
theorem wi_M_remove : Cond.instanceMethod y_M_remove ∈ lw_t := lw_in (List.mem_of_getElem? (i := 332) rfl) rfl
set_option maxRecDepth 20000 in
theorem wv_M_M_remove : Cond.selects "MeldTreeModel" y_M_remove y_M_remove ∈ lw_t := lw_in (List.mem_of_getElem? (i := 333) rfl) rfl
set_option maxRecDepth 20000 in
theorem wc_M_remove : Cond.code y_M_remove b_M_remove 4 (some .int) ∈ lw_t := lw_in (List.mem_of_getElem? (i := 334) rfl) rfl
set_option maxRecDepth 20000 in
theorem wL_L_66 : Cond.methodLink "MeldTreeLaw" 66 y_M_join ∈ lw_t := lw_in (List.mem_of_getElem? (i := 335) rfl) rfl
set_option maxRecDepth 20000 in
theorem wi_M_join : Cond.instanceMethod y_M_join ∈ lw_t := lw_in (List.mem_of_getElem? (i := 336) rfl) rfl
set_option maxRecDepth 20000 in
theorem wv_M_M_join : Cond.selects "MeldTreeModel" y_M_join y_M_join ∈ lw_t := lw_in (List.mem_of_getElem? (i := 337) rfl) rfl
set_option maxRecDepth 20000 in
theorem wc_M_join : Cond.code y_M_join b_M_join 4 (some .int) ∈ lw_t := lw_in (List.mem_of_getElem? (i := 338) rfl) rfl
set_option maxRecDepth 20000 in
theorem wL_L_69 : Cond.methodLink "MeldTreeLaw" 69 y_M_get ∈ lw_t := lw_in (List.mem_of_getElem? (i := 339) rfl) rfl
set_option maxRecDepth 20000 in
theorem wi_M_get : Cond.instanceMethod y_M_get ∈ lw_t := lw_in (List.mem_of_getElem? (i := 340) rfl) rfl
set_option maxRecDepth 20000 in
theorem wv_M_M_get : Cond.selects "MeldTreeModel" y_M_get y_M_get ∈ lw_t := lw_in (List.mem_of_getElem? (i := 341) rfl) rfl
set_option maxRecDepth 20000 in
theorem wc_M_get : Cond.code y_M_get b_M_get 3 (some .int) ∈ lw_t := lw_in (List.mem_of_getElem? (i := 342) rfl) rfl
set_option maxRecDepth 20000 in
theorem wL_L_72 : Cond.methodLink "MeldTreeLaw" 72 y_M_select ∈ lw_t := lw_in (List.mem_of_getElem? (i := 343) rfl) rfl
set_option maxRecDepth 20000 in
theorem wi_M_select : Cond.instanceMethod y_M_select ∈ lw_t := lw_in (List.mem_of_getElem? (i := 344) rfl) rfl
set_option maxRecDepth 20000 in
theorem wv_M_M_select : Cond.selects "MeldTreeModel" y_M_select y_M_select ∈ lw_t := lw_in (List.mem_of_getElem? (i := 345) rfl) rfl
set_option maxRecDepth 20000 in
theorem wc_M_select : Cond.code y_M_select b_M_select 5 (some .int) ∈ lw_t := lw_in (List.mem_of_getElem? (i := 346) rfl) rfl
set_option maxRecDepth 20000 in
theorem wL_L_75 : Cond.methodLink "MeldTreeLaw" 75 y_M_many ∈ lw_t := lw_in (List.mem_of_getElem? (i := 347) rfl) rfl
set_option maxRecDepth 20000 in
theorem wi_M_many : Cond.instanceMethod y_M_many ∈ lw_t := lw_in (List.mem_of_getElem? (i := 348) rfl) rfl
set_option maxRecDepth 20000 in
theorem wv_M_M_many : Cond.selects "MeldTreeModel" y_M_many y_M_many ∈ lw_t := lw_in (List.mem_of_getElem? (i := 349) rfl) rfl
set_option maxRecDepth 20000 in
theorem wc_M_many : Cond.code y_M_many b_M_many 6 (some .int) ∈ lw_t := lw_in (List.mem_of_getElem? (i := 350) rfl) rfl
set_option maxRecDepth 20000 in
theorem wL_L_78 : Cond.methodLink "MeldTreeLaw" 78 y_M_sum ∈ lw_t := lw_in (List.mem_of_getElem? (i := 351) rfl) rfl
set_option maxRecDepth 20000 in
theorem wi_M_sum : Cond.instanceMethod y_M_sum ∈ lw_t := lw_in (List.mem_of_getElem? (i := 352) rfl) rfl
set_option maxRecDepth 20000 in
theorem wv_M_M_sum : Cond.selects "MeldTreeModel" y_M_sum y_M_sum ∈ lw_t := lw_in (List.mem_of_getElem? (i := 353) rfl) rfl
set_option maxRecDepth 20000 in
theorem wc_M_sum : Cond.code y_M_sum b_M_sum 7 (some .long) ∈ lw_t := lw_in (List.mem_of_getElem? (i := 354) rfl) rfl
set_option maxRecDepth 20000 in
theorem wL_L_81 : Cond.methodLink "MeldTreeLaw" 81 y_M_differ ∈ lw_t := lw_in (List.mem_of_getElem? (i := 355) rfl) rfl
set_option maxRecDepth 20000 in
theorem wi_M_differ : Cond.instanceMethod y_M_differ ∈ lw_t := lw_in (List.mem_of_getElem? (i := 356) rfl) rfl
set_option maxRecDepth 20000 in
theorem wv_M_M_differ : Cond.selects "MeldTreeModel" y_M_differ y_M_differ ∈ lw_t := lw_in (List.mem_of_getElem? (i := 357) rfl) rfl
set_option maxRecDepth 20000 in
theorem wc_M_differ : Cond.code y_M_differ b_M_differ 7 (some .int) ∈ lw_t := lw_in (List.mem_of_getElem? (i := 358) rfl) rfl
set_option maxRecDepth 20000 in
theorem wL_L_85 : Cond.methodLink "MeldTreeLaw" 85 y_M_digest ∈ lw_t := lw_in (List.mem_of_getElem? (i := 359) rfl) rfl
set_option maxRecDepth 20000 in
theorem wi_M_digest : Cond.instanceMethod y_M_digest ∈ lw_t := lw_in (List.mem_of_getElem? (i := 360) rfl) rfl
set_option maxRecDepth 20000 in
theorem wv_M_M_digest : Cond.selects "MeldTreeModel" y_M_digest y_M_digest ∈ lw_t := lw_in (List.mem_of_getElem? (i := 361) rfl) rfl
set_option maxRecDepth 20000 in
theorem wc_M_digest : Cond.code y_M_digest b_M_digest 5 (some .long) ∈ lw_t := lw_in (List.mem_of_getElem? (i := 362) rfl) rfl
set_option maxRecDepth 20000 in
theorem wq_M_36 : Cond.constantLong "MeldTreeModel" 36 (7 : Int64) ∈ lw_t := lw_in (List.mem_of_getElem? (i := 363) rfl) rfl
set_option maxRecDepth 20000 in
theorem wq_M_38 : Cond.constantLong "MeldTreeModel" 38 (31 : Int64) ∈ lw_t := lw_in (List.mem_of_getElem? (i := 364) rfl) rfl
set_option maxRecDepth 20000 in
theorem wL_L_89 : Cond.methodLink "MeldTreeLaw" 89 y_M_versions ∈ lw_t := lw_in (List.mem_of_getElem? (i := 365) rfl) rfl
set_option maxRecDepth 20000 in
theorem wi_M_versions : Cond.instanceMethod y_M_versions ∈ lw_t := lw_in (List.mem_of_getElem? (i := 366) rfl) rfl
set_option maxRecDepth 20000 in
theorem wv_M_M_versions : Cond.selects "MeldTreeModel" y_M_versions y_M_versions ∈ lw_t := lw_in (List.mem_of_getElem? (i := 367) rfl) rfl
set_option maxRecDepth 20000 in
theorem wc_M_versions : Cond.code y_M_versions b_M_versions 1 (some .int) ∈ lw_t := lw_in (List.mem_of_getElem? (i := 368) rfl) rfl
set_option maxRecDepth 20000 in
theorem wL_L_93 : Cond.methodLink "MeldTreeLaw" 93 y_M_check ∈ lw_t := lw_in (List.mem_of_getElem? (i := 369) rfl) rfl
set_option maxRecDepth 20000 in
theorem wi_M_check : Cond.instanceMethod y_M_check ∈ lw_t := lw_in (List.mem_of_getElem? (i := 370) rfl) rfl
set_option maxRecDepth 20000 in
theorem wv_M_M_check : Cond.selects "MeldTreeModel" y_M_check y_M_check ∈ lw_t := lw_in (List.mem_of_getElem? (i := 371) rfl) rfl
set_option maxRecDepth 20000 in
theorem wc_M_check : Cond.code y_M_check b_M_check 1 (some .int) ∈ lw_t := lw_in (List.mem_of_getElem? (i := 372) rfl) rfl
end
section
/-! the worlds of MeldTree and MeldTreeModel, one row an instruction over them, calls among their methods -/
def F_T : u_T := fun k => match k with
  | 0 => ("MeldTree", "root", "[I", true)
  | 1 => ("MeldTree", "versions", "I", false)
  | 2 => ("MeldTree", "left", "[I", true)
  | 3 => ("MeldTree", "right", "[I", true)
  | 4 => ("MeldTree", "key", "[S", true)
  | 5 => ("MeldTree", "value", "[I", true)
  | 6 => ("MeldTree", "size", "[S", true)
  | 7 => ("MeldTree", "total", "[J", true)
  | 8 => ("MeldTree", "nodes", "I", false)
  | 9 => ("MeldTree", "passed", "I", false)
  | _ => ("MeldTree", "passedSum", "J", false)
def ty_T : Nat → FieldType := fun k => match k with
  | 0 => .array .int
  | 1 => .int
  | 2 => .array .int
  | 3 => .array .int
  | 4 => .array .short
  | 5 => .array .int
  | 6 => .array .short
  | 7 => .array .long
  | 8 => .int
  | 9 => .int
  | _ => .long
def F_M : u_T := fun k => match k with
  | 0 => ("MeldTreeModel", "value", "[I", true)
  | 1 => ("MeldTreeModel", "has", "[Z", true)
  | 2 => ("MeldTreeModel", "versions", "I", false)
  | _ => ("MeldTreeModel", "thrown", "I", false)
def ty_M : Nat → FieldType := fun k => match k with
  | 0 => .array .int
  | 1 => .array .boolean
  | 2 => .int
  | _ => .int
theorem n_T : ∀ a, a < 11 → ∀ b, b < 11 → a ≠ b → (F_T a).2.1 ≠ (F_T b).2.1 := by decide +kernel
theorem ty_T_ok : ∀ k, k < 11 → parseFieldDescriptor (F_T k).2.2.1 = some (ty_T k) := by decide +kernel
theorem n_M : ∀ a, a < 4 → ∀ b, b < 4 → a ≠ b → (F_M a).2.1 ≠ (F_M b).2.1 := by decide +kernel
theorem ty_M_ok : ∀ k, k < 4 → parseFieldDescriptor (F_M k).2.2.1 = some (ty_M k) := by decide +kernel
theorem u_T_in : ∀ w ∈ u_ws R_T F_T 11, w ∈ lw_t := by
  intro w h
  obtain ⟨k, hk, rfl⟩ := List.mem_map.mp h
  have hk : k < 11 := List.mem_range.mp hk
  match k, hk with
  | 0, _ => exact wy_T_root
  | 1, _ => exact wy_T_versions
  | 2, _ => exact wy_T_left
  | 3, _ => exact wy_T_right
  | 4, _ => exact wy_T_key
  | 5, _ => exact wy_T_value
  | 6, _ => exact wy_T_size
  | 7, _ => exact wy_T_total
  | 8, _ => exact wy_T_nodes
  | 9, _ => exact wy_T_passed
  | 10, _ => exact wy_T_passedSum
theorem u_M_in : ∀ w ∈ u_ws R_M F_M 4, w ∈ lw_t := by
  intro w h
  obtain ⟨k, hk, rfl⟩ := List.mem_map.mp h
  have hk : k < 4 := List.mem_range.mp hk
  match k, hk with
  | 0, _ => exact wy_M_value
  | 1, _ => exact wy_M_has
  | 2, _ => exact wy_M_versions
  | 3, _ => exact wy_M_thrown
abbrev cls2 : List vw_C := [(R_T, F_T, 11), (R_M, F_M, 4)]
abbrev gG : Type := va_G × ClassId × ClassId × ClassId × ClassId
abbrev gTys (G : gG) : List (ClassId × FieldType) := [(G.2.1, .int), (G.2.2.1, .short), (G.2.2.2.1, .long), (G.2.2.2.2, .boolean)]
def gK (G : gG) (U : State) : Prop := va_K G.1 cls2 (gTys G) U
theorem gK.moved {G : gG} {u U : State} (hvm : u.vm.Alike U.vm) (h : gK G u) : gK G U := va_K.moved hvm h
/-- a place is given another value -/
def up {α : Type} (f : Nat → α) (k : Nat) (x : α) : Nat → α := fun i => if i = k then x else f i
theorem up_s {α : Type} {f : Nat → α} {k : Nat} {x : α} : up f k x k = x := if_pos rfl
theorem up_n {α : Type} {f : Nat → α} {k i : Nat} {x : α} (h : i ≠ k) : up f k x i = f i := if_neg h
theorem upd_up (f : Nat → Nat) (k x : Nat) : upd (fun j => nI (f j)) k (nI x) = fun i => nI (up f k x i) := by
  funext i
  by_cases h : i = k
  · simp [upd, up, h]
  · simp [upd, up, h]
/-! MeldTree: addresses h root left right key value size total; numbers -/
abbrev tA : Type := Nat × Nat × Nat × Nat × Nat × Nat × Nat × Nat
abbrev aH (a : tA) : Nat := a.1
abbrev aO (a : tA) : Nat := a.2.1
abbrev aL (a : tA) : Nat := a.2.2.1
abbrev aR (a : tA) : Nat := a.2.2.2.1
abbrev aK (a : tA) : Nat := a.2.2.2.2.1
abbrev aV (a : tA) : Nat := a.2.2.2.2.2.1
abbrev aS (a : tA) : Nat := a.2.2.2.2.2.2.1
abbrev aT (a : tA) : Nat := a.2.2.2.2.2.2.2
/-- ((versions, nodes, passed, passedSum), root, left, right, key, value, size, total) -/
abbrev tV : Type := (Nat × Nat × Nat × Int64) × (Nat → Nat) × (Nat → Nat) × (Nat → Nat) × (Nat → Nat) × (Nat → Int32) × (Nat → Nat) × (Nat → Int64)
abbrev vVer (v : tV) : Nat := v.1.1
abbrev vNod (v : tV) : Nat := v.1.2.1
abbrev vPas (v : tV) : Nat := v.1.2.2.1
abbrev vSum (v : tV) : Int64 := v.1.2.2.2
abbrev vO (v : tV) : Nat → Nat := v.2.1
abbrev vL (v : tV) : Nat → Nat := v.2.2.1
abbrev vR (v : tV) : Nat → Nat := v.2.2.2.1
abbrev vK (v : tV) : Nat → Nat := v.2.2.2.2.1
abbrev vV (v : tV) : Nat → Int32 := v.2.2.2.2.2.1
abbrev vS (v : tV) : Nat → Nat := v.2.2.2.2.2.2.1
abbrev vT (v : tV) : Nat → Int64 := v.2.2.2.2.2.2.2
abbrev wVer (v : tV) (x : Nat) : tV := ((x, vNod v, vPas v, vSum v), v.2)
abbrev wNod (v : tV) (x : Nat) : tV := ((vVer v, x, vPas v, vSum v), v.2)
abbrev wPas (v : tV) (x : Nat) : tV := ((vVer v, vNod v, x, vSum v), v.2)
abbrev wSum (v : tV) (x : Int64) : tV := ((vVer v, vNod v, vPas v, x), v.2)
abbrev wO (v : tV) (f : Nat → Nat) : tV := (v.1, f, v.2.2)
abbrev wL (v : tV) (f : Nat → Nat) : tV := (v.1, vO v, f, v.2.2.2)
abbrev wR (v : tV) (f : Nat → Nat) : tV := (v.1, vO v, vL v, f, v.2.2.2.2)
abbrev wK (v : tV) (f : Nat → Nat) : tV := (v.1, vO v, vL v, vR v, f, v.2.2.2.2.2)
abbrev wV (v : tV) (f : Nat → Int32) : tV := (v.1, vO v, vL v, vR v, vK v, f, v.2.2.2.2.2.2)
abbrev wS (v : tV) (f : Nat → Nat) : tV := (v.1, vO v, vL v, vR v, vK v, vV v, f, vT v)
abbrev wT (v : tV) (f : Nat → Int64) : tV := (v.1, vO v, vL v, vR v, vK v, vV v, vS v, f)
abbrev tfs (a : tA) (v : tV) : List Value := [.ref (aO a), .int (nI (vVer v)), .ref (aL a), .ref (aR a), .ref (aK a), .ref (aV a), .ref (aS a), .ref (aT a), .int (nI (vNod v)), .int (nI (vPas v)), .long (vSum v)]
abbrev tw (G : gG) (a : tA) (v : tV) : va_W := [(aH a, .inr (0, tfs a v)), (aO a, .inl (G.2.1, 600, .inl (fun j => nI (vO v j)))), (aL a, .inl (G.2.1, 80000, .inl (fun j => nI (vL v j)))), (aR a, .inl (G.2.1, 80000, .inl (fun j => nI (vR v j)))), (aK a, .inl (G.2.2.1, 80000, .inl (fun j => nI (vK v j)))), (aV a, .inl (G.2.1, 80000, .inl (vV v))), (aS a, .inl (G.2.2.1, 80000, .inl (fun j => nI (vS v j)))), (aT a, .inl (G.2.2.2.1, 80000, .inr (.inl (vT v))))]
def tP (G : gG) (a : tA) (v : tV) (H : Heap) : Prop := va_P G.1 cls2 (tw G a v) H
def tD (a : tA) (A : Nat → Prop) : Prop := ∀ G v, va_D A (tw G a v)
def inA (a : tA) : Nat → Prop := fun q => q = aH a ∨ q = aO a ∨ q = aL a ∨ q = aR a ∨ q = aK a ∨ q = aV a ∨ q = aS a ∨ q = aT a
def tS (G : gG) (a : tA) (A : Nat → Prop) (H0 : Heap) (v : tV) (H : Heap) (locs : List Loc) : Prop := tP G a v H ∧ tD a A ∧ va_S A H0 H locs
theorem tw_fst {G G' : gG} {a : tA} {v v' : tV} {i : Nat} {x : Nat × va_E} (h : (tw G a v)[i]? = some x) : ∃ y, (tw G' a v')[i]? = some y ∧ y.1 = x.1 := by
  match i with
  | 0 => cases h; exact ⟨_, rfl, rfl⟩
  | 1 => cases h; exact ⟨_, rfl, rfl⟩
  | 2 => cases h; exact ⟨_, rfl, rfl⟩
  | 3 => cases h; exact ⟨_, rfl, rfl⟩
  | 4 => cases h; exact ⟨_, rfl, rfl⟩
  | 5 => cases h; exact ⟨_, rfl, rfl⟩
  | 6 => cases h; exact ⟨_, rfl, rfl⟩
  | 7 => cases h; exact ⟨_, rfl, rfl⟩
  | n + 8 => cases h
theorem tw_inA {G : gG} {a : tA} {v : tV} {i : Nat} {x : Nat × va_E} (h : (tw G a v)[i]? = some x) : inA a x.1 := by
  match i with
  | 0 => cases h; exact Or.inl rfl
  | 1 => cases h; exact Or.inr (Or.inl rfl)
  | 2 => cases h; exact Or.inr (Or.inr (Or.inl rfl))
  | 3 => cases h; exact Or.inr (Or.inr (Or.inr (Or.inl rfl)))
  | 4 => cases h; exact Or.inr (Or.inr (Or.inr (Or.inr (Or.inl rfl))))
  | 5 => cases h; exact Or.inr (Or.inr (Or.inr (Or.inr (Or.inr (Or.inl rfl)))))
  | 6 => cases h; exact Or.inr (Or.inr (Or.inr (Or.inr (Or.inr (Or.inr (Or.inl rfl))))))
  | 7 => cases h; exact Or.inr (Or.inr (Or.inr (Or.inr (Or.inr (Or.inr (Or.inr rfl))))))
  | n + 8 => cases h
theorem tD.of {G : gG} {a : tA} {v : tV} {A : Nat → Prop} (h : va_D A (tw G a v)) : tD a A := fun G' v' =>
  ⟨fun i j x y hi hj hxy => by
    obtain ⟨x', h1, h2⟩ := tw_fst (G' := G) (v' := v) hi
    obtain ⟨y', h3, h4⟩ := tw_fst (G' := G) (v' := v) hj
    exact h.1 i j x' y' h1 h3 (h2.trans (hxy.trans h4.symm)), fun k q hk => by
    obtain ⟨x', h1, h2⟩ := tw_fst (G' := G) (v' := v) hk
    rw [← h2]
    exact h.2 k x' h1⟩
theorem tD.self {a : tA} {A : Nat → Prop} (h : tD a A) : tD a (inA a) := fun G v => ⟨(h G v).1, fun _ _ hk => tw_inA hk⟩
theorem tD.weaken {a : tA} {A B : Nat → Prop} (h : tD a A) (hAB : ∀ q, inA a q → B q) : tD a B := fun G v => ⟨(h G v).1, fun _ _ hk => hAB _ (tw_inA hk)⟩
theorem tD.sub {a : tA} {A : Nat → Prop} (h : tD a A) : ∀ q, inA a q → A q := by
  intro q hq
  have h2 := (h ((fun _ => 0, fun _ _ => 0), 0, 0, 0, 0) ((0, 0, 0, 0), fun _ => 0, fun _ => 0, fun _ => 0, fun _ => 0, fun _ => 0, fun _ => 0, fun _ => 0)).2
  rcases hq with rfl | rfl | rfl | rfl | rfl | rfl | rfl | rfl
  · exact h2 0 _ rfl
  · exact h2 1 _ rfl
  · exact h2 2 _ rfl
  · exact h2 3 _ rfl
  · exact h2 4 _ rfl
  · exact h2 5 _ rfl
  · exact h2 6 _ rfl
  · exact h2 7 _ rfl
theorem tP.kept {G : gG} {a : tA} {v : tV} {H H1 : Heap} (h : tP G a v H) (hq : ∀ q, inA a q → H1[q]? = H[q]?) : tP G a v H1 := va_P.kept h (fun _ _ hk => hq _ (tw_inA hk))
theorem tP.lt {G : gG} {a : tA} {v : tV} {H : Heap} (h : tP G a v H) : ∀ q, inA a q → q < H.size := by
  intro q hq
  rcases hq with rfl | rfl | rfl | rfl | rfl | rfl | rfl | rfl
  · exact (h 0 _ rfl).lt
  · exact (h 1 _ rfl).lt
  · exact (h 2 _ rfl).lt
  · exact (h 3 _ rfl).lt
  · exact (h 4 _ rfl).lt
  · exact (h 5 _ rfl).lt
  · exact (h 6 _ rfl).lt
  · exact (h 7 _ rfl).lt
/-- a method's start over a MeldTree -/
def tPc (G : gG) (a : tA) (v : tV) (As : List Value) : Array Value → State → Prop := fun u U => u = (Value.ref (aH a) :: As).toArray ∧ tP G a v U.heap ∧ tD a (fun _ => True) ∧ gK G U
theorem tPc.blind {G : gG} {a : tA} {v : tV} {As : List Value} : FrameBlind (tPc G a v As) := fun _ U g mk q => ⟨q.1, q.2.1, q.2.2.1, q.2.2.2.moved (u := U) (U := U.calling g mk _) (Vm.Alike.refl U.vm)⟩
theorem tS.start {G : gG} {a : tA} {v : tV} {s : State} (hP : tP G a v s.heap) (hD : tD a (fun _ => True)) : tS G a (inA a) s.heap v s.heap [] := ⟨hP, hD.self, va_S.rf⟩
/-- read-only methods without an answer -/
def rQv : Array Value → State → Outcome → State → Prop := fun _ st o t => o = .returned none ∧ t.heap = st.heap
def rQl (r : Int64) : Array Value → State → Outcome → State → Prop := fun _ st o t => o = .returned (some (.long r)) ∧ t.heap = st.heap
/-- the words of a method: its code, and the tables -/
abbrev mw (y : MethodName) (cc : ByteArray) (maxL : Nat) (ret : Option FieldType) : List Cond := .code y cc maxL ret :: lw_t
theorem mw_good {y : MethodName} {cc : ByteArray} {maxL : Nat} {ret : Option FieldType} (h : Cond.code y cc maxL ret ∈ lw_t) : GoodIn lw_t (mw y cc maxL ret) := by
  intro w hw
  rcases List.mem_cons.mp hw with rfl | hw
  · exact ⟨h, lw_good _ h⟩
  · exact ⟨hw, lw_good _ hw⟩
/-- what a call asks of the tables -/
def tCall (y : MethodName) (bytes : ByteArray) (maxL : Nat) (ret : Option FieldType) (n : Nat) : Prop :=
  Cond.code y bytes maxL ret ∈ lw_t ∧ Cond.initialized y.cls ∈ lw_t ∧ (y.cls ≠ "java/lang/invoke/MethodHandle" ∧ y.cls ≠ "java/lang/invoke/VarHandle") ∧ (parseMethodDescriptor y.desc).map (fun d => d.parameters.length) = some n
abbrev roomOk (rm R : Room) (maxL mc ms : Nat) : Prop := rm.cells = mc ∧ rm.slots = ms ∧ rm.frames + 1 ≤ R.frames ∧ 8 + (maxL + 11) + rm.locals ≤ R.locals
abbrev rmS (f n : Nat) : Room := { frames := f, cells := 0, slots := 0, locals := n }
section M0
variable {l : Launch}
theorem m_ofW {y : MethodName} {own : String} {rm : Room} {Pc : Array Value → State → Prop} {Qc : Array Value → State → Outcome → State → Prop} {mc ms : Nat} {free : Addr → Prop} {cc : ByteArray} {maxL : Nat} {ret : Option FieldType}
    (hy : plainName y.cls = true) (ho : y.cls = own)
    (body : ∀ p e s m args below meth c, CallFix p m c cc maxL s args lw_t own → meth.sig.returnType = ret → meth.locks = false → c.exceptionTable.isEmpty = true → meth.name = y.name → Pc args s →
      W p l e rm s m args below meth c s.heap [] 0 0 (MQ below Qc args s mc ms free) (entryFrame m args maxL)) : Met l y (mw y cc maxL ret) rm Pc Qc mc ms free := by
  refine Met.ofW (cc := cc) (maxL := maxL) (ret := ret) hy rfl ?_
  intro p e s m args below meth c s₁ B hml hv
  have hts := atoms_spec (ws := mw y cc maxL ret) B.pre
  exact body p e s m args below meth c ⟨B.exec, B.bytes, hml, by rw [← ho]; exact findClass_of_methodNamed B.named, fun w h => hts w (List.mem_cons_of_mem _ h)⟩ B.returns B.notSynchronized (B.noHandlers (hts _ List.mem_cons_self)) (name_of_methodNamed B.named B.method).1 hv
end M0
section TR
variable {p : Program} {l : Launch} {e : Env} {R : Room} {s : State} {m : MethodId} {args : Array Value} {below : List Frame} {meth : Method} {c : Code} {H : Heap} {locs : List Loc} {cells slots : Nat} {Q : State → Prop}
variable {cc : ByteArray} {nL : Nat} {pc : Nat} {ls : Array Slot} {rest : List Value} {own : String}
theorem m_entry (vs : List Value) {n : Nat} (h : (lg_sl vs).length ≤ n) (k : ∀ ls, lv_has ls n (lv_args 0 vs) → W p l e R s m args below meth c H locs cells slots Q (F0 m 0 ls [])) : W p l e R s m args below meth c H locs cells slots Q (entryFrame m vs.toArray n) := by
  rw [lg_entry_eq]
  exact k _ (lv_entry vs h)
theorem n_iadd (S : CallFix p m c cc nL s args lw_t own) {x y : Nat} (hdg : decode cc pc = .ok (.iadd, 1)) (k : W p l e R s m args below meth c H locs cells slots Q (F0 m (pc + 1) ls (.int (nI (x + y)) :: rest))) : W p l e R s m args below meth c H locs cells slots Q (F0 m pc ls (.int (nI y) :: .int (nI x) :: rest)) :=
  lv_iadd S.1 S.2.1 hdg (by rw [nI_add]; exact k)
theorem n_isub (S : CallFix p m c cc nL s args lw_t own) {x y : Nat} (h : y ≤ x) (hdg : decode cc pc = .ok (.isub, 1)) (k : W p l e R s m args below meth c H locs cells slots Q (F0 m (pc + 1) ls (.int (nI (x - y)) :: rest))) : W p l e R s m args below meth c H locs cells slots Q (F0 m pc ls (.int (nI y) :: .int (nI x) :: rest)) :=
  lv_isub S.1 S.2.1 hdg (by rw [pk_sub h]; exact k)
theorem n_imul (S : CallFix p m c cc nL s args lw_t own) {x y : Nat} (hdg : decode cc pc = .ok (.imul, 1)) (k : W p l e R s m args below meth c H locs cells slots Q (F0 m (pc + 1) ls (.int (nI (x * y)) :: rest))) : W p l e R s m args below meth c H locs cells slots Q (F0 m pc ls (.int (nI y) :: .int (nI x) :: rest)) :=
  lv_imul S.1 S.2.1 hdg (by rw [pk_mul]; exact k)
theorem nb_eq (S : CallFix p m c cc nL s args lw_t own) {x y : Nat} {off : Int} {tgt : Nat} (hx : x < 2 ^ 31) (hy : y < 2 ^ 31) (hdg : decode cc pc = .ok (.if_icmp .eq off, 3)) (ht : (pc : Int) + off = (tgt : Int)) (kt : x = y → W p l e R s m args below meth c H locs cells slots Q (F0 m tgt ls rest)) (kf : x ≠ y → W p l e R s m args below meth c H locs cells slots Q (F0 m (pc + 3) ls rest)) : W p l e R s m args below meth c H locs cells slots Q (F0 m pc ls (.int (nI y) :: .int (nI x) :: rest)) :=
  lv_icmp_eq S.1 S.2.1 hdg ht (fun h => kt ((nI_eq hx hy).mp h)) (fun h => kf (fun q => h ((nI_eq hx hy).mpr q)))
theorem nb_ne (S : CallFix p m c cc nL s args lw_t own) {x y : Nat} {off : Int} {tgt : Nat} (hx : x < 2 ^ 31) (hy : y < 2 ^ 31) (hdg : decode cc pc = .ok (.if_icmp .ne off, 3)) (ht : (pc : Int) + off = (tgt : Int)) (kt : x ≠ y → W p l e R s m args below meth c H locs cells slots Q (F0 m tgt ls rest)) (kf : x = y → W p l e R s m args below meth c H locs cells slots Q (F0 m (pc + 3) ls rest)) : W p l e R s m args below meth c H locs cells slots Q (F0 m pc ls (.int (nI y) :: .int (nI x) :: rest)) :=
  lv_icmp_ne S.1 S.2.1 hdg ht (fun h => kt (fun q => h ((nI_eq hx hy).mpr q))) (fun h => kf ((nI_eq hx hy).mp h))
theorem nb_lt (S : CallFix p m c cc nL s args lw_t own) {x y : Nat} {off : Int} {tgt : Nat} (hx : x < 2 ^ 31) (hy : y < 2 ^ 31) (hdg : decode cc pc = .ok (.if_icmp .lt off, 3)) (ht : (pc : Int) + off = (tgt : Int)) (kt : x < y → W p l e R s m args below meth c H locs cells slots Q (F0 m tgt ls rest)) (kf : y ≤ x → W p l e R s m args below meth c H locs cells slots Q (F0 m (pc + 3) ls rest)) : W p l e R s m args below meth c H locs cells slots Q (F0 m pc ls (.int (nI y) :: .int (nI x) :: rest)) :=
  lv_icmp_lt S.1 S.2.1 hdg ht (fun h => kt ((nI_ltI hx hy).mp h)) (fun h => kf (Nat.le_of_not_lt (fun q => h ((nI_ltI hx hy).mpr q))))
theorem nb_ge (S : CallFix p m c cc nL s args lw_t own) {x y : Nat} {off : Int} {tgt : Nat} (hx : x < 2 ^ 31) (hy : y < 2 ^ 31) (hdg : decode cc pc = .ok (.if_icmp .ge off, 3)) (ht : (pc : Int) + off = (tgt : Int)) (kt : y ≤ x → W p l e R s m args below meth c H locs cells slots Q (F0 m tgt ls rest)) (kf : x < y → W p l e R s m args below meth c H locs cells slots Q (F0 m (pc + 3) ls rest)) : W p l e R s m args below meth c H locs cells slots Q (F0 m pc ls (.int (nI y) :: .int (nI x) :: rest)) :=
  lv_icmp_ge S.1 S.2.1 hdg ht (fun h => kt ((nI_leI hy hx).mp h)) (fun h => kf (Nat.lt_of_not_le (fun q => h ((nI_leI hy hx).mpr q))))
theorem nb_gt (S : CallFix p m c cc nL s args lw_t own) {x y : Nat} {off : Int} {tgt : Nat} (hx : x < 2 ^ 31) (hy : y < 2 ^ 31) (hdg : decode cc pc = .ok (.if_icmp .gt off, 3)) (ht : (pc : Int) + off = (tgt : Int)) (kt : y < x → W p l e R s m args below meth c H locs cells slots Q (F0 m tgt ls rest)) (kf : x ≤ y → W p l e R s m args below meth c H locs cells slots Q (F0 m (pc + 3) ls rest)) : W p l e R s m args below meth c H locs cells slots Q (F0 m pc ls (.int (nI y) :: .int (nI x) :: rest)) :=
  lv_icmp_gt S.1 S.2.1 hdg ht (fun h => kt ((nI_ltI hy hx).mp h)) (fun h => kf (Nat.le_of_not_lt (fun q => h ((nI_ltI hy hx).mpr q))))
theorem nb_le (S : CallFix p m c cc nL s args lw_t own) {x y : Nat} {off : Int} {tgt : Nat} (hx : x < 2 ^ 31) (hy : y < 2 ^ 31) (hdg : decode cc pc = .ok (.if_icmp .le off, 3)) (ht : (pc : Int) + off = (tgt : Int)) (kt : x ≤ y → W p l e R s m args below meth c H locs cells slots Q (F0 m tgt ls rest)) (kf : y < x → W p l e R s m args below meth c H locs cells slots Q (F0 m (pc + 3) ls rest)) : W p l e R s m args below meth c H locs cells slots Q (F0 m pc ls (.int (nI y) :: .int (nI x) :: rest)) :=
  lv_icmp_le S.1 S.2.1 hdg ht (fun h => kt ((nI_leI hx hy).mp h)) (fun h => kf (Nat.lt_of_not_le (fun q => h ((nI_leI hx hy).mpr q))))
theorem nz_eq (S : CallFix p m c cc nL s args lw_t own) {x : Nat} {off : Int} {tgt : Nat} (hx : x < 2 ^ 31) (hdg : decode cc pc = .ok (.ifCond .eq off, 3)) (ht : (pc : Int) + off = (tgt : Int)) (kt : x = 0 → W p l e R s m args below meth c H locs cells slots Q (F0 m tgt ls rest)) (kf : x ≠ 0 → W p l e R s m args below meth c H locs cells slots Q (F0 m (pc + 3) ls rest)) : W p l e R s m args below meth c H locs cells slots Q (F0 m pc ls (.int (nI x) :: rest)) :=
  lv_if_eq S.1 S.2.1 hdg ht (fun h => kt ((nI_eq hx (by decide)).mp (h.trans nI_0.symm))) (fun h => kf (fun q => h (by rw [q]; exact nI_0)))
theorem nz_ne (S : CallFix p m c cc nL s args lw_t own) {x : Nat} {off : Int} {tgt : Nat} (hx : x < 2 ^ 31) (hdg : decode cc pc = .ok (.ifCond .ne off, 3)) (ht : (pc : Int) + off = (tgt : Int)) (kt : x ≠ 0 → W p l e R s m args below meth c H locs cells slots Q (F0 m tgt ls rest)) (kf : x = 0 → W p l e R s m args below meth c H locs cells slots Q (F0 m (pc + 3) ls rest)) : W p l e R s m args below meth c H locs cells slots Q (F0 m pc ls (.int (nI x) :: rest)) :=
  lv_if_ne S.1 S.2.1 hdg ht (fun h => kt (fun q => h (by rw [q]; exact nI_0))) (fun h => kf ((nI_eq hx (by decide)).mp (h.trans nI_0.symm)))
end TR
end
section
theorem nI_s16 {x : Nat} (h : x < 32768) : (nI x).toInt16.toInt32 = nI x := by
  apply Int32.toInt_inj.mp
  rw [Int16.toInt_toInt32, Int32.toInt_toInt16, nI_toInt (by omega)]
  exact Int.bmod_eq_of_le (by omega) (by omega)
section TW
variable {p : Program} {l : Launch} {e : Env} {R : Room} {s : State} {m : MethodId} {args : Array Value} {below : List Frame} {meth : Method} {c : Code} {H : Heap} {locs : List Loc} {cells slots : Nat} {Q : State → Prop}
variable {cc : ByteArray} {nL : Nat} {pc : Nat} {ls : Array Slot} {rest : List Value} {own : String} {G : gG} {a : tA} {v : tV} {A : Nat → Prop} {H0 : Heap}
theorem t_gf (S : CallFix p m c cc nL s args lw_t R_T) (hK : gK G s) (hP : tP G a v H) {index : Nat} (k : Nat) (hk : k < 11) (hl : Cond.fieldLink R_T index R_T (F_T k).2.1 (F_T k).2.2.1 ∈ lw_t) (ho : (F_T k).1 = R_T) {x : Value} (hx : (tfs a v)[k]? = some x) (hdg : decode cc pc = .ok (.getfield index, 3)) (kk : W p l e R s m args below meth c H locs cells slots Q (F0 m (pc + 3) ls (x :: rest))) : W p l e R s m args below meth c H locs cells slots Q (F0 m pc ls (.ref (aH a) :: rest)) :=
  va_get (D := G.1) (cl := cls2) (ci := 0) (T := F_T) (C := R_T) (N := 11) S.1 S.2.1 S.2.2.2.2 u_T_in S.2.2.2.1 hK hP 0 rfl rfl k hk (S.2.2.2.2 _ hl) (fun _ h9 => by rw [ho] at h9; exact h9) hx hdg kk
theorem t_gO (S : CallFix p m c cc nL s args lw_t R_T) (hK : gK G s) (hP : tP G a v H) (hdg : decode cc pc = .ok (.getfield 7, 3)) (kk : W p l e R s m args below meth c H locs cells slots Q (F0 m (pc + 3) ls (.ref (aO a) :: rest))) : W p l e R s m args below meth c H locs cells slots Q (F0 m pc ls (.ref (aH a) :: rest)) :=
  t_gf S hK hP 0 (by decide) wF_T_7 rfl rfl hdg kk
theorem t_gVer (S : CallFix p m c cc nL s args lw_t R_T) (hK : gK G s) (hP : tP G a v H) (hdg : decode cc pc = .ok (.getfield 13, 3)) (kk : W p l e R s m args below meth c H locs cells slots Q (F0 m (pc + 3) ls (.int (nI (vVer v)) :: rest))) : W p l e R s m args below meth c H locs cells slots Q (F0 m pc ls (.ref (aH a) :: rest)) :=
  t_gf S hK hP 1 (by decide) wF_T_13 rfl rfl hdg kk
theorem t_gL (S : CallFix p m c cc nL s args lw_t R_T) (hK : gK G s) (hP : tP G a v H) (hdg : decode cc pc = .ok (.getfield 18, 3)) (kk : W p l e R s m args below meth c H locs cells slots Q (F0 m (pc + 3) ls (.ref (aL a) :: rest))) : W p l e R s m args below meth c H locs cells slots Q (F0 m pc ls (.ref (aH a) :: rest)) :=
  t_gf S hK hP 2 (by decide) wF_T_18 rfl rfl hdg kk
theorem t_gR (S : CallFix p m c cc nL s args lw_t R_T) (hK : gK G s) (hP : tP G a v H) (hdg : decode cc pc = .ok (.getfield 21, 3)) (kk : W p l e R s m args below meth c H locs cells slots Q (F0 m (pc + 3) ls (.ref (aR a) :: rest))) : W p l e R s m args below meth c H locs cells slots Q (F0 m pc ls (.ref (aH a) :: rest)) :=
  t_gf S hK hP 3 (by decide) wF_T_21 rfl rfl hdg kk
theorem t_gK (S : CallFix p m c cc nL s args lw_t R_T) (hK : gK G s) (hP : tP G a v H) (hdg : decode cc pc = .ok (.getfield 24, 3)) (kk : W p l e R s m args below meth c H locs cells slots Q (F0 m (pc + 3) ls (.ref (aK a) :: rest))) : W p l e R s m args below meth c H locs cells slots Q (F0 m pc ls (.ref (aH a) :: rest)) :=
  t_gf S hK hP 4 (by decide) wF_T_24 rfl rfl hdg kk
theorem t_gV (S : CallFix p m c cc nL s args lw_t R_T) (hK : gK G s) (hP : tP G a v H) (hdg : decode cc pc = .ok (.getfield 28, 3)) (kk : W p l e R s m args below meth c H locs cells slots Q (F0 m (pc + 3) ls (.ref (aV a) :: rest))) : W p l e R s m args below meth c H locs cells slots Q (F0 m pc ls (.ref (aH a) :: rest)) :=
  t_gf S hK hP 5 (by decide) wF_T_28 rfl rfl hdg kk
theorem t_gS (S : CallFix p m c cc nL s args lw_t R_T) (hK : gK G s) (hP : tP G a v H) (hdg : decode cc pc = .ok (.getfield 31, 3)) (kk : W p l e R s m args below meth c H locs cells slots Q (F0 m (pc + 3) ls (.ref (aS a) :: rest))) : W p l e R s m args below meth c H locs cells slots Q (F0 m pc ls (.ref (aH a) :: rest)) :=
  t_gf S hK hP 6 (by decide) wF_T_31 rfl rfl hdg kk
theorem t_gT (S : CallFix p m c cc nL s args lw_t R_T) (hK : gK G s) (hP : tP G a v H) (hdg : decode cc pc = .ok (.getfield 34, 3)) (kk : W p l e R s m args below meth c H locs cells slots Q (F0 m (pc + 3) ls (.ref (aT a) :: rest))) : W p l e R s m args below meth c H locs cells slots Q (F0 m pc ls (.ref (aH a) :: rest)) :=
  t_gf S hK hP 7 (by decide) wF_T_34 rfl rfl hdg kk
theorem t_gNod (S : CallFix p m c cc nL s args lw_t R_T) (hK : gK G s) (hP : tP G a v H) (hdg : decode cc pc = .ok (.getfield 38, 3)) (kk : W p l e R s m args below meth c H locs cells slots Q (F0 m (pc + 3) ls (.int (nI (vNod v)) :: rest))) : W p l e R s m args below meth c H locs cells slots Q (F0 m pc ls (.ref (aH a) :: rest)) :=
  t_gf S hK hP 8 (by decide) wF_T_38 rfl rfl hdg kk
theorem t_gPas (S : CallFix p m c cc nL s args lw_t R_T) (hK : gK G s) (hP : tP G a v H) (hdg : decode cc pc = .ok (.getfield 88, 3)) (kk : W p l e R s m args below meth c H locs cells slots Q (F0 m (pc + 3) ls (.int (nI (vPas v)) :: rest))) : W p l e R s m args below meth c H locs cells slots Q (F0 m pc ls (.ref (aH a) :: rest)) :=
  t_gf S hK hP 9 (by decide) wF_T_88 rfl rfl hdg kk
theorem t_gSum (S : CallFix p m c cc nL s args lw_t R_T) (hK : gK G s) (hP : tP G a v H) (hdg : decode cc pc = .ok (.getfield 91, 3)) (kk : W p l e R s m args below meth c H locs cells slots Q (F0 m (pc + 3) ls (.long (vSum v) :: rest))) : W p l e R s m args below meth c H locs cells slots Q (F0 m pc ls (.ref (aH a) :: rest)) :=
  t_gf S hK hP 10 (by decide) wF_T_91 rfl rfl hdg kk
theorem t_pf (S : CallFix p m c cc nL s args lw_t R_T) (hK : gK G s) (hw : tS G a A H0 v H locs) {index : Nat} (k : Nat) (hk : k < 11) (hl : Cond.fieldLink R_T index R_T (F_T k).2.1 (F_T k).2.2.1 ∈ lw_t) (ho : (F_T k).1 = R_T) (hfin : (F_T k).2.2.2 = false) {x : Value} {ty : FieldType} (hd : parseFieldDescriptor (F_T k).2.2.1 = some ty) (hn : narrow ty x = x) (hfit : fits ty x = true) {v' : tV} (hv : (tw G a v).set 0 (aH a, .inr (0, (tfs a v).set k x)) = tw G a v') (hdg : decode cc pc = .ok (.putfield index, 3)) (kk : ∀ H1 locs1, tS G a A H0 v' H1 locs1 → W p l e R s m args below meth c H1 locs1 cells slots Q (F0 m (pc + 3) ls rest)) : W p l e R s m args below meth c H locs cells slots Q (F0 m pc ls (x :: .ref (aH a) :: rest)) :=
  va_put (D := G.1) (cl := cls2) (ci := 0) (T := F_T) (C := R_T) (N := 11) S.1 S.2.1 S.2.2.2.2 u_T_in ty_T ty_T_ok n_T S.2.2.2.1 hK hw.1 (hw.2.1 G v) hw.2.2 0 rfl rfl k hk (S.2.2.2.2 _ hl) (fun _ h9 => by rw [ho] at h9; exact h9) hfin hd hn hfit hk hdg (fun H1 locs1 h1 h2 h3 => kk H1 locs1 ⟨by rw [hv] at h1; exact h1, hw.2.1, h3⟩)
theorem t_pVer (S : CallFix p m c cc nL s args lw_t R_T) (hK : gK G s) (hw : tS G a A H0 v H locs) {x : Nat} (hdg : decode cc pc = .ok (.putfield 13, 3)) (kk : ∀ H1 locs1, tS G a A H0 (wVer v x) H1 locs1 → W p l e R s m args below meth c H1 locs1 cells slots Q (F0 m (pc + 3) ls rest)) : W p l e R s m args below meth c H locs cells slots Q (F0 m pc ls (.int (nI x) :: .ref (aH a) :: rest)) :=
  t_pf S hK hw 1 (by decide) wF_T_13 rfl rfl (ty := .int) (by decide +kernel) rfl rfl rfl hdg kk
theorem t_pNod (S : CallFix p m c cc nL s args lw_t R_T) (hK : gK G s) (hw : tS G a A H0 v H locs) {x : Nat} (hdg : decode cc pc = .ok (.putfield 38, 3)) (kk : ∀ H1 locs1, tS G a A H0 (wNod v x) H1 locs1 → W p l e R s m args below meth c H1 locs1 cells slots Q (F0 m (pc + 3) ls rest)) : W p l e R s m args below meth c H locs cells slots Q (F0 m pc ls (.int (nI x) :: .ref (aH a) :: rest)) :=
  t_pf S hK hw 8 (by decide) wF_T_38 rfl rfl (ty := .int) (by decide +kernel) rfl rfl rfl hdg kk
theorem t_pPas (S : CallFix p m c cc nL s args lw_t R_T) (hK : gK G s) (hw : tS G a A H0 v H locs) {x : Nat} (hdg : decode cc pc = .ok (.putfield 88, 3)) (kk : ∀ H1 locs1, tS G a A H0 (wPas v x) H1 locs1 → W p l e R s m args below meth c H1 locs1 cells slots Q (F0 m (pc + 3) ls rest)) : W p l e R s m args below meth c H locs cells slots Q (F0 m pc ls (.int (nI x) :: .ref (aH a) :: rest)) :=
  t_pf S hK hw 9 (by decide) wF_T_88 rfl rfl (ty := .int) (by decide +kernel) rfl rfl rfl hdg kk
theorem t_pSum (S : CallFix p m c cc nL s args lw_t R_T) (hK : gK G s) (hw : tS G a A H0 v H locs) {x : Int64} (hdg : decode cc pc = .ok (.putfield 91, 3)) (kk : ∀ H1 locs1, tS G a A H0 (wSum v x) H1 locs1 → W p l e R s m args below meth c H1 locs1 cells slots Q (F0 m (pc + 3) ls rest)) : W p l e R s m args below meth c H locs cells slots Q (F0 m pc ls (.long x :: .ref (aH a) :: rest)) :=
  t_pf S hK hw 10 (by decide) wF_T_91 rfl rfl (ty := .long) (by decide +kernel) rfl rfl rfl hdg kk
theorem t_iO (S : CallFix p m c cc nL s args lw_t R_T) (hK : gK G s) (hP : tP G a v H) {j : Nat} (hj : j < 600) (hdg : decode cc pc = .ok (.iaload, 1)) (kk : W p l e R s m args below meth c H locs cells slots Q (F0 m (pc + 1) ls (.int (nI (vO v j)) :: rest))) : W p l e R s m args below meth c H locs cells slots Q (F0 m pc ls (.int (nI j) :: .ref (aO a) :: rest)) :=
  va_iald (D := G.1) (cl := cls2) S.1 S.2.1 hK hP 1 0 rfl rfl (vp_in_nI hj (by decide)) hdg (by rw [nI_clamp (Nat.lt_trans hj (by decide))]; exact kk)
theorem t_iL (S : CallFix p m c cc nL s args lw_t R_T) (hK : gK G s) (hP : tP G a v H) {j : Nat} (hj : j < 80000) (hdg : decode cc pc = .ok (.iaload, 1)) (kk : W p l e R s m args below meth c H locs cells slots Q (F0 m (pc + 1) ls (.int (nI (vL v j)) :: rest))) : W p l e R s m args below meth c H locs cells slots Q (F0 m pc ls (.int (nI j) :: .ref (aL a) :: rest)) :=
  va_iald (D := G.1) (cl := cls2) S.1 S.2.1 hK hP 2 0 rfl rfl (vp_in_nI hj (by decide)) hdg (by rw [nI_clamp (Nat.lt_trans hj (by decide))]; exact kk)
theorem t_iR (S : CallFix p m c cc nL s args lw_t R_T) (hK : gK G s) (hP : tP G a v H) {j : Nat} (hj : j < 80000) (hdg : decode cc pc = .ok (.iaload, 1)) (kk : W p l e R s m args below meth c H locs cells slots Q (F0 m (pc + 1) ls (.int (nI (vR v j)) :: rest))) : W p l e R s m args below meth c H locs cells slots Q (F0 m pc ls (.int (nI j) :: .ref (aR a) :: rest)) :=
  va_iald (D := G.1) (cl := cls2) S.1 S.2.1 hK hP 3 0 rfl rfl (vp_in_nI hj (by decide)) hdg (by rw [nI_clamp (Nat.lt_trans hj (by decide))]; exact kk)
theorem t_iK (S : CallFix p m c cc nL s args lw_t R_T) (hK : gK G s) (hP : tP G a v H) {j : Nat} (hj : j < 80000) (hdg : decode cc pc = .ok (.saload, 1)) (kk : W p l e R s m args below meth c H locs cells slots Q (F0 m (pc + 1) ls (.int (nI (vK v j)) :: rest))) : W p l e R s m args below meth c H locs cells slots Q (F0 m pc ls (.int (nI j) :: .ref (aK a) :: rest)) :=
  va_sald (D := G.1) (cl := cls2) S.1 S.2.1 hK hP 4 1 rfl rfl (vp_in_nI hj (by decide)) hdg (by rw [nI_clamp (Nat.lt_trans hj (by decide))]; exact kk)
theorem t_iV (S : CallFix p m c cc nL s args lw_t R_T) (hK : gK G s) (hP : tP G a v H) {j : Nat} (hj : j < 80000) (hdg : decode cc pc = .ok (.iaload, 1)) (kk : W p l e R s m args below meth c H locs cells slots Q (F0 m (pc + 1) ls (.int (vV v j) :: rest))) : W p l e R s m args below meth c H locs cells slots Q (F0 m pc ls (.int (nI j) :: .ref (aV a) :: rest)) :=
  va_iald (D := G.1) (cl := cls2) S.1 S.2.1 hK hP 5 0 rfl rfl (vp_in_nI hj (by decide)) hdg (by rw [nI_clamp (Nat.lt_trans hj (by decide))]; exact kk)
theorem t_iS (S : CallFix p m c cc nL s args lw_t R_T) (hK : gK G s) (hP : tP G a v H) {j : Nat} (hj : j < 80000) (hdg : decode cc pc = .ok (.saload, 1)) (kk : W p l e R s m args below meth c H locs cells slots Q (F0 m (pc + 1) ls (.int (nI (vS v j)) :: rest))) : W p l e R s m args below meth c H locs cells slots Q (F0 m pc ls (.int (nI j) :: .ref (aS a) :: rest)) :=
  va_sald (D := G.1) (cl := cls2) S.1 S.2.1 hK hP 6 1 rfl rfl (vp_in_nI hj (by decide)) hdg (by rw [nI_clamp (Nat.lt_trans hj (by decide))]; exact kk)
theorem t_iT (S : CallFix p m c cc nL s args lw_t R_T) (hK : gK G s) (hP : tP G a v H) {j : Nat} (hj : j < 80000) (hdg : decode cc pc = .ok (.laload, 1)) (kk : W p l e R s m args below meth c H locs cells slots Q (F0 m (pc + 1) ls (.long (vT v j) :: rest))) : W p l e R s m args below meth c H locs cells slots Q (F0 m pc ls (.int (nI j) :: .ref (aT a) :: rest)) :=
  va_lald (D := G.1) (cl := cls2) S.1 S.2.1 hK hP 7 2 rfl rfl (vp_in_nI hj (by decide)) hdg (by rw [nI_clamp (Nat.lt_trans hj (by decide))]; exact kk)
theorem t_sO (S : CallFix p m c cc nL s args lw_t R_T) (hK : gK G s) (hw : tS G a A H0 v H locs) {j : Nat} {x : Nat} (hj : j < 600) (hdg : decode cc pc = .ok (.iastore, 1)) (kk : ∀ H1 locs1, tS G a A H0 (wO v (up (vO v) j x)) H1 locs1 → W p l e R s m args below meth c H1 locs1 cells slots Q (F0 m (pc + 1) ls rest)) : W p l e R s m args below meth c H locs cells slots Q (F0 m pc ls (.int (nI x) :: .int (nI j) :: .ref (aO a) :: rest)) :=
  va_iast (D := G.1) (cl := cls2) S.1 S.2.1 hK hw.1 (hw.2.1 G v) hw.2.2 1 0 rfl rfl (vp_in_nI hj (by decide)) hdg (fun H1 locs1 h1 h2 h3 => kk H1 locs1 ⟨by rw [nI_clamp (Nat.lt_trans hj (by decide)), upd_up] at h1; exact h1, hw.2.1, h3⟩)
theorem t_sL (S : CallFix p m c cc nL s args lw_t R_T) (hK : gK G s) (hw : tS G a A H0 v H locs) {j : Nat} {x : Nat} (hj : j < 80000) (hdg : decode cc pc = .ok (.iastore, 1)) (kk : ∀ H1 locs1, tS G a A H0 (wL v (up (vL v) j x)) H1 locs1 → W p l e R s m args below meth c H1 locs1 cells slots Q (F0 m (pc + 1) ls rest)) : W p l e R s m args below meth c H locs cells slots Q (F0 m pc ls (.int (nI x) :: .int (nI j) :: .ref (aL a) :: rest)) :=
  va_iast (D := G.1) (cl := cls2) S.1 S.2.1 hK hw.1 (hw.2.1 G v) hw.2.2 2 0 rfl rfl (vp_in_nI hj (by decide)) hdg (fun H1 locs1 h1 h2 h3 => kk H1 locs1 ⟨by rw [nI_clamp (Nat.lt_trans hj (by decide)), upd_up] at h1; exact h1, hw.2.1, h3⟩)
theorem t_sR (S : CallFix p m c cc nL s args lw_t R_T) (hK : gK G s) (hw : tS G a A H0 v H locs) {j : Nat} {x : Nat} (hj : j < 80000) (hdg : decode cc pc = .ok (.iastore, 1)) (kk : ∀ H1 locs1, tS G a A H0 (wR v (up (vR v) j x)) H1 locs1 → W p l e R s m args below meth c H1 locs1 cells slots Q (F0 m (pc + 1) ls rest)) : W p l e R s m args below meth c H locs cells slots Q (F0 m pc ls (.int (nI x) :: .int (nI j) :: .ref (aR a) :: rest)) :=
  va_iast (D := G.1) (cl := cls2) S.1 S.2.1 hK hw.1 (hw.2.1 G v) hw.2.2 3 0 rfl rfl (vp_in_nI hj (by decide)) hdg (fun H1 locs1 h1 h2 h3 => kk H1 locs1 ⟨by rw [nI_clamp (Nat.lt_trans hj (by decide)), upd_up] at h1; exact h1, hw.2.1, h3⟩)
theorem t_sK (S : CallFix p m c cc nL s args lw_t R_T) (hK : gK G s) (hw : tS G a A H0 v H locs) {j : Nat} {x : Nat} (hj : j < 80000) (hx : x < 32768) (hdg : decode cc pc = .ok (.sastore, 1)) (kk : ∀ H1 locs1, tS G a A H0 (wK v (up (vK v) j x)) H1 locs1 → W p l e R s m args below meth c H1 locs1 cells slots Q (F0 m (pc + 1) ls rest)) : W p l e R s m args below meth c H locs cells slots Q (F0 m pc ls (.int (nI x) :: .int (nI j) :: .ref (aK a) :: rest)) :=
  va_sast (D := G.1) (cl := cls2) S.1 S.2.1 hK hw.1 (hw.2.1 G v) hw.2.2 4 1 rfl rfl (vp_in_nI hj (by decide)) hdg (fun H1 locs1 h1 h2 h3 => kk H1 locs1 ⟨by rw [nI_clamp (Nat.lt_trans hj (by decide)), vp_nar_short, nI_s16 hx, upd_up] at h1; exact h1, hw.2.1, h3⟩)
theorem t_sV (S : CallFix p m c cc nL s args lw_t R_T) (hK : gK G s) (hw : tS G a A H0 v H locs) {j : Nat} {x : Int32} (hj : j < 80000) (hdg : decode cc pc = .ok (.iastore, 1)) (kk : ∀ H1 locs1, tS G a A H0 (wV v (up (vV v) j x)) H1 locs1 → W p l e R s m args below meth c H1 locs1 cells slots Q (F0 m (pc + 1) ls rest)) : W p l e R s m args below meth c H locs cells slots Q (F0 m pc ls (.int x :: .int (nI j) :: .ref (aV a) :: rest)) :=
  va_iast (D := G.1) (cl := cls2) S.1 S.2.1 hK hw.1 (hw.2.1 G v) hw.2.2 5 0 rfl rfl (vp_in_nI hj (by decide)) hdg (fun H1 locs1 h1 h2 h3 => kk H1 locs1 ⟨by rw [nI_clamp (Nat.lt_trans hj (by decide))] at h1; exact h1, hw.2.1, h3⟩)
theorem t_sS (S : CallFix p m c cc nL s args lw_t R_T) (hK : gK G s) (hw : tS G a A H0 v H locs) {j : Nat} {x : Nat} (hj : j < 80000) (hx : x < 32768) (hdg : decode cc pc = .ok (.sastore, 1)) (kk : ∀ H1 locs1, tS G a A H0 (wS v (up (vS v) j x)) H1 locs1 → W p l e R s m args below meth c H1 locs1 cells slots Q (F0 m (pc + 1) ls rest)) : W p l e R s m args below meth c H locs cells slots Q (F0 m pc ls (.int (nI x) :: .int (nI j) :: .ref (aS a) :: rest)) :=
  va_sast (D := G.1) (cl := cls2) S.1 S.2.1 hK hw.1 (hw.2.1 G v) hw.2.2 6 1 rfl rfl (vp_in_nI hj (by decide)) hdg (fun H1 locs1 h1 h2 h3 => kk H1 locs1 ⟨by rw [nI_clamp (Nat.lt_trans hj (by decide)), vp_nar_short, nI_s16 hx, upd_up] at h1; exact h1, hw.2.1, h3⟩)
theorem t_sT (S : CallFix p m c cc nL s args lw_t R_T) (hK : gK G s) (hw : tS G a A H0 v H locs) {j : Nat} {x : Int64} (hj : j < 80000) (hdg : decode cc pc = .ok (.lastore, 1)) (kk : ∀ H1 locs1, tS G a A H0 (wT v (up (vT v) j x)) H1 locs1 → W p l e R s m args below meth c H1 locs1 cells slots Q (F0 m (pc + 1) ls rest)) : W p l e R s m args below meth c H locs cells slots Q (F0 m pc ls (.long x :: .int (nI j) :: .ref (aT a) :: rest)) :=
  va_last (D := G.1) (cl := cls2) S.1 S.2.1 hK hw.1 (hw.2.1 G v) hw.2.2 7 2 rfl rfl (vp_in_nI hj (by decide)) hdg (fun H1 locs1 h1 h2 h3 => kk H1 locs1 ⟨by rw [nI_clamp (Nat.lt_trans hj (by decide))] at h1; exact h1, hw.2.1, h3⟩)
end TW
section TC
variable {p : Program} {l : Launch} {e : Env} {R : Room} {s : State} {m : MethodId} {args : Array Value} {below : List Frame} {meth : Method} {c : Code} {H : Heap} {locs : List Loc} {cells slots : Nat} {Q : State → Prop}
variable {cc : ByteArray} {nL : Nat} {pc : Nat} {ls : Array Slot} {rest : List Value} {own : String} {G : gG} {a : tA} {v : tV} {A : Nat → Prop} {H0 : Heap}
variable {y : MethodName} {bytes : ByteArray} {maxL n index mc ms : Nat} {ret : Option FieldType} {rm : Room} {Pc : Array Value → State → Prop} {Qc : Array Value → State → Outcome → State → Prop} {free : Addr → Prop} {As st0 : List Value} {b : Nat}
theorem m_callB (S : CallFix p m c cc nL s args lw_t own) (C : tCall y bytes maxL ret n) (hl : Cond.methodLink own index y ∈ lw_t) (hr : roomOk rm R maxL mc ms) : CallB R s args own index y bytes maxL ret (mw y bytes maxL ret) rm mc ms n := by
  refine ⟨hr.1, hr.2.1, hr.2.2.1, hr.2.2.2, pay_in S.2.2.2.2 (mw_good C.1), List.mem_cons_self, S.2.2.2.2 _ C.1, S.2.2.2.2 _ C.2.1, C.2.2.1, fun sig h => ?_, S.2.2.2.2 _ hl⟩
  have h2 := C.2.2.2
  rw [h] at h2
  exact (Option.some.inj h2).symm
theorem t_recv (hK : gK G s) (hP : tP G a v H) : ∃ cellB : Cell, H[aH a]? = some cellB ∧ cellB.vm.isStatics = false ∧ s.vm.findClass R_T = some cellB.cls := va_recv (ci := 0) (q := (R_T, F_T, 11)) (q0 := 0) hK hP rfl rfl
theorem t_pre (hK : gK G s) (hP : tP G a v H) (hD : tD a A) : PreV s H R_T (aH a) (tPc G a v As) As :=
  ⟨tPc.blind, t_recv hK hP, fun U hU hW => ⟨rfl, by rw [hU]; exact hP, hD.weaken (fun _ _ => trivial), hK.moved hW.alike⟩⟩
/-- a virtual call of a MeldTree's method -/
theorem t_run (S : CallFix p m c cc nL s args lw_t own) (hp : PreV s H R_T b Pc As) (C : tCall y bytes maxL ret n) (hi : Cond.instanceMethod y ∈ lw_t) (hs : Cond.selects R_T y y ∈ lw_t) (hl : Cond.methodLink own index y ∈ lw_t) (hM : Met l y (mw y bytes maxL ret) rm Pc Qc mc ms free) (hr : roomOk rm R maxL mc ms) (hn : As.length = n) (hsz : ls.size = nL) (hst : st0 = As.reverse ++ .ref b :: rest) (hW : (rest.map fun v => v.category).sum ≤ 8) (hdg : decode cc pc = .ok (.invokevirtual index, 3)) (hf : cells + mc ≤ R.cells ∧ slots + ms ≤ R.slots) :
    va_Run p l e R s m args below meth c H locs cells slots mc ms (F0 m pc ls st0) rest (Qc (Value.ref b :: As).toArray) free :=
  va_runV S hM ⟨m_callB S C hl hr, S.2.2.2.2 _ hi, S.2.2.2.2 _ hs⟩ hp rfl hn hsz hst (lv_room hW) hdg hf
/-- the same for a read-only one -/
theorem r_run (S : CallFix p m c cc nL s args lw_t own) (hp : PreV s H R_T b Pc As) (C : tCall y bytes maxL ret n) (hi : Cond.instanceMethod y ∈ lw_t) (hs : Cond.selects R_T y y ∈ lw_t) (hl : Cond.methodLink own index y ∈ lw_t) (hM : Met l y (mw y bytes maxL ret) rm Pc Qc mc ms free) (hr : roomOk rm R maxL mc ms) (hn : As.length = n) (hsz : ls.size = nL) (hst : st0 = As.reverse ++ .ref b :: rest) (hW : (rest.map fun v => v.category).sum ≤ 8) (hdg : decode cc pc = .ok (.invokevirtual index, 3)) (hf : cells + mc ≤ R.cells ∧ slots + ms ≤ R.slots) :
    CallRun p l e R s m args below meth c H locs cells slots mc ms (F0 m pc ls st0) rest (Qc (Value.ref b :: As).toArray) free :=
  W.runV S hM ⟨m_callB S C hl hr, S.2.2.2.2 _ hi, S.2.2.2.2 _ hs⟩ hp rfl hn hsz hst (lv_room hW) hdg hf
/-- a static read-only one -/
theorem r_runS (S : CallFix p m c cc nL s args lw_t own) (hp : PreS s H Pc As) (C : tCall y bytes maxL ret n) (hs : Cond.static y ∈ lw_t) (hl : Cond.methodLink own index y ∈ lw_t) (hM : Met l y (mw y bytes maxL ret) rm Pc Qc mc ms free) (hr : roomOk rm R maxL mc ms) (hn : As.length = n) (hsz : ls.size = nL) (hst : st0 = As.reverse ++ rest) (hW : (rest.map fun v => v.category).sum ≤ 8) (hdg : decode cc pc = .ok (.invokestatic index, 3)) (hf : cells + mc ≤ R.cells ∧ slots + ms ≤ R.slots) :
    CallRun p l e R s m args below meth c H locs cells slots mc ms (F0 m pc ls st0) rest (Qc As.toArray) free :=
  W.runS S hM ⟨m_callB S C hl hr, S.2.2.2.2 _ hs⟩ hp rfl hn hsz hst (lv_room hW) hdg hf
/-- behind a call that may write the tree -/
theorem t_calli {post : Int32 → tV → Prop} {u : Array Value} (hr : va_Run p l e R s m args below meth c H locs cells slots 0 0 (F0 m pc ls st0) rest (va_Qi post (fun v' t => tP G a v' t.heap) (inA a) u) (inA a)) (hw : tS G a A H0 v H locs)
    (kk : ∀ (r : Int32) (v' : tV) (H1 : Heap) (locs1 : List Loc), post r v' → tS G a A H0 v' H1 locs1 → H.size ≤ H1.size → (∀ q : Nat, q < H.size → ¬ inA a q → H1[q]? = H[q]?) → W p l e R s m args below meth c H1 locs1 cells slots Q (F0 m (pc + 3) ls (.int r :: rest))) : W p l e R s m args below meth c H locs cells slots Q (F0 m pc ls st0) :=
  va_calli hr hw.2.2 (fun q _ h => hw.2.1.sub q h) hw.2.1.sub (fun r u t H1 locs1 ht _ hp hb hz hk hS => kk r u H1 locs1 hp ⟨(show tP G a u H1 by rw [← ht]; exact hb), hw.2.1, hS⟩ hz hk)
theorem t_calll {post : Int64 → tV → Prop} {u : Array Value} (hr : va_Run p l e R s m args below meth c H locs cells slots 0 0 (F0 m pc ls st0) rest (va_Ql post (fun v' t => tP G a v' t.heap) (inA a) u) (inA a)) (hw : tS G a A H0 v H locs)
    (kk : ∀ (r : Int64) (v' : tV) (H1 : Heap) (locs1 : List Loc), post r v' → tS G a A H0 v' H1 locs1 → H.size ≤ H1.size → (∀ q : Nat, q < H.size → ¬ inA a q → H1[q]? = H[q]?) → W p l e R s m args below meth c H1 locs1 cells slots Q (F0 m (pc + 3) ls (.long r :: rest))) : W p l e R s m args below meth c H locs cells slots Q (F0 m pc ls st0) :=
  va_calll hr hw.2.2 (fun q _ h => hw.2.1.sub q h) hw.2.1.sub (fun r u t H1 locs1 ht _ hp hb hz hk hS => kk r u H1 locs1 hp ⟨(show tP G a u H1 by rw [← ht]; exact hb), hw.2.1, hS⟩ hz hk)
theorem t_callv {post : tV → Prop} {u : Array Value} (hr : va_Run p l e R s m args below meth c H locs cells slots 0 0 (F0 m pc ls st0) rest (va_Qv post (fun v' t => tP G a v' t.heap) (inA a) u) (inA a)) (hw : tS G a A H0 v H locs)
    (kk : ∀ (v' : tV) (H1 : Heap) (locs1 : List Loc), post v' → tS G a A H0 v' H1 locs1 → H.size ≤ H1.size → (∀ q : Nat, q < H.size → ¬ inA a q → H1[q]? = H[q]?) → W p l e R s m args below meth c H1 locs1 cells slots Q (F0 m (pc + 3) ls rest)) : W p l e R s m args below meth c H locs cells slots Q (F0 m pc ls st0) :=
  va_callv hr hw.2.2 (fun q _ h => hw.2.1.sub q h) hw.2.1.sub (fun u t H1 locs1 ht _ hp hb hz hk hS => kk u H1 locs1 hp ⟨(show tP G a u H1 by rw [← ht]; exact hb), hw.2.1, hS⟩ hz hk)
/-- behind a read-only call -/
theorem r_callv {u : Array Value} {g : JFrame} (hr : CallRun p l e R s m args below meth c H locs cells slots 0 0 g rest (rQv u) (fun _ => False)) (kk : W p l e R s m args below meth c H locs cells slots Q { g with pc := g.pc + 3, stack := rest }) : W p l e R s m args below meth c H locs cells slots Q g := by
  intro T hT X
  obtain ⟨v, st₀, t, T', L, h0, X', hL, e1, ⟨hv, hh⟩, st⟩ := hr T hT X
  cases hv
  obtain ⟨t2, a1, b1⟩ := kk T' (by rw [e1, hh, h0]) (Stand.forget X' (fun q h => (hL q h).elim))
  exact ⟨t2, st t2 a1, b1⟩
theorem r_calll {u : Array Value} {r : Int64} {g : JFrame} (hr : CallRun p l e R s m args below meth c H locs cells slots 0 0 g rest (rQl r u) (fun _ => False)) (kk : W p l e R s m args below meth c H locs cells slots Q { g with pc := g.pc + 3, stack := .long r :: rest }) : W p l e R s m args below meth c H locs cells slots Q g := by
  intro T hT X
  obtain ⟨v, st₀, t, T', L, h0, X', hL, e1, ⟨hv, hh⟩, st⟩ := hr T hT X
  cases hv
  obtain ⟨t2, a1, b1⟩ := kk T' (by rw [e1, hh, h0]) (Stand.forget X' (fun q h => (hL q h).elim))
  exact ⟨t2, st t2 a1, b1⟩
/-- ends -/
theorem t_iret {post : Int32 → tV → Prop} {r : Int32} (S : CallFix p m c cc nL s args lw_t own) (hw : tS G a (inA a) s.heap v H locs) (hp : post r v) (hr : meth.sig.returnType = some .int) (hlk : meth.locks = false) (hdg : decode cc pc = .ok (.ireturn, 1)) : W p l e R s m args below meth c H locs cells slots (MQ below (va_Qi post (fun v' t => tP G a v' t.heap) (inA a)) args s cells slots (inA a)) (F0 m pc ls [.int r]) :=
  W.iret S.1 S.2.1 hr (fun t ht _ => ⟨⟨r, v, rfl, hp, (show tP G a v t.heap by rw [ht]; exact hw.1)⟩, hw.2.2.F ht⟩) hw.2.2.2.2 hdg hlk
theorem t_lret {post : Int64 → tV → Prop} {r : Int64} (S : CallFix p m c cc nL s args lw_t own) (hw : tS G a (inA a) s.heap v H locs) (hp : post r v) (hr : meth.sig.returnType = some .long) (hlk : meth.locks = false) (hdg : decode cc pc = .ok (.lreturn, 1)) : W p l e R s m args below meth c H locs cells slots (MQ below (va_Ql post (fun v' t => tP G a v' t.heap) (inA a)) args s cells slots (inA a)) (F0 m pc ls [.long r]) :=
  W.lret S.1 S.2.1 hr (fun t ht _ => ⟨⟨r, v, rfl, hp, (show tP G a v t.heap by rw [ht]; exact hw.1)⟩, hw.2.2.F ht⟩) hw.2.2.2.2 hdg hlk
theorem t_vret {post : tV → Prop} (S : CallFix p m c cc nL s args lw_t own) (hw : tS G a (inA a) s.heap v H locs) (hp : post v) (hr : meth.sig.returnType = none) (hlk : meth.locks = false) (hdg : decode cc pc = .ok (.return_, 1)) : W p l e R s m args below meth c H locs cells slots (MQ below (va_Qv post (fun v' t => tP G a v' t.heap) (inA a)) args s cells slots (inA a)) (F0 m pc ls []) :=
  W.vret S.1 S.2.1 hr (fun t ht _ => ⟨⟨v, rfl, hp, (show tP G a v t.heap by rw [ht]; exact hw.1)⟩, hw.2.2.F ht⟩) hw.2.2.2.2 hdg hlk
theorem r_iret {r : Int32} (S : CallFix p m c cc nL s args lw_t own) (hr : meth.sig.returnType = some .int) (hlk : meth.locks = false) (hdg : decode cc pc = .ok (.ireturn, 1)) : W p l e R s m args below meth c s.heap [] cells slots (MQ below (QcRead r) args s cells slots (fun _ => False)) (F0 m pc ls [.int r]) :=
  W.iret S.1 S.2.1 hr (fun t ht _ => ⟨rfl, ht⟩) (fun q h => by cases h) hdg hlk
theorem r_zret {r : Int32} (S : CallFix p m c cc nL s args lw_t own) (hr : meth.sig.returnType = some .boolean) (hn : narrow .boolean (.int r) = .int r) (hlk : meth.locks = false) (hdg : decode cc pc = .ok (.ireturn, 1)) : W p l e R s m args below meth c s.heap [] cells slots (MQ below (QcRead r) args s cells slots (fun _ => False)) (F0 m pc ls [.int r]) :=
  W.zret S.1 S.2.1 hr hn (fun t ht _ => ⟨rfl, ht⟩) (fun q h => by cases h) hdg hlk
theorem r_lret {r : Int64} (S : CallFix p m c cc nL s args lw_t own) (hr : meth.sig.returnType = some .long) (hlk : meth.locks = false) (hdg : decode cc pc = .ok (.lreturn, 1)) : W p l e R s m args below meth c s.heap [] cells slots (MQ below (rQl r) args s cells slots (fun _ => False)) (F0 m pc ls [.long r]) :=
  W.lret S.1 S.2.1 hr (fun t ht _ => ⟨rfl, ht⟩) (fun q h => by cases h) hdg hlk
theorem r_vret (S : CallFix p m c cc nL s args lw_t own) (hr : meth.sig.returnType = none) (hlk : meth.locks = false) (hdg : decode cc pc = .ok (.return_, 1)) : W p l e R s m args below meth c s.heap [] cells slots (MQ below rQv args s cells slots (fun _ => False)) (F0 m pc ls []) :=
  W.vret S.1 S.2.1 hr (fun t ht _ => ⟨rfl, ht⟩) (fun q h => by cases h) hdg hlk
end TC
end
section
theorem d_T_init_0 : decode b_T_init 0 = .ok (.aload_n 0, 1) := by decide +kernel
theorem d_T_init_1 : decode b_T_init 1 = .ok (.invokespecial 1, 3) := by decide +kernel
theorem d_T_init_4 : decode b_T_init 4 = .ok (.aload_n 0, 1) := by decide +kernel
theorem d_T_init_5 : decode b_T_init 5 = .ok (.sipush 600, 3) := by decide +kernel
theorem d_T_init_8 : decode b_T_init 8 = .ok (.newarray .int, 2) := by decide +kernel
theorem d_T_init_10 : decode b_T_init 10 = .ok (.putfield 7, 3) := by decide +kernel
theorem d_T_init_13 : decode b_T_init 13 = .ok (.aload_n 0, 1) := by decide +kernel
theorem d_T_init_14 : decode b_T_init 14 = .ok (.iconst 1, 1) := by decide +kernel
theorem d_T_init_15 : decode b_T_init 15 = .ok (.putfield 13, 3) := by decide +kernel
theorem d_T_init_18 : decode b_T_init 18 = .ok (.aload_n 0, 1) := by decide +kernel
theorem d_T_init_19 : decode b_T_init 19 = .ok (.ldc 17, 2) := by decide +kernel
theorem d_T_init_21 : decode b_T_init 21 = .ok (.newarray .int, 2) := by decide +kernel
theorem d_T_init_23 : decode b_T_init 23 = .ok (.putfield 18, 3) := by decide +kernel
theorem d_T_init_26 : decode b_T_init 26 = .ok (.aload_n 0, 1) := by decide +kernel
theorem d_T_init_27 : decode b_T_init 27 = .ok (.ldc 17, 2) := by decide +kernel
theorem d_T_init_29 : decode b_T_init 29 = .ok (.newarray .int, 2) := by decide +kernel
theorem d_T_init_31 : decode b_T_init 31 = .ok (.putfield 21, 3) := by decide +kernel
theorem d_T_init_34 : decode b_T_init 34 = .ok (.aload_n 0, 1) := by decide +kernel
theorem d_T_init_35 : decode b_T_init 35 = .ok (.ldc 17, 2) := by decide +kernel
theorem d_T_init_37 : decode b_T_init 37 = .ok (.newarray .short, 2) := by decide +kernel
theorem d_T_init_39 : decode b_T_init 39 = .ok (.putfield 24, 3) := by decide +kernel
theorem d_T_init_42 : decode b_T_init 42 = .ok (.aload_n 0, 1) := by decide +kernel
theorem d_T_init_43 : decode b_T_init 43 = .ok (.ldc 17, 2) := by decide +kernel
theorem d_T_init_45 : decode b_T_init 45 = .ok (.newarray .int, 2) := by decide +kernel
theorem d_T_init_47 : decode b_T_init 47 = .ok (.putfield 28, 3) := by decide +kernel
theorem d_T_init_50 : decode b_T_init 50 = .ok (.aload_n 0, 1) := by decide +kernel
theorem d_T_init_51 : decode b_T_init 51 = .ok (.ldc 17, 2) := by decide +kernel
theorem d_T_init_53 : decode b_T_init 53 = .ok (.newarray .short, 2) := by decide +kernel
theorem d_T_init_55 : decode b_T_init 55 = .ok (.putfield 31, 3) := by decide +kernel
theorem d_T_init_58 : decode b_T_init 58 = .ok (.aload_n 0, 1) := by decide +kernel
theorem d_T_init_59 : decode b_T_init 59 = .ok (.ldc 17, 2) := by decide +kernel
theorem d_T_init_61 : decode b_T_init 61 = .ok (.newarray .long, 2) := by decide +kernel
theorem d_T_init_63 : decode b_T_init 63 = .ok (.putfield 34, 3) := by decide +kernel
theorem d_T_init_66 : decode b_T_init 66 = .ok (.aload_n 0, 1) := by decide +kernel
theorem d_T_init_67 : decode b_T_init 67 = .ok (.iconst 1, 1) := by decide +kernel
theorem d_T_init_68 : decode b_T_init 68 = .ok (.putfield 38, 3) := by decide +kernel
theorem d_T_init_71 : decode b_T_init 71 = .ok (.return_, 1) := by decide +kernel
theorem d_T_there_0 : decode b_T_there 0 = .ok (.iload_n 0, 1) := by decide +kernel
theorem d_T_there_1 : decode b_T_there 1 = .ok (.ifCond .ne 11, 3) := by decide +kernel
theorem d_T_there_4 : decode b_T_there 4 = .ok (.new 41, 3) := by decide +kernel
theorem d_T_there_7 : decode b_T_there 7 = .ok (.dup, 1) := by decide +kernel
theorem d_T_there_8 : decode b_T_there 8 = .ok (.invokespecial 43, 3) := by decide +kernel
theorem d_T_there_11 : decode b_T_there 11 = .ok (.athrow, 1) := by decide +kernel
theorem d_T_there_12 : decode b_T_there 12 = .ok (.return_, 1) := by decide +kernel
theorem d_T_isVersion_0 : decode b_T_isVersion 0 = .ok (.iload_n 1, 1) := by decide +kernel
theorem d_T_isVersion_1 : decode b_T_isVersion 1 = .ok (.ifCond .lt 15, 3) := by decide +kernel
theorem d_T_isVersion_4 : decode b_T_isVersion 4 = .ok (.iload_n 1, 1) := by decide +kernel
theorem d_T_isVersion_5 : decode b_T_isVersion 5 = .ok (.aload_n 0, 1) := by decide +kernel
theorem d_T_isVersion_6 : decode b_T_isVersion 6 = .ok (.getfield 13, 3) := by decide +kernel
theorem d_T_isVersion_9 : decode b_T_isVersion 9 = .ok (.if_icmp .ge 7, 3) := by decide +kernel
theorem d_T_isVersion_12 : decode b_T_isVersion 12 = .ok (.iconst 1, 1) := by decide +kernel
theorem d_T_isVersion_13 : decode b_T_isVersion 13 = .ok (.goto 4, 3) := by decide +kernel
theorem d_T_isVersion_16 : decode b_T_isVersion 16 = .ok (.iconst 0, 1) := by decide +kernel
theorem d_T_isVersion_17 : decode b_T_isVersion 17 = .ok (.invokestatic 44, 3) := by decide +kernel
theorem d_T_isVersion_20 : decode b_T_isVersion 20 = .ok (.return_, 1) := by decide +kernel
theorem d_T_isKey_0 : decode b_T_isKey 0 = .ok (.iload_n 0, 1) := by decide +kernel
theorem d_T_isKey_1 : decode b_T_isKey 1 = .ok (.ifCond .lt 14, 3) := by decide +kernel
theorem d_T_isKey_4 : decode b_T_isKey 4 = .ok (.iload_n 0, 1) := by decide +kernel
theorem d_T_isKey_5 : decode b_T_isKey 5 = .ok (.sipush 256, 3) := by decide +kernel
theorem d_T_isKey_8 : decode b_T_isKey 8 = .ok (.if_icmp .ge 7, 3) := by decide +kernel
theorem d_T_isKey_11 : decode b_T_isKey 11 = .ok (.iconst 1, 1) := by decide +kernel
theorem d_T_isKey_12 : decode b_T_isKey 12 = .ok (.goto 4, 3) := by decide +kernel
theorem d_T_isKey_15 : decode b_T_isKey 15 = .ok (.iconst 0, 1) := by decide +kernel
theorem d_T_isKey_16 : decode b_T_isKey 16 = .ok (.invokestatic 44, 3) := by decide +kernel
theorem d_T_isKey_19 : decode b_T_isKey 19 = .ok (.return_, 1) := by decide +kernel
theorem d_T_may_0 : decode b_T_may 0 = .ok (.aload_n 0, 1) := by decide +kernel
theorem d_T_may_1 : decode b_T_may 1 = .ok (.getfield 13, 3) := by decide +kernel
theorem d_T_may_4 : decode b_T_may 4 = .ok (.sipush 600, 3) := by decide +kernel
theorem d_T_may_7 : decode b_T_may 7 = .ok (.if_icmp .ne 11, 3) := by decide +kernel
theorem d_T_may_10 : decode b_T_may 10 = .ok (.new 48, 3) := by decide +kernel
theorem d_T_may_13 : decode b_T_may 13 = .ok (.dup, 1) := by decide +kernel
theorem d_T_may_14 : decode b_T_may 14 = .ok (.invokespecial 50, 3) := by decide +kernel
theorem d_T_may_17 : decode b_T_may 17 = .ok (.athrow, 1) := by decide +kernel
theorem d_T_may_18 : decode b_T_may 18 = .ok (.return_, 1) := by decide +kernel
theorem d_T_height_0 : decode b_T_height 0 = .ok (.iload_n 0, 1) := by decide +kernel
theorem d_T_height_1 : decode b_T_height 1 = .ok (.sipush 167, 3) := by decide +kernel
theorem d_T_height_4 : decode b_T_height 4 = .ok (.imul, 1) := by decide +kernel
theorem d_T_height_5 : decode b_T_height 5 = .ok (.bipush 13, 2) := by decide +kernel
theorem d_T_height_7 : decode b_T_height 7 = .ok (.iadd, 1) := by decide +kernel
theorem d_T_height_8 : decode b_T_height 8 = .ok (.sipush 255, 3) := by decide +kernel
theorem d_T_height_11 : decode b_T_height 11 = .ok (.iand, 1) := by decide +kernel
theorem d_T_height_12 : decode b_T_height 12 = .ok (.bipush 57, 2) := by decide +kernel
theorem d_T_height_14 : decode b_T_height 14 = .ok (.imul, 1) := by decide +kernel
theorem d_T_height_15 : decode b_T_height 15 = .ok (.sipush 255, 3) := by decide +kernel
theorem d_T_height_18 : decode b_T_height 18 = .ok (.iand, 1) := by decide +kernel
theorem d_T_height_19 : decode b_T_height 19 = .ok (.ireturn, 1) := by decide +kernel
theorem d_T_make_0 : decode b_T_make 0 = .ok (.aload_n 0, 1) := by decide +kernel
theorem d_T_make_1 : decode b_T_make 1 = .ok (.getfield 38, 3) := by decide +kernel
theorem d_T_make_4 : decode b_T_make 4 = .ok (.istore 5, 2) := by decide +kernel
theorem d_T_make_6 : decode b_T_make 6 = .ok (.aload_n 0, 1) := by decide +kernel
theorem d_T_make_7 : decode b_T_make 7 = .ok (.dup, 1) := by decide +kernel
theorem d_T_make_8 : decode b_T_make 8 = .ok (.getfield 38, 3) := by decide +kernel
theorem d_T_make_11 : decode b_T_make 11 = .ok (.iconst 1, 1) := by decide +kernel
theorem d_T_make_12 : decode b_T_make 12 = .ok (.iadd, 1) := by decide +kernel
theorem d_T_make_13 : decode b_T_make 13 = .ok (.putfield 38, 3) := by decide +kernel
theorem d_T_make_16 : decode b_T_make 16 = .ok (.aload_n 0, 1) := by decide +kernel
theorem d_T_make_17 : decode b_T_make 17 = .ok (.getfield 18, 3) := by decide +kernel
theorem d_T_make_20 : decode b_T_make 20 = .ok (.iload 5, 2) := by decide +kernel
theorem d_T_make_22 : decode b_T_make 22 = .ok (.iload_n 1, 1) := by decide +kernel
theorem d_T_make_23 : decode b_T_make 23 = .ok (.iastore, 1) := by decide +kernel
theorem d_T_make_24 : decode b_T_make 24 = .ok (.aload_n 0, 1) := by decide +kernel
theorem d_T_make_25 : decode b_T_make 25 = .ok (.getfield 21, 3) := by decide +kernel
theorem d_T_make_28 : decode b_T_make 28 = .ok (.iload 5, 2) := by decide +kernel
theorem d_T_make_30 : decode b_T_make 30 = .ok (.iload 4, 2) := by decide +kernel
theorem d_T_make_32 : decode b_T_make 32 = .ok (.iastore, 1) := by decide +kernel
theorem d_T_make_33 : decode b_T_make 33 = .ok (.aload_n 0, 1) := by decide +kernel
theorem d_T_make_34 : decode b_T_make 34 = .ok (.getfield 24, 3) := by decide +kernel
theorem d_T_make_37 : decode b_T_make 37 = .ok (.iload 5, 2) := by decide +kernel
theorem d_T_make_39 : decode b_T_make 39 = .ok (.iload_n 2, 1) := by decide +kernel
theorem d_T_make_40 : decode b_T_make 40 = .ok (.i2s, 1) := by decide +kernel
theorem d_T_make_41 : decode b_T_make 41 = .ok (.sastore, 1) := by decide +kernel
theorem d_T_make_42 : decode b_T_make 42 = .ok (.aload_n 0, 1) := by decide +kernel
theorem d_T_make_43 : decode b_T_make 43 = .ok (.getfield 28, 3) := by decide +kernel
theorem d_T_make_46 : decode b_T_make 46 = .ok (.iload 5, 2) := by decide +kernel
theorem d_T_make_48 : decode b_T_make 48 = .ok (.iload_n 3, 1) := by decide +kernel
theorem d_T_make_49 : decode b_T_make 49 = .ok (.iastore, 1) := by decide +kernel
theorem d_T_make_50 : decode b_T_make 50 = .ok (.aload_n 0, 1) := by decide +kernel
theorem d_T_make_51 : decode b_T_make 51 = .ok (.getfield 31, 3) := by decide +kernel
theorem d_T_make_54 : decode b_T_make 54 = .ok (.iload 5, 2) := by decide +kernel
theorem d_T_make_56 : decode b_T_make 56 = .ok (.aload_n 0, 1) := by decide +kernel
theorem d_T_make_57 : decode b_T_make 57 = .ok (.getfield 31, 3) := by decide +kernel
theorem d_T_make_60 : decode b_T_make 60 = .ok (.iload_n 1, 1) := by decide +kernel
theorem d_T_make_61 : decode b_T_make 61 = .ok (.saload, 1) := by decide +kernel
theorem d_T_make_62 : decode b_T_make 62 = .ok (.iconst 1, 1) := by decide +kernel
theorem d_T_make_63 : decode b_T_make 63 = .ok (.iadd, 1) := by decide +kernel
theorem d_T_make_64 : decode b_T_make 64 = .ok (.aload_n 0, 1) := by decide +kernel
theorem d_T_make_65 : decode b_T_make 65 = .ok (.getfield 31, 3) := by decide +kernel
theorem d_T_make_68 : decode b_T_make 68 = .ok (.iload 4, 2) := by decide +kernel
theorem d_T_make_70 : decode b_T_make 70 = .ok (.saload, 1) := by decide +kernel
theorem d_T_make_71 : decode b_T_make 71 = .ok (.iadd, 1) := by decide +kernel
theorem d_T_make_72 : decode b_T_make 72 = .ok (.i2s, 1) := by decide +kernel
theorem d_T_make_73 : decode b_T_make 73 = .ok (.sastore, 1) := by decide +kernel
theorem d_T_make_74 : decode b_T_make 74 = .ok (.aload_n 0, 1) := by decide +kernel
theorem d_T_make_75 : decode b_T_make 75 = .ok (.getfield 34, 3) := by decide +kernel
theorem d_T_make_78 : decode b_T_make 78 = .ok (.iload 5, 2) := by decide +kernel
theorem d_T_make_80 : decode b_T_make 80 = .ok (.aload_n 0, 1) := by decide +kernel
theorem d_T_make_81 : decode b_T_make 81 = .ok (.getfield 34, 3) := by decide +kernel
theorem d_T_make_84 : decode b_T_make 84 = .ok (.iload_n 1, 1) := by decide +kernel
theorem d_T_make_85 : decode b_T_make 85 = .ok (.laload, 1) := by decide +kernel
theorem d_T_make_86 : decode b_T_make 86 = .ok (.iload_n 3, 1) := by decide +kernel
theorem d_T_make_87 : decode b_T_make 87 = .ok (.i2l, 1) := by decide +kernel
theorem d_T_make_88 : decode b_T_make 88 = .ok (.ladd, 1) := by decide +kernel
theorem d_T_make_89 : decode b_T_make 89 = .ok (.aload_n 0, 1) := by decide +kernel
theorem d_T_make_90 : decode b_T_make 90 = .ok (.getfield 34, 3) := by decide +kernel
theorem d_T_make_93 : decode b_T_make 93 = .ok (.iload 4, 2) := by decide +kernel
theorem d_T_make_95 : decode b_T_make 95 = .ok (.laload, 1) := by decide +kernel
theorem d_T_make_96 : decode b_T_make 96 = .ok (.ladd, 1) := by decide +kernel
theorem d_T_make_97 : decode b_T_make 97 = .ok (.lastore, 1) := by decide +kernel
theorem d_T_make_98 : decode b_T_make 98 = .ok (.iload 5, 2) := by decide +kernel
theorem d_T_make_100 : decode b_T_make 100 = .ok (.ireturn, 1) := by decide +kernel
theorem d_T_below_0 : decode b_T_below 0 = .ok (.iload_n 1, 1) := by decide +kernel
theorem d_T_below_1 : decode b_T_below 1 = .ok (.ifCond .ne 5, 3) := by decide +kernel
theorem d_T_below_4 : decode b_T_below 4 = .ok (.iconst 0, 1) := by decide +kernel
theorem d_T_below_5 : decode b_T_below 5 = .ok (.ireturn, 1) := by decide +kernel
theorem d_T_below_6 : decode b_T_below 6 = .ok (.aload_n 0, 1) := by decide +kernel
theorem d_T_below_7 : decode b_T_below 7 = .ok (.getfield 24, 3) := by decide +kernel
theorem d_T_below_10 : decode b_T_below 10 = .ok (.iload_n 1, 1) := by decide +kernel
theorem d_T_below_11 : decode b_T_below 11 = .ok (.saload, 1) := by decide +kernel
theorem d_T_below_12 : decode b_T_below 12 = .ok (.iload_n 2, 1) := by decide +kernel
theorem d_T_below_13 : decode b_T_below 13 = .ok (.if_icmp .lt 15, 3) := by decide +kernel
theorem d_T_below_16 : decode b_T_below 16 = .ok (.aload_n 0, 1) := by decide +kernel
theorem d_T_below_17 : decode b_T_below 17 = .ok (.aload_n 0, 1) := by decide +kernel
theorem d_T_below_18 : decode b_T_below 18 = .ok (.getfield 18, 3) := by decide +kernel
theorem d_T_below_21 : decode b_T_below 21 = .ok (.iload_n 1, 1) := by decide +kernel
theorem d_T_below_22 : decode b_T_below 22 = .ok (.iaload, 1) := by decide +kernel
theorem d_T_below_23 : decode b_T_below 23 = .ok (.iload_n 2, 1) := by decide +kernel
theorem d_T_below_24 : decode b_T_below 24 = .ok (.invokevirtual 51, 3) := by decide +kernel
theorem d_T_below_27 : decode b_T_below 27 = .ok (.ireturn, 1) := by decide +kernel
theorem d_T_below_28 : decode b_T_below 28 = .ok (.aload_n 0, 1) := by decide +kernel
theorem d_T_below_29 : decode b_T_below 29 = .ok (.aload_n 0, 1) := by decide +kernel
theorem d_T_below_30 : decode b_T_below 30 = .ok (.getfield 21, 3) := by decide +kernel
theorem d_T_below_33 : decode b_T_below 33 = .ok (.iload_n 1, 1) := by decide +kernel
theorem d_T_below_34 : decode b_T_below 34 = .ok (.iaload, 1) := by decide +kernel
theorem d_T_below_35 : decode b_T_below 35 = .ok (.iload_n 2, 1) := by decide +kernel
theorem d_T_below_36 : decode b_T_below 36 = .ok (.invokevirtual 51, 3) := by decide +kernel
theorem d_T_below_39 : decode b_T_below 39 = .ok (.istore_n 3, 1) := by decide +kernel
theorem d_T_below_40 : decode b_T_below 40 = .ok (.iload_n 3, 1) := by decide +kernel
theorem d_T_below_41 : decode b_T_below 41 = .ok (.aload_n 0, 1) := by decide +kernel
theorem d_T_below_42 : decode b_T_below 42 = .ok (.getfield 21, 3) := by decide +kernel
theorem d_T_below_45 : decode b_T_below 45 = .ok (.iload_n 1, 1) := by decide +kernel
theorem d_T_below_46 : decode b_T_below 46 = .ok (.iaload, 1) := by decide +kernel
theorem d_T_below_47 : decode b_T_below 47 = .ok (.if_icmp .ne 7, 3) := by decide +kernel
theorem d_T_below_50 : decode b_T_below 50 = .ok (.iload_n 1, 1) := by decide +kernel
theorem d_T_below_51 : decode b_T_below 51 = .ok (.goto 26, 3) := by decide +kernel
theorem d_T_below_54 : decode b_T_below 54 = .ok (.aload_n 0, 1) := by decide +kernel
theorem d_T_below_55 : decode b_T_below 55 = .ok (.aload_n 0, 1) := by decide +kernel
theorem d_T_below_56 : decode b_T_below 56 = .ok (.getfield 18, 3) := by decide +kernel
theorem d_T_below_59 : decode b_T_below 59 = .ok (.iload_n 1, 1) := by decide +kernel
theorem d_T_below_60 : decode b_T_below 60 = .ok (.iaload, 1) := by decide +kernel
theorem d_T_below_61 : decode b_T_below 61 = .ok (.aload_n 0, 1) := by decide +kernel
theorem d_T_below_62 : decode b_T_below 62 = .ok (.getfield 24, 3) := by decide +kernel
theorem d_T_below_65 : decode b_T_below 65 = .ok (.iload_n 1, 1) := by decide +kernel
theorem d_T_below_66 : decode b_T_below 66 = .ok (.saload, 1) := by decide +kernel
theorem d_T_below_67 : decode b_T_below 67 = .ok (.aload_n 0, 1) := by decide +kernel
theorem d_T_below_68 : decode b_T_below 68 = .ok (.getfield 28, 3) := by decide +kernel
theorem d_T_below_71 : decode b_T_below 71 = .ok (.iload_n 1, 1) := by decide +kernel
theorem d_T_below_72 : decode b_T_below 72 = .ok (.iaload, 1) := by decide +kernel
theorem d_T_below_73 : decode b_T_below 73 = .ok (.iload_n 3, 1) := by decide +kernel
theorem d_T_below_74 : decode b_T_below 74 = .ok (.invokevirtual 55, 3) := by decide +kernel
theorem d_T_below_77 : decode b_T_below 77 = .ok (.ireturn, 1) := by decide +kernel
theorem d_T_from_0 : decode b_T_from 0 = .ok (.iload_n 1, 1) := by decide +kernel
theorem d_T_from_1 : decode b_T_from 1 = .ok (.ifCond .ne 5, 3) := by decide +kernel
theorem d_T_from_4 : decode b_T_from 4 = .ok (.iconst 0, 1) := by decide +kernel
theorem d_T_from_5 : decode b_T_from 5 = .ok (.ireturn, 1) := by decide +kernel
theorem d_T_from_6 : decode b_T_from 6 = .ok (.aload_n 0, 1) := by decide +kernel
theorem d_T_from_7 : decode b_T_from 7 = .ok (.getfield 24, 3) := by decide +kernel
theorem d_T_from_10 : decode b_T_from 10 = .ok (.iload_n 1, 1) := by decide +kernel
theorem d_T_from_11 : decode b_T_from 11 = .ok (.saload, 1) := by decide +kernel
theorem d_T_from_12 : decode b_T_from 12 = .ok (.iload_n 2, 1) := by decide +kernel
theorem d_T_from_13 : decode b_T_from 13 = .ok (.if_icmp .ge 15, 3) := by decide +kernel
theorem d_T_from_16 : decode b_T_from 16 = .ok (.aload_n 0, 1) := by decide +kernel
theorem d_T_from_17 : decode b_T_from 17 = .ok (.aload_n 0, 1) := by decide +kernel
theorem d_T_from_18 : decode b_T_from 18 = .ok (.getfield 21, 3) := by decide +kernel
theorem d_T_from_21 : decode b_T_from 21 = .ok (.iload_n 1, 1) := by decide +kernel
theorem d_T_from_22 : decode b_T_from 22 = .ok (.iaload, 1) := by decide +kernel
theorem d_T_from_23 : decode b_T_from 23 = .ok (.iload_n 2, 1) := by decide +kernel
theorem d_T_from_24 : decode b_T_from 24 = .ok (.invokevirtual 59, 3) := by decide +kernel
theorem d_T_from_27 : decode b_T_from 27 = .ok (.ireturn, 1) := by decide +kernel
theorem d_T_from_28 : decode b_T_from 28 = .ok (.aload_n 0, 1) := by decide +kernel
theorem d_T_from_29 : decode b_T_from 29 = .ok (.aload_n 0, 1) := by decide +kernel
theorem d_T_from_30 : decode b_T_from 30 = .ok (.getfield 18, 3) := by decide +kernel
theorem d_T_from_33 : decode b_T_from 33 = .ok (.iload_n 1, 1) := by decide +kernel
theorem d_T_from_34 : decode b_T_from 34 = .ok (.iaload, 1) := by decide +kernel
theorem d_T_from_35 : decode b_T_from 35 = .ok (.iload_n 2, 1) := by decide +kernel
theorem d_T_from_36 : decode b_T_from 36 = .ok (.invokevirtual 59, 3) := by decide +kernel
theorem d_T_from_39 : decode b_T_from 39 = .ok (.istore_n 3, 1) := by decide +kernel
theorem d_T_from_40 : decode b_T_from 40 = .ok (.iload_n 3, 1) := by decide +kernel
theorem d_T_from_41 : decode b_T_from 41 = .ok (.aload_n 0, 1) := by decide +kernel
theorem d_T_from_42 : decode b_T_from 42 = .ok (.getfield 18, 3) := by decide +kernel
theorem d_T_from_45 : decode b_T_from 45 = .ok (.iload_n 1, 1) := by decide +kernel
theorem d_T_from_46 : decode b_T_from 46 = .ok (.iaload, 1) := by decide +kernel
theorem d_T_from_47 : decode b_T_from 47 = .ok (.if_icmp .ne 7, 3) := by decide +kernel
theorem d_T_from_50 : decode b_T_from 50 = .ok (.iload_n 1, 1) := by decide +kernel
theorem d_T_from_51 : decode b_T_from 51 = .ok (.goto 26, 3) := by decide +kernel
theorem d_T_from_54 : decode b_T_from 54 = .ok (.aload_n 0, 1) := by decide +kernel
theorem d_T_from_55 : decode b_T_from 55 = .ok (.iload_n 3, 1) := by decide +kernel
theorem d_T_from_56 : decode b_T_from 56 = .ok (.aload_n 0, 1) := by decide +kernel
theorem d_T_from_57 : decode b_T_from 57 = .ok (.getfield 24, 3) := by decide +kernel
theorem d_T_from_60 : decode b_T_from 60 = .ok (.iload_n 1, 1) := by decide +kernel
theorem d_T_from_61 : decode b_T_from 61 = .ok (.saload, 1) := by decide +kernel
theorem d_T_from_62 : decode b_T_from 62 = .ok (.aload_n 0, 1) := by decide +kernel
theorem d_T_from_63 : decode b_T_from 63 = .ok (.getfield 28, 3) := by decide +kernel
theorem d_T_from_66 : decode b_T_from 66 = .ok (.iload_n 1, 1) := by decide +kernel
theorem d_T_from_67 : decode b_T_from 67 = .ok (.iaload, 1) := by decide +kernel
theorem d_T_from_68 : decode b_T_from 68 = .ok (.aload_n 0, 1) := by decide +kernel
theorem d_T_from_69 : decode b_T_from 69 = .ok (.getfield 21, 3) := by decide +kernel
theorem d_T_from_72 : decode b_T_from 72 = .ok (.iload_n 1, 1) := by decide +kernel
theorem d_T_from_73 : decode b_T_from 73 = .ok (.iaload, 1) := by decide +kernel
theorem d_T_from_74 : decode b_T_from 74 = .ok (.invokevirtual 55, 3) := by decide +kernel
theorem d_T_from_77 : decode b_T_from 77 = .ok (.ireturn, 1) := by decide +kernel
theorem d_T_both_0 : decode b_T_both 0 = .ok (.iload_n 1, 1) := by decide +kernel
theorem d_T_both_1 : decode b_T_both 1 = .ok (.ifCond .ne 5, 3) := by decide +kernel
theorem d_T_both_4 : decode b_T_both 4 = .ok (.iload_n 2, 1) := by decide +kernel
theorem d_T_both_5 : decode b_T_both 5 = .ok (.ireturn, 1) := by decide +kernel
theorem d_T_both_6 : decode b_T_both 6 = .ok (.iload_n 2, 1) := by decide +kernel
theorem d_T_both_7 : decode b_T_both 7 = .ok (.ifCond .ne 5, 3) := by decide +kernel
theorem d_T_both_10 : decode b_T_both 10 = .ok (.iload_n 1, 1) := by decide +kernel
theorem d_T_both_11 : decode b_T_both 11 = .ok (.ireturn, 1) := by decide +kernel
theorem d_T_both_12 : decode b_T_both 12 = .ok (.aload_n 0, 1) := by decide +kernel
theorem d_T_both_13 : decode b_T_both 13 = .ok (.getfield 24, 3) := by decide +kernel
theorem d_T_both_16 : decode b_T_both 16 = .ok (.iload_n 1, 1) := by decide +kernel
theorem d_T_both_17 : decode b_T_both 17 = .ok (.saload, 1) := by decide +kernel
theorem d_T_both_18 : decode b_T_both 18 = .ok (.invokestatic 62, 3) := by decide +kernel
theorem d_T_both_21 : decode b_T_both 21 = .ok (.aload_n 0, 1) := by decide +kernel
theorem d_T_both_22 : decode b_T_both 22 = .ok (.getfield 24, 3) := by decide +kernel
theorem d_T_both_25 : decode b_T_both 25 = .ok (.iload_n 2, 1) := by decide +kernel
theorem d_T_both_26 : decode b_T_both 26 = .ok (.saload, 1) := by decide +kernel
theorem d_T_both_27 : decode b_T_both 27 = .ok (.invokestatic 62, 3) := by decide +kernel
theorem d_T_both_30 : decode b_T_both 30 = .ok (.if_icmp .le 37, 3) := by decide +kernel
theorem d_T_both_33 : decode b_T_both 33 = .ok (.aload_n 0, 1) := by decide +kernel
theorem d_T_both_34 : decode b_T_both 34 = .ok (.aload_n 0, 1) := by decide +kernel
theorem d_T_both_35 : decode b_T_both 35 = .ok (.getfield 18, 3) := by decide +kernel
theorem d_T_both_38 : decode b_T_both 38 = .ok (.iload_n 1, 1) := by decide +kernel
theorem d_T_both_39 : decode b_T_both 39 = .ok (.iaload, 1) := by decide +kernel
theorem d_T_both_40 : decode b_T_both 40 = .ok (.aload_n 0, 1) := by decide +kernel
theorem d_T_both_41 : decode b_T_both 41 = .ok (.getfield 24, 3) := by decide +kernel
theorem d_T_both_44 : decode b_T_both 44 = .ok (.iload_n 1, 1) := by decide +kernel
theorem d_T_both_45 : decode b_T_both 45 = .ok (.saload, 1) := by decide +kernel
theorem d_T_both_46 : decode b_T_both 46 = .ok (.aload_n 0, 1) := by decide +kernel
theorem d_T_both_47 : decode b_T_both 47 = .ok (.getfield 28, 3) := by decide +kernel
theorem d_T_both_50 : decode b_T_both 50 = .ok (.iload_n 1, 1) := by decide +kernel
theorem d_T_both_51 : decode b_T_both 51 = .ok (.iaload, 1) := by decide +kernel
theorem d_T_both_52 : decode b_T_both 52 = .ok (.aload_n 0, 1) := by decide +kernel
theorem d_T_both_53 : decode b_T_both 53 = .ok (.aload_n 0, 1) := by decide +kernel
theorem d_T_both_54 : decode b_T_both 54 = .ok (.getfield 21, 3) := by decide +kernel
theorem d_T_both_57 : decode b_T_both 57 = .ok (.iload_n 1, 1) := by decide +kernel
theorem d_T_both_58 : decode b_T_both 58 = .ok (.iaload, 1) := by decide +kernel
theorem d_T_both_59 : decode b_T_both 59 = .ok (.iload_n 2, 1) := by decide +kernel
theorem d_T_both_60 : decode b_T_both 60 = .ok (.invokevirtual 66, 3) := by decide +kernel
theorem d_T_both_63 : decode b_T_both 63 = .ok (.invokevirtual 55, 3) := by decide +kernel
theorem d_T_both_66 : decode b_T_both 66 = .ok (.ireturn, 1) := by decide +kernel
theorem d_T_both_67 : decode b_T_both 67 = .ok (.aload_n 0, 1) := by decide +kernel
theorem d_T_both_68 : decode b_T_both 68 = .ok (.aload_n 0, 1) := by decide +kernel
theorem d_T_both_69 : decode b_T_both 69 = .ok (.iload_n 1, 1) := by decide +kernel
theorem d_T_both_70 : decode b_T_both 70 = .ok (.aload_n 0, 1) := by decide +kernel
theorem d_T_both_71 : decode b_T_both 71 = .ok (.getfield 18, 3) := by decide +kernel
theorem d_T_both_74 : decode b_T_both 74 = .ok (.iload_n 2, 1) := by decide +kernel
theorem d_T_both_75 : decode b_T_both 75 = .ok (.iaload, 1) := by decide +kernel
theorem d_T_both_76 : decode b_T_both 76 = .ok (.invokevirtual 66, 3) := by decide +kernel
theorem d_T_both_79 : decode b_T_both 79 = .ok (.aload_n 0, 1) := by decide +kernel
theorem d_T_both_80 : decode b_T_both 80 = .ok (.getfield 24, 3) := by decide +kernel
theorem d_T_both_83 : decode b_T_both 83 = .ok (.iload_n 2, 1) := by decide +kernel
theorem d_T_both_84 : decode b_T_both 84 = .ok (.saload, 1) := by decide +kernel
theorem d_T_both_85 : decode b_T_both 85 = .ok (.aload_n 0, 1) := by decide +kernel
theorem d_T_both_86 : decode b_T_both 86 = .ok (.getfield 28, 3) := by decide +kernel
theorem d_T_both_89 : decode b_T_both 89 = .ok (.iload_n 2, 1) := by decide +kernel
theorem d_T_both_90 : decode b_T_both 90 = .ok (.iaload, 1) := by decide +kernel
theorem d_T_both_91 : decode b_T_both 91 = .ok (.aload_n 0, 1) := by decide +kernel
theorem d_T_both_92 : decode b_T_both 92 = .ok (.getfield 21, 3) := by decide +kernel
theorem d_T_both_95 : decode b_T_both 95 = .ok (.iload_n 2, 1) := by decide +kernel
theorem d_T_both_96 : decode b_T_both 96 = .ok (.iaload, 1) := by decide +kernel
theorem d_T_both_97 : decode b_T_both 97 = .ok (.invokevirtual 55, 3) := by decide +kernel
theorem d_T_both_100 : decode b_T_both 100 = .ok (.ireturn, 1) := by decide +kernel
theorem d_T_find_0 : decode b_T_find 0 = .ok (.iload_n 1, 1) := by decide +kernel
theorem d_T_find_1 : decode b_T_find 1 = .ok (.istore_n 3, 1) := by decide +kernel
theorem d_T_find_2 : decode b_T_find 2 = .ok (.iload_n 3, 1) := by decide +kernel
theorem d_T_find_3 : decode b_T_find 3 = .ok (.ifCond .eq 42, 3) := by decide +kernel
theorem d_T_find_6 : decode b_T_find 6 = .ok (.aload_n 0, 1) := by decide +kernel
theorem d_T_find_7 : decode b_T_find 7 = .ok (.getfield 24, 3) := by decide +kernel
theorem d_T_find_10 : decode b_T_find 10 = .ok (.iload_n 3, 1) := by decide +kernel
theorem d_T_find_11 : decode b_T_find 11 = .ok (.saload, 1) := by decide +kernel
theorem d_T_find_12 : decode b_T_find 12 = .ok (.iload_n 2, 1) := by decide +kernel
theorem d_T_find_13 : decode b_T_find 13 = .ok (.if_icmp .eq 32, 3) := by decide +kernel
theorem d_T_find_16 : decode b_T_find 16 = .ok (.iload_n 2, 1) := by decide +kernel
theorem d_T_find_17 : decode b_T_find 17 = .ok (.aload_n 0, 1) := by decide +kernel
theorem d_T_find_18 : decode b_T_find 18 = .ok (.getfield 24, 3) := by decide +kernel
theorem d_T_find_21 : decode b_T_find 21 = .ok (.iload_n 3, 1) := by decide +kernel
theorem d_T_find_22 : decode b_T_find 22 = .ok (.saload, 1) := by decide +kernel
theorem d_T_find_23 : decode b_T_find 23 = .ok (.if_icmp .ge 12, 3) := by decide +kernel
theorem d_T_find_26 : decode b_T_find 26 = .ok (.aload_n 0, 1) := by decide +kernel
theorem d_T_find_27 : decode b_T_find 27 = .ok (.getfield 18, 3) := by decide +kernel
theorem d_T_find_30 : decode b_T_find 30 = .ok (.iload_n 3, 1) := by decide +kernel
theorem d_T_find_31 : decode b_T_find 31 = .ok (.iaload, 1) := by decide +kernel
theorem d_T_find_32 : decode b_T_find 32 = .ok (.goto 9, 3) := by decide +kernel
theorem d_T_find_35 : decode b_T_find 35 = .ok (.aload_n 0, 1) := by decide +kernel
theorem d_T_find_36 : decode b_T_find 36 = .ok (.getfield 21, 3) := by decide +kernel
theorem d_T_find_39 : decode b_T_find 39 = .ok (.iload_n 3, 1) := by decide +kernel
theorem d_T_find_40 : decode b_T_find 40 = .ok (.iaload, 1) := by decide +kernel
theorem d_T_find_41 : decode b_T_find 41 = .ok (.istore_n 3, 1) := by decide +kernel
theorem d_T_find_42 : decode b_T_find 42 = .ok (.goto (-40), 3) := by decide +kernel
theorem d_T_find_45 : decode b_T_find 45 = .ok (.iload_n 3, 1) := by decide +kernel
theorem d_T_find_46 : decode b_T_find 46 = .ok (.ireturn, 1) := by decide +kernel
theorem d_T_add_0 : decode b_T_add 0 = .ok (.aload_n 0, 1) := by decide +kernel
theorem d_T_add_1 : decode b_T_add 1 = .ok (.getfield 7, 3) := by decide +kernel
theorem d_T_add_4 : decode b_T_add 4 = .ok (.aload_n 0, 1) := by decide +kernel
theorem d_T_add_5 : decode b_T_add 5 = .ok (.getfield 13, 3) := by decide +kernel
theorem d_T_add_8 : decode b_T_add 8 = .ok (.iload_n 1, 1) := by decide +kernel
theorem d_T_add_9 : decode b_T_add 9 = .ok (.iastore, 1) := by decide +kernel
theorem d_T_add_10 : decode b_T_add 10 = .ok (.aload_n 0, 1) := by decide +kernel
theorem d_T_add_11 : decode b_T_add 11 = .ok (.dup, 1) := by decide +kernel
theorem d_T_add_12 : decode b_T_add 12 = .ok (.getfield 13, 3) := by decide +kernel
theorem d_T_add_15 : decode b_T_add 15 = .ok (.iconst 1, 1) := by decide +kernel
theorem d_T_add_16 : decode b_T_add 16 = .ok (.iadd, 1) := by decide +kernel
theorem d_T_add_17 : decode b_T_add 17 = .ok (.putfield 13, 3) := by decide +kernel
theorem d_T_add_20 : decode b_T_add 20 = .ok (.aload_n 0, 1) := by decide +kernel
theorem d_T_add_21 : decode b_T_add 21 = .ok (.getfield 13, 3) := by decide +kernel
theorem d_T_add_24 : decode b_T_add 24 = .ok (.iconst 1, 1) := by decide +kernel
theorem d_T_add_25 : decode b_T_add 25 = .ok (.isub, 1) := by decide +kernel
theorem d_T_add_26 : decode b_T_add 26 = .ok (.ireturn, 1) := by decide +kernel
theorem d_T_put_0 : decode b_T_put 0 = .ok (.aload_n 0, 1) := by decide +kernel
theorem d_T_put_1 : decode b_T_put 1 = .ok (.iload_n 1, 1) := by decide +kernel
theorem d_T_put_2 : decode b_T_put 2 = .ok (.invokevirtual 69, 3) := by decide +kernel
theorem d_T_put_5 : decode b_T_put 5 = .ok (.iload_n 2, 1) := by decide +kernel
theorem d_T_put_6 : decode b_T_put 6 = .ok (.invokestatic 73, 3) := by decide +kernel
theorem d_T_put_9 : decode b_T_put 9 = .ok (.aload_n 0, 1) := by decide +kernel
theorem d_T_put_10 : decode b_T_put 10 = .ok (.invokevirtual 76, 3) := by decide +kernel
theorem d_T_put_13 : decode b_T_put 13 = .ok (.aload_n 0, 1) := by decide +kernel
theorem d_T_put_14 : decode b_T_put 14 = .ok (.aload_n 0, 1) := by decide +kernel
theorem d_T_put_15 : decode b_T_put 15 = .ok (.getfield 7, 3) := by decide +kernel
theorem d_T_put_18 : decode b_T_put 18 = .ok (.iload_n 1, 1) := by decide +kernel
theorem d_T_put_19 : decode b_T_put 19 = .ok (.iaload, 1) := by decide +kernel
theorem d_T_put_20 : decode b_T_put 20 = .ok (.iload_n 2, 1) := by decide +kernel
theorem d_T_put_21 : decode b_T_put 21 = .ok (.invokevirtual 79, 3) := by decide +kernel
theorem d_T_put_24 : decode b_T_put 24 = .ok (.istore 4, 2) := by decide +kernel
theorem d_T_put_26 : decode b_T_put 26 = .ok (.iload 4, 2) := by decide +kernel
theorem d_T_put_28 : decode b_T_put 28 = .ok (.ifCond .eq 25, 3) := by decide +kernel
theorem d_T_put_31 : decode b_T_put 31 = .ok (.aload_n 0, 1) := by decide +kernel
theorem d_T_put_32 : decode b_T_put 32 = .ok (.getfield 28, 3) := by decide +kernel
theorem d_T_put_35 : decode b_T_put 35 = .ok (.iload 4, 2) := by decide +kernel
theorem d_T_put_37 : decode b_T_put 37 = .ok (.iaload, 1) := by decide +kernel
theorem d_T_put_38 : decode b_T_put 38 = .ok (.iload_n 3, 1) := by decide +kernel
theorem d_T_put_39 : decode b_T_put 39 = .ok (.if_icmp .ne 14, 3) := by decide +kernel
theorem d_T_put_42 : decode b_T_put 42 = .ok (.aload_n 0, 1) := by decide +kernel
theorem d_T_put_43 : decode b_T_put 43 = .ok (.aload_n 0, 1) := by decide +kernel
theorem d_T_put_44 : decode b_T_put 44 = .ok (.getfield 7, 3) := by decide +kernel
theorem d_T_put_47 : decode b_T_put 47 = .ok (.iload_n 1, 1) := by decide +kernel
theorem d_T_put_48 : decode b_T_put 48 = .ok (.iaload, 1) := by decide +kernel
theorem d_T_put_49 : decode b_T_put 49 = .ok (.invokevirtual 82, 3) := by decide +kernel
theorem d_T_put_52 : decode b_T_put 52 = .ok (.ireturn, 1) := by decide +kernel
theorem d_T_put_53 : decode b_T_put 53 = .ok (.aload_n 0, 1) := by decide +kernel
theorem d_T_put_54 : decode b_T_put 54 = .ok (.iconst 0, 1) := by decide +kernel
theorem d_T_put_55 : decode b_T_put 55 = .ok (.iload_n 2, 1) := by decide +kernel
theorem d_T_put_56 : decode b_T_put 56 = .ok (.iload_n 3, 1) := by decide +kernel
theorem d_T_put_57 : decode b_T_put 57 = .ok (.iconst 0, 1) := by decide +kernel
theorem d_T_put_58 : decode b_T_put 58 = .ok (.invokevirtual 55, 3) := by decide +kernel
theorem d_T_put_61 : decode b_T_put 61 = .ok (.istore 5, 2) := by decide +kernel
theorem d_T_put_63 : decode b_T_put 63 = .ok (.aload_n 0, 1) := by decide +kernel
theorem d_T_put_64 : decode b_T_put 64 = .ok (.aload_n 0, 1) := by decide +kernel
theorem d_T_put_65 : decode b_T_put 65 = .ok (.aload_n 0, 1) := by decide +kernel
theorem d_T_put_66 : decode b_T_put 66 = .ok (.aload_n 0, 1) := by decide +kernel
theorem d_T_put_67 : decode b_T_put 67 = .ok (.aload_n 0, 1) := by decide +kernel
theorem d_T_put_68 : decode b_T_put 68 = .ok (.getfield 7, 3) := by decide +kernel
theorem d_T_put_71 : decode b_T_put 71 = .ok (.iload_n 1, 1) := by decide +kernel
theorem d_T_put_72 : decode b_T_put 72 = .ok (.iaload, 1) := by decide +kernel
theorem d_T_put_73 : decode b_T_put 73 = .ok (.iload_n 2, 1) := by decide +kernel
theorem d_T_put_74 : decode b_T_put 74 = .ok (.invokevirtual 51, 3) := by decide +kernel
theorem d_T_put_77 : decode b_T_put 77 = .ok (.iload 5, 2) := by decide +kernel
theorem d_T_put_79 : decode b_T_put 79 = .ok (.invokevirtual 66, 3) := by decide +kernel
theorem d_T_put_82 : decode b_T_put 82 = .ok (.aload_n 0, 1) := by decide +kernel
theorem d_T_put_83 : decode b_T_put 83 = .ok (.aload_n 0, 1) := by decide +kernel
theorem d_T_put_84 : decode b_T_put 84 = .ok (.getfield 7, 3) := by decide +kernel
theorem d_T_put_87 : decode b_T_put 87 = .ok (.iload_n 1, 1) := by decide +kernel
theorem d_T_put_88 : decode b_T_put 88 = .ok (.iaload, 1) := by decide +kernel
theorem d_T_put_89 : decode b_T_put 89 = .ok (.iload_n 2, 1) := by decide +kernel
theorem d_T_put_90 : decode b_T_put 90 = .ok (.iconst 1, 1) := by decide +kernel
theorem d_T_put_91 : decode b_T_put 91 = .ok (.iadd, 1) := by decide +kernel
theorem d_T_put_92 : decode b_T_put 92 = .ok (.invokevirtual 59, 3) := by decide +kernel
theorem d_T_put_95 : decode b_T_put 95 = .ok (.invokevirtual 66, 3) := by decide +kernel
theorem d_T_put_98 : decode b_T_put 98 = .ok (.invokevirtual 82, 3) := by decide +kernel
theorem d_T_put_101 : decode b_T_put 101 = .ok (.ireturn, 1) := by decide +kernel
theorem d_T_remove_0 : decode b_T_remove 0 = .ok (.aload_n 0, 1) := by decide +kernel
theorem d_T_remove_1 : decode b_T_remove 1 = .ok (.iload_n 1, 1) := by decide +kernel
theorem d_T_remove_2 : decode b_T_remove 2 = .ok (.invokevirtual 69, 3) := by decide +kernel
theorem d_T_remove_5 : decode b_T_remove 5 = .ok (.iload_n 2, 1) := by decide +kernel
theorem d_T_remove_6 : decode b_T_remove 6 = .ok (.invokestatic 73, 3) := by decide +kernel
theorem d_T_remove_9 : decode b_T_remove 9 = .ok (.aload_n 0, 1) := by decide +kernel
theorem d_T_remove_10 : decode b_T_remove 10 = .ok (.invokevirtual 76, 3) := by decide +kernel
theorem d_T_remove_13 : decode b_T_remove 13 = .ok (.aload_n 0, 1) := by decide +kernel
theorem d_T_remove_14 : decode b_T_remove 14 = .ok (.aload_n 0, 1) := by decide +kernel
theorem d_T_remove_15 : decode b_T_remove 15 = .ok (.getfield 7, 3) := by decide +kernel
theorem d_T_remove_18 : decode b_T_remove 18 = .ok (.iload_n 1, 1) := by decide +kernel
theorem d_T_remove_19 : decode b_T_remove 19 = .ok (.iaload, 1) := by decide +kernel
theorem d_T_remove_20 : decode b_T_remove 20 = .ok (.iload_n 2, 1) := by decide +kernel
theorem d_T_remove_21 : decode b_T_remove 21 = .ok (.invokevirtual 79, 3) := by decide +kernel
theorem d_T_remove_24 : decode b_T_remove 24 = .ok (.ifCond .ne 11, 3) := by decide +kernel
theorem d_T_remove_27 : decode b_T_remove 27 = .ok (.new 85, 3) := by decide +kernel
theorem d_T_remove_30 : decode b_T_remove 30 = .ok (.dup, 1) := by decide +kernel
theorem d_T_remove_31 : decode b_T_remove 31 = .ok (.invokespecial 87, 3) := by decide +kernel
theorem d_T_remove_34 : decode b_T_remove 34 = .ok (.athrow, 1) := by decide +kernel
theorem d_T_remove_35 : decode b_T_remove 35 = .ok (.aload_n 0, 1) := by decide +kernel
theorem d_T_remove_36 : decode b_T_remove 36 = .ok (.aload_n 0, 1) := by decide +kernel
theorem d_T_remove_37 : decode b_T_remove 37 = .ok (.aload_n 0, 1) := by decide +kernel
theorem d_T_remove_38 : decode b_T_remove 38 = .ok (.aload_n 0, 1) := by decide +kernel
theorem d_T_remove_39 : decode b_T_remove 39 = .ok (.getfield 7, 3) := by decide +kernel
theorem d_T_remove_42 : decode b_T_remove 42 = .ok (.iload_n 1, 1) := by decide +kernel
theorem d_T_remove_43 : decode b_T_remove 43 = .ok (.iaload, 1) := by decide +kernel
theorem d_T_remove_44 : decode b_T_remove 44 = .ok (.iload_n 2, 1) := by decide +kernel
theorem d_T_remove_45 : decode b_T_remove 45 = .ok (.invokevirtual 51, 3) := by decide +kernel
theorem d_T_remove_48 : decode b_T_remove 48 = .ok (.aload_n 0, 1) := by decide +kernel
theorem d_T_remove_49 : decode b_T_remove 49 = .ok (.aload_n 0, 1) := by decide +kernel
theorem d_T_remove_50 : decode b_T_remove 50 = .ok (.getfield 7, 3) := by decide +kernel
theorem d_T_remove_53 : decode b_T_remove 53 = .ok (.iload_n 1, 1) := by decide +kernel
theorem d_T_remove_54 : decode b_T_remove 54 = .ok (.iaload, 1) := by decide +kernel
theorem d_T_remove_55 : decode b_T_remove 55 = .ok (.iload_n 2, 1) := by decide +kernel
theorem d_T_remove_56 : decode b_T_remove 56 = .ok (.iconst 1, 1) := by decide +kernel
theorem d_T_remove_57 : decode b_T_remove 57 = .ok (.iadd, 1) := by decide +kernel
theorem d_T_remove_58 : decode b_T_remove 58 = .ok (.invokevirtual 59, 3) := by decide +kernel
theorem d_T_remove_61 : decode b_T_remove 61 = .ok (.invokevirtual 66, 3) := by decide +kernel
theorem d_T_remove_64 : decode b_T_remove 64 = .ok (.invokevirtual 82, 3) := by decide +kernel
theorem d_T_remove_67 : decode b_T_remove 67 = .ok (.ireturn, 1) := by decide +kernel
theorem d_T_join_0 : decode b_T_join 0 = .ok (.aload_n 0, 1) := by decide +kernel
theorem d_T_join_1 : decode b_T_join 1 = .ok (.iload_n 1, 1) := by decide +kernel
theorem d_T_join_2 : decode b_T_join 2 = .ok (.invokevirtual 69, 3) := by decide +kernel
theorem d_T_join_5 : decode b_T_join 5 = .ok (.aload_n 0, 1) := by decide +kernel
theorem d_T_join_6 : decode b_T_join 6 = .ok (.iload_n 2, 1) := by decide +kernel
theorem d_T_join_7 : decode b_T_join 7 = .ok (.invokevirtual 69, 3) := by decide +kernel
theorem d_T_join_10 : decode b_T_join 10 = .ok (.iload_n 3, 1) := by decide +kernel
theorem d_T_join_11 : decode b_T_join 11 = .ok (.ifCond .lt 14, 3) := by decide +kernel
theorem d_T_join_14 : decode b_T_join 14 = .ok (.iload_n 3, 1) := by decide +kernel
theorem d_T_join_15 : decode b_T_join 15 = .ok (.sipush 256, 3) := by decide +kernel
theorem d_T_join_18 : decode b_T_join 18 = .ok (.if_icmp .gt 7, 3) := by decide +kernel
theorem d_T_join_21 : decode b_T_join 21 = .ok (.iconst 1, 1) := by decide +kernel
theorem d_T_join_22 : decode b_T_join 22 = .ok (.goto 4, 3) := by decide +kernel
theorem d_T_join_25 : decode b_T_join 25 = .ok (.iconst 0, 1) := by decide +kernel
theorem d_T_join_26 : decode b_T_join 26 = .ok (.invokestatic 44, 3) := by decide +kernel
theorem d_T_join_29 : decode b_T_join 29 = .ok (.aload_n 0, 1) := by decide +kernel
theorem d_T_join_30 : decode b_T_join 30 = .ok (.invokevirtual 76, 3) := by decide +kernel
theorem d_T_join_33 : decode b_T_join 33 = .ok (.aload_n 0, 1) := by decide +kernel
theorem d_T_join_34 : decode b_T_join 34 = .ok (.aload_n 0, 1) := by decide +kernel
theorem d_T_join_35 : decode b_T_join 35 = .ok (.aload_n 0, 1) := by decide +kernel
theorem d_T_join_36 : decode b_T_join 36 = .ok (.aload_n 0, 1) := by decide +kernel
theorem d_T_join_37 : decode b_T_join 37 = .ok (.getfield 7, 3) := by decide +kernel
theorem d_T_join_40 : decode b_T_join 40 = .ok (.iload_n 1, 1) := by decide +kernel
theorem d_T_join_41 : decode b_T_join 41 = .ok (.iaload, 1) := by decide +kernel
theorem d_T_join_42 : decode b_T_join 42 = .ok (.iload_n 3, 1) := by decide +kernel
theorem d_T_join_43 : decode b_T_join 43 = .ok (.invokevirtual 51, 3) := by decide +kernel
theorem d_T_join_46 : decode b_T_join 46 = .ok (.aload_n 0, 1) := by decide +kernel
theorem d_T_join_47 : decode b_T_join 47 = .ok (.aload_n 0, 1) := by decide +kernel
theorem d_T_join_48 : decode b_T_join 48 = .ok (.getfield 7, 3) := by decide +kernel
theorem d_T_join_51 : decode b_T_join 51 = .ok (.iload_n 2, 1) := by decide +kernel
theorem d_T_join_52 : decode b_T_join 52 = .ok (.iaload, 1) := by decide +kernel
theorem d_T_join_53 : decode b_T_join 53 = .ok (.iload_n 3, 1) := by decide +kernel
theorem d_T_join_54 : decode b_T_join 54 = .ok (.invokevirtual 59, 3) := by decide +kernel
theorem d_T_join_57 : decode b_T_join 57 = .ok (.invokevirtual 66, 3) := by decide +kernel
theorem d_T_join_60 : decode b_T_join 60 = .ok (.invokevirtual 82, 3) := by decide +kernel
theorem d_T_join_63 : decode b_T_join 63 = .ok (.ireturn, 1) := by decide +kernel
theorem d_T_get_0 : decode b_T_get 0 = .ok (.aload_n 0, 1) := by decide +kernel
theorem d_T_get_1 : decode b_T_get 1 = .ok (.iload_n 1, 1) := by decide +kernel
theorem d_T_get_2 : decode b_T_get 2 = .ok (.invokevirtual 69, 3) := by decide +kernel
theorem d_T_get_5 : decode b_T_get 5 = .ok (.iload_n 2, 1) := by decide +kernel
theorem d_T_get_6 : decode b_T_get 6 = .ok (.invokestatic 73, 3) := by decide +kernel
theorem d_T_get_9 : decode b_T_get 9 = .ok (.aload_n 0, 1) := by decide +kernel
theorem d_T_get_10 : decode b_T_get 10 = .ok (.aload_n 0, 1) := by decide +kernel
theorem d_T_get_11 : decode b_T_get 11 = .ok (.getfield 7, 3) := by decide +kernel
theorem d_T_get_14 : decode b_T_get 14 = .ok (.iload_n 1, 1) := by decide +kernel
theorem d_T_get_15 : decode b_T_get 15 = .ok (.iaload, 1) := by decide +kernel
theorem d_T_get_16 : decode b_T_get 16 = .ok (.iload_n 2, 1) := by decide +kernel
theorem d_T_get_17 : decode b_T_get 17 = .ok (.invokevirtual 79, 3) := by decide +kernel
theorem d_T_get_20 : decode b_T_get 20 = .ok (.istore_n 3, 1) := by decide +kernel
theorem d_T_get_21 : decode b_T_get 21 = .ok (.iload_n 3, 1) := by decide +kernel
theorem d_T_get_22 : decode b_T_get 22 = .ok (.ifCond .ne 11, 3) := by decide +kernel
theorem d_T_get_25 : decode b_T_get 25 = .ok (.new 85, 3) := by decide +kernel
theorem d_T_get_28 : decode b_T_get 28 = .ok (.dup, 1) := by decide +kernel
theorem d_T_get_29 : decode b_T_get 29 = .ok (.invokespecial 87, 3) := by decide +kernel
theorem d_T_get_32 : decode b_T_get 32 = .ok (.athrow, 1) := by decide +kernel
theorem d_T_get_33 : decode b_T_get 33 = .ok (.aload_n 0, 1) := by decide +kernel
theorem d_T_get_34 : decode b_T_get 34 = .ok (.getfield 28, 3) := by decide +kernel
theorem d_T_get_37 : decode b_T_get 37 = .ok (.iload_n 3, 1) := by decide +kernel
theorem d_T_get_38 : decode b_T_get 38 = .ok (.iaload, 1) := by decide +kernel
theorem d_T_get_39 : decode b_T_get 39 = .ok (.ireturn, 1) := by decide +kernel
theorem d_T_select_0 : decode b_T_select 0 = .ok (.aload_n 0, 1) := by decide +kernel
theorem d_T_select_1 : decode b_T_select 1 = .ok (.iload_n 1, 1) := by decide +kernel
theorem d_T_select_2 : decode b_T_select 2 = .ok (.invokevirtual 69, 3) := by decide +kernel
theorem d_T_select_5 : decode b_T_select 5 = .ok (.iload_n 2, 1) := by decide +kernel
theorem d_T_select_6 : decode b_T_select 6 = .ok (.ifCond .lt 22, 3) := by decide +kernel
theorem d_T_select_9 : decode b_T_select 9 = .ok (.iload_n 2, 1) := by decide +kernel
theorem d_T_select_10 : decode b_T_select 10 = .ok (.aload_n 0, 1) := by decide +kernel
theorem d_T_select_11 : decode b_T_select 11 = .ok (.getfield 31, 3) := by decide +kernel
theorem d_T_select_14 : decode b_T_select 14 = .ok (.aload_n 0, 1) := by decide +kernel
theorem d_T_select_15 : decode b_T_select 15 = .ok (.getfield 7, 3) := by decide +kernel
theorem d_T_select_18 : decode b_T_select 18 = .ok (.iload_n 1, 1) := by decide +kernel
theorem d_T_select_19 : decode b_T_select 19 = .ok (.iaload, 1) := by decide +kernel
theorem d_T_select_20 : decode b_T_select 20 = .ok (.saload, 1) := by decide +kernel
theorem d_T_select_21 : decode b_T_select 21 = .ok (.if_icmp .ge 7, 3) := by decide +kernel
theorem d_T_select_24 : decode b_T_select 24 = .ok (.iconst 1, 1) := by decide +kernel
theorem d_T_select_25 : decode b_T_select 25 = .ok (.goto 4, 3) := by decide +kernel
theorem d_T_select_28 : decode b_T_select 28 = .ok (.iconst 0, 1) := by decide +kernel
theorem d_T_select_29 : decode b_T_select 29 = .ok (.invokestatic 44, 3) := by decide +kernel
theorem d_T_select_32 : decode b_T_select 32 = .ok (.aload_n 0, 1) := by decide +kernel
theorem d_T_select_33 : decode b_T_select 33 = .ok (.getfield 7, 3) := by decide +kernel
theorem d_T_select_36 : decode b_T_select 36 = .ok (.iload_n 1, 1) := by decide +kernel
theorem d_T_select_37 : decode b_T_select 37 = .ok (.iaload, 1) := by decide +kernel
theorem d_T_select_38 : decode b_T_select 38 = .ok (.istore_n 3, 1) := by decide +kernel
theorem d_T_select_39 : decode b_T_select 39 = .ok (.iload_n 2, 1) := by decide +kernel
theorem d_T_select_40 : decode b_T_select 40 = .ok (.istore 4, 2) := by decide +kernel
theorem d_T_select_42 : decode b_T_select 42 = .ok (.aload_n 0, 1) := by decide +kernel
theorem d_T_select_43 : decode b_T_select 43 = .ok (.getfield 31, 3) := by decide +kernel
theorem d_T_select_46 : decode b_T_select 46 = .ok (.aload_n 0, 1) := by decide +kernel
theorem d_T_select_47 : decode b_T_select 47 = .ok (.getfield 18, 3) := by decide +kernel
theorem d_T_select_50 : decode b_T_select 50 = .ok (.iload_n 3, 1) := by decide +kernel
theorem d_T_select_51 : decode b_T_select 51 = .ok (.iaload, 1) := by decide +kernel
theorem d_T_select_52 : decode b_T_select 52 = .ok (.saload, 1) := by decide +kernel
theorem d_T_select_53 : decode b_T_select 53 = .ok (.iload 4, 2) := by decide +kernel
theorem d_T_select_55 : decode b_T_select 55 = .ok (.if_icmp .eq 57, 3) := by decide +kernel
theorem d_T_select_58 : decode b_T_select 58 = .ok (.iload 4, 2) := by decide +kernel
theorem d_T_select_60 : decode b_T_select 60 = .ok (.aload_n 0, 1) := by decide +kernel
theorem d_T_select_61 : decode b_T_select 61 = .ok (.getfield 31, 3) := by decide +kernel
theorem d_T_select_64 : decode b_T_select 64 = .ok (.aload_n 0, 1) := by decide +kernel
theorem d_T_select_65 : decode b_T_select 65 = .ok (.getfield 18, 3) := by decide +kernel
theorem d_T_select_68 : decode b_T_select 68 = .ok (.iload_n 3, 1) := by decide +kernel
theorem d_T_select_69 : decode b_T_select 69 = .ok (.iaload, 1) := by decide +kernel
theorem d_T_select_70 : decode b_T_select 70 = .ok (.saload, 1) := by decide +kernel
theorem d_T_select_71 : decode b_T_select 71 = .ok (.if_icmp .ge 13, 3) := by decide +kernel
theorem d_T_select_74 : decode b_T_select 74 = .ok (.aload_n 0, 1) := by decide +kernel
theorem d_T_select_75 : decode b_T_select 75 = .ok (.getfield 18, 3) := by decide +kernel
theorem d_T_select_78 : decode b_T_select 78 = .ok (.iload_n 3, 1) := by decide +kernel
theorem d_T_select_79 : decode b_T_select 79 = .ok (.iaload, 1) := by decide +kernel
theorem d_T_select_80 : decode b_T_select 80 = .ok (.istore_n 3, 1) := by decide +kernel
theorem d_T_select_81 : decode b_T_select 81 = .ok (.goto (-39), 3) := by decide +kernel
theorem d_T_select_84 : decode b_T_select 84 = .ok (.iload 4, 2) := by decide +kernel
theorem d_T_select_86 : decode b_T_select 86 = .ok (.aload_n 0, 1) := by decide +kernel
theorem d_T_select_87 : decode b_T_select 87 = .ok (.getfield 31, 3) := by decide +kernel
theorem d_T_select_90 : decode b_T_select 90 = .ok (.aload_n 0, 1) := by decide +kernel
theorem d_T_select_91 : decode b_T_select 91 = .ok (.getfield 18, 3) := by decide +kernel
theorem d_T_select_94 : decode b_T_select 94 = .ok (.iload_n 3, 1) := by decide +kernel
theorem d_T_select_95 : decode b_T_select 95 = .ok (.iaload, 1) := by decide +kernel
theorem d_T_select_96 : decode b_T_select 96 = .ok (.saload, 1) := by decide +kernel
theorem d_T_select_97 : decode b_T_select 97 = .ok (.iconst 1, 1) := by decide +kernel
theorem d_T_select_98 : decode b_T_select 98 = .ok (.iadd, 1) := by decide +kernel
theorem d_T_select_99 : decode b_T_select 99 = .ok (.isub, 1) := by decide +kernel
theorem d_T_select_100 : decode b_T_select 100 = .ok (.istore 4, 2) := by decide +kernel
theorem d_T_select_102 : decode b_T_select 102 = .ok (.aload_n 0, 1) := by decide +kernel
theorem d_T_select_103 : decode b_T_select 103 = .ok (.getfield 21, 3) := by decide +kernel
theorem d_T_select_106 : decode b_T_select 106 = .ok (.iload_n 3, 1) := by decide +kernel
theorem d_T_select_107 : decode b_T_select 107 = .ok (.iaload, 1) := by decide +kernel
theorem d_T_select_108 : decode b_T_select 108 = .ok (.istore_n 3, 1) := by decide +kernel
theorem d_T_select_109 : decode b_T_select 109 = .ok (.goto (-67), 3) := by decide +kernel
theorem d_T_select_112 : decode b_T_select 112 = .ok (.aload_n 0, 1) := by decide +kernel
theorem d_T_select_113 : decode b_T_select 113 = .ok (.getfield 24, 3) := by decide +kernel
theorem d_T_select_116 : decode b_T_select 116 = .ok (.iload_n 3, 1) := by decide +kernel
theorem d_T_select_117 : decode b_T_select 117 = .ok (.saload, 1) := by decide +kernel
theorem d_T_select_118 : decode b_T_select 118 = .ok (.ireturn, 1) := by decide +kernel
theorem d_T_pass_0 : decode b_T_pass 0 = .ok (.aload_n 0, 1) := by decide +kernel
theorem d_T_pass_1 : decode b_T_pass 1 = .ok (.iconst 0, 1) := by decide +kernel
theorem d_T_pass_2 : decode b_T_pass 2 = .ok (.putfield 88, 3) := by decide +kernel
theorem d_T_pass_5 : decode b_T_pass 5 = .ok (.aload_n 0, 1) := by decide +kernel
theorem d_T_pass_6 : decode b_T_pass 6 = .ok (.lconst 0, 1) := by decide +kernel
theorem d_T_pass_7 : decode b_T_pass 7 = .ok (.putfield 91, 3) := by decide +kernel
theorem d_T_pass_10 : decode b_T_pass 10 = .ok (.iload_n 1, 1) := by decide +kernel
theorem d_T_pass_11 : decode b_T_pass 11 = .ok (.istore_n 3, 1) := by decide +kernel
theorem d_T_pass_12 : decode b_T_pass 12 = .ok (.iload_n 3, 1) := by decide +kernel
theorem d_T_pass_13 : decode b_T_pass 13 = .ok (.ifCond .eq 83, 3) := by decide +kernel
theorem d_T_pass_16 : decode b_T_pass 16 = .ok (.aload_n 0, 1) := by decide +kernel
theorem d_T_pass_17 : decode b_T_pass 17 = .ok (.getfield 24, 3) := by decide +kernel
theorem d_T_pass_20 : decode b_T_pass 20 = .ok (.iload_n 3, 1) := by decide +kernel
theorem d_T_pass_21 : decode b_T_pass 21 = .ok (.saload, 1) := by decide +kernel
theorem d_T_pass_22 : decode b_T_pass 22 = .ok (.iload_n 2, 1) := by decide +kernel
theorem d_T_pass_23 : decode b_T_pass 23 = .ok (.if_icmp .ge 63, 3) := by decide +kernel
theorem d_T_pass_26 : decode b_T_pass 26 = .ok (.aload_n 0, 1) := by decide +kernel
theorem d_T_pass_27 : decode b_T_pass 27 = .ok (.dup, 1) := by decide +kernel
theorem d_T_pass_28 : decode b_T_pass 28 = .ok (.getfield 88, 3) := by decide +kernel
theorem d_T_pass_31 : decode b_T_pass 31 = .ok (.aload_n 0, 1) := by decide +kernel
theorem d_T_pass_32 : decode b_T_pass 32 = .ok (.getfield 31, 3) := by decide +kernel
theorem d_T_pass_35 : decode b_T_pass 35 = .ok (.aload_n 0, 1) := by decide +kernel
theorem d_T_pass_36 : decode b_T_pass 36 = .ok (.getfield 18, 3) := by decide +kernel
theorem d_T_pass_39 : decode b_T_pass 39 = .ok (.iload_n 3, 1) := by decide +kernel
theorem d_T_pass_40 : decode b_T_pass 40 = .ok (.iaload, 1) := by decide +kernel
theorem d_T_pass_41 : decode b_T_pass 41 = .ok (.saload, 1) := by decide +kernel
theorem d_T_pass_42 : decode b_T_pass 42 = .ok (.iconst 1, 1) := by decide +kernel
theorem d_T_pass_43 : decode b_T_pass 43 = .ok (.iadd, 1) := by decide +kernel
theorem d_T_pass_44 : decode b_T_pass 44 = .ok (.iadd, 1) := by decide +kernel
theorem d_T_pass_45 : decode b_T_pass 45 = .ok (.putfield 88, 3) := by decide +kernel
theorem d_T_pass_48 : decode b_T_pass 48 = .ok (.aload_n 0, 1) := by decide +kernel
theorem d_T_pass_49 : decode b_T_pass 49 = .ok (.dup, 1) := by decide +kernel
theorem d_T_pass_50 : decode b_T_pass 50 = .ok (.getfield 91, 3) := by decide +kernel
theorem d_T_pass_53 : decode b_T_pass 53 = .ok (.aload_n 0, 1) := by decide +kernel
theorem d_T_pass_54 : decode b_T_pass 54 = .ok (.getfield 34, 3) := by decide +kernel
theorem d_T_pass_57 : decode b_T_pass 57 = .ok (.aload_n 0, 1) := by decide +kernel
theorem d_T_pass_58 : decode b_T_pass 58 = .ok (.getfield 18, 3) := by decide +kernel
theorem d_T_pass_61 : decode b_T_pass 61 = .ok (.iload_n 3, 1) := by decide +kernel
theorem d_T_pass_62 : decode b_T_pass 62 = .ok (.iaload, 1) := by decide +kernel
theorem d_T_pass_63 : decode b_T_pass 63 = .ok (.laload, 1) := by decide +kernel
theorem d_T_pass_64 : decode b_T_pass 64 = .ok (.aload_n 0, 1) := by decide +kernel
theorem d_T_pass_65 : decode b_T_pass 65 = .ok (.getfield 28, 3) := by decide +kernel
theorem d_T_pass_68 : decode b_T_pass 68 = .ok (.iload_n 3, 1) := by decide +kernel
theorem d_T_pass_69 : decode b_T_pass 69 = .ok (.iaload, 1) := by decide +kernel
theorem d_T_pass_70 : decode b_T_pass 70 = .ok (.i2l, 1) := by decide +kernel
theorem d_T_pass_71 : decode b_T_pass 71 = .ok (.ladd, 1) := by decide +kernel
theorem d_T_pass_72 : decode b_T_pass 72 = .ok (.ladd, 1) := by decide +kernel
theorem d_T_pass_73 : decode b_T_pass 73 = .ok (.putfield 91, 3) := by decide +kernel
theorem d_T_pass_76 : decode b_T_pass 76 = .ok (.aload_n 0, 1) := by decide +kernel
theorem d_T_pass_77 : decode b_T_pass 77 = .ok (.getfield 21, 3) := by decide +kernel
theorem d_T_pass_80 : decode b_T_pass 80 = .ok (.iload_n 3, 1) := by decide +kernel
theorem d_T_pass_81 : decode b_T_pass 81 = .ok (.iaload, 1) := by decide +kernel
theorem d_T_pass_82 : decode b_T_pass 82 = .ok (.istore_n 3, 1) := by decide +kernel
theorem d_T_pass_83 : decode b_T_pass 83 = .ok (.goto (-71), 3) := by decide +kernel
theorem d_T_pass_86 : decode b_T_pass 86 = .ok (.aload_n 0, 1) := by decide +kernel
theorem d_T_pass_87 : decode b_T_pass 87 = .ok (.getfield 18, 3) := by decide +kernel
theorem d_T_pass_90 : decode b_T_pass 90 = .ok (.iload_n 3, 1) := by decide +kernel
theorem d_T_pass_91 : decode b_T_pass 91 = .ok (.iaload, 1) := by decide +kernel
theorem d_T_pass_92 : decode b_T_pass 92 = .ok (.istore_n 3, 1) := by decide +kernel
theorem d_T_pass_93 : decode b_T_pass 93 = .ok (.goto (-81), 3) := by decide +kernel
theorem d_T_pass_96 : decode b_T_pass 96 = .ok (.return_, 1) := by decide +kernel
theorem d_T_many_0 : decode b_T_many 0 = .ok (.aload_n 0, 1) := by decide +kernel
theorem d_T_many_1 : decode b_T_many 1 = .ok (.iload_n 1, 1) := by decide +kernel
theorem d_T_many_2 : decode b_T_many 2 = .ok (.invokevirtual 69, 3) := by decide +kernel
theorem d_T_many_5 : decode b_T_many 5 = .ok (.iload_n 2, 1) := by decide +kernel
theorem d_T_many_6 : decode b_T_many 6 = .ok (.iload_n 3, 1) := by decide +kernel
theorem d_T_many_7 : decode b_T_many 7 = .ok (.if_icmp .lt 5, 3) := by decide +kernel
theorem d_T_many_10 : decode b_T_many 10 = .ok (.iconst 0, 1) := by decide +kernel
theorem d_T_many_11 : decode b_T_many 11 = .ok (.ireturn, 1) := by decide +kernel
theorem d_T_many_12 : decode b_T_many 12 = .ok (.aload_n 0, 1) := by decide +kernel
theorem d_T_many_13 : decode b_T_many 13 = .ok (.aload_n 0, 1) := by decide +kernel
theorem d_T_many_14 : decode b_T_many 14 = .ok (.getfield 7, 3) := by decide +kernel
theorem d_T_many_17 : decode b_T_many 17 = .ok (.iload_n 1, 1) := by decide +kernel
theorem d_T_many_18 : decode b_T_many 18 = .ok (.iaload, 1) := by decide +kernel
theorem d_T_many_19 : decode b_T_many 19 = .ok (.iload_n 2, 1) := by decide +kernel
theorem d_T_many_20 : decode b_T_many 20 = .ok (.invokevirtual 95, 3) := by decide +kernel
theorem d_T_many_23 : decode b_T_many 23 = .ok (.aload_n 0, 1) := by decide +kernel
theorem d_T_many_24 : decode b_T_many 24 = .ok (.getfield 88, 3) := by decide +kernel
theorem d_T_many_27 : decode b_T_many 27 = .ok (.istore 4, 2) := by decide +kernel
theorem d_T_many_29 : decode b_T_many 29 = .ok (.aload_n 0, 1) := by decide +kernel
theorem d_T_many_30 : decode b_T_many 30 = .ok (.aload_n 0, 1) := by decide +kernel
theorem d_T_many_31 : decode b_T_many 31 = .ok (.getfield 7, 3) := by decide +kernel
theorem d_T_many_34 : decode b_T_many 34 = .ok (.iload_n 1, 1) := by decide +kernel
theorem d_T_many_35 : decode b_T_many 35 = .ok (.iaload, 1) := by decide +kernel
theorem d_T_many_36 : decode b_T_many 36 = .ok (.iload_n 3, 1) := by decide +kernel
theorem d_T_many_37 : decode b_T_many 37 = .ok (.invokevirtual 95, 3) := by decide +kernel
theorem d_T_many_40 : decode b_T_many 40 = .ok (.aload_n 0, 1) := by decide +kernel
theorem d_T_many_41 : decode b_T_many 41 = .ok (.getfield 88, 3) := by decide +kernel
theorem d_T_many_44 : decode b_T_many 44 = .ok (.iload 4, 2) := by decide +kernel
theorem d_T_many_46 : decode b_T_many 46 = .ok (.isub, 1) := by decide +kernel
theorem d_T_many_47 : decode b_T_many 47 = .ok (.ireturn, 1) := by decide +kernel
theorem d_T_sum_0 : decode b_T_sum 0 = .ok (.aload_n 0, 1) := by decide +kernel
theorem d_T_sum_1 : decode b_T_sum 1 = .ok (.iload_n 1, 1) := by decide +kernel
theorem d_T_sum_2 : decode b_T_sum 2 = .ok (.invokevirtual 69, 3) := by decide +kernel
theorem d_T_sum_5 : decode b_T_sum 5 = .ok (.iload_n 2, 1) := by decide +kernel
theorem d_T_sum_6 : decode b_T_sum 6 = .ok (.iload_n 3, 1) := by decide +kernel
theorem d_T_sum_7 : decode b_T_sum 7 = .ok (.if_icmp .lt 5, 3) := by decide +kernel
theorem d_T_sum_10 : decode b_T_sum 10 = .ok (.lconst 0, 1) := by decide +kernel
theorem d_T_sum_11 : decode b_T_sum 11 = .ok (.lreturn, 1) := by decide +kernel
theorem d_T_sum_12 : decode b_T_sum 12 = .ok (.aload_n 0, 1) := by decide +kernel
theorem d_T_sum_13 : decode b_T_sum 13 = .ok (.aload_n 0, 1) := by decide +kernel
theorem d_T_sum_14 : decode b_T_sum 14 = .ok (.getfield 7, 3) := by decide +kernel
theorem d_T_sum_17 : decode b_T_sum 17 = .ok (.iload_n 1, 1) := by decide +kernel
theorem d_T_sum_18 : decode b_T_sum 18 = .ok (.iaload, 1) := by decide +kernel
theorem d_T_sum_19 : decode b_T_sum 19 = .ok (.iload_n 2, 1) := by decide +kernel
theorem d_T_sum_20 : decode b_T_sum 20 = .ok (.invokevirtual 95, 3) := by decide +kernel
theorem d_T_sum_23 : decode b_T_sum 23 = .ok (.aload_n 0, 1) := by decide +kernel
theorem d_T_sum_24 : decode b_T_sum 24 = .ok (.getfield 91, 3) := by decide +kernel
theorem d_T_sum_27 : decode b_T_sum 27 = .ok (.lstore 4, 2) := by decide +kernel
theorem d_T_sum_29 : decode b_T_sum 29 = .ok (.aload_n 0, 1) := by decide +kernel
theorem d_T_sum_30 : decode b_T_sum 30 = .ok (.aload_n 0, 1) := by decide +kernel
theorem d_T_sum_31 : decode b_T_sum 31 = .ok (.getfield 7, 3) := by decide +kernel
theorem d_T_sum_34 : decode b_T_sum 34 = .ok (.iload_n 1, 1) := by decide +kernel
theorem d_T_sum_35 : decode b_T_sum 35 = .ok (.iaload, 1) := by decide +kernel
theorem d_T_sum_36 : decode b_T_sum 36 = .ok (.iload_n 3, 1) := by decide +kernel
theorem d_T_sum_37 : decode b_T_sum 37 = .ok (.invokevirtual 95, 3) := by decide +kernel
theorem d_T_sum_40 : decode b_T_sum 40 = .ok (.aload_n 0, 1) := by decide +kernel
theorem d_T_sum_41 : decode b_T_sum 41 = .ok (.getfield 91, 3) := by decide +kernel
theorem d_T_sum_44 : decode b_T_sum 44 = .ok (.lload 4, 2) := by decide +kernel
theorem d_T_sum_46 : decode b_T_sum 46 = .ok (.lsub, 1) := by decide +kernel
theorem d_T_sum_47 : decode b_T_sum 47 = .ok (.lreturn, 1) := by decide +kernel
theorem d_T_others_0 : decode b_T_others 0 = .ok (.iload_n 1, 1) := by decide +kernel
theorem d_T_others_1 : decode b_T_others 1 = .ok (.iload_n 2, 1) := by decide +kernel
theorem d_T_others_2 : decode b_T_others 2 = .ok (.if_icmp .ne 5, 3) := by decide +kernel
theorem d_T_others_5 : decode b_T_others 5 = .ok (.iconst 0, 1) := by decide +kernel
theorem d_T_others_6 : decode b_T_others 6 = .ok (.ireturn, 1) := by decide +kernel
theorem d_T_others_7 : decode b_T_others 7 = .ok (.iload_n 1, 1) := by decide +kernel
theorem d_T_others_8 : decode b_T_others 8 = .ok (.ifCond .eq 7, 3) := by decide +kernel
theorem d_T_others_11 : decode b_T_others 11 = .ok (.iload_n 2, 1) := by decide +kernel
theorem d_T_others_12 : decode b_T_others 12 = .ok (.ifCond .ne 18, 3) := by decide +kernel
theorem d_T_others_15 : decode b_T_others 15 = .ok (.aload_n 0, 1) := by decide +kernel
theorem d_T_others_16 : decode b_T_others 16 = .ok (.getfield 31, 3) := by decide +kernel
theorem d_T_others_19 : decode b_T_others 19 = .ok (.iload_n 1, 1) := by decide +kernel
theorem d_T_others_20 : decode b_T_others 20 = .ok (.ifCond .ne 7, 3) := by decide +kernel
theorem d_T_others_23 : decode b_T_others 23 = .ok (.iload_n 2, 1) := by decide +kernel
theorem d_T_others_24 : decode b_T_others 24 = .ok (.goto 4, 3) := by decide +kernel
theorem d_T_others_27 : decode b_T_others 27 = .ok (.iload_n 1, 1) := by decide +kernel
theorem d_T_others_28 : decode b_T_others 28 = .ok (.saload, 1) := by decide +kernel
theorem d_T_others_29 : decode b_T_others 29 = .ok (.ireturn, 1) := by decide +kernel
theorem d_T_others_30 : decode b_T_others 30 = .ok (.aload_n 0, 1) := by decide +kernel
theorem d_T_others_31 : decode b_T_others 31 = .ok (.getfield 24, 3) := by decide +kernel
theorem d_T_others_34 : decode b_T_others 34 = .ok (.iload_n 1, 1) := by decide +kernel
theorem d_T_others_35 : decode b_T_others 35 = .ok (.saload, 1) := by decide +kernel
theorem d_T_others_36 : decode b_T_others 36 = .ok (.aload_n 0, 1) := by decide +kernel
theorem d_T_others_37 : decode b_T_others 37 = .ok (.getfield 24, 3) := by decide +kernel
theorem d_T_others_40 : decode b_T_others 40 = .ok (.iload_n 2, 1) := by decide +kernel
theorem d_T_others_41 : decode b_T_others 41 = .ok (.saload, 1) := by decide +kernel
theorem d_T_others_42 : decode b_T_others 42 = .ok (.if_icmp .ne 58, 3) := by decide +kernel
theorem d_T_others_45 : decode b_T_others 45 = .ok (.aload_n 0, 1) := by decide +kernel
theorem d_T_others_46 : decode b_T_others 46 = .ok (.aload_n 0, 1) := by decide +kernel
theorem d_T_others_47 : decode b_T_others 47 = .ok (.getfield 18, 3) := by decide +kernel
theorem d_T_others_50 : decode b_T_others 50 = .ok (.iload_n 1, 1) := by decide +kernel
theorem d_T_others_51 : decode b_T_others 51 = .ok (.iaload, 1) := by decide +kernel
theorem d_T_others_52 : decode b_T_others 52 = .ok (.aload_n 0, 1) := by decide +kernel
theorem d_T_others_53 : decode b_T_others 53 = .ok (.getfield 18, 3) := by decide +kernel
theorem d_T_others_56 : decode b_T_others 56 = .ok (.iload_n 2, 1) := by decide +kernel
theorem d_T_others_57 : decode b_T_others 57 = .ok (.iaload, 1) := by decide +kernel
theorem d_T_others_58 : decode b_T_others 58 = .ok (.invokevirtual 99, 3) := by decide +kernel
theorem d_T_others_61 : decode b_T_others 61 = .ok (.aload_n 0, 1) := by decide +kernel
theorem d_T_others_62 : decode b_T_others 62 = .ok (.getfield 28, 3) := by decide +kernel
theorem d_T_others_65 : decode b_T_others 65 = .ok (.iload_n 1, 1) := by decide +kernel
theorem d_T_others_66 : decode b_T_others 66 = .ok (.iaload, 1) := by decide +kernel
theorem d_T_others_67 : decode b_T_others 67 = .ok (.aload_n 0, 1) := by decide +kernel
theorem d_T_others_68 : decode b_T_others 68 = .ok (.getfield 28, 3) := by decide +kernel
theorem d_T_others_71 : decode b_T_others 71 = .ok (.iload_n 2, 1) := by decide +kernel
theorem d_T_others_72 : decode b_T_others 72 = .ok (.iaload, 1) := by decide +kernel
theorem d_T_others_73 : decode b_T_others 73 = .ok (.if_icmp .ne 7, 3) := by decide +kernel
theorem d_T_others_76 : decode b_T_others 76 = .ok (.iconst 0, 1) := by decide +kernel
theorem d_T_others_77 : decode b_T_others 77 = .ok (.goto 4, 3) := by decide +kernel
theorem d_T_others_80 : decode b_T_others 80 = .ok (.iconst 1, 1) := by decide +kernel
theorem d_T_others_81 : decode b_T_others 81 = .ok (.iadd, 1) := by decide +kernel
theorem d_T_others_82 : decode b_T_others 82 = .ok (.aload_n 0, 1) := by decide +kernel
theorem d_T_others_83 : decode b_T_others 83 = .ok (.aload_n 0, 1) := by decide +kernel
theorem d_T_others_84 : decode b_T_others 84 = .ok (.getfield 21, 3) := by decide +kernel
theorem d_T_others_87 : decode b_T_others 87 = .ok (.iload_n 1, 1) := by decide +kernel
theorem d_T_others_88 : decode b_T_others 88 = .ok (.iaload, 1) := by decide +kernel
theorem d_T_others_89 : decode b_T_others 89 = .ok (.aload_n 0, 1) := by decide +kernel
theorem d_T_others_90 : decode b_T_others 90 = .ok (.getfield 21, 3) := by decide +kernel
theorem d_T_others_93 : decode b_T_others 93 = .ok (.iload_n 2, 1) := by decide +kernel
theorem d_T_others_94 : decode b_T_others 94 = .ok (.iaload, 1) := by decide +kernel
theorem d_T_others_95 : decode b_T_others 95 = .ok (.invokevirtual 99, 3) := by decide +kernel
theorem d_T_others_98 : decode b_T_others 98 = .ok (.iadd, 1) := by decide +kernel
theorem d_T_others_99 : decode b_T_others 99 = .ok (.ireturn, 1) := by decide +kernel
theorem d_T_others_100 : decode b_T_others 100 = .ok (.aload_n 0, 1) := by decide +kernel
theorem d_T_others_101 : decode b_T_others 101 = .ok (.getfield 24, 3) := by decide +kernel
theorem d_T_others_104 : decode b_T_others 104 = .ok (.iload_n 1, 1) := by decide +kernel
theorem d_T_others_105 : decode b_T_others 105 = .ok (.saload, 1) := by decide +kernel
theorem d_T_others_106 : decode b_T_others 106 = .ok (.invokestatic 62, 3) := by decide +kernel
theorem d_T_others_109 : decode b_T_others 109 = .ok (.aload_n 0, 1) := by decide +kernel
theorem d_T_others_110 : decode b_T_others 110 = .ok (.getfield 24, 3) := by decide +kernel
theorem d_T_others_113 : decode b_T_others 113 = .ok (.iload_n 2, 1) := by decide +kernel
theorem d_T_others_114 : decode b_T_others 114 = .ok (.saload, 1) := by decide +kernel
theorem d_T_others_115 : decode b_T_others 115 = .ok (.invokestatic 62, 3) := by decide +kernel
theorem d_T_others_118 : decode b_T_others 118 = .ok (.if_icmp .le 7, 3) := by decide +kernel
theorem d_T_others_121 : decode b_T_others 121 = .ok (.iload_n 1, 1) := by decide +kernel
theorem d_T_others_122 : decode b_T_others 122 = .ok (.goto 4, 3) := by decide +kernel
theorem d_T_others_125 : decode b_T_others 125 = .ok (.iload_n 2, 1) := by decide +kernel
theorem d_T_others_126 : decode b_T_others 126 = .ok (.istore_n 3, 1) := by decide +kernel
theorem d_T_others_127 : decode b_T_others 127 = .ok (.iload_n 3, 1) := by decide +kernel
theorem d_T_others_128 : decode b_T_others 128 = .ok (.iload_n 1, 1) := by decide +kernel
theorem d_T_others_129 : decode b_T_others 129 = .ok (.if_icmp .ne 7, 3) := by decide +kernel
theorem d_T_others_132 : decode b_T_others 132 = .ok (.iload_n 2, 1) := by decide +kernel
theorem d_T_others_133 : decode b_T_others 133 = .ok (.goto 4, 3) := by decide +kernel
theorem d_T_others_136 : decode b_T_others 136 = .ok (.iload_n 1, 1) := by decide +kernel
theorem d_T_others_137 : decode b_T_others 137 = .ok (.istore 4, 2) := by decide +kernel
theorem d_T_others_139 : decode b_T_others 139 = .ok (.aload_n 0, 1) := by decide +kernel
theorem d_T_others_140 : decode b_T_others 140 = .ok (.getfield 38, 3) := by decide +kernel
theorem d_T_others_143 : decode b_T_others 143 = .ok (.istore 5, 2) := by decide +kernel
theorem d_T_others_145 : decode b_T_others 145 = .ok (.iconst 1, 1) := by decide +kernel
theorem d_T_others_146 : decode b_T_others 146 = .ok (.aload_n 0, 1) := by decide +kernel
theorem d_T_others_147 : decode b_T_others 147 = .ok (.aload_n 0, 1) := by decide +kernel
theorem d_T_others_148 : decode b_T_others 148 = .ok (.getfield 18, 3) := by decide +kernel
theorem d_T_others_151 : decode b_T_others 151 = .ok (.iload_n 3, 1) := by decide +kernel
theorem d_T_others_152 : decode b_T_others 152 = .ok (.iaload, 1) := by decide +kernel
theorem d_T_others_153 : decode b_T_others 153 = .ok (.aload_n 0, 1) := by decide +kernel
theorem d_T_others_154 : decode b_T_others 154 = .ok (.iload 4, 2) := by decide +kernel
theorem d_T_others_156 : decode b_T_others 156 = .ok (.aload_n 0, 1) := by decide +kernel
theorem d_T_others_157 : decode b_T_others 157 = .ok (.getfield 24, 3) := by decide +kernel
theorem d_T_others_160 : decode b_T_others 160 = .ok (.iload_n 3, 1) := by decide +kernel
theorem d_T_others_161 : decode b_T_others 161 = .ok (.saload, 1) := by decide +kernel
theorem d_T_others_162 : decode b_T_others 162 = .ok (.invokevirtual 51, 3) := by decide +kernel
theorem d_T_others_165 : decode b_T_others 165 = .ok (.invokevirtual 99, 3) := by decide +kernel
theorem d_T_others_168 : decode b_T_others 168 = .ok (.iadd, 1) := by decide +kernel
theorem d_T_others_169 : decode b_T_others 169 = .ok (.aload_n 0, 1) := by decide +kernel
theorem d_T_others_170 : decode b_T_others 170 = .ok (.aload_n 0, 1) := by decide +kernel
theorem d_T_others_171 : decode b_T_others 171 = .ok (.getfield 21, 3) := by decide +kernel
theorem d_T_others_174 : decode b_T_others 174 = .ok (.iload_n 3, 1) := by decide +kernel
theorem d_T_others_175 : decode b_T_others 175 = .ok (.iaload, 1) := by decide +kernel
theorem d_T_others_176 : decode b_T_others 176 = .ok (.aload_n 0, 1) := by decide +kernel
theorem d_T_others_177 : decode b_T_others 177 = .ok (.iload 4, 2) := by decide +kernel
theorem d_T_others_179 : decode b_T_others 179 = .ok (.aload_n 0, 1) := by decide +kernel
theorem d_T_others_180 : decode b_T_others 180 = .ok (.getfield 24, 3) := by decide +kernel
theorem d_T_others_183 : decode b_T_others 183 = .ok (.iload_n 3, 1) := by decide +kernel
theorem d_T_others_184 : decode b_T_others 184 = .ok (.saload, 1) := by decide +kernel
theorem d_T_others_185 : decode b_T_others 185 = .ok (.iconst 1, 1) := by decide +kernel
theorem d_T_others_186 : decode b_T_others 186 = .ok (.iadd, 1) := by decide +kernel
theorem d_T_others_187 : decode b_T_others 187 = .ok (.invokevirtual 59, 3) := by decide +kernel
theorem d_T_others_190 : decode b_T_others 190 = .ok (.invokevirtual 99, 3) := by decide +kernel
theorem d_T_others_193 : decode b_T_others 193 = .ok (.iadd, 1) := by decide +kernel
theorem d_T_others_194 : decode b_T_others 194 = .ok (.istore 6, 2) := by decide +kernel
theorem d_T_others_196 : decode b_T_others 196 = .ok (.aload_n 0, 1) := by decide +kernel
theorem d_T_others_197 : decode b_T_others 197 = .ok (.iload 5, 2) := by decide +kernel
theorem d_T_others_199 : decode b_T_others 199 = .ok (.putfield 38, 3) := by decide +kernel
theorem d_T_others_202 : decode b_T_others 202 = .ok (.iload 6, 2) := by decide +kernel
theorem d_T_others_204 : decode b_T_others 204 = .ok (.ireturn, 1) := by decide +kernel
theorem d_T_differ_0 : decode b_T_differ 0 = .ok (.aload_n 0, 1) := by decide +kernel
theorem d_T_differ_1 : decode b_T_differ 1 = .ok (.iload_n 1, 1) := by decide +kernel
theorem d_T_differ_2 : decode b_T_differ 2 = .ok (.invokevirtual 69, 3) := by decide +kernel
theorem d_T_differ_5 : decode b_T_differ 5 = .ok (.aload_n 0, 1) := by decide +kernel
theorem d_T_differ_6 : decode b_T_differ 6 = .ok (.iload_n 2, 1) := by decide +kernel
theorem d_T_differ_7 : decode b_T_differ 7 = .ok (.invokevirtual 69, 3) := by decide +kernel
theorem d_T_differ_10 : decode b_T_differ 10 = .ok (.aload_n 0, 1) := by decide +kernel
theorem d_T_differ_11 : decode b_T_differ 11 = .ok (.aload_n 0, 1) := by decide +kernel
theorem d_T_differ_12 : decode b_T_differ 12 = .ok (.getfield 7, 3) := by decide +kernel
theorem d_T_differ_15 : decode b_T_differ 15 = .ok (.iload_n 1, 1) := by decide +kernel
theorem d_T_differ_16 : decode b_T_differ 16 = .ok (.iaload, 1) := by decide +kernel
theorem d_T_differ_17 : decode b_T_differ 17 = .ok (.aload_n 0, 1) := by decide +kernel
theorem d_T_differ_18 : decode b_T_differ 18 = .ok (.getfield 7, 3) := by decide +kernel
theorem d_T_differ_21 : decode b_T_differ 21 = .ok (.iload_n 2, 1) := by decide +kernel
theorem d_T_differ_22 : decode b_T_differ 22 = .ok (.iaload, 1) := by decide +kernel
theorem d_T_differ_23 : decode b_T_differ 23 = .ok (.invokevirtual 99, 3) := by decide +kernel
theorem d_T_differ_26 : decode b_T_differ 26 = .ok (.ireturn, 1) := by decide +kernel
theorem d_T_digested_0 : decode b_T_digested 0 = .ok (.iload_n 1, 1) := by decide +kernel
theorem d_T_digested_1 : decode b_T_digested 1 = .ok (.ifCond .ne 5, 3) := by decide +kernel
theorem d_T_digested_4 : decode b_T_digested 4 = .ok (.lload_n 2, 1) := by decide +kernel
theorem d_T_digested_5 : decode b_T_digested 5 = .ok (.lreturn, 1) := by decide +kernel
theorem d_T_digested_6 : decode b_T_digested 6 = .ok (.aload_n 0, 1) := by decide +kernel
theorem d_T_digested_7 : decode b_T_digested 7 = .ok (.aload_n 0, 1) := by decide +kernel
theorem d_T_digested_8 : decode b_T_digested 8 = .ok (.getfield 21, 3) := by decide +kernel
theorem d_T_digested_11 : decode b_T_digested 11 = .ok (.iload_n 1, 1) := by decide +kernel
theorem d_T_digested_12 : decode b_T_digested 12 = .ok (.iaload, 1) := by decide +kernel
theorem d_T_digested_13 : decode b_T_digested 13 = .ok (.ldc2_w 102, 3) := by decide +kernel
theorem d_T_digested_16 : decode b_T_digested 16 = .ok (.ldc2_w 102, 3) := by decide +kernel
theorem d_T_digested_19 : decode b_T_digested 19 = .ok (.aload_n 0, 1) := by decide +kernel
theorem d_T_digested_20 : decode b_T_digested 20 = .ok (.aload_n 0, 1) := by decide +kernel
theorem d_T_digested_21 : decode b_T_digested 21 = .ok (.getfield 18, 3) := by decide +kernel
theorem d_T_digested_24 : decode b_T_digested 24 = .ok (.iload_n 1, 1) := by decide +kernel
theorem d_T_digested_25 : decode b_T_digested 25 = .ok (.iaload, 1) := by decide +kernel
theorem d_T_digested_26 : decode b_T_digested 26 = .ok (.lload_n 2, 1) := by decide +kernel
theorem d_T_digested_27 : decode b_T_digested 27 = .ok (.invokevirtual 104, 3) := by decide +kernel
theorem d_T_digested_30 : decode b_T_digested 30 = .ok (.lmul, 1) := by decide +kernel
theorem d_T_digested_31 : decode b_T_digested 31 = .ok (.aload_n 0, 1) := by decide +kernel
theorem d_T_digested_32 : decode b_T_digested 32 = .ok (.getfield 24, 3) := by decide +kernel
theorem d_T_digested_35 : decode b_T_digested 35 = .ok (.iload_n 1, 1) := by decide +kernel
theorem d_T_digested_36 : decode b_T_digested 36 = .ok (.saload, 1) := by decide +kernel
theorem d_T_digested_37 : decode b_T_digested 37 = .ok (.i2l, 1) := by decide +kernel
theorem d_T_digested_38 : decode b_T_digested 38 = .ok (.ladd, 1) := by decide +kernel
theorem d_T_digested_39 : decode b_T_digested 39 = .ok (.lmul, 1) := by decide +kernel
theorem d_T_digested_40 : decode b_T_digested 40 = .ok (.aload_n 0, 1) := by decide +kernel
theorem d_T_digested_41 : decode b_T_digested 41 = .ok (.getfield 28, 3) := by decide +kernel
theorem d_T_digested_44 : decode b_T_digested 44 = .ok (.iload_n 1, 1) := by decide +kernel
theorem d_T_digested_45 : decode b_T_digested 45 = .ok (.iaload, 1) := by decide +kernel
theorem d_T_digested_46 : decode b_T_digested 46 = .ok (.i2l, 1) := by decide +kernel
theorem d_T_digested_47 : decode b_T_digested 47 = .ok (.ladd, 1) := by decide +kernel
theorem d_T_digested_48 : decode b_T_digested 48 = .ok (.invokevirtual 104, 3) := by decide +kernel
theorem d_T_digested_51 : decode b_T_digested 51 = .ok (.lreturn, 1) := by decide +kernel
theorem d_T_digest_0 : decode b_T_digest 0 = .ok (.aload_n 0, 1) := by decide +kernel
theorem d_T_digest_1 : decode b_T_digest 1 = .ok (.iload_n 1, 1) := by decide +kernel
theorem d_T_digest_2 : decode b_T_digest 2 = .ok (.invokevirtual 69, 3) := by decide +kernel
theorem d_T_digest_5 : decode b_T_digest 5 = .ok (.aload_n 0, 1) := by decide +kernel
theorem d_T_digest_6 : decode b_T_digest 6 = .ok (.aload_n 0, 1) := by decide +kernel
theorem d_T_digest_7 : decode b_T_digest 7 = .ok (.getfield 7, 3) := by decide +kernel
theorem d_T_digest_10 : decode b_T_digest 10 = .ok (.iload_n 1, 1) := by decide +kernel
theorem d_T_digest_11 : decode b_T_digest 11 = .ok (.iaload, 1) := by decide +kernel
theorem d_T_digest_12 : decode b_T_digest 12 = .ok (.ldc2_w 108, 3) := by decide +kernel
theorem d_T_digest_15 : decode b_T_digest 15 = .ok (.invokevirtual 104, 3) := by decide +kernel
theorem d_T_digest_18 : decode b_T_digest 18 = .ok (.lreturn, 1) := by decide +kernel
theorem d_T_versions_0 : decode b_T_versions 0 = .ok (.aload_n 0, 1) := by decide +kernel
theorem d_T_versions_1 : decode b_T_versions 1 = .ok (.getfield 13, 3) := by decide +kernel
theorem d_T_versions_4 : decode b_T_versions 4 = .ok (.ireturn, 1) := by decide +kernel
theorem d_T_check_0 : decode b_T_check 0 = .ok (.iconst 0, 1) := by decide +kernel
theorem d_T_check_1 : decode b_T_check 1 = .ok (.istore_n 1, 1) := by decide +kernel
theorem d_T_check_2 : decode b_T_check 2 = .ok (.iconst 1, 1) := by decide +kernel
theorem d_T_check_3 : decode b_T_check 3 = .ok (.istore_n 2, 1) := by decide +kernel
theorem d_T_check_4 : decode b_T_check 4 = .ok (.iload_n 2, 1) := by decide +kernel
theorem d_T_check_5 : decode b_T_check 5 = .ok (.aload_n 0, 1) := by decide +kernel
theorem d_T_check_6 : decode b_T_check 6 = .ok (.getfield 38, 3) := by decide +kernel
theorem d_T_check_9 : decode b_T_check 9 = .ok (.if_icmp .ge 173, 3) := by decide +kernel
theorem d_T_check_12 : decode b_T_check 12 = .ok (.aload_n 0, 1) := by decide +kernel
theorem d_T_check_13 : decode b_T_check 13 = .ok (.getfield 18, 3) := by decide +kernel
theorem d_T_check_16 : decode b_T_check 16 = .ok (.iload_n 2, 1) := by decide +kernel
theorem d_T_check_17 : decode b_T_check 17 = .ok (.iaload, 1) := by decide +kernel
theorem d_T_check_18 : decode b_T_check 18 = .ok (.istore_n 3, 1) := by decide +kernel
theorem d_T_check_19 : decode b_T_check 19 = .ok (.aload_n 0, 1) := by decide +kernel
theorem d_T_check_20 : decode b_T_check 20 = .ok (.getfield 21, 3) := by decide +kernel
theorem d_T_check_23 : decode b_T_check 23 = .ok (.iload_n 2, 1) := by decide +kernel
theorem d_T_check_24 : decode b_T_check 24 = .ok (.iaload, 1) := by decide +kernel
theorem d_T_check_25 : decode b_T_check 25 = .ok (.istore 4, 2) := by decide +kernel
theorem d_T_check_27 : decode b_T_check 27 = .ok (.aload_n 0, 1) := by decide +kernel
theorem d_T_check_28 : decode b_T_check 28 = .ok (.getfield 31, 3) := by decide +kernel
theorem d_T_check_31 : decode b_T_check 31 = .ok (.iload_n 2, 1) := by decide +kernel
theorem d_T_check_32 : decode b_T_check 32 = .ok (.saload, 1) := by decide +kernel
theorem d_T_check_33 : decode b_T_check 33 = .ok (.aload_n 0, 1) := by decide +kernel
theorem d_T_check_34 : decode b_T_check 34 = .ok (.getfield 31, 3) := by decide +kernel
theorem d_T_check_37 : decode b_T_check 37 = .ok (.iload_n 3, 1) := by decide +kernel
theorem d_T_check_38 : decode b_T_check 38 = .ok (.saload, 1) := by decide +kernel
theorem d_T_check_39 : decode b_T_check 39 = .ok (.aload_n 0, 1) := by decide +kernel
theorem d_T_check_40 : decode b_T_check 40 = .ok (.getfield 31, 3) := by decide +kernel
theorem d_T_check_43 : decode b_T_check 43 = .ok (.iload 4, 2) := by decide +kernel
theorem d_T_check_45 : decode b_T_check 45 = .ok (.saload, 1) := by decide +kernel
theorem d_T_check_46 : decode b_T_check 46 = .ok (.iadd, 1) := by decide +kernel
theorem d_T_check_47 : decode b_T_check 47 = .ok (.iconst 1, 1) := by decide +kernel
theorem d_T_check_48 : decode b_T_check 48 = .ok (.iadd, 1) := by decide +kernel
theorem d_T_check_49 : decode b_T_check 49 = .ok (.if_icmp .ne 35, 3) := by decide +kernel
theorem d_T_check_52 : decode b_T_check 52 = .ok (.aload_n 0, 1) := by decide +kernel
theorem d_T_check_53 : decode b_T_check 53 = .ok (.getfield 34, 3) := by decide +kernel
theorem d_T_check_56 : decode b_T_check 56 = .ok (.iload_n 2, 1) := by decide +kernel
theorem d_T_check_57 : decode b_T_check 57 = .ok (.laload, 1) := by decide +kernel
theorem d_T_check_58 : decode b_T_check 58 = .ok (.aload_n 0, 1) := by decide +kernel
theorem d_T_check_59 : decode b_T_check 59 = .ok (.getfield 34, 3) := by decide +kernel
theorem d_T_check_62 : decode b_T_check 62 = .ok (.iload_n 3, 1) := by decide +kernel
theorem d_T_check_63 : decode b_T_check 63 = .ok (.laload, 1) := by decide +kernel
theorem d_T_check_64 : decode b_T_check 64 = .ok (.aload_n 0, 1) := by decide +kernel
theorem d_T_check_65 : decode b_T_check 65 = .ok (.getfield 34, 3) := by decide +kernel
theorem d_T_check_68 : decode b_T_check 68 = .ok (.iload 4, 2) := by decide +kernel
theorem d_T_check_70 : decode b_T_check 70 = .ok (.laload, 1) := by decide +kernel
theorem d_T_check_71 : decode b_T_check 71 = .ok (.ladd, 1) := by decide +kernel
theorem d_T_check_72 : decode b_T_check 72 = .ok (.aload_n 0, 1) := by decide +kernel
theorem d_T_check_73 : decode b_T_check 73 = .ok (.getfield 28, 3) := by decide +kernel
theorem d_T_check_76 : decode b_T_check 76 = .ok (.iload_n 2, 1) := by decide +kernel
theorem d_T_check_77 : decode b_T_check 77 = .ok (.iaload, 1) := by decide +kernel
theorem d_T_check_78 : decode b_T_check 78 = .ok (.i2l, 1) := by decide +kernel
theorem d_T_check_79 : decode b_T_check 79 = .ok (.ladd, 1) := by decide +kernel
theorem d_T_check_80 : decode b_T_check 80 = .ok (.lcmp, 1) := by decide +kernel
theorem d_T_check_81 : decode b_T_check 81 = .ok (.ifCond .eq 6, 3) := by decide +kernel
theorem d_T_check_84 : decode b_T_check 84 = .ok (.iinc 1 1, 3) := by decide +kernel
theorem d_T_check_87 : decode b_T_check 87 = .ok (.iload_n 3, 1) := by decide +kernel
theorem d_T_check_88 : decode b_T_check 88 = .ok (.ifCond .eq 42, 3) := by decide +kernel
theorem d_T_check_91 : decode b_T_check 91 = .ok (.aload_n 0, 1) := by decide +kernel
theorem d_T_check_92 : decode b_T_check 92 = .ok (.getfield 24, 3) := by decide +kernel
theorem d_T_check_95 : decode b_T_check 95 = .ok (.iload_n 3, 1) := by decide +kernel
theorem d_T_check_96 : decode b_T_check 96 = .ok (.saload, 1) := by decide +kernel
theorem d_T_check_97 : decode b_T_check 97 = .ok (.aload_n 0, 1) := by decide +kernel
theorem d_T_check_98 : decode b_T_check 98 = .ok (.getfield 24, 3) := by decide +kernel
theorem d_T_check_101 : decode b_T_check 101 = .ok (.iload_n 2, 1) := by decide +kernel
theorem d_T_check_102 : decode b_T_check 102 = .ok (.saload, 1) := by decide +kernel
theorem d_T_check_103 : decode b_T_check 103 = .ok (.if_icmp .ge 24, 3) := by decide +kernel
theorem d_T_check_106 : decode b_T_check 106 = .ok (.aload_n 0, 1) := by decide +kernel
theorem d_T_check_107 : decode b_T_check 107 = .ok (.getfield 24, 3) := by decide +kernel
theorem d_T_check_110 : decode b_T_check 110 = .ok (.iload_n 3, 1) := by decide +kernel
theorem d_T_check_111 : decode b_T_check 111 = .ok (.saload, 1) := by decide +kernel
theorem d_T_check_112 : decode b_T_check 112 = .ok (.invokestatic 62, 3) := by decide +kernel
theorem d_T_check_115 : decode b_T_check 115 = .ok (.aload_n 0, 1) := by decide +kernel
theorem d_T_check_116 : decode b_T_check 116 = .ok (.getfield 24, 3) := by decide +kernel
theorem d_T_check_119 : decode b_T_check 119 = .ok (.iload_n 2, 1) := by decide +kernel
theorem d_T_check_120 : decode b_T_check 120 = .ok (.saload, 1) := by decide +kernel
theorem d_T_check_121 : decode b_T_check 121 = .ok (.invokestatic 62, 3) := by decide +kernel
theorem d_T_check_124 : decode b_T_check 124 = .ok (.if_icmp .le 6, 3) := by decide +kernel
theorem d_T_check_127 : decode b_T_check 127 = .ok (.iinc 1 1, 3) := by decide +kernel
theorem d_T_check_130 : decode b_T_check 130 = .ok (.iload 4, 2) := by decide +kernel
theorem d_T_check_132 : decode b_T_check 132 = .ok (.ifCond .eq 44, 3) := by decide +kernel
theorem d_T_check_135 : decode b_T_check 135 = .ok (.aload_n 0, 1) := by decide +kernel
theorem d_T_check_136 : decode b_T_check 136 = .ok (.getfield 24, 3) := by decide +kernel
theorem d_T_check_139 : decode b_T_check 139 = .ok (.iload 4, 2) := by decide +kernel
theorem d_T_check_141 : decode b_T_check 141 = .ok (.saload, 1) := by decide +kernel
theorem d_T_check_142 : decode b_T_check 142 = .ok (.aload_n 0, 1) := by decide +kernel
theorem d_T_check_143 : decode b_T_check 143 = .ok (.getfield 24, 3) := by decide +kernel
theorem d_T_check_146 : decode b_T_check 146 = .ok (.iload_n 2, 1) := by decide +kernel
theorem d_T_check_147 : decode b_T_check 147 = .ok (.saload, 1) := by decide +kernel
theorem d_T_check_148 : decode b_T_check 148 = .ok (.if_icmp .le 25, 3) := by decide +kernel
theorem d_T_check_151 : decode b_T_check 151 = .ok (.aload_n 0, 1) := by decide +kernel
theorem d_T_check_152 : decode b_T_check 152 = .ok (.getfield 24, 3) := by decide +kernel
theorem d_T_check_155 : decode b_T_check 155 = .ok (.iload 4, 2) := by decide +kernel
theorem d_T_check_157 : decode b_T_check 157 = .ok (.saload, 1) := by decide +kernel
theorem d_T_check_158 : decode b_T_check 158 = .ok (.invokestatic 62, 3) := by decide +kernel
theorem d_T_check_161 : decode b_T_check 161 = .ok (.aload_n 0, 1) := by decide +kernel
theorem d_T_check_162 : decode b_T_check 162 = .ok (.getfield 24, 3) := by decide +kernel
theorem d_T_check_165 : decode b_T_check 165 = .ok (.iload_n 2, 1) := by decide +kernel
theorem d_T_check_166 : decode b_T_check 166 = .ok (.saload, 1) := by decide +kernel
theorem d_T_check_167 : decode b_T_check 167 = .ok (.invokestatic 62, 3) := by decide +kernel
theorem d_T_check_170 : decode b_T_check 170 = .ok (.if_icmp .le 6, 3) := by decide +kernel
theorem d_T_check_173 : decode b_T_check 173 = .ok (.iinc 1 1, 3) := by decide +kernel
theorem d_T_check_176 : decode b_T_check 176 = .ok (.iinc 2 1, 3) := by decide +kernel
theorem d_T_check_179 : decode b_T_check 179 = .ok (.goto (-175), 3) := by decide +kernel
theorem d_T_check_182 : decode b_T_check 182 = .ok (.iload_n 1, 1) := by decide +kernel
theorem d_T_check_183 : decode b_T_check 183 = .ok (.ireturn, 1) := by decide +kernel
end
section
theorem d_M_init_0 : decode b_M_init 0 = .ok (.aload_n 0, 1) := by decide +kernel
theorem d_M_init_1 : decode b_M_init 1 = .ok (.invokespecial 1, 3) := by decide +kernel
theorem d_M_init_4 : decode b_M_init 4 = .ok (.aload_n 0, 1) := by decide +kernel
theorem d_M_init_5 : decode b_M_init 5 = .ok (.ldc 9, 2) := by decide +kernel
theorem d_M_init_7 : decode b_M_init 7 = .ok (.newarray .int, 2) := by decide +kernel
theorem d_M_init_9 : decode b_M_init 9 = .ok (.putfield 10, 3) := by decide +kernel
theorem d_M_init_12 : decode b_M_init 12 = .ok (.aload_n 0, 1) := by decide +kernel
theorem d_M_init_13 : decode b_M_init 13 = .ok (.ldc 9, 2) := by decide +kernel
theorem d_M_init_15 : decode b_M_init 15 = .ok (.newarray .boolean, 2) := by decide +kernel
theorem d_M_init_17 : decode b_M_init 17 = .ok (.putfield 14, 3) := by decide +kernel
theorem d_M_init_20 : decode b_M_init 20 = .ok (.aload_n 0, 1) := by decide +kernel
theorem d_M_init_21 : decode b_M_init 21 = .ok (.iconst 1, 1) := by decide +kernel
theorem d_M_init_22 : decode b_M_init 22 = .ok (.putfield 18, 3) := by decide +kernel
theorem d_M_init_25 : decode b_M_init 25 = .ok (.return_, 1) := by decide +kernel
theorem d_M_thrown_0 : decode b_M_thrown 0 = .ok (.aload_n 0, 1) := by decide +kernel
theorem d_M_thrown_1 : decode b_M_thrown 1 = .ok (.getfield 22, 3) := by decide +kernel
theorem d_M_thrown_4 : decode b_M_thrown 4 = .ok (.ireturn, 1) := by decide +kernel
theorem d_M_isOne_0 : decode b_M_isOne 0 = .ok (.iload_n 1, 1) := by decide +kernel
theorem d_M_isOne_1 : decode b_M_isOne 1 = .ok (.ifCond .lt 15, 3) := by decide +kernel
theorem d_M_isOne_4 : decode b_M_isOne 4 = .ok (.iload_n 1, 1) := by decide +kernel
theorem d_M_isOne_5 : decode b_M_isOne 5 = .ok (.aload_n 0, 1) := by decide +kernel
theorem d_M_isOne_6 : decode b_M_isOne 6 = .ok (.getfield 18, 3) := by decide +kernel
theorem d_M_isOne_9 : decode b_M_isOne 9 = .ok (.if_icmp .ge 7, 3) := by decide +kernel
theorem d_M_isOne_12 : decode b_M_isOne 12 = .ok (.iconst 1, 1) := by decide +kernel
theorem d_M_isOne_13 : decode b_M_isOne 13 = .ok (.goto 4, 3) := by decide +kernel
theorem d_M_isOne_16 : decode b_M_isOne 16 = .ok (.iconst 0, 1) := by decide +kernel
theorem d_M_isOne_17 : decode b_M_isOne 17 = .ok (.ireturn, 1) := by decide +kernel
theorem d_M_isKey_0 : decode b_M_isKey 0 = .ok (.iload_n 0, 1) := by decide +kernel
theorem d_M_isKey_1 : decode b_M_isKey 1 = .ok (.ifCond .lt 14, 3) := by decide +kernel
theorem d_M_isKey_4 : decode b_M_isKey 4 = .ok (.iload_n 0, 1) := by decide +kernel
theorem d_M_isKey_5 : decode b_M_isKey 5 = .ok (.sipush 256, 3) := by decide +kernel
theorem d_M_isKey_8 : decode b_M_isKey 8 = .ok (.if_icmp .ge 7, 3) := by decide +kernel
theorem d_M_isKey_11 : decode b_M_isKey 11 = .ok (.iconst 1, 1) := by decide +kernel
theorem d_M_isKey_12 : decode b_M_isKey 12 = .ok (.goto 4, 3) := by decide +kernel
theorem d_M_isKey_15 : decode b_M_isKey 15 = .ok (.iconst 0, 1) := by decide +kernel
theorem d_M_isKey_16 : decode b_M_isKey 16 = .ok (.ireturn, 1) := by decide +kernel
theorem d_M_made_0 : decode b_M_made 0 = .ok (.sipush 256, 3) := by decide +kernel
theorem d_M_made_3 : decode b_M_made 3 = .ok (.aload_n 0, 1) := by decide +kernel
theorem d_M_made_4 : decode b_M_made 4 = .ok (.getfield 18, 3) := by decide +kernel
theorem d_M_made_7 : decode b_M_made 7 = .ok (.imul, 1) := by decide +kernel
theorem d_M_made_8 : decode b_M_made 8 = .ok (.istore 4, 2) := by decide +kernel
theorem d_M_made_10 : decode b_M_made 10 = .ok (.iconst 0, 1) := by decide +kernel
theorem d_M_made_11 : decode b_M_made 11 = .ok (.istore 5, 2) := by decide +kernel
theorem d_M_made_13 : decode b_M_made 13 = .ok (.iload 5, 2) := by decide +kernel
theorem d_M_made_15 : decode b_M_made 15 = .ok (.sipush 256, 3) := by decide +kernel
theorem d_M_made_18 : decode b_M_made 18 = .ok (.if_icmp .ge 63, 3) := by decide +kernel
theorem d_M_made_21 : decode b_M_made 21 = .ok (.sipush 256, 3) := by decide +kernel
theorem d_M_made_24 : decode b_M_made 24 = .ok (.iload 5, 2) := by decide +kernel
theorem d_M_made_26 : decode b_M_made 26 = .ok (.iload_n 3, 1) := by decide +kernel
theorem d_M_made_27 : decode b_M_made 27 = .ok (.if_icmp .ge 7, 3) := by decide +kernel
theorem d_M_made_30 : decode b_M_made 30 = .ok (.iload_n 1, 1) := by decide +kernel
theorem d_M_made_31 : decode b_M_made 31 = .ok (.goto 4, 3) := by decide +kernel
theorem d_M_made_34 : decode b_M_made 34 = .ok (.iload_n 2, 1) := by decide +kernel
theorem d_M_made_35 : decode b_M_made 35 = .ok (.imul, 1) := by decide +kernel
theorem d_M_made_36 : decode b_M_made 36 = .ok (.iload 5, 2) := by decide +kernel
theorem d_M_made_38 : decode b_M_made 38 = .ok (.iadd, 1) := by decide +kernel
theorem d_M_made_39 : decode b_M_made 39 = .ok (.istore 6, 2) := by decide +kernel
theorem d_M_made_41 : decode b_M_made 41 = .ok (.aload_n 0, 1) := by decide +kernel
theorem d_M_made_42 : decode b_M_made 42 = .ok (.getfield 10, 3) := by decide +kernel
theorem d_M_made_45 : decode b_M_made 45 = .ok (.iload 4, 2) := by decide +kernel
theorem d_M_made_47 : decode b_M_made 47 = .ok (.iload 5, 2) := by decide +kernel
theorem d_M_made_49 : decode b_M_made 49 = .ok (.iadd, 1) := by decide +kernel
theorem d_M_made_50 : decode b_M_made 50 = .ok (.aload_n 0, 1) := by decide +kernel
theorem d_M_made_51 : decode b_M_made 51 = .ok (.getfield 10, 3) := by decide +kernel
theorem d_M_made_54 : decode b_M_made 54 = .ok (.iload 6, 2) := by decide +kernel
theorem d_M_made_56 : decode b_M_made 56 = .ok (.iaload, 1) := by decide +kernel
theorem d_M_made_57 : decode b_M_made 57 = .ok (.iastore, 1) := by decide +kernel
theorem d_M_made_58 : decode b_M_made 58 = .ok (.aload_n 0, 1) := by decide +kernel
theorem d_M_made_59 : decode b_M_made 59 = .ok (.getfield 14, 3) := by decide +kernel
theorem d_M_made_62 : decode b_M_made 62 = .ok (.iload 4, 2) := by decide +kernel
theorem d_M_made_64 : decode b_M_made 64 = .ok (.iload 5, 2) := by decide +kernel
theorem d_M_made_66 : decode b_M_made 66 = .ok (.iadd, 1) := by decide +kernel
theorem d_M_made_67 : decode b_M_made 67 = .ok (.aload_n 0, 1) := by decide +kernel
theorem d_M_made_68 : decode b_M_made 68 = .ok (.getfield 14, 3) := by decide +kernel
theorem d_M_made_71 : decode b_M_made 71 = .ok (.iload 6, 2) := by decide +kernel
theorem d_M_made_73 : decode b_M_made 73 = .ok (.baload, 1) := by decide +kernel
theorem d_M_made_74 : decode b_M_made 74 = .ok (.bastore, 1) := by decide +kernel
theorem d_M_made_75 : decode b_M_made 75 = .ok (.iinc 5 1, 3) := by decide +kernel
theorem d_M_made_78 : decode b_M_made 78 = .ok (.goto (-65), 3) := by decide +kernel
theorem d_M_made_81 : decode b_M_made 81 = .ok (.aload_n 0, 1) := by decide +kernel
theorem d_M_made_82 : decode b_M_made 82 = .ok (.dup, 1) := by decide +kernel
theorem d_M_made_83 : decode b_M_made 83 = .ok (.getfield 18, 3) := by decide +kernel
theorem d_M_made_86 : decode b_M_made 86 = .ok (.iconst 1, 1) := by decide +kernel
theorem d_M_made_87 : decode b_M_made 87 = .ok (.iadd, 1) := by decide +kernel
theorem d_M_made_88 : decode b_M_made 88 = .ok (.putfield 18, 3) := by decide +kernel
theorem d_M_made_91 : decode b_M_made 91 = .ok (.aload_n 0, 1) := by decide +kernel
theorem d_M_made_92 : decode b_M_made 92 = .ok (.getfield 18, 3) := by decide +kernel
theorem d_M_made_95 : decode b_M_made 95 = .ok (.iconst 1, 1) := by decide +kernel
theorem d_M_made_96 : decode b_M_made 96 = .ok (.isub, 1) := by decide +kernel
theorem d_M_made_97 : decode b_M_made 97 = .ok (.ireturn, 1) := by decide +kernel
theorem d_M_put_0 : decode b_M_put 0 = .ok (.aload_n 0, 1) := by decide +kernel
theorem d_M_put_1 : decode b_M_put 1 = .ok (.aload_n 0, 1) := by decide +kernel
theorem d_M_put_2 : decode b_M_put 2 = .ok (.iload_n 1, 1) := by decide +kernel
theorem d_M_put_3 : decode b_M_put 3 = .ok (.invokevirtual 25, 3) := by decide +kernel
theorem d_M_put_6 : decode b_M_put 6 = .ok (.ifCond .eq 10, 3) := by decide +kernel
theorem d_M_put_9 : decode b_M_put 9 = .ok (.iload_n 2, 1) := by decide +kernel
theorem d_M_put_10 : decode b_M_put 10 = .ok (.invokestatic 29, 3) := by decide +kernel
theorem d_M_put_13 : decode b_M_put 13 = .ok (.ifCond .ne 7, 3) := by decide +kernel
theorem d_M_put_16 : decode b_M_put 16 = .ok (.iconst 1, 1) := by decide +kernel
theorem d_M_put_17 : decode b_M_put 17 = .ok (.goto 18, 3) := by decide +kernel
theorem d_M_put_20 : decode b_M_put 20 = .ok (.aload_n 0, 1) := by decide +kernel
theorem d_M_put_21 : decode b_M_put 21 = .ok (.getfield 18, 3) := by decide +kernel
theorem d_M_put_24 : decode b_M_put 24 = .ok (.sipush 600, 3) := by decide +kernel
theorem d_M_put_27 : decode b_M_put 27 = .ok (.if_icmp .ne 7, 3) := by decide +kernel
theorem d_M_put_30 : decode b_M_put 30 = .ok (.iconst 2, 1) := by decide +kernel
theorem d_M_put_31 : decode b_M_put 31 = .ok (.goto 4, 3) := by decide +kernel
theorem d_M_put_34 : decode b_M_put 34 = .ok (.iconst 0, 1) := by decide +kernel
theorem d_M_put_35 : decode b_M_put 35 = .ok (.putfield 22, 3) := by decide +kernel
theorem d_M_put_38 : decode b_M_put 38 = .ok (.aload_n 0, 1) := by decide +kernel
theorem d_M_put_39 : decode b_M_put 39 = .ok (.getfield 22, 3) := by decide +kernel
theorem d_M_put_42 : decode b_M_put 42 = .ok (.ifCond .le 5, 3) := by decide +kernel
theorem d_M_put_45 : decode b_M_put 45 = .ok (.iconst 0, 1) := by decide +kernel
theorem d_M_put_46 : decode b_M_put 46 = .ok (.ireturn, 1) := by decide +kernel
theorem d_M_put_47 : decode b_M_put 47 = .ok (.aload_n 0, 1) := by decide +kernel
theorem d_M_put_48 : decode b_M_put 48 = .ok (.iload_n 1, 1) := by decide +kernel
theorem d_M_put_49 : decode b_M_put 49 = .ok (.iload_n 1, 1) := by decide +kernel
theorem d_M_put_50 : decode b_M_put 50 = .ok (.iconst 0, 1) := by decide +kernel
theorem d_M_put_51 : decode b_M_put 51 = .ok (.invokevirtual 32, 3) := by decide +kernel
theorem d_M_put_54 : decode b_M_put 54 = .ok (.istore 4, 2) := by decide +kernel
theorem d_M_put_56 : decode b_M_put 56 = .ok (.aload_n 0, 1) := by decide +kernel
theorem d_M_put_57 : decode b_M_put 57 = .ok (.getfield 10, 3) := by decide +kernel
theorem d_M_put_60 : decode b_M_put 60 = .ok (.sipush 256, 3) := by decide +kernel
theorem d_M_put_63 : decode b_M_put 63 = .ok (.iload 4, 2) := by decide +kernel
theorem d_M_put_65 : decode b_M_put 65 = .ok (.imul, 1) := by decide +kernel
theorem d_M_put_66 : decode b_M_put 66 = .ok (.iload_n 2, 1) := by decide +kernel
theorem d_M_put_67 : decode b_M_put 67 = .ok (.iadd, 1) := by decide +kernel
theorem d_M_put_68 : decode b_M_put 68 = .ok (.iload_n 3, 1) := by decide +kernel
theorem d_M_put_69 : decode b_M_put 69 = .ok (.iastore, 1) := by decide +kernel
theorem d_M_put_70 : decode b_M_put 70 = .ok (.aload_n 0, 1) := by decide +kernel
theorem d_M_put_71 : decode b_M_put 71 = .ok (.getfield 14, 3) := by decide +kernel
theorem d_M_put_74 : decode b_M_put 74 = .ok (.sipush 256, 3) := by decide +kernel
theorem d_M_put_77 : decode b_M_put 77 = .ok (.iload 4, 2) := by decide +kernel
theorem d_M_put_79 : decode b_M_put 79 = .ok (.imul, 1) := by decide +kernel
theorem d_M_put_80 : decode b_M_put 80 = .ok (.iload_n 2, 1) := by decide +kernel
theorem d_M_put_81 : decode b_M_put 81 = .ok (.iadd, 1) := by decide +kernel
theorem d_M_put_82 : decode b_M_put 82 = .ok (.iconst 1, 1) := by decide +kernel
theorem d_M_put_83 : decode b_M_put 83 = .ok (.bastore, 1) := by decide +kernel
theorem d_M_put_84 : decode b_M_put 84 = .ok (.iload 4, 2) := by decide +kernel
theorem d_M_put_86 : decode b_M_put 86 = .ok (.ireturn, 1) := by decide +kernel
theorem d_M_remove_0 : decode b_M_remove 0 = .ok (.aload_n 0, 1) := by decide +kernel
theorem d_M_remove_1 : decode b_M_remove 1 = .ok (.aload_n 0, 1) := by decide +kernel
theorem d_M_remove_2 : decode b_M_remove 2 = .ok (.iload_n 1, 1) := by decide +kernel
theorem d_M_remove_3 : decode b_M_remove 3 = .ok (.invokevirtual 25, 3) := by decide +kernel
theorem d_M_remove_6 : decode b_M_remove 6 = .ok (.ifCond .eq 10, 3) := by decide +kernel
theorem d_M_remove_9 : decode b_M_remove 9 = .ok (.iload_n 2, 1) := by decide +kernel
theorem d_M_remove_10 : decode b_M_remove 10 = .ok (.invokestatic 29, 3) := by decide +kernel
theorem d_M_remove_13 : decode b_M_remove 13 = .ok (.ifCond .ne 7, 3) := by decide +kernel
theorem d_M_remove_16 : decode b_M_remove 16 = .ok (.iconst 1, 1) := by decide +kernel
theorem d_M_remove_17 : decode b_M_remove 17 = .ok (.goto 37, 3) := by decide +kernel
theorem d_M_remove_20 : decode b_M_remove 20 = .ok (.aload_n 0, 1) := by decide +kernel
theorem d_M_remove_21 : decode b_M_remove 21 = .ok (.getfield 18, 3) := by decide +kernel
theorem d_M_remove_24 : decode b_M_remove 24 = .ok (.sipush 600, 3) := by decide +kernel
theorem d_M_remove_27 : decode b_M_remove 27 = .ok (.if_icmp .ne 7, 3) := by decide +kernel
theorem d_M_remove_30 : decode b_M_remove 30 = .ok (.iconst 2, 1) := by decide +kernel
theorem d_M_remove_31 : decode b_M_remove 31 = .ok (.goto 23, 3) := by decide +kernel
theorem d_M_remove_34 : decode b_M_remove 34 = .ok (.aload_n 0, 1) := by decide +kernel
theorem d_M_remove_35 : decode b_M_remove 35 = .ok (.getfield 14, 3) := by decide +kernel
theorem d_M_remove_38 : decode b_M_remove 38 = .ok (.sipush 256, 3) := by decide +kernel
theorem d_M_remove_41 : decode b_M_remove 41 = .ok (.iload_n 1, 1) := by decide +kernel
theorem d_M_remove_42 : decode b_M_remove 42 = .ok (.imul, 1) := by decide +kernel
theorem d_M_remove_43 : decode b_M_remove 43 = .ok (.iload_n 2, 1) := by decide +kernel
theorem d_M_remove_44 : decode b_M_remove 44 = .ok (.iadd, 1) := by decide +kernel
theorem d_M_remove_45 : decode b_M_remove 45 = .ok (.baload, 1) := by decide +kernel
theorem d_M_remove_46 : decode b_M_remove 46 = .ok (.ifCond .ne 7, 3) := by decide +kernel
theorem d_M_remove_49 : decode b_M_remove 49 = .ok (.iconst 3, 1) := by decide +kernel
theorem d_M_remove_50 : decode b_M_remove 50 = .ok (.goto 4, 3) := by decide +kernel
theorem d_M_remove_53 : decode b_M_remove 53 = .ok (.iconst 0, 1) := by decide +kernel
theorem d_M_remove_54 : decode b_M_remove 54 = .ok (.putfield 22, 3) := by decide +kernel
theorem d_M_remove_57 : decode b_M_remove 57 = .ok (.aload_n 0, 1) := by decide +kernel
theorem d_M_remove_58 : decode b_M_remove 58 = .ok (.getfield 22, 3) := by decide +kernel
theorem d_M_remove_61 : decode b_M_remove 61 = .ok (.ifCond .le 5, 3) := by decide +kernel
theorem d_M_remove_64 : decode b_M_remove 64 = .ok (.iconst 0, 1) := by decide +kernel
theorem d_M_remove_65 : decode b_M_remove 65 = .ok (.ireturn, 1) := by decide +kernel
theorem d_M_remove_66 : decode b_M_remove 66 = .ok (.aload_n 0, 1) := by decide +kernel
theorem d_M_remove_67 : decode b_M_remove 67 = .ok (.iload_n 1, 1) := by decide +kernel
theorem d_M_remove_68 : decode b_M_remove 68 = .ok (.iload_n 1, 1) := by decide +kernel
theorem d_M_remove_69 : decode b_M_remove 69 = .ok (.iconst 0, 1) := by decide +kernel
theorem d_M_remove_70 : decode b_M_remove 70 = .ok (.invokevirtual 32, 3) := by decide +kernel
theorem d_M_remove_73 : decode b_M_remove 73 = .ok (.istore_n 3, 1) := by decide +kernel
theorem d_M_remove_74 : decode b_M_remove 74 = .ok (.aload_n 0, 1) := by decide +kernel
theorem d_M_remove_75 : decode b_M_remove 75 = .ok (.getfield 10, 3) := by decide +kernel
theorem d_M_remove_78 : decode b_M_remove 78 = .ok (.sipush 256, 3) := by decide +kernel
theorem d_M_remove_81 : decode b_M_remove 81 = .ok (.iload_n 3, 1) := by decide +kernel
theorem d_M_remove_82 : decode b_M_remove 82 = .ok (.imul, 1) := by decide +kernel
theorem d_M_remove_83 : decode b_M_remove 83 = .ok (.iload_n 2, 1) := by decide +kernel
theorem d_M_remove_84 : decode b_M_remove 84 = .ok (.iadd, 1) := by decide +kernel
theorem d_M_remove_85 : decode b_M_remove 85 = .ok (.iconst 0, 1) := by decide +kernel
theorem d_M_remove_86 : decode b_M_remove 86 = .ok (.iastore, 1) := by decide +kernel
theorem d_M_remove_87 : decode b_M_remove 87 = .ok (.aload_n 0, 1) := by decide +kernel
theorem d_M_remove_88 : decode b_M_remove 88 = .ok (.getfield 14, 3) := by decide +kernel
theorem d_M_remove_91 : decode b_M_remove 91 = .ok (.sipush 256, 3) := by decide +kernel
theorem d_M_remove_94 : decode b_M_remove 94 = .ok (.iload_n 3, 1) := by decide +kernel
theorem d_M_remove_95 : decode b_M_remove 95 = .ok (.imul, 1) := by decide +kernel
theorem d_M_remove_96 : decode b_M_remove 96 = .ok (.iload_n 2, 1) := by decide +kernel
theorem d_M_remove_97 : decode b_M_remove 97 = .ok (.iadd, 1) := by decide +kernel
theorem d_M_remove_98 : decode b_M_remove 98 = .ok (.iconst 0, 1) := by decide +kernel
theorem d_M_remove_99 : decode b_M_remove 99 = .ok (.bastore, 1) := by decide +kernel
theorem d_M_remove_100 : decode b_M_remove 100 = .ok (.iload_n 3, 1) := by decide +kernel
theorem d_M_remove_101 : decode b_M_remove 101 = .ok (.ireturn, 1) := by decide +kernel
theorem d_M_join_0 : decode b_M_join 0 = .ok (.aload_n 0, 1) := by decide +kernel
theorem d_M_join_1 : decode b_M_join 1 = .ok (.aload_n 0, 1) := by decide +kernel
theorem d_M_join_2 : decode b_M_join 2 = .ok (.iload_n 1, 1) := by decide +kernel
theorem d_M_join_3 : decode b_M_join 3 = .ok (.invokevirtual 25, 3) := by decide +kernel
theorem d_M_join_6 : decode b_M_join 6 = .ok (.ifCond .eq 22, 3) := by decide +kernel
theorem d_M_join_9 : decode b_M_join 9 = .ok (.aload_n 0, 1) := by decide +kernel
theorem d_M_join_10 : decode b_M_join 10 = .ok (.iload_n 2, 1) := by decide +kernel
theorem d_M_join_11 : decode b_M_join 11 = .ok (.invokevirtual 25, 3) := by decide +kernel
theorem d_M_join_14 : decode b_M_join 14 = .ok (.ifCond .eq 14, 3) := by decide +kernel
theorem d_M_join_17 : decode b_M_join 17 = .ok (.iload_n 3, 1) := by decide +kernel
theorem d_M_join_18 : decode b_M_join 18 = .ok (.ifCond .lt 10, 3) := by decide +kernel
theorem d_M_join_21 : decode b_M_join 21 = .ok (.iload_n 3, 1) := by decide +kernel
theorem d_M_join_22 : decode b_M_join 22 = .ok (.sipush 256, 3) := by decide +kernel
theorem d_M_join_25 : decode b_M_join 25 = .ok (.if_icmp .le 7, 3) := by decide +kernel
theorem d_M_join_28 : decode b_M_join 28 = .ok (.iconst 1, 1) := by decide +kernel
theorem d_M_join_29 : decode b_M_join 29 = .ok (.goto 18, 3) := by decide +kernel
theorem d_M_join_32 : decode b_M_join 32 = .ok (.aload_n 0, 1) := by decide +kernel
theorem d_M_join_33 : decode b_M_join 33 = .ok (.getfield 18, 3) := by decide +kernel
theorem d_M_join_36 : decode b_M_join 36 = .ok (.sipush 600, 3) := by decide +kernel
theorem d_M_join_39 : decode b_M_join 39 = .ok (.if_icmp .ne 7, 3) := by decide +kernel
theorem d_M_join_42 : decode b_M_join 42 = .ok (.iconst 2, 1) := by decide +kernel
theorem d_M_join_43 : decode b_M_join 43 = .ok (.goto 4, 3) := by decide +kernel
theorem d_M_join_46 : decode b_M_join 46 = .ok (.iconst 0, 1) := by decide +kernel
theorem d_M_join_47 : decode b_M_join 47 = .ok (.putfield 22, 3) := by decide +kernel
theorem d_M_join_50 : decode b_M_join 50 = .ok (.aload_n 0, 1) := by decide +kernel
theorem d_M_join_51 : decode b_M_join 51 = .ok (.getfield 22, 3) := by decide +kernel
theorem d_M_join_54 : decode b_M_join 54 = .ok (.ifCond .le 7, 3) := by decide +kernel
theorem d_M_join_57 : decode b_M_join 57 = .ok (.iconst 0, 1) := by decide +kernel
theorem d_M_join_58 : decode b_M_join 58 = .ok (.goto 10, 3) := by decide +kernel
theorem d_M_join_61 : decode b_M_join 61 = .ok (.aload_n 0, 1) := by decide +kernel
theorem d_M_join_62 : decode b_M_join 62 = .ok (.iload_n 1, 1) := by decide +kernel
theorem d_M_join_63 : decode b_M_join 63 = .ok (.iload_n 2, 1) := by decide +kernel
theorem d_M_join_64 : decode b_M_join 64 = .ok (.iload_n 3, 1) := by decide +kernel
theorem d_M_join_65 : decode b_M_join 65 = .ok (.invokevirtual 32, 3) := by decide +kernel
theorem d_M_join_68 : decode b_M_join 68 = .ok (.ireturn, 1) := by decide +kernel
theorem d_M_get_0 : decode b_M_get 0 = .ok (.aload_n 0, 1) := by decide +kernel
theorem d_M_get_1 : decode b_M_get 1 = .ok (.aload_n 0, 1) := by decide +kernel
theorem d_M_get_2 : decode b_M_get 2 = .ok (.iload_n 1, 1) := by decide +kernel
theorem d_M_get_3 : decode b_M_get 3 = .ok (.invokevirtual 25, 3) := by decide +kernel
theorem d_M_get_6 : decode b_M_get 6 = .ok (.ifCond .eq 10, 3) := by decide +kernel
theorem d_M_get_9 : decode b_M_get 9 = .ok (.iload_n 2, 1) := by decide +kernel
theorem d_M_get_10 : decode b_M_get 10 = .ok (.invokestatic 29, 3) := by decide +kernel
theorem d_M_get_13 : decode b_M_get 13 = .ok (.ifCond .ne 7, 3) := by decide +kernel
theorem d_M_get_16 : decode b_M_get 16 = .ok (.iconst 1, 1) := by decide +kernel
theorem d_M_get_17 : decode b_M_get 17 = .ok (.goto 23, 3) := by decide +kernel
theorem d_M_get_20 : decode b_M_get 20 = .ok (.aload_n 0, 1) := by decide +kernel
theorem d_M_get_21 : decode b_M_get 21 = .ok (.getfield 14, 3) := by decide +kernel
theorem d_M_get_24 : decode b_M_get 24 = .ok (.sipush 256, 3) := by decide +kernel
theorem d_M_get_27 : decode b_M_get 27 = .ok (.iload_n 1, 1) := by decide +kernel
theorem d_M_get_28 : decode b_M_get 28 = .ok (.imul, 1) := by decide +kernel
theorem d_M_get_29 : decode b_M_get 29 = .ok (.iload_n 2, 1) := by decide +kernel
theorem d_M_get_30 : decode b_M_get 30 = .ok (.iadd, 1) := by decide +kernel
theorem d_M_get_31 : decode b_M_get 31 = .ok (.baload, 1) := by decide +kernel
theorem d_M_get_32 : decode b_M_get 32 = .ok (.ifCond .ne 7, 3) := by decide +kernel
theorem d_M_get_35 : decode b_M_get 35 = .ok (.iconst 2, 1) := by decide +kernel
theorem d_M_get_36 : decode b_M_get 36 = .ok (.goto 4, 3) := by decide +kernel
theorem d_M_get_39 : decode b_M_get 39 = .ok (.iconst 0, 1) := by decide +kernel
theorem d_M_get_40 : decode b_M_get 40 = .ok (.putfield 22, 3) := by decide +kernel
theorem d_M_get_43 : decode b_M_get 43 = .ok (.aload_n 0, 1) := by decide +kernel
theorem d_M_get_44 : decode b_M_get 44 = .ok (.getfield 22, 3) := by decide +kernel
theorem d_M_get_47 : decode b_M_get 47 = .ok (.ifCond .le 7, 3) := by decide +kernel
theorem d_M_get_50 : decode b_M_get 50 = .ok (.iconst 0, 1) := by decide +kernel
theorem d_M_get_51 : decode b_M_get 51 = .ok (.goto 15, 3) := by decide +kernel
theorem d_M_get_54 : decode b_M_get 54 = .ok (.aload_n 0, 1) := by decide +kernel
theorem d_M_get_55 : decode b_M_get 55 = .ok (.getfield 10, 3) := by decide +kernel
theorem d_M_get_58 : decode b_M_get 58 = .ok (.sipush 256, 3) := by decide +kernel
theorem d_M_get_61 : decode b_M_get 61 = .ok (.iload_n 1, 1) := by decide +kernel
theorem d_M_get_62 : decode b_M_get 62 = .ok (.imul, 1) := by decide +kernel
theorem d_M_get_63 : decode b_M_get 63 = .ok (.iload_n 2, 1) := by decide +kernel
theorem d_M_get_64 : decode b_M_get 64 = .ok (.iadd, 1) := by decide +kernel
theorem d_M_get_65 : decode b_M_get 65 = .ok (.iaload, 1) := by decide +kernel
theorem d_M_get_66 : decode b_M_get 66 = .ok (.ireturn, 1) := by decide +kernel
theorem d_M_select_0 : decode b_M_select 0 = .ok (.aload_n 0, 1) := by decide +kernel
theorem d_M_select_1 : decode b_M_select 1 = .ok (.iconst 1, 1) := by decide +kernel
theorem d_M_select_2 : decode b_M_select 2 = .ok (.putfield 22, 3) := by decide +kernel
theorem d_M_select_5 : decode b_M_select 5 = .ok (.aload_n 0, 1) := by decide +kernel
theorem d_M_select_6 : decode b_M_select 6 = .ok (.iload_n 1, 1) := by decide +kernel
theorem d_M_select_7 : decode b_M_select 7 = .ok (.invokevirtual 25, 3) := by decide +kernel
theorem d_M_select_10 : decode b_M_select 10 = .ok (.ifCond .eq 7, 3) := by decide +kernel
theorem d_M_select_13 : decode b_M_select 13 = .ok (.iload_n 2, 1) := by decide +kernel
theorem d_M_select_14 : decode b_M_select 14 = .ok (.ifCond .ge 5, 3) := by decide +kernel
theorem d_M_select_17 : decode b_M_select 17 = .ok (.iconst 0, 1) := by decide +kernel
theorem d_M_select_18 : decode b_M_select 18 = .ok (.ireturn, 1) := by decide +kernel
theorem d_M_select_19 : decode b_M_select 19 = .ok (.iload_n 2, 1) := by decide +kernel
theorem d_M_select_20 : decode b_M_select 20 = .ok (.istore_n 3, 1) := by decide +kernel
theorem d_M_select_21 : decode b_M_select 21 = .ok (.iconst 0, 1) := by decide +kernel
theorem d_M_select_22 : decode b_M_select 22 = .ok (.istore 4, 2) := by decide +kernel
theorem d_M_select_24 : decode b_M_select 24 = .ok (.iload 4, 2) := by decide +kernel
theorem d_M_select_26 : decode b_M_select 26 = .ok (.sipush 256, 3) := by decide +kernel
theorem d_M_select_29 : decode b_M_select 29 = .ok (.if_icmp .ge 43, 3) := by decide +kernel
theorem d_M_select_32 : decode b_M_select 32 = .ok (.aload_n 0, 1) := by decide +kernel
theorem d_M_select_33 : decode b_M_select 33 = .ok (.getfield 14, 3) := by decide +kernel
theorem d_M_select_36 : decode b_M_select 36 = .ok (.sipush 256, 3) := by decide +kernel
theorem d_M_select_39 : decode b_M_select 39 = .ok (.iload_n 1, 1) := by decide +kernel
theorem d_M_select_40 : decode b_M_select 40 = .ok (.imul, 1) := by decide +kernel
theorem d_M_select_41 : decode b_M_select 41 = .ok (.iload 4, 2) := by decide +kernel
theorem d_M_select_43 : decode b_M_select 43 = .ok (.iadd, 1) := by decide +kernel
theorem d_M_select_44 : decode b_M_select 44 = .ok (.baload, 1) := by decide +kernel
theorem d_M_select_45 : decode b_M_select 45 = .ok (.ifCond .ne 6, 3) := by decide +kernel
theorem d_M_select_48 : decode b_M_select 48 = .ok (.goto 18, 3) := by decide +kernel
theorem d_M_select_51 : decode b_M_select 51 = .ok (.iload_n 3, 1) := by decide +kernel
theorem d_M_select_52 : decode b_M_select 52 = .ok (.ifCond .ne 11, 3) := by decide +kernel
theorem d_M_select_55 : decode b_M_select 55 = .ok (.aload_n 0, 1) := by decide +kernel
theorem d_M_select_56 : decode b_M_select 56 = .ok (.iconst 0, 1) := by decide +kernel
theorem d_M_select_57 : decode b_M_select 57 = .ok (.putfield 22, 3) := by decide +kernel
theorem d_M_select_60 : decode b_M_select 60 = .ok (.iload 4, 2) := by decide +kernel
theorem d_M_select_62 : decode b_M_select 62 = .ok (.ireturn, 1) := by decide +kernel
theorem d_M_select_63 : decode b_M_select 63 = .ok (.iinc 3 (-1), 3) := by decide +kernel
theorem d_M_select_66 : decode b_M_select 66 = .ok (.iinc 4 1, 3) := by decide +kernel
theorem d_M_select_69 : decode b_M_select 69 = .ok (.goto (-45), 3) := by decide +kernel
theorem d_M_select_72 : decode b_M_select 72 = .ok (.iconst 0, 1) := by decide +kernel
theorem d_M_select_73 : decode b_M_select 73 = .ok (.ireturn, 1) := by decide +kernel
theorem d_M_many_0 : decode b_M_many 0 = .ok (.aload_n 0, 1) := by decide +kernel
theorem d_M_many_1 : decode b_M_many 1 = .ok (.aload_n 0, 1) := by decide +kernel
theorem d_M_many_2 : decode b_M_many 2 = .ok (.iload_n 1, 1) := by decide +kernel
theorem d_M_many_3 : decode b_M_many 3 = .ok (.invokevirtual 25, 3) := by decide +kernel
theorem d_M_many_6 : decode b_M_many 6 = .ok (.ifCond .eq 7, 3) := by decide +kernel
theorem d_M_many_9 : decode b_M_many 9 = .ok (.iconst 0, 1) := by decide +kernel
theorem d_M_many_10 : decode b_M_many 10 = .ok (.goto 4, 3) := by decide +kernel
theorem d_M_many_13 : decode b_M_many 13 = .ok (.iconst 1, 1) := by decide +kernel
theorem d_M_many_14 : decode b_M_many 14 = .ok (.putfield 22, 3) := by decide +kernel
theorem d_M_many_17 : decode b_M_many 17 = .ok (.iconst 0, 1) := by decide +kernel
theorem d_M_many_18 : decode b_M_many 18 = .ok (.istore 4, 2) := by decide +kernel
theorem d_M_many_20 : decode b_M_many 20 = .ok (.iconst 0, 1) := by decide +kernel
theorem d_M_many_21 : decode b_M_many 21 = .ok (.istore 5, 2) := by decide +kernel
theorem d_M_many_23 : decode b_M_many 23 = .ok (.iload 5, 2) := by decide +kernel
theorem d_M_many_25 : decode b_M_many 25 = .ok (.sipush 256, 3) := by decide +kernel
theorem d_M_many_28 : decode b_M_many 28 = .ok (.if_icmp .ge 47, 3) := by decide +kernel
theorem d_M_many_31 : decode b_M_many 31 = .ok (.aload_n 0, 1) := by decide +kernel
theorem d_M_many_32 : decode b_M_many 32 = .ok (.getfield 22, 3) := by decide +kernel
theorem d_M_many_35 : decode b_M_many 35 = .ok (.ifCond .ne 40, 3) := by decide +kernel
theorem d_M_many_38 : decode b_M_many 38 = .ok (.iload 5, 2) := by decide +kernel
theorem d_M_many_40 : decode b_M_many 40 = .ok (.iload_n 2, 1) := by decide +kernel
theorem d_M_many_41 : decode b_M_many 41 = .ok (.if_icmp .lt 28, 3) := by decide +kernel
theorem d_M_many_44 : decode b_M_many 44 = .ok (.iload 5, 2) := by decide +kernel
theorem d_M_many_46 : decode b_M_many 46 = .ok (.iload_n 3, 1) := by decide +kernel
theorem d_M_many_47 : decode b_M_many 47 = .ok (.if_icmp .ge 22, 3) := by decide +kernel
theorem d_M_many_50 : decode b_M_many 50 = .ok (.aload_n 0, 1) := by decide +kernel
theorem d_M_many_51 : decode b_M_many 51 = .ok (.getfield 14, 3) := by decide +kernel
theorem d_M_many_54 : decode b_M_many 54 = .ok (.sipush 256, 3) := by decide +kernel
theorem d_M_many_57 : decode b_M_many 57 = .ok (.iload_n 1, 1) := by decide +kernel
theorem d_M_many_58 : decode b_M_many 58 = .ok (.imul, 1) := by decide +kernel
theorem d_M_many_59 : decode b_M_many 59 = .ok (.iload 5, 2) := by decide +kernel
theorem d_M_many_61 : decode b_M_many 61 = .ok (.iadd, 1) := by decide +kernel
theorem d_M_many_62 : decode b_M_many 62 = .ok (.baload, 1) := by decide +kernel
theorem d_M_many_63 : decode b_M_many 63 = .ok (.ifCond .eq 6, 3) := by decide +kernel
theorem d_M_many_66 : decode b_M_many 66 = .ok (.iinc 4 1, 3) := by decide +kernel
theorem d_M_many_69 : decode b_M_many 69 = .ok (.iinc 5 1, 3) := by decide +kernel
theorem d_M_many_72 : decode b_M_many 72 = .ok (.goto (-49), 3) := by decide +kernel
theorem d_M_many_75 : decode b_M_many 75 = .ok (.iload 4, 2) := by decide +kernel
theorem d_M_many_77 : decode b_M_many 77 = .ok (.ireturn, 1) := by decide +kernel
theorem d_M_sum_0 : decode b_M_sum 0 = .ok (.aload_n 0, 1) := by decide +kernel
theorem d_M_sum_1 : decode b_M_sum 1 = .ok (.aload_n 0, 1) := by decide +kernel
theorem d_M_sum_2 : decode b_M_sum 2 = .ok (.iload_n 1, 1) := by decide +kernel
theorem d_M_sum_3 : decode b_M_sum 3 = .ok (.invokevirtual 25, 3) := by decide +kernel
theorem d_M_sum_6 : decode b_M_sum 6 = .ok (.ifCond .eq 7, 3) := by decide +kernel
theorem d_M_sum_9 : decode b_M_sum 9 = .ok (.iconst 0, 1) := by decide +kernel
theorem d_M_sum_10 : decode b_M_sum 10 = .ok (.goto 4, 3) := by decide +kernel
theorem d_M_sum_13 : decode b_M_sum 13 = .ok (.iconst 1, 1) := by decide +kernel
theorem d_M_sum_14 : decode b_M_sum 14 = .ok (.putfield 22, 3) := by decide +kernel
theorem d_M_sum_17 : decode b_M_sum 17 = .ok (.lconst 0, 1) := by decide +kernel
theorem d_M_sum_18 : decode b_M_sum 18 = .ok (.lstore 4, 2) := by decide +kernel
theorem d_M_sum_20 : decode b_M_sum 20 = .ok (.iconst 0, 1) := by decide +kernel
theorem d_M_sum_21 : decode b_M_sum 21 = .ok (.istore 6, 2) := by decide +kernel
theorem d_M_sum_23 : decode b_M_sum 23 = .ok (.iload 6, 2) := by decide +kernel
theorem d_M_sum_25 : decode b_M_sum 25 = .ok (.sipush 256, 3) := by decide +kernel
theorem d_M_sum_28 : decode b_M_sum 28 = .ok (.if_icmp .ge 63, 3) := by decide +kernel
theorem d_M_sum_31 : decode b_M_sum 31 = .ok (.aload_n 0, 1) := by decide +kernel
theorem d_M_sum_32 : decode b_M_sum 32 = .ok (.getfield 22, 3) := by decide +kernel
theorem d_M_sum_35 : decode b_M_sum 35 = .ok (.ifCond .ne 56, 3) := by decide +kernel
theorem d_M_sum_38 : decode b_M_sum 38 = .ok (.iload 6, 2) := by decide +kernel
theorem d_M_sum_40 : decode b_M_sum 40 = .ok (.iload_n 2, 1) := by decide +kernel
theorem d_M_sum_41 : decode b_M_sum 41 = .ok (.if_icmp .lt 44, 3) := by decide +kernel
theorem d_M_sum_44 : decode b_M_sum 44 = .ok (.iload 6, 2) := by decide +kernel
theorem d_M_sum_46 : decode b_M_sum 46 = .ok (.iload_n 3, 1) := by decide +kernel
theorem d_M_sum_47 : decode b_M_sum 47 = .ok (.if_icmp .ge 38, 3) := by decide +kernel
theorem d_M_sum_50 : decode b_M_sum 50 = .ok (.aload_n 0, 1) := by decide +kernel
theorem d_M_sum_51 : decode b_M_sum 51 = .ok (.getfield 14, 3) := by decide +kernel
theorem d_M_sum_54 : decode b_M_sum 54 = .ok (.sipush 256, 3) := by decide +kernel
theorem d_M_sum_57 : decode b_M_sum 57 = .ok (.iload_n 1, 1) := by decide +kernel
theorem d_M_sum_58 : decode b_M_sum 58 = .ok (.imul, 1) := by decide +kernel
theorem d_M_sum_59 : decode b_M_sum 59 = .ok (.iload 6, 2) := by decide +kernel
theorem d_M_sum_61 : decode b_M_sum 61 = .ok (.iadd, 1) := by decide +kernel
theorem d_M_sum_62 : decode b_M_sum 62 = .ok (.baload, 1) := by decide +kernel
theorem d_M_sum_63 : decode b_M_sum 63 = .ok (.ifCond .eq 22, 3) := by decide +kernel
theorem d_M_sum_66 : decode b_M_sum 66 = .ok (.lload 4, 2) := by decide +kernel
theorem d_M_sum_68 : decode b_M_sum 68 = .ok (.aload_n 0, 1) := by decide +kernel
theorem d_M_sum_69 : decode b_M_sum 69 = .ok (.getfield 10, 3) := by decide +kernel
theorem d_M_sum_72 : decode b_M_sum 72 = .ok (.sipush 256, 3) := by decide +kernel
theorem d_M_sum_75 : decode b_M_sum 75 = .ok (.iload_n 1, 1) := by decide +kernel
theorem d_M_sum_76 : decode b_M_sum 76 = .ok (.imul, 1) := by decide +kernel
theorem d_M_sum_77 : decode b_M_sum 77 = .ok (.iload 6, 2) := by decide +kernel
theorem d_M_sum_79 : decode b_M_sum 79 = .ok (.iadd, 1) := by decide +kernel
theorem d_M_sum_80 : decode b_M_sum 80 = .ok (.iaload, 1) := by decide +kernel
theorem d_M_sum_81 : decode b_M_sum 81 = .ok (.i2l, 1) := by decide +kernel
theorem d_M_sum_82 : decode b_M_sum 82 = .ok (.ladd, 1) := by decide +kernel
theorem d_M_sum_83 : decode b_M_sum 83 = .ok (.lstore 4, 2) := by decide +kernel
theorem d_M_sum_85 : decode b_M_sum 85 = .ok (.iinc 6 1, 3) := by decide +kernel
theorem d_M_sum_88 : decode b_M_sum 88 = .ok (.goto (-65), 3) := by decide +kernel
theorem d_M_sum_91 : decode b_M_sum 91 = .ok (.lload 4, 2) := by decide +kernel
theorem d_M_sum_93 : decode b_M_sum 93 = .ok (.lreturn, 1) := by decide +kernel
theorem d_M_differ_0 : decode b_M_differ 0 = .ok (.aload_n 0, 1) := by decide +kernel
theorem d_M_differ_1 : decode b_M_differ 1 = .ok (.aload_n 0, 1) := by decide +kernel
theorem d_M_differ_2 : decode b_M_differ 2 = .ok (.iload_n 1, 1) := by decide +kernel
theorem d_M_differ_3 : decode b_M_differ 3 = .ok (.invokevirtual 25, 3) := by decide +kernel
theorem d_M_differ_6 : decode b_M_differ 6 = .ok (.ifCond .eq 15, 3) := by decide +kernel
theorem d_M_differ_9 : decode b_M_differ 9 = .ok (.aload_n 0, 1) := by decide +kernel
theorem d_M_differ_10 : decode b_M_differ 10 = .ok (.iload_n 2, 1) := by decide +kernel
theorem d_M_differ_11 : decode b_M_differ 11 = .ok (.invokevirtual 25, 3) := by decide +kernel
theorem d_M_differ_14 : decode b_M_differ 14 = .ok (.ifCond .eq 7, 3) := by decide +kernel
theorem d_M_differ_17 : decode b_M_differ 17 = .ok (.iconst 0, 1) := by decide +kernel
theorem d_M_differ_18 : decode b_M_differ 18 = .ok (.goto 4, 3) := by decide +kernel
theorem d_M_differ_21 : decode b_M_differ 21 = .ok (.iconst 1, 1) := by decide +kernel
theorem d_M_differ_22 : decode b_M_differ 22 = .ok (.putfield 22, 3) := by decide +kernel
theorem d_M_differ_25 : decode b_M_differ 25 = .ok (.iconst 0, 1) := by decide +kernel
theorem d_M_differ_26 : decode b_M_differ 26 = .ok (.istore_n 3, 1) := by decide +kernel
theorem d_M_differ_27 : decode b_M_differ 27 = .ok (.iconst 0, 1) := by decide +kernel
theorem d_M_differ_28 : decode b_M_differ 28 = .ok (.istore 4, 2) := by decide +kernel
theorem d_M_differ_30 : decode b_M_differ 30 = .ok (.iload 4, 2) := by decide +kernel
theorem d_M_differ_32 : decode b_M_differ 32 = .ok (.sipush 256, 3) := by decide +kernel
theorem d_M_differ_35 : decode b_M_differ 35 = .ok (.if_icmp .ge 83, 3) := by decide +kernel
theorem d_M_differ_38 : decode b_M_differ 38 = .ok (.aload_n 0, 1) := by decide +kernel
theorem d_M_differ_39 : decode b_M_differ 39 = .ok (.getfield 22, 3) := by decide +kernel
theorem d_M_differ_42 : decode b_M_differ 42 = .ok (.ifCond .ne 76, 3) := by decide +kernel
theorem d_M_differ_45 : decode b_M_differ 45 = .ok (.sipush 256, 3) := by decide +kernel
theorem d_M_differ_48 : decode b_M_differ 48 = .ok (.iload_n 1, 1) := by decide +kernel
theorem d_M_differ_49 : decode b_M_differ 49 = .ok (.imul, 1) := by decide +kernel
theorem d_M_differ_50 : decode b_M_differ 50 = .ok (.iload 4, 2) := by decide +kernel
theorem d_M_differ_52 : decode b_M_differ 52 = .ok (.iadd, 1) := by decide +kernel
theorem d_M_differ_53 : decode b_M_differ 53 = .ok (.istore 5, 2) := by decide +kernel
theorem d_M_differ_55 : decode b_M_differ 55 = .ok (.sipush 256, 3) := by decide +kernel
theorem d_M_differ_58 : decode b_M_differ 58 = .ok (.iload_n 2, 1) := by decide +kernel
theorem d_M_differ_59 : decode b_M_differ 59 = .ok (.imul, 1) := by decide +kernel
theorem d_M_differ_60 : decode b_M_differ 60 = .ok (.iload 4, 2) := by decide +kernel
theorem d_M_differ_62 : decode b_M_differ 62 = .ok (.iadd, 1) := by decide +kernel
theorem d_M_differ_63 : decode b_M_differ 63 = .ok (.istore 6, 2) := by decide +kernel
theorem d_M_differ_65 : decode b_M_differ 65 = .ok (.aload_n 0, 1) := by decide +kernel
theorem d_M_differ_66 : decode b_M_differ 66 = .ok (.getfield 14, 3) := by decide +kernel
theorem d_M_differ_69 : decode b_M_differ 69 = .ok (.iload 5, 2) := by decide +kernel
theorem d_M_differ_71 : decode b_M_differ 71 = .ok (.baload, 1) := by decide +kernel
theorem d_M_differ_72 : decode b_M_differ 72 = .ok (.aload_n 0, 1) := by decide +kernel
theorem d_M_differ_73 : decode b_M_differ 73 = .ok (.getfield 14, 3) := by decide +kernel
theorem d_M_differ_76 : decode b_M_differ 76 = .ok (.iload 6, 2) := by decide +kernel
theorem d_M_differ_78 : decode b_M_differ 78 = .ok (.baload, 1) := by decide +kernel
theorem d_M_differ_79 : decode b_M_differ 79 = .ok (.if_icmp .ne 30, 3) := by decide +kernel
theorem d_M_differ_82 : decode b_M_differ 82 = .ok (.aload_n 0, 1) := by decide +kernel
theorem d_M_differ_83 : decode b_M_differ 83 = .ok (.getfield 14, 3) := by decide +kernel
theorem d_M_differ_86 : decode b_M_differ 86 = .ok (.iload 5, 2) := by decide +kernel
theorem d_M_differ_88 : decode b_M_differ 88 = .ok (.baload, 1) := by decide +kernel
theorem d_M_differ_89 : decode b_M_differ 89 = .ok (.ifCond .eq 23, 3) := by decide +kernel
theorem d_M_differ_92 : decode b_M_differ 92 = .ok (.aload_n 0, 1) := by decide +kernel
theorem d_M_differ_93 : decode b_M_differ 93 = .ok (.getfield 10, 3) := by decide +kernel
theorem d_M_differ_96 : decode b_M_differ 96 = .ok (.iload 5, 2) := by decide +kernel
theorem d_M_differ_98 : decode b_M_differ 98 = .ok (.iaload, 1) := by decide +kernel
theorem d_M_differ_99 : decode b_M_differ 99 = .ok (.aload_n 0, 1) := by decide +kernel
theorem d_M_differ_100 : decode b_M_differ 100 = .ok (.getfield 10, 3) := by decide +kernel
theorem d_M_differ_103 : decode b_M_differ 103 = .ok (.iload 6, 2) := by decide +kernel
theorem d_M_differ_105 : decode b_M_differ 105 = .ok (.iaload, 1) := by decide +kernel
theorem d_M_differ_106 : decode b_M_differ 106 = .ok (.if_icmp .eq 6, 3) := by decide +kernel
theorem d_M_differ_109 : decode b_M_differ 109 = .ok (.iinc 3 1, 3) := by decide +kernel
theorem d_M_differ_112 : decode b_M_differ 112 = .ok (.iinc 4 1, 3) := by decide +kernel
theorem d_M_differ_115 : decode b_M_differ 115 = .ok (.goto (-85), 3) := by decide +kernel
theorem d_M_differ_118 : decode b_M_differ 118 = .ok (.iload_n 3, 1) := by decide +kernel
theorem d_M_differ_119 : decode b_M_differ 119 = .ok (.ireturn, 1) := by decide +kernel
theorem d_M_digest_0 : decode b_M_digest 0 = .ok (.aload_n 0, 1) := by decide +kernel
theorem d_M_digest_1 : decode b_M_digest 1 = .ok (.aload_n 0, 1) := by decide +kernel
theorem d_M_digest_2 : decode b_M_digest 2 = .ok (.iload_n 1, 1) := by decide +kernel
theorem d_M_digest_3 : decode b_M_digest 3 = .ok (.invokevirtual 25, 3) := by decide +kernel
theorem d_M_digest_6 : decode b_M_digest 6 = .ok (.ifCond .eq 7, 3) := by decide +kernel
theorem d_M_digest_9 : decode b_M_digest 9 = .ok (.iconst 0, 1) := by decide +kernel
theorem d_M_digest_10 : decode b_M_digest 10 = .ok (.goto 4, 3) := by decide +kernel
theorem d_M_digest_13 : decode b_M_digest 13 = .ok (.iconst 1, 1) := by decide +kernel
theorem d_M_digest_14 : decode b_M_digest 14 = .ok (.putfield 22, 3) := by decide +kernel
theorem d_M_digest_17 : decode b_M_digest 17 = .ok (.ldc2_w 36, 3) := by decide +kernel
theorem d_M_digest_20 : decode b_M_digest 20 = .ok (.lstore_n 2, 1) := by decide +kernel
theorem d_M_digest_21 : decode b_M_digest 21 = .ok (.iconst 0, 1) := by decide +kernel
theorem d_M_digest_22 : decode b_M_digest 22 = .ok (.istore 4, 2) := by decide +kernel
theorem d_M_digest_24 : decode b_M_digest 24 = .ok (.iload 4, 2) := by decide +kernel
theorem d_M_digest_26 : decode b_M_digest 26 = .ok (.sipush 256, 3) := by decide +kernel
theorem d_M_digest_29 : decode b_M_digest 29 = .ok (.if_icmp .ge 61, 3) := by decide +kernel
theorem d_M_digest_32 : decode b_M_digest 32 = .ok (.aload_n 0, 1) := by decide +kernel
theorem d_M_digest_33 : decode b_M_digest 33 = .ok (.getfield 22, 3) := by decide +kernel
theorem d_M_digest_36 : decode b_M_digest 36 = .ok (.ifCond .ne 54, 3) := by decide +kernel
theorem d_M_digest_39 : decode b_M_digest 39 = .ok (.aload_n 0, 1) := by decide +kernel
theorem d_M_digest_40 : decode b_M_digest 40 = .ok (.getfield 14, 3) := by decide +kernel
theorem d_M_digest_43 : decode b_M_digest 43 = .ok (.sipush 256, 3) := by decide +kernel
theorem d_M_digest_46 : decode b_M_digest 46 = .ok (.iload_n 1, 1) := by decide +kernel
theorem d_M_digest_47 : decode b_M_digest 47 = .ok (.imul, 1) := by decide +kernel
theorem d_M_digest_48 : decode b_M_digest 48 = .ok (.iload 4, 2) := by decide +kernel
theorem d_M_digest_50 : decode b_M_digest 50 = .ok (.iadd, 1) := by decide +kernel
theorem d_M_digest_51 : decode b_M_digest 51 = .ok (.baload, 1) := by decide +kernel
theorem d_M_digest_52 : decode b_M_digest 52 = .ok (.ifCond .eq 32, 3) := by decide +kernel
theorem d_M_digest_55 : decode b_M_digest 55 = .ok (.ldc2_w 38, 3) := by decide +kernel
theorem d_M_digest_58 : decode b_M_digest 58 = .ok (.ldc2_w 38, 3) := by decide +kernel
theorem d_M_digest_61 : decode b_M_digest 61 = .ok (.lload_n 2, 1) := by decide +kernel
theorem d_M_digest_62 : decode b_M_digest 62 = .ok (.lmul, 1) := by decide +kernel
theorem d_M_digest_63 : decode b_M_digest 63 = .ok (.iload 4, 2) := by decide +kernel
theorem d_M_digest_65 : decode b_M_digest 65 = .ok (.i2l, 1) := by decide +kernel
theorem d_M_digest_66 : decode b_M_digest 66 = .ok (.ladd, 1) := by decide +kernel
theorem d_M_digest_67 : decode b_M_digest 67 = .ok (.lmul, 1) := by decide +kernel
theorem d_M_digest_68 : decode b_M_digest 68 = .ok (.aload_n 0, 1) := by decide +kernel
theorem d_M_digest_69 : decode b_M_digest 69 = .ok (.getfield 10, 3) := by decide +kernel
theorem d_M_digest_72 : decode b_M_digest 72 = .ok (.sipush 256, 3) := by decide +kernel
theorem d_M_digest_75 : decode b_M_digest 75 = .ok (.iload_n 1, 1) := by decide +kernel
theorem d_M_digest_76 : decode b_M_digest 76 = .ok (.imul, 1) := by decide +kernel
theorem d_M_digest_77 : decode b_M_digest 77 = .ok (.iload 4, 2) := by decide +kernel
theorem d_M_digest_79 : decode b_M_digest 79 = .ok (.iadd, 1) := by decide +kernel
theorem d_M_digest_80 : decode b_M_digest 80 = .ok (.iaload, 1) := by decide +kernel
theorem d_M_digest_81 : decode b_M_digest 81 = .ok (.i2l, 1) := by decide +kernel
theorem d_M_digest_82 : decode b_M_digest 82 = .ok (.ladd, 1) := by decide +kernel
theorem d_M_digest_83 : decode b_M_digest 83 = .ok (.lstore_n 2, 1) := by decide +kernel
theorem d_M_digest_84 : decode b_M_digest 84 = .ok (.iinc 4 1, 3) := by decide +kernel
theorem d_M_digest_87 : decode b_M_digest 87 = .ok (.goto (-63), 3) := by decide +kernel
theorem d_M_digest_90 : decode b_M_digest 90 = .ok (.aload_n 0, 1) := by decide +kernel
theorem d_M_digest_91 : decode b_M_digest 91 = .ok (.getfield 22, 3) := by decide +kernel
theorem d_M_digest_94 : decode b_M_digest 94 = .ok (.ifCond .le 7, 3) := by decide +kernel
theorem d_M_digest_97 : decode b_M_digest 97 = .ok (.lconst 0, 1) := by decide +kernel
theorem d_M_digest_98 : decode b_M_digest 98 = .ok (.goto 4, 3) := by decide +kernel
theorem d_M_digest_101 : decode b_M_digest 101 = .ok (.lload_n 2, 1) := by decide +kernel
theorem d_M_digest_102 : decode b_M_digest 102 = .ok (.lreturn, 1) := by decide +kernel
theorem d_M_versions_0 : decode b_M_versions 0 = .ok (.aload_n 0, 1) := by decide +kernel
theorem d_M_versions_1 : decode b_M_versions 1 = .ok (.iconst 0, 1) := by decide +kernel
theorem d_M_versions_2 : decode b_M_versions 2 = .ok (.putfield 22, 3) := by decide +kernel
theorem d_M_versions_5 : decode b_M_versions 5 = .ok (.aload_n 0, 1) := by decide +kernel
theorem d_M_versions_6 : decode b_M_versions 6 = .ok (.getfield 18, 3) := by decide +kernel
theorem d_M_versions_9 : decode b_M_versions 9 = .ok (.ireturn, 1) := by decide +kernel
theorem d_M_check_0 : decode b_M_check 0 = .ok (.aload_n 0, 1) := by decide +kernel
theorem d_M_check_1 : decode b_M_check 1 = .ok (.iconst 0, 1) := by decide +kernel
theorem d_M_check_2 : decode b_M_check 2 = .ok (.putfield 22, 3) := by decide +kernel
theorem d_M_check_5 : decode b_M_check 5 = .ok (.iconst 0, 1) := by decide +kernel
theorem d_M_check_6 : decode b_M_check 6 = .ok (.ireturn, 1) := by decide +kernel
theorem d_L_put_0 : decode b_L_put 0 = .ok (.aload 4, 2) := by decide +kernel
theorem d_L_put_2 : decode b_L_put 2 = .ok (.iconst 0, 1) := by decide +kernel
theorem d_L_put_3 : decode b_L_put 3 = .ok (.aload_n 0, 1) := by decide +kernel
theorem d_L_put_4 : decode b_L_put 4 = .ok (.iload_n 1, 1) := by decide +kernel
theorem d_L_put_5 : decode b_L_put 5 = .ok (.iload_n 2, 1) := by decide +kernel
theorem d_L_put_6 : decode b_L_put 6 = .ok (.iload_n 3, 1) := by decide +kernel
theorem d_L_put_7 : decode b_L_put 7 = .ok (.invokevirtual 7, 3) := by decide +kernel
theorem d_L_put_10 : decode b_L_put 10 = .ok (.i2l, 1) := by decide +kernel
theorem d_L_put_11 : decode b_L_put 11 = .ok (.lastore, 1) := by decide +kernel
theorem d_L_put_12 : decode b_L_put 12 = .ok (.goto 11, 3) := by decide +kernel
theorem d_L_put_15 : decode b_L_put 15 = .ok (.astore 5, 2) := by decide +kernel
theorem d_L_put_17 : decode b_L_put 17 = .ok (.iconst 1, 1) := by decide +kernel
theorem d_L_put_18 : decode b_L_put 18 = .ok (.ireturn, 1) := by decide +kernel
theorem d_L_put_19 : decode b_L_put 19 = .ok (.astore 5, 2) := by decide +kernel
theorem d_L_put_21 : decode b_L_put 21 = .ok (.iconst 2, 1) := by decide +kernel
theorem d_L_put_22 : decode b_L_put 22 = .ok (.ireturn, 1) := by decide +kernel
theorem d_L_put_23 : decode b_L_put 23 = .ok (.iconst 0, 1) := by decide +kernel
theorem d_L_put_24 : decode b_L_put 24 = .ok (.ireturn, 1) := by decide +kernel
theorem d_L_remove_0 : decode b_L_remove 0 = .ok (.aload_n 3, 1) := by decide +kernel
theorem d_L_remove_1 : decode b_L_remove 1 = .ok (.iconst 0, 1) := by decide +kernel
theorem d_L_remove_2 : decode b_L_remove 2 = .ok (.aload_n 0, 1) := by decide +kernel
theorem d_L_remove_3 : decode b_L_remove 3 = .ok (.iload_n 1, 1) := by decide +kernel
theorem d_L_remove_4 : decode b_L_remove 4 = .ok (.iload_n 2, 1) := by decide +kernel
theorem d_L_remove_5 : decode b_L_remove 5 = .ok (.invokevirtual 17, 3) := by decide +kernel
theorem d_L_remove_8 : decode b_L_remove 8 = .ok (.i2l, 1) := by decide +kernel
theorem d_L_remove_9 : decode b_L_remove 9 = .ok (.lastore, 1) := by decide +kernel
theorem d_L_remove_10 : decode b_L_remove 10 = .ok (.goto 15, 3) := by decide +kernel
theorem d_L_remove_13 : decode b_L_remove 13 = .ok (.astore 4, 2) := by decide +kernel
theorem d_L_remove_15 : decode b_L_remove 15 = .ok (.iconst 1, 1) := by decide +kernel
theorem d_L_remove_16 : decode b_L_remove 16 = .ok (.ireturn, 1) := by decide +kernel
theorem d_L_remove_17 : decode b_L_remove 17 = .ok (.astore 4, 2) := by decide +kernel
theorem d_L_remove_19 : decode b_L_remove 19 = .ok (.iconst 2, 1) := by decide +kernel
theorem d_L_remove_20 : decode b_L_remove 20 = .ok (.ireturn, 1) := by decide +kernel
theorem d_L_remove_21 : decode b_L_remove 21 = .ok (.astore 4, 2) := by decide +kernel
theorem d_L_remove_23 : decode b_L_remove 23 = .ok (.iconst 3, 1) := by decide +kernel
theorem d_L_remove_24 : decode b_L_remove 24 = .ok (.ireturn, 1) := by decide +kernel
theorem d_L_remove_25 : decode b_L_remove 25 = .ok (.iconst 0, 1) := by decide +kernel
theorem d_L_remove_26 : decode b_L_remove 26 = .ok (.ireturn, 1) := by decide +kernel
theorem d_L_join_0 : decode b_L_join 0 = .ok (.aload 4, 2) := by decide +kernel
theorem d_L_join_2 : decode b_L_join 2 = .ok (.iconst 0, 1) := by decide +kernel
theorem d_L_join_3 : decode b_L_join 3 = .ok (.aload_n 0, 1) := by decide +kernel
theorem d_L_join_4 : decode b_L_join 4 = .ok (.iload_n 1, 1) := by decide +kernel
theorem d_L_join_5 : decode b_L_join 5 = .ok (.iload_n 2, 1) := by decide +kernel
theorem d_L_join_6 : decode b_L_join 6 = .ok (.iload_n 3, 1) := by decide +kernel
theorem d_L_join_7 : decode b_L_join 7 = .ok (.invokevirtual 23, 3) := by decide +kernel
theorem d_L_join_10 : decode b_L_join 10 = .ok (.i2l, 1) := by decide +kernel
theorem d_L_join_11 : decode b_L_join 11 = .ok (.lastore, 1) := by decide +kernel
theorem d_L_join_12 : decode b_L_join 12 = .ok (.goto 11, 3) := by decide +kernel
theorem d_L_join_15 : decode b_L_join 15 = .ok (.astore 5, 2) := by decide +kernel
theorem d_L_join_17 : decode b_L_join 17 = .ok (.iconst 1, 1) := by decide +kernel
theorem d_L_join_18 : decode b_L_join 18 = .ok (.ireturn, 1) := by decide +kernel
theorem d_L_join_19 : decode b_L_join 19 = .ok (.astore 5, 2) := by decide +kernel
theorem d_L_join_21 : decode b_L_join 21 = .ok (.iconst 2, 1) := by decide +kernel
theorem d_L_join_22 : decode b_L_join 22 = .ok (.ireturn, 1) := by decide +kernel
theorem d_L_join_23 : decode b_L_join 23 = .ok (.iconst 0, 1) := by decide +kernel
theorem d_L_join_24 : decode b_L_join 24 = .ok (.ireturn, 1) := by decide +kernel
theorem d_L_get_0 : decode b_L_get 0 = .ok (.aload_n 3, 1) := by decide +kernel
theorem d_L_get_1 : decode b_L_get 1 = .ok (.iconst 0, 1) := by decide +kernel
theorem d_L_get_2 : decode b_L_get 2 = .ok (.aload_n 0, 1) := by decide +kernel
theorem d_L_get_3 : decode b_L_get 3 = .ok (.iload_n 1, 1) := by decide +kernel
theorem d_L_get_4 : decode b_L_get 4 = .ok (.iload_n 2, 1) := by decide +kernel
theorem d_L_get_5 : decode b_L_get 5 = .ok (.invokevirtual 26, 3) := by decide +kernel
theorem d_L_get_8 : decode b_L_get 8 = .ok (.i2l, 1) := by decide +kernel
theorem d_L_get_9 : decode b_L_get 9 = .ok (.lastore, 1) := by decide +kernel
theorem d_L_get_10 : decode b_L_get 10 = .ok (.goto 11, 3) := by decide +kernel
theorem d_L_get_13 : decode b_L_get 13 = .ok (.astore 4, 2) := by decide +kernel
theorem d_L_get_15 : decode b_L_get 15 = .ok (.iconst 1, 1) := by decide +kernel
theorem d_L_get_16 : decode b_L_get 16 = .ok (.ireturn, 1) := by decide +kernel
theorem d_L_get_17 : decode b_L_get 17 = .ok (.astore 4, 2) := by decide +kernel
theorem d_L_get_19 : decode b_L_get 19 = .ok (.iconst 2, 1) := by decide +kernel
theorem d_L_get_20 : decode b_L_get 20 = .ok (.ireturn, 1) := by decide +kernel
theorem d_L_get_21 : decode b_L_get 21 = .ok (.iconst 0, 1) := by decide +kernel
theorem d_L_get_22 : decode b_L_get 22 = .ok (.ireturn, 1) := by decide +kernel
theorem d_L_select_0 : decode b_L_select 0 = .ok (.aload_n 3, 1) := by decide +kernel
theorem d_L_select_1 : decode b_L_select 1 = .ok (.iconst 0, 1) := by decide +kernel
theorem d_L_select_2 : decode b_L_select 2 = .ok (.aload_n 0, 1) := by decide +kernel
theorem d_L_select_3 : decode b_L_select 3 = .ok (.iload_n 1, 1) := by decide +kernel
theorem d_L_select_4 : decode b_L_select 4 = .ok (.iload_n 2, 1) := by decide +kernel
theorem d_L_select_5 : decode b_L_select 5 = .ok (.invokevirtual 29, 3) := by decide +kernel
theorem d_L_select_8 : decode b_L_select 8 = .ok (.i2l, 1) := by decide +kernel
theorem d_L_select_9 : decode b_L_select 9 = .ok (.lastore, 1) := by decide +kernel
theorem d_L_select_10 : decode b_L_select 10 = .ok (.goto 7, 3) := by decide +kernel
theorem d_L_select_13 : decode b_L_select 13 = .ok (.astore 4, 2) := by decide +kernel
theorem d_L_select_15 : decode b_L_select 15 = .ok (.iconst 1, 1) := by decide +kernel
theorem d_L_select_16 : decode b_L_select 16 = .ok (.ireturn, 1) := by decide +kernel
theorem d_L_select_17 : decode b_L_select 17 = .ok (.iconst 0, 1) := by decide +kernel
theorem d_L_select_18 : decode b_L_select 18 = .ok (.ireturn, 1) := by decide +kernel
theorem d_L_many_0 : decode b_L_many 0 = .ok (.aload 4, 2) := by decide +kernel
theorem d_L_many_2 : decode b_L_many 2 = .ok (.iconst 0, 1) := by decide +kernel
theorem d_L_many_3 : decode b_L_many 3 = .ok (.aload_n 0, 1) := by decide +kernel
theorem d_L_many_4 : decode b_L_many 4 = .ok (.iload_n 1, 1) := by decide +kernel
theorem d_L_many_5 : decode b_L_many 5 = .ok (.iload_n 2, 1) := by decide +kernel
theorem d_L_many_6 : decode b_L_many 6 = .ok (.iload_n 3, 1) := by decide +kernel
theorem d_L_many_7 : decode b_L_many 7 = .ok (.invokevirtual 32, 3) := by decide +kernel
theorem d_L_many_10 : decode b_L_many 10 = .ok (.i2l, 1) := by decide +kernel
theorem d_L_many_11 : decode b_L_many 11 = .ok (.lastore, 1) := by decide +kernel
theorem d_L_many_12 : decode b_L_many 12 = .ok (.goto 7, 3) := by decide +kernel
theorem d_L_many_15 : decode b_L_many 15 = .ok (.astore 5, 2) := by decide +kernel
theorem d_L_many_17 : decode b_L_many 17 = .ok (.iconst 1, 1) := by decide +kernel
theorem d_L_many_18 : decode b_L_many 18 = .ok (.ireturn, 1) := by decide +kernel
theorem d_L_many_19 : decode b_L_many 19 = .ok (.iconst 0, 1) := by decide +kernel
theorem d_L_many_20 : decode b_L_many 20 = .ok (.ireturn, 1) := by decide +kernel
theorem d_L_sum_0 : decode b_L_sum 0 = .ok (.aload 4, 2) := by decide +kernel
theorem d_L_sum_2 : decode b_L_sum 2 = .ok (.iconst 0, 1) := by decide +kernel
theorem d_L_sum_3 : decode b_L_sum 3 = .ok (.aload_n 0, 1) := by decide +kernel
theorem d_L_sum_4 : decode b_L_sum 4 = .ok (.iload_n 1, 1) := by decide +kernel
theorem d_L_sum_5 : decode b_L_sum 5 = .ok (.iload_n 2, 1) := by decide +kernel
theorem d_L_sum_6 : decode b_L_sum 6 = .ok (.iload_n 3, 1) := by decide +kernel
theorem d_L_sum_7 : decode b_L_sum 7 = .ok (.invokevirtual 35, 3) := by decide +kernel
theorem d_L_sum_10 : decode b_L_sum 10 = .ok (.lastore, 1) := by decide +kernel
theorem d_L_sum_11 : decode b_L_sum 11 = .ok (.goto 7, 3) := by decide +kernel
theorem d_L_sum_14 : decode b_L_sum 14 = .ok (.astore 5, 2) := by decide +kernel
theorem d_L_sum_16 : decode b_L_sum 16 = .ok (.iconst 1, 1) := by decide +kernel
theorem d_L_sum_17 : decode b_L_sum 17 = .ok (.ireturn, 1) := by decide +kernel
theorem d_L_sum_18 : decode b_L_sum 18 = .ok (.iconst 0, 1) := by decide +kernel
theorem d_L_sum_19 : decode b_L_sum 19 = .ok (.ireturn, 1) := by decide +kernel
theorem d_L_differ_0 : decode b_L_differ 0 = .ok (.aload_n 3, 1) := by decide +kernel
theorem d_L_differ_1 : decode b_L_differ 1 = .ok (.iconst 0, 1) := by decide +kernel
theorem d_L_differ_2 : decode b_L_differ 2 = .ok (.aload_n 0, 1) := by decide +kernel
theorem d_L_differ_3 : decode b_L_differ 3 = .ok (.iload_n 1, 1) := by decide +kernel
theorem d_L_differ_4 : decode b_L_differ 4 = .ok (.iload_n 2, 1) := by decide +kernel
theorem d_L_differ_5 : decode b_L_differ 5 = .ok (.invokevirtual 39, 3) := by decide +kernel
theorem d_L_differ_8 : decode b_L_differ 8 = .ok (.i2l, 1) := by decide +kernel
theorem d_L_differ_9 : decode b_L_differ 9 = .ok (.lastore, 1) := by decide +kernel
theorem d_L_differ_10 : decode b_L_differ 10 = .ok (.goto 7, 3) := by decide +kernel
theorem d_L_differ_13 : decode b_L_differ 13 = .ok (.astore 4, 2) := by decide +kernel
theorem d_L_differ_15 : decode b_L_differ 15 = .ok (.iconst 1, 1) := by decide +kernel
theorem d_L_differ_16 : decode b_L_differ 16 = .ok (.ireturn, 1) := by decide +kernel
theorem d_L_differ_17 : decode b_L_differ 17 = .ok (.iconst 0, 1) := by decide +kernel
theorem d_L_differ_18 : decode b_L_differ 18 = .ok (.ireturn, 1) := by decide +kernel
theorem d_L_digest_0 : decode b_L_digest 0 = .ok (.aload_n 2, 1) := by decide +kernel
theorem d_L_digest_1 : decode b_L_digest 1 = .ok (.iconst 0, 1) := by decide +kernel
theorem d_L_digest_2 : decode b_L_digest 2 = .ok (.aload_n 0, 1) := by decide +kernel
theorem d_L_digest_3 : decode b_L_digest 3 = .ok (.iload_n 1, 1) := by decide +kernel
theorem d_L_digest_4 : decode b_L_digest 4 = .ok (.invokevirtual 42, 3) := by decide +kernel
theorem d_L_digest_7 : decode b_L_digest 7 = .ok (.lastore, 1) := by decide +kernel
theorem d_L_digest_8 : decode b_L_digest 8 = .ok (.goto 6, 3) := by decide +kernel
theorem d_L_digest_11 : decode b_L_digest 11 = .ok (.astore_n 3, 1) := by decide +kernel
theorem d_L_digest_12 : decode b_L_digest 12 = .ok (.iconst 1, 1) := by decide +kernel
theorem d_L_digest_13 : decode b_L_digest 13 = .ok (.ireturn, 1) := by decide +kernel
theorem d_L_digest_14 : decode b_L_digest 14 = .ok (.iconst 0, 1) := by decide +kernel
theorem d_L_digest_15 : decode b_L_digest 15 = .ok (.ireturn, 1) := by decide +kernel
end
section
theorem k_T_init : tCall y_T_init b_T_init 1 none 0 := ⟨wc_T_init, wI_T, by decide, by decide +kernel⟩
theorem k_T_versions : tCall y_T_versions b_T_versions 1 (some .int) 0 := ⟨wc_T_versions, wI_T, by decide, by decide +kernel⟩
theorem k_T_check : tCall y_T_check b_T_check 5 (some .int) 0 := ⟨wc_T_check, wI_T, by decide, by decide +kernel⟩
theorem k_T_height : tCall y_T_height b_T_height 1 (some .int) 1 := ⟨wc_T_height, wI_T, by decide, by decide +kernel⟩
theorem k_T_put : tCall y_T_put b_T_put 6 (some .int) 3 := ⟨wc_T_put, wI_T, by decide, by decide +kernel⟩
theorem k_T_isVersion : tCall y_T_isVersion b_T_isVersion 2 none 1 := ⟨wc_T_isVersion, wI_T, by decide, by decide +kernel⟩
theorem k_T_there : tCall y_T_there b_T_there 1 none 1 := ⟨wc_T_there, wI_T, by decide, by decide +kernel⟩
theorem k_T_isKey : tCall y_T_isKey b_T_isKey 1 none 1 := ⟨wc_T_isKey, wI_T, by decide, by decide +kernel⟩
theorem k_T_may : tCall y_T_may b_T_may 1 none 0 := ⟨wc_T_may, wI_T, by decide, by decide +kernel⟩
theorem k_T_find : tCall y_T_find b_T_find 4 (some .int) 2 := ⟨wc_T_find, wI_T, by decide, by decide +kernel⟩
theorem k_T_add : tCall y_T_add b_T_add 2 (some .int) 1 := ⟨wc_T_add, wI_T, by decide, by decide +kernel⟩
theorem k_T_make : tCall y_T_make b_T_make 6 (some .int) 4 := ⟨wc_T_make, wI_T, by decide, by decide +kernel⟩
theorem k_T_below : tCall y_T_below b_T_below 4 (some .int) 2 := ⟨wc_T_below, wI_T, by decide, by decide +kernel⟩
theorem k_T_both : tCall y_T_both b_T_both 3 (some .int) 2 := ⟨wc_T_both, wI_T, by decide, by decide +kernel⟩
theorem k_T_from : tCall y_T_from b_T_from 4 (some .int) 2 := ⟨wc_T_from, wI_T, by decide, by decide +kernel⟩
theorem k_T_remove : tCall y_T_remove b_T_remove 3 (some .int) 2 := ⟨wc_T_remove, wI_T, by decide, by decide +kernel⟩
theorem k_T_join : tCall y_T_join b_T_join 4 (some .int) 3 := ⟨wc_T_join, wI_T, by decide, by decide +kernel⟩
theorem k_T_get : tCall y_T_get b_T_get 4 (some .int) 2 := ⟨wc_T_get, wI_T, by decide, by decide +kernel⟩
theorem k_T_select : tCall y_T_select b_T_select 5 (some .int) 2 := ⟨wc_T_select, wI_T, by decide, by decide +kernel⟩
theorem k_T_many : tCall y_T_many b_T_many 5 (some .int) 3 := ⟨wc_T_many, wI_T, by decide, by decide +kernel⟩
theorem k_T_pass : tCall y_T_pass b_T_pass 4 none 2 := ⟨wc_T_pass, wI_T, by decide, by decide +kernel⟩
theorem k_T_sum : tCall y_T_sum b_T_sum 6 (some .long) 3 := ⟨wc_T_sum, wI_T, by decide, by decide +kernel⟩
theorem k_T_differ : tCall y_T_differ b_T_differ 3 (some .int) 2 := ⟨wc_T_differ, wI_T, by decide, by decide +kernel⟩
theorem k_T_others : tCall y_T_others b_T_others 7 (some .int) 2 := ⟨wc_T_others, wI_T, by decide, by decide +kernel⟩
theorem k_T_digest : tCall y_T_digest b_T_digest 2 (some .long) 1 := ⟨wc_T_digest, wI_T, by decide, by decide +kernel⟩
theorem k_T_digested : tCall y_T_digested b_T_digested 4 (some .long) 2 := ⟨wc_T_digested, wI_T, by decide, by decide +kernel⟩
theorem k_M_init : tCall y_M_init b_M_init 1 none 0 := ⟨wc_M_init, wI_M, by decide, by decide +kernel⟩
theorem k_M_thrown : tCall y_M_thrown b_M_thrown 1 (some .int) 0 := ⟨wc_M_thrown, wI_M, by decide, by decide +kernel⟩
theorem k_M_put : tCall y_M_put b_M_put 5 (some .int) 3 := ⟨wc_M_put, wI_M, by decide, by decide +kernel⟩
theorem k_M_isOne : tCall y_M_isOne b_M_isOne 2 (some .boolean) 1 := ⟨wc_M_isOne, wI_M, by decide, by decide +kernel⟩
theorem k_M_isKey : tCall y_M_isKey b_M_isKey 1 (some .boolean) 1 := ⟨wc_M_isKey, wI_M, by decide, by decide +kernel⟩
theorem k_M_made : tCall y_M_made b_M_made 7 (some .int) 3 := ⟨wc_M_made, wI_M, by decide, by decide +kernel⟩
theorem k_M_remove : tCall y_M_remove b_M_remove 4 (some .int) 2 := ⟨wc_M_remove, wI_M, by decide, by decide +kernel⟩
theorem k_M_join : tCall y_M_join b_M_join 4 (some .int) 3 := ⟨wc_M_join, wI_M, by decide, by decide +kernel⟩
theorem k_M_get : tCall y_M_get b_M_get 3 (some .int) 2 := ⟨wc_M_get, wI_M, by decide, by decide +kernel⟩
theorem k_M_select : tCall y_M_select b_M_select 5 (some .int) 2 := ⟨wc_M_select, wI_M, by decide, by decide +kernel⟩
theorem k_M_many : tCall y_M_many b_M_many 6 (some .int) 3 := ⟨wc_M_many, wI_M, by decide, by decide +kernel⟩
theorem k_M_sum : tCall y_M_sum b_M_sum 7 (some .long) 3 := ⟨wc_M_sum, wI_M, by decide, by decide +kernel⟩
theorem k_M_differ : tCall y_M_differ b_M_differ 7 (some .int) 2 := ⟨wc_M_differ, wI_M, by decide, by decide +kernel⟩
theorem k_M_digest : tCall y_M_digest b_M_digest 5 (some .long) 1 := ⟨wc_M_digest, wI_M, by decide, by decide +kernel⟩
theorem k_M_versions : tCall y_M_versions b_M_versions 1 (some .int) 0 := ⟨wc_M_versions, wI_M, by decide, by decide +kernel⟩
theorem k_M_check : tCall y_M_check b_M_check 1 (some .int) 0 := ⟨wc_M_check, wI_M, by decide, by decide +kernel⟩
/-- read-only, with an int answer -/
def rQi (post : Int32 → Prop) : Array Value → State → Outcome → State → Prop := fun _ st o t => ∃ r, o = .returned (some (.int r)) ∧ post r ∧ t.heap = st.heap
/-- read-only, with a long answer -/
def rQj (post : Int64 → Prop) : Array Value → State → Outcome → State → Prop := fun _ st o t => ∃ r, o = .returned (some (.long r)) ∧ post r ∧ t.heap = st.heap
section RI
variable {p : Program} {l : Launch} {e : Env} {R : Room} {s : State} {m : MethodId} {args : Array Value} {below : List Frame} {meth : Method} {c : Code} {H : Heap} {locs : List Loc} {cells slots : Nat} {Q : State → Prop}
variable {cc : ByteArray} {nL : Nat} {pc : Nat} {ls : Array Slot} {rest : List Value} {own : String}
theorem r_calli {post : Int32 → Prop} {u : Array Value} {g : JFrame} (hr : CallRun p l e R s m args below meth c H locs cells slots 0 0 g rest (rQi post u) (fun _ => False)) (kk : ∀ r, post r → W p l e R s m args below meth c H locs cells slots Q { g with pc := g.pc + 3, stack := .int r :: rest }) : W p l e R s m args below meth c H locs cells slots Q g := by
  intro T hT X
  obtain ⟨v, st₀, t, T', L, h0, X', hL, e1, ⟨r, hv, hp, hh⟩, st⟩ := hr T hT X
  cases hv
  obtain ⟨t2, a1, b1⟩ := kk r hp T' (by rw [e1, hh, h0]) (Stand.forget X' (fun q h => (hL q h).elim))
  exact ⟨t2, st t2 a1, b1⟩
theorem r_callj {post : Int64 → Prop} {u : Array Value} {g : JFrame} (hr : CallRun p l e R s m args below meth c H locs cells slots 0 0 g rest (rQj post u) (fun _ => False)) (kk : ∀ r, post r → W p l e R s m args below meth c H locs cells slots Q { g with pc := g.pc + 3, stack := .long r :: rest }) : W p l e R s m args below meth c H locs cells slots Q g := by
  intro T hT X
  obtain ⟨v, st₀, t, T', L, h0, X', hL, e1, ⟨r, hv, hp, hh⟩, st⟩ := hr T hT X
  cases hv
  obtain ⟨t2, a1, b1⟩ := kk r hp T' (by rw [e1, hh, h0]) (Stand.forget X' (fun q h => (hL q h).elim))
  exact ⟨t2, st t2 a1, b1⟩
theorem ri_ret {post : Int32 → Prop} {r : Int32} (S : CallFix p m c cc nL s args lw_t own) (hp : post r) (hr : meth.sig.returnType = some .int) (hlk : meth.locks = false) (hdg : decode cc pc = .ok (.ireturn, 1)) : W p l e R s m args below meth c s.heap [] cells slots (MQ below (rQi post) args s cells slots (fun _ => False)) (F0 m pc ls [.int r]) :=
  W.iret S.1 S.2.1 hr (fun t ht _ => ⟨r, rfl, hp, ht⟩) (fun q h => by cases h) hdg hlk
theorem rz_ret {post : Int32 → Prop} {r : Int32} (S : CallFix p m c cc nL s args lw_t own) (hp : post r) (hr : meth.sig.returnType = some .boolean) (hn : narrow .boolean (.int r) = .int r) (hlk : meth.locks = false) (hdg : decode cc pc = .ok (.ireturn, 1)) : W p l e R s m args below meth c s.heap [] cells slots (MQ below (rQi post) args s cells slots (fun _ => False)) (F0 m pc ls [.int r]) :=
  W.zret S.1 S.2.1 hr hn (fun t ht _ => ⟨r, rfl, hp, ht⟩) (fun q h => by cases h) hdg hlk
theorem rj_ret {post : Int64 → Prop} {r : Int64} (S : CallFix p m c cc nL s args lw_t own) (hp : post r) (hr : meth.sig.returnType = some .long) (hlk : meth.locks = false) (hdg : decode cc pc = .ok (.lreturn, 1)) : W p l e R s m args below meth c s.heap [] cells slots (MQ below (rQj post) args s cells slots (fun _ => False)) (F0 m pc ls [.long r]) :=
  W.lret S.1 S.2.1 hr (fun t ht _ => ⟨r, rfl, hp, ht⟩) (fun q h => by cases h) hdg hlk
theorem n_iflt (S : CallFix p m c cc nL s args lw_t own) {x : Nat} {off : Int} {tgt : Nat} (hx : x < 2 ^ 31) (hdg : decode cc pc = .ok (.ifCond .lt off, 3)) (ht : (pc : Int) + off = (tgt : Int)) (kf : W p l e R s m args below meth c H locs cells slots Q (F0 m (pc + 3) ls rest)) : W p l e R s m args below meth c H locs cells slots Q (F0 m pc ls (.int (nI x) :: rest)) :=
  lv_if_lt S.1 S.2.1 hdg ht (fun h => absurd h (nI_pos hx)) (fun _ => kf)
theorem n_and255 (S : CallFix p m c cc nL s args lw_t own) {x : Nat} (hx : x < 2 ^ 32) (hdg : decode cc pc = .ok (.iand, 1)) (k : W p l e R s m args below meth c H locs cells slots Q (F0 m (pc + 1) ls (.int (nI (x % 256)) :: rest))) : W p l e R s m args below meth c H locs cells slots Q (F0 m pc ls (.int (nI 255) :: .int (nI x) :: rest)) :=
  lv_iand S.1 S.2.1 hdg (by rw [pk_andN hx 8 (by decide)]; exact k)
end RI
/-- how high a key stands -/
def ht (k : Nat) : Nat := ((k * 167 + 13) % 256 * 57) % 256
set_option maxHeartbeats 4000000 in
set_option maxRecDepth 100000 in
/-- height(k) -/
theorem c_T_height (l : Launch) (k : Nat) (hk : k < 256) : Met l y_T_height (mw y_T_height b_T_height 1 (some .int)) (rmS 0 0) (fun u _ => u = ([.int (nI k)] : List Value).toArray) (rQi (fun r => r = nI (ht k))) 0 0 (fun _ => False) := by
  refine m_ofW (own := R_T) rfl rfl (fun p e s m args below meth c S hr hlk hx hnm hv => ?_)
  obtain rfl := hv
  refine m_entry [.int (nI k)] (Nat.le_of_ble_eq_true rfl) (fun ls hl => ?_)
  have hl : lv_has ls 1 [(0, .int (nI k))] := hl
  refine lv_iload_n S.1 S.2.1 d_T_height_0 rfl (lv_at hl 0 rfl) ?_
  refine lv_sipush (v := nI 167) S.1 S.2.1 d_T_height_1 (by decide) ?_
  refine n_imul S d_T_height_4 ?_
  refine lv_bipush (v := nI 13) S.1 S.2.1 d_T_height_5 (by decide) ?_
  refine n_iadd S d_T_height_7 ?_
  refine lv_sipush (v := nI 255) S.1 S.2.1 d_T_height_8 (by decide) ?_
  refine n_and255 S (by omega) d_T_height_11 ?_
  refine lv_bipush (v := nI 57) S.1 S.2.1 d_T_height_12 (by decide) ?_
  refine n_imul S d_T_height_14 ?_
  refine lv_sipush (v := nI 255) S.1 S.2.1 d_T_height_15 (by decide) ?_
  refine n_and255 S (by omega) d_T_height_18 ?_
  exact ri_ret S rfl hr hlk d_T_height_19
set_option maxHeartbeats 4000000 in
set_option maxRecDepth 100000 in
/-- there(true) returns -/
theorem c_T_there (l : Launch) : Met l y_T_there (mw y_T_there b_T_there 1 none) (rmS 0 0) (fun u _ => u = ([.int (nI 1)] : List Value).toArray) rQv 0 0 (fun _ => False) := by
  refine m_ofW (own := R_T) rfl rfl (fun p e s m args below meth c S hr hlk hx hnm hv => ?_)
  obtain rfl := hv
  refine m_entry [.int (nI 1)] (Nat.le_of_ble_eq_true rfl) (fun ls hl => ?_)
  have hl : lv_has ls 1 [(0, .int (nI 1))] := hl
  refine lv_iload_n S.1 S.2.1 d_T_there_0 rfl (lv_at hl 0 rfl) ?_
  refine nz_ne S (by decide) d_T_there_1 rfl (fun _ => ?_) (fun h => absurd h (by decide))
  exact r_vret S hr hlk d_T_there_12
set_option maxHeartbeats 4000000 in
set_option maxRecDepth 100000 in
/-- isVersion(x) returns, x a version -/
theorem c_T_isVersion (l : Launch) (G : gG) (a : tA) (v : tV) (x : Nat) (hx0 : x < vVer v) (hv0 : vVer v ≤ 600) : Met l y_T_isVersion (mw y_T_isVersion b_T_isVersion 2 none) (rmS 1 20) (tPc G a v [.int (nI x)]) rQv 0 0 (fun _ => False) := by
  refine m_ofW (own := R_T) rfl rfl (fun p e s m args below meth c S hr hlk hx hnm hv => ?_)
  obtain ⟨rfl, hP, hD, hK⟩ := hv
  refine m_entry [.ref (aH a), .int (nI x)] (Nat.le_of_ble_eq_true rfl) (fun ls hl => ?_)
  have hl : lv_has ls 2 [(0, .ref (aH a)), (1, .int (nI x))] := hl
  refine lv_iload_n S.1 S.2.1 d_T_isVersion_0 rfl (lv_at hl 1 rfl) ?_
  refine n_iflt S (by omega) d_T_isVersion_1 rfl ?_
  refine lv_iload_n S.1 S.2.1 d_T_isVersion_4 rfl (lv_at hl 1 rfl) ?_
  refine lv_aload_n S.1 S.2.1 d_T_isVersion_5 rfl (lv_at hl 0 rfl) ?_
  refine t_gVer S hK hP d_T_isVersion_6 ?_
  refine nb_ge S (by omega) (by omega) d_T_isVersion_9 rfl (fun h => absurd h (by omega)) (fun _ => ?_)
  refine lv_iconst (v := nI 1) S.1 S.2.1 d_T_isVersion_12 (by decide) ?_
  refine lv_goto S.1 S.2.1 d_T_isVersion_13 rfl ?_
  refine r_callv (r_runS S preEq k_T_there ws_T_there wL_T_44 (c_T_there l) ⟨rfl, rfl, Nat.le_of_ble_eq_true rfl, Nat.le_of_ble_eq_true rfl⟩ rfl hl.1 rfl (Nat.le_of_ble_eq_true rfl) d_T_isVersion_17 ⟨Nat.le_refl _, Nat.le_refl _⟩) ?_
  exact r_vret S hr hlk d_T_isVersion_20
set_option maxHeartbeats 4000000 in
set_option maxRecDepth 100000 in
/-- isKey(k) returns, k a key -/
theorem c_T_isKey (l : Launch) (k : Nat) (hk : k < 256) : Met l y_T_isKey (mw y_T_isKey b_T_isKey 1 none) (rmS 1 20) (fun u _ => u = ([.int (nI k)] : List Value).toArray) rQv 0 0 (fun _ => False) := by
  refine m_ofW (own := R_T) rfl rfl (fun p e s m args below meth c S hr hlk hx hnm hv => ?_)
  obtain rfl := hv
  refine m_entry [.int (nI k)] (Nat.le_of_ble_eq_true rfl) (fun ls hl => ?_)
  have hl : lv_has ls 1 [(0, .int (nI k))] := hl
  refine lv_iload_n S.1 S.2.1 d_T_isKey_0 rfl (lv_at hl 0 rfl) ?_
  refine n_iflt S (by omega) d_T_isKey_1 rfl ?_
  refine lv_iload_n S.1 S.2.1 d_T_isKey_4 rfl (lv_at hl 0 rfl) ?_
  refine lv_sipush (v := nI 256) S.1 S.2.1 d_T_isKey_5 (by decide) ?_
  refine nb_ge S (by omega) (by omega) d_T_isKey_8 rfl (fun h => absurd h (by omega)) (fun _ => ?_)
  refine lv_iconst (v := nI 1) S.1 S.2.1 d_T_isKey_11 (by decide) ?_
  refine lv_goto S.1 S.2.1 d_T_isKey_12 rfl ?_
  refine r_callv (r_runS S preEq k_T_there ws_T_there wL_T_44 (c_T_there l) ⟨rfl, rfl, Nat.le_of_ble_eq_true rfl, Nat.le_of_ble_eq_true rfl⟩ rfl hl.1 rfl (Nat.le_of_ble_eq_true rfl) d_T_isKey_16 ⟨Nat.le_refl _, Nat.le_refl _⟩) ?_
  exact r_vret S hr hlk d_T_isKey_19
set_option maxHeartbeats 4000000 in
set_option maxRecDepth 100000 in
/-- may() returns: there is room for a version -/
theorem c_T_may (l : Launch) (G : gG) (a : tA) (v : tV) (hv0 : vVer v < 600) : Met l y_T_may (mw y_T_may b_T_may 1 none) (rmS 0 0) (tPc G a v []) rQv 0 0 (fun _ => False) := by
  refine m_ofW (own := R_T) rfl rfl (fun p e s m args below meth c S hr hlk hx hnm hv => ?_)
  obtain ⟨rfl, hP, hD, hK⟩ := hv
  refine m_entry [.ref (aH a)] (Nat.le_of_ble_eq_true rfl) (fun ls hl => ?_)
  have hl : lv_has ls 1 [(0, .ref (aH a))] := hl
  refine lv_aload_n S.1 S.2.1 d_T_may_0 rfl (lv_at hl 0 rfl) ?_
  refine t_gVer S hK hP d_T_may_1 ?_
  refine lv_sipush (v := nI 600) S.1 S.2.1 d_T_may_4 (by decide) ?_
  refine nb_ne S (by omega) (by omega) d_T_may_7 rfl (fun _ => ?_) (fun h => absurd h (by omega))
  exact r_vret S hr hlk d_T_may_18
set_option maxHeartbeats 4000000 in
set_option maxRecDepth 100000 in
/-- versions() -/
theorem c_T_versions (l : Launch) (G : gG) (a : tA) (v : tV) : Met l y_T_versions (mw y_T_versions b_T_versions 1 (some .int)) (rmS 0 0) (tPc G a v []) (rQi (fun r => r = nI (vVer v))) 0 0 (fun _ => False) := by
  refine m_ofW (own := R_T) rfl rfl (fun p e s m args below meth c S hr hlk hx hnm hv => ?_)
  obtain ⟨rfl, hP, hD, hK⟩ := hv
  refine m_entry [.ref (aH a)] (Nat.le_of_ble_eq_true rfl) (fun ls hl => ?_)
  have hl : lv_has ls 1 [(0, .ref (aH a))] := hl
  refine lv_aload_n S.1 S.2.1 d_T_versions_0 rfl (lv_at hl 0 rfl) ?_
  refine t_gVer S hK hP d_T_versions_1 ?_
  exact ri_ret S rfl hr hlk d_T_versions_4
/-- what make writes -/
def mkV (v : tV) (l k : Nat) (x : Int32) (r : Nat) : tV := ((vVer v, vNod v + 1, vPas v, vSum v), vO v, up (vL v) (vNod v) l, up (vR v) (vNod v) r, up (vK v) (vNod v) k, up (vV v) (vNod v) x, up (vS v) (vNod v) (vS v l + 1 + vS v r), up (vT v) (vNod v) (vT v l + x.toInt64 + vT v r))
set_option maxHeartbeats 4000000 in
set_option maxRecDepth 100000 in
/-- make(l, k, x, r) -/
theorem c_T_make (l : Launch) (G : gG) (a : tA) (v : tV) (i k : Nat) (x : Int32) (j : Nat) (hn : vNod v < 80000) (hi : i < 80000) (hj : j < 80000) (hk : k < 256) (hs : vS v i + 1 + vS v j < 32768) : Met l y_T_make (mw y_T_make b_T_make 6 (some .int)) (rmS 0 0) (tPc G a v [.int (nI i), .int (nI k), .int x, .int (nI j)]) (va_Qi (fun r v' => r = nI (vNod v) ∧ v' = mkV v i k x j) (fun v' t => tP G a v' t.heap) (inA a)) 0 0 (inA a) := by
  refine m_ofW (own := R_T) rfl rfl (fun p e s m args below meth c S hr hlk hx hnm hv => ?_)
  obtain ⟨rfl, hP, hD, hK⟩ := hv
  have hw := tS.start hP hD
  refine m_entry [.ref (aH a), .int (nI i), .int (nI k), .int x, .int (nI j)] (Nat.le_of_ble_eq_true rfl) (fun ls hl => ?_)
  have hl : lv_has ls 6 [(0, .ref (aH a)), (1, .int (nI i)), (2, .int (nI k)), (3, .int x), (4, .int (nI j))] := hl
  refine lv_aload_n S.1 S.2.1 d_T_make_0 rfl (lv_at hl 0 rfl) ?_
  refine t_gNod S hK hw.1 d_T_make_1 ?_
  refine lv_istore S.1 S.2.1 d_T_make_4 hl (by decide) rfl (fun ls hl => ?_)
  refine lv_aload_n S.1 S.2.1 d_T_make_6 rfl (lv_at hl 1 rfl) ?_
  refine lv_dup S.1 S.2.1 d_T_make_7 rfl ?_
  refine t_gNod S hK hw.1 d_T_make_8 ?_
  refine lv_iconst (v := nI 1) S.1 S.2.1 d_T_make_11 (by decide) ?_
  refine n_iadd S d_T_make_12 ?_
  refine t_pNod S hK hw d_T_make_13 (fun H locs hw => ?_)
  refine lv_aload_n S.1 S.2.1 d_T_make_16 rfl (lv_at hl 1 rfl) ?_
  refine t_gL S hK hw.1 d_T_make_17 ?_
  refine lv_iload S.1 S.2.1 d_T_make_20 (lv_at hl 0 rfl) ?_
  refine lv_iload_n S.1 S.2.1 d_T_make_22 rfl (lv_at hl 2 rfl) ?_
  refine t_sL S hK hw (by omega) d_T_make_23 (fun H locs hw => ?_)
  refine lv_aload_n S.1 S.2.1 d_T_make_24 rfl (lv_at hl 1 rfl) ?_
  refine t_gR S hK hw.1 d_T_make_25 ?_
  refine lv_iload S.1 S.2.1 d_T_make_28 (lv_at hl 0 rfl) ?_
  refine lv_iload S.1 S.2.1 d_T_make_30 (lv_at hl 5 rfl) ?_
  refine t_sR S hK hw (by omega) d_T_make_32 (fun H locs hw => ?_)
  refine lv_aload_n S.1 S.2.1 d_T_make_33 rfl (lv_at hl 1 rfl) ?_
  refine t_gK S hK hw.1 d_T_make_34 ?_
  refine lv_iload S.1 S.2.1 d_T_make_37 (lv_at hl 0 rfl) ?_
  refine lv_iload_n S.1 S.2.1 d_T_make_39 rfl (lv_at hl 3 rfl) ?_
  refine lv_i2s S.1 S.2.1 d_T_make_40 (nI_s16 (by omega)) ?_
  refine t_sK S hK hw (by omega) (by omega) d_T_make_41 (fun H locs hw => ?_)
  refine lv_aload_n S.1 S.2.1 d_T_make_42 rfl (lv_at hl 1 rfl) ?_
  refine t_gV S hK hw.1 d_T_make_43 ?_
  refine lv_iload S.1 S.2.1 d_T_make_46 (lv_at hl 0 rfl) ?_
  refine lv_iload_n S.1 S.2.1 d_T_make_48 rfl (lv_at hl 4 rfl) ?_
  refine t_sV S hK hw (by omega) d_T_make_49 (fun H locs hw => ?_)
  refine lv_aload_n S.1 S.2.1 d_T_make_50 rfl (lv_at hl 1 rfl) ?_
  refine t_gS S hK hw.1 d_T_make_51 ?_
  refine lv_iload S.1 S.2.1 d_T_make_54 (lv_at hl 0 rfl) ?_
  refine lv_aload_n S.1 S.2.1 d_T_make_56 rfl (lv_at hl 1 rfl) ?_
  refine t_gS S hK hw.1 d_T_make_57 ?_
  refine lv_iload_n S.1 S.2.1 d_T_make_60 rfl (lv_at hl 2 rfl) ?_
  refine t_iS S hK hw.1 (by omega) d_T_make_61 ?_
  refine lv_iconst (v := nI 1) S.1 S.2.1 d_T_make_62 (by decide) ?_
  refine n_iadd S d_T_make_63 ?_
  refine lv_aload_n S.1 S.2.1 d_T_make_64 rfl (lv_at hl 1 rfl) ?_
  refine t_gS S hK hw.1 d_T_make_65 ?_
  refine lv_iload S.1 S.2.1 d_T_make_68 (lv_at hl 5 rfl) ?_
  refine t_iS S hK hw.1 (by omega) d_T_make_70 ?_
  refine n_iadd S d_T_make_71 ?_
  refine lv_i2s S.1 S.2.1 d_T_make_72 (nI_s16 (by omega)) ?_
  refine t_sS S hK hw (by omega) (by omega) d_T_make_73 (fun H locs hw => ?_)
  refine lv_aload_n S.1 S.2.1 d_T_make_74 rfl (lv_at hl 1 rfl) ?_
  refine t_gT S hK hw.1 d_T_make_75 ?_
  refine lv_iload S.1 S.2.1 d_T_make_78 (lv_at hl 0 rfl) ?_
  refine lv_aload_n S.1 S.2.1 d_T_make_80 rfl (lv_at hl 1 rfl) ?_
  refine t_gT S hK hw.1 d_T_make_81 ?_
  refine lv_iload_n S.1 S.2.1 d_T_make_84 rfl (lv_at hl 2 rfl) ?_
  refine t_iT S hK hw.1 (by omega) d_T_make_85 ?_
  refine lv_iload_n S.1 S.2.1 d_T_make_86 rfl (lv_at hl 4 rfl) ?_
  refine lv_i2l S.1 S.2.1 d_T_make_87 rfl ?_
  refine lv_ladd S.1 S.2.1 d_T_make_88 ?_
  refine lv_aload_n S.1 S.2.1 d_T_make_89 rfl (lv_at hl 1 rfl) ?_
  refine t_gT S hK hw.1 d_T_make_90 ?_
  refine lv_iload S.1 S.2.1 d_T_make_93 (lv_at hl 5 rfl) ?_
  refine t_iT S hK hw.1 (by omega) d_T_make_95 ?_
  refine lv_ladd S.1 S.2.1 d_T_make_96 ?_
  refine t_sT S hK hw (by omega) d_T_make_97 (fun H locs hw => ?_)
  refine lv_iload S.1 S.2.1 d_T_make_98 (lv_at hl 0 rfl) ?_
  exact t_iret S hw ⟨rfl, rfl⟩ hr hlk d_T_make_100
set_option maxHeartbeats 4000000 in
set_option maxRecDepth 100000 in
/-- add(n) -/
theorem c_T_add (l : Launch) (G : gG) (a : tA) (v : tV) (n : Nat) (hv0 : vVer v < 600) : Met l y_T_add (mw y_T_add b_T_add 2 (some .int)) (rmS 0 0) (tPc G a v [.int (nI n)]) (va_Qi (fun r v' => r = nI (vVer v) ∧ v' = wVer (wO v (up (vO v) (vVer v) n)) (vVer v + 1)) (fun v' t => tP G a v' t.heap) (inA a)) 0 0 (inA a) := by
  refine m_ofW (own := R_T) rfl rfl (fun p e s m args below meth c S hr hlk hx hnm hv => ?_)
  obtain ⟨rfl, hP, hD, hK⟩ := hv
  have hw := tS.start hP hD
  refine m_entry [.ref (aH a), .int (nI n)] (Nat.le_of_ble_eq_true rfl) (fun ls hl => ?_)
  have hl : lv_has ls 2 [(0, .ref (aH a)), (1, .int (nI n))] := hl
  refine lv_aload_n S.1 S.2.1 d_T_add_0 rfl (lv_at hl 0 rfl) ?_
  refine t_gO S hK hw.1 d_T_add_1 ?_
  refine lv_aload_n S.1 S.2.1 d_T_add_4 rfl (lv_at hl 0 rfl) ?_
  refine t_gVer S hK hw.1 d_T_add_5 ?_
  refine lv_iload_n S.1 S.2.1 d_T_add_8 rfl (lv_at hl 1 rfl) ?_
  refine t_sO S hK hw (by omega) d_T_add_9 (fun H locs hw => ?_)
  refine lv_aload_n S.1 S.2.1 d_T_add_10 rfl (lv_at hl 0 rfl) ?_
  refine lv_dup S.1 S.2.1 d_T_add_11 rfl ?_
  refine t_gVer S hK hw.1 d_T_add_12 ?_
  refine lv_iconst (v := nI 1) S.1 S.2.1 d_T_add_15 (by decide) ?_
  refine n_iadd S d_T_add_16 ?_
  refine t_pVer S hK hw d_T_add_17 (fun H locs hw => ?_)
  refine lv_aload_n S.1 S.2.1 d_T_add_20 rfl (lv_at hl 0 rfl) ?_
  refine t_gVer S hK hw.1 d_T_add_21 ?_
  refine lv_iconst (v := nI 1) S.1 S.2.1 d_T_add_24 (by decide) ?_
  refine n_isub S (show 1 ≤ vVer v + 1 by omega) d_T_add_25 ?_
  exact t_iret S hw ⟨rfl, rfl⟩ hr hlk d_T_add_26
end
section
/-! heights, and how long a way down to the right (rkR) or to the left (rkL) can be below a key -/
def rkR (k : Nat) : Nat := (126733357171903516177480161609644089906344796044363582849531713044582639332735755691143067063122901858577579525717550016841276477521830663578066990508599255792217859618567986299964380266455345923613852101243619185246467023216803110498121690728865953661056823232380102074987662886942466315583547702218990547813581870260553368492039156417496316346957267837247970202595645477877221777286929588605277824089700674428593610428148038914958306302321220326354686094206469764584507405114028501122854212972407298209307582135395880798007085792551614698963764754771522717719070075253872899745456462966192055000061415272911209999 >>> (8 * k)) % 256
def rkL (k : Nat) : Nat := (3167827206114621916786653323700973892763771346842158311145618131974974147797540368352361749460205351704904750307940126337678336947148919750045293090761739916379415297337688398481640278698862806168758606692575758487241476024780451980946440568566106095983862018125938465107552786759008668105118220530748225561928411809430709643802232355733811792532368160859745626653449834200031441423576675055119579011744834306839059747009392452192823515025447727526824136088491812554328127078269245134202798764732732102922148675720828699385668316107850076117043028598384597633230954459666889286399009293126830169766889467548174254337 >>> (8 * k)) % 256
def all2 (f : Nat → Nat → Bool) : Bool := (List.range 256).all fun k => (List.range 256).all fun j => f k j
theorem all2_at {f : Nat → Nat → Bool} (h : all2 f = true) {k j : Nat} (hk : k < 256) (hj : j < 256) : f k j = true := by
  have h1 := List.all_eq_true.mp h k (List.mem_range.mpr hk)
  exact List.all_eq_true.mp h1 j (List.mem_range.mpr hj)
theorem ht_lt (k : Nat) : ht k < 256 := Nat.mod_lt _ (by decide)
set_option maxRecDepth 100000 in
theorem ht_inj0 : all2 (fun k j => Nat.beq k j || !(Nat.beq (ht k) (ht j))) = true := by decide +kernel
theorem ht_inj {k j : Nat} (hk : k < 256) (hj : j < 256) (h : ht k = ht j) : k = j := by
  have h1 := all2_at ht_inj0 hk hj
  simp only [Bool.or_eq_true, Bool.not_eq_true'] at h1
  rcases h1 with h1 | h1
  · exact Nat.eq_of_beq_eq_true h1
  · rw [h] at h1
    rw [Nat.beq_refl] at h1
    cases h1
set_option maxRecDepth 100000 in
theorem rkR_0 : all2 (fun k j => Nat.ble j k || Nat.ble (ht k) (ht j) || Nat.blt (rkR j) (rkR k)) = true := by decide +kernel
set_option maxRecDepth 100000 in
theorem rkL_0 : all2 (fun k j => Nat.ble k j || Nat.ble (ht k) (ht j) || Nat.blt (rkL j) (rkL k)) = true := by decide +kernel
set_option maxRecDepth 100000 in
theorem rk_m0 : all2 (fun k _ => Nat.ble (rkR k) 16 && Nat.ble (rkL k) 26) = true := by decide +kernel
theorem rkR_dn {k j : Nat} (hk : k < 256) (hj : j < 256) (h : k < j) (hh : ht j < ht k) : rkR j < rkR k := by
  have h1 := all2_at rkR_0 hk hj
  simp only [Bool.or_eq_true, Nat.ble_eq, Nat.blt_eq] at h1
  omega
theorem rkL_dn {k j : Nat} (hk : k < 256) (hj : j < 256) (h : j < k) (hh : ht j < ht k) : rkL j < rkL k := by
  have h1 := all2_at rkL_0 hk hj
  simp only [Bool.or_eq_true, Nat.ble_eq, Nat.blt_eq] at h1
  omega
theorem rkR_le {k : Nat} (hk : k < 256) : rkR k ≤ 16 := by
  have h1 := all2_at rk_m0 hk (show 0 < 256 by decide)
  simp only [Bool.and_eq_true, Nat.ble_eq] at h1
  exact h1.1
theorem rkL_le {k : Nat} (hk : k < 256) : rkL k ≤ 26 := by
  have h1 := all2_at rk_m0 hk (show 0 < 256 by decide)
  simp only [Bool.and_eq_true, Nat.ble_eq] at h1
  exact h1.2
/-! maps of keys to values; how many, what sum, what digest stands below a key -/
abbrev nMap : Type := Nat → Option Int32
def is1 (x : Option Int32) : Nat := match x with
  | some _ => 1
  | none => 0
def vl (x : Option Int32) : Int64 := match x with
  | some y => y.toInt64
  | none => 0
def cnt (m : nMap) : Nat → Nat
  | 0 => 0
  | k + 1 => cnt m k + is1 (m k)
def smm (m : nMap) : Nat → Int64
  | 0 => 0
  | k + 1 => smm m k + vl (m k)
/-- the map of a node: κ with x, mL below, mR above -/
def nodeOf (m mL mR : nMap) (κ : Nat) (x : Int32) : Prop := (∀ k, k < κ → m k = mL k) ∧ m κ = some x ∧ (∀ k, κ < k → m k = mR k) ∧ (∀ k, κ ≤ k → mL k = none) ∧ (∀ k, k ≤ κ → mR k = none)
def nd (κ : Nat) (x : Int32) (mL mR : nMap) : nMap := fun k => if k < κ then mL k else if k = κ then some x else mR k
theorem nd_of {κ : Nat} {x : Int32} {mL mR : nMap} (hl : ∀ k, κ ≤ k → mL k = none) (hr : ∀ k, k ≤ κ → mR k = none) : nodeOf (nd κ x mL mR) mL mR κ x := by
  refine ⟨fun k h => ?_, ?_, fun k h => ?_, hl, hr⟩
  · simp only [nd, if_pos h]
  · simp only [nd, Nat.lt_irrefl, if_false, if_true]
  · simp only [nd]; rw [if_neg (by omega), if_neg (by omega)]
theorem cnt_le (m : nMap) : ∀ k, cnt m k ≤ k
  | 0 => Nat.le_refl _
  | k + 1 => by
    have h := cnt_le m k
    have h2 : is1 (m k) ≤ 1 := by cases m k <;> simp [is1]
    show cnt m k + is1 (m k) ≤ k + 1
    omega
theorem cnt_none {m : nMap} {a : Nat} (h : ∀ k, k < a → m k = none) : ∀ k, k ≤ a → cnt m k = 0
  | 0, _ => rfl
  | k + 1, hk => by
    show cnt m k + is1 (m k) = 0
    rw [cnt_none h k (by omega), h k (by omega)]; rfl
theorem smm_none {m : nMap} {a : Nat} (h : ∀ k, k < a → m k = none) : ∀ k, k ≤ a → smm m k = 0
  | 0, _ => rfl
  | k + 1, hk => by
    show smm m k + vl (m k) = 0
    rw [smm_none h k (by omega), h k (by omega)]; rfl
theorem cnt_congr {m n : nMap} : ∀ k, (∀ j, j < k → m j = n j) → cnt m k = cnt n k
  | 0, _ => rfl
  | k + 1, h => by
    show cnt m k + is1 (m k) = cnt n k + is1 (n k)
    rw [cnt_congr k (fun j hj => h j (by omega)), h k (by omega)]
theorem smm_congr {m n : nMap} : ∀ k, (∀ j, j < k → m j = n j) → smm m k = smm n k
  | 0, _ => rfl
  | k + 1, h => by
    show smm m k + vl (m k) = smm n k + vl (n k)
    rw [smm_congr k (fun j hj => h j (by omega)), h k (by omega)]
theorem cnt_mono (m : nMap) {a b : Nat} (h : a ≤ b) : cnt m a ≤ cnt m b := by
  induction b with
  | zero => rw [Nat.le_zero.mp h]; exact Nat.le_refl _
  | succ b ih =>
    by_cases hb : a = b + 1
    · subst hb; exact Nat.le_refl _
    · have := ih (by omega)
      show cnt m a ≤ cnt m b + is1 (m b)
      omega
theorem cnt_node {m mL mR : nMap} {κ : Nat} {x : Int32} (h : nodeOf m mL mR κ x) : ∀ k, cnt m k = cnt mL k + (if κ < k then 1 else 0) + cnt mR k
  | 0 => rfl
  | k + 1 => by
    obtain ⟨h1, h2, h3, h4, h5⟩ := h
    have ih := cnt_node ⟨h1, h2, h3, h4, h5⟩ k
    show cnt m k + is1 (m k) = cnt mL k + is1 (mL k) + (if κ < k + 1 then 1 else 0) + (cnt mR k + is1 (mR k))
    rw [ih]
    rcases Nat.lt_trichotomy k κ with hk | hk | hk
    · rw [h1 k hk, h5 k (by omega), if_neg (by omega), if_neg (by omega)]
      simp only [is1]; omega
    · subst hk
      rw [h2, h4 k (by omega), h5 k (by omega), if_neg (by omega), if_pos (by omega)]
      simp only [is1]; omega
    · rw [h3 k hk, h4 k (by omega), if_pos (by omega), if_pos (by omega)]
      simp only [is1]; omega
theorem smm_node {m mL mR : nMap} {κ : Nat} {x : Int32} (h : nodeOf m mL mR κ x) : ∀ k, smm m k = smm mL k + (if κ < k then x.toInt64 else 0) + smm mR k
  | 0 => by simp [smm]
  | k + 1 => by
    obtain ⟨h1, h2, h3, h4, h5⟩ := h
    have ih := smm_node ⟨h1, h2, h3, h4, h5⟩ k
    show smm m k + vl (m k) = smm mL k + vl (mL k) + (if κ < k + 1 then x.toInt64 else 0) + (smm mR k + vl (mR k))
    rw [ih]
    rcases Nat.lt_trichotomy k κ with hk | hk | hk
    · rw [h1 k hk, h5 k (by omega), if_neg (by omega), if_neg (by omega)]
      simp only [vl, Int64.add_zero]; ac_rfl
    · subst hk
      rw [h2, h4 k (by omega), h5 k (by omega), if_neg (by omega), if_pos (by omega)]
      simp only [vl, Int64.add_zero]; ac_rfl
    · rw [h3 k hk, h4 k (by omega), if_pos (by omega), if_pos (by omega)]
      simp only [vl, Int64.add_zero]; ac_rfl
/-! the invariant of a MeldTree: M n is the map of the tree at node n -/
abbrev nM : Type := Nat → nMap
def tOk (v : tV) (M : nM) (n : Nat) : Prop := vL v n < n ∧ vR v n < n ∧ vK v n < 256 ∧ nodeOf (M n) (M (vL v n)) (M (vR v n)) (vK v n) (vV v n) ∧ (∀ k x, M (vL v n) k = some x → ht k < ht (vK v n)) ∧ (∀ k x, M (vR v n) k = some x → ht k < ht (vK v n))
def Inv (v : tV) (M : nM) : Prop := 1 ≤ vNod v ∧ vNod v ≤ 80000 ∧ (∀ k, M 0 k = none) ∧ ∀ n, n < vNod v → (0 < n → tOk v M n) ∧ (∀ k, 256 ≤ k → M n k = none) ∧ vS v n = cnt (M n) 256 ∧ vT v n = smm (M n) 256
/-- v' holds all that v holds, at the same places -/
def Ext (v : tV) (M : nM) (v' : tV) (M' : nM) : Prop := vNod v ≤ vNod v' ∧ vVer v' = vVer v ∧ vO v' = vO v ∧ ∀ j, j < vNod v → M' j = M j ∧ vL v' j = vL v j ∧ vR v' j = vR v j ∧ vK v' j = vK v j ∧ vV v' j = vV v j ∧ vS v' j = vS v j ∧ vT v' j = vT v j
theorem Ext.rf {v : tV} {M : nM} : Ext v M v M := ⟨Nat.le_refl _, rfl, rfl, fun _ _ => ⟨rfl, rfl, rfl, rfl, rfl, rfl, rfl⟩⟩
theorem Ext.tr {v v1 v2 : tV} {M M1 M2 : nM} (h : Ext v M v1 M1) (g : Ext v1 M1 v2 M2) : Ext v M v2 M2 := by
  obtain ⟨a1, a2, a3, a4⟩ := h
  obtain ⟨b1, b2, b3, b4⟩ := g
  refine ⟨Nat.le_trans a1 b1, b2.trans a2, b3.trans a3, fun j hj => ?_⟩
  obtain ⟨c0, c1, c2, c3, c4, c5, c6⟩ := a4 j hj
  obtain ⟨d0, d1, d2, d3, d4, d5, d6⟩ := b4 j (Nat.lt_of_lt_of_le hj a1)
  exact ⟨d0.trans c0, d1.trans c1, d2.trans c2, d3.trans c3, d4.trans c4, d5.trans c5, d6.trans c6⟩
theorem Inv.size {v : tV} {M : nM} (h : Inv v M) {n : Nat} (hn : n < vNod v) : vS v n ≤ 256 := by
  rw [(h.2.2.2 n hn).2.2.1]; exact cnt_le _ _
theorem Inv.ok {v : tV} {M : nM} (h : Inv v M) {n : Nat} (hn : n < vNod v) (h0 : n ≠ 0) : tOk v M n := (h.2.2.2 n hn).1 (Nat.pos_of_ne_zero h0)
theorem mk_inv {v : tV} {M : nM} {i j κ : Nat} {x : Int32} (h : Inv v M) (hr : vNod v < 80000) (hi : i < vNod v) (hj : j < vNod v) (hκ : κ < 256) (hl : ∀ k, κ ≤ k → M i k = none) (hg : ∀ k, k ≤ κ → M j k = none)
    (h1 : ∀ k x, M i k = some x → ht k < ht κ) (h2 : ∀ k x, M j k = some x → ht k < ht κ) : Inv (mkV v i κ x j) (up M (vNod v) (nd κ x (M i) (M j))) ∧ Ext v M (mkV v i κ x j) (up M (vNod v) (nd κ x (M i) (M j))) := by
  obtain ⟨a1, a2, a3, a4⟩ := h
  have hE : Ext v M (mkV v i κ x j) (up M (vNod v) (nd κ x (M i) (M j))) := by
    refine ⟨Nat.le_succ _, rfl, rfl, fun q hq => ?_⟩
    have hne : q ≠ vNod v := Nat.ne_of_lt hq
    exact ⟨up_n hne, up_n hne, up_n hne, up_n hne, up_n hne, up_n hne, up_n hne⟩
  have hN : nodeOf (nd κ x (M i) (M j)) (M i) (M j) κ x := nd_of hl hg
  refine ⟨⟨Nat.succ_le_succ (Nat.zero_le _), hr, fun k => ?_, fun n hn => ?_⟩, hE⟩
  · rw [up_n (by omega)]; exact a3 k
  · have hn : n < vNod v + 1 := hn
    by_cases hnn : n = vNod v
    · subst hnn
      have eS : vS (mkV v i κ x j) (vNod v) = vS v i + 1 + vS v j := up_s
      have eT : vT (mkV v i κ x j) (vNod v) = vT v i + x.toInt64 + vT v j := up_s
      have eL : vL (mkV v i κ x j) (vNod v) = i := up_s
      have eR : vR (mkV v i κ x j) (vNod v) = j := up_s
      have eK : vK (mkV v i κ x j) (vNod v) = κ := up_s
      have eV : vV (mkV v i κ x j) (vNod v) = x := up_s
      refine ⟨fun _ => ?_, fun k hk => ?_, ?_, ?_⟩
      · unfold tOk
        rw [eL, eR, eK, eV, up_s, up_n (Nat.ne_of_lt hi), up_n (Nat.ne_of_lt hj)]
        exact ⟨hi, hj, hκ, hN, h1, h2⟩
      · rw [up_s, hN.2.2.1 k (by omega)]; exact (a4 j hj).2.1 k hk
      · rw [up_s, eS, (a4 i hi).2.2.1, (a4 j hj).2.2.1, cnt_node hN 256, if_pos hκ]
      · rw [up_s, eT, (a4 i hi).2.2.2, (a4 j hj).2.2.2, smm_node hN 256, if_pos hκ]
    · have hlt : n < vNod v := by omega
      obtain ⟨e0, e1, e2, e3, e4, e5, e6⟩ := hE.2.2.2 n hlt
      obtain ⟨b1, b2, b3, b4⟩ := a4 n hlt
      refine ⟨fun h0 => ?_, fun k hk => ?_, ?_, ?_⟩
      · have hb := b1 h0
        unfold tOk
        rw [e1, e2, e3, e4, e0, up_n (show vL v n ≠ vNod v by have := hb.1; omega), up_n (show vR v n ≠ vNod v by have := hb.2.1; omega)]
        exact hb
      · rw [e0]; exact b2 k hk
      · rw [e0, e5]; exact b3
      · rw [e0, e6]; exact b4
/-- what below, from, both and make answer: a node r' of the map f, at most B nodes more -/
def bPost (v : tV) (M : nM) (B : Nat) (f : nMap) : Int32 → tV → Prop := fun r v' => ∃ r' M', r = nI r' ∧ Inv v' M' ∧ Ext v M v' M' ∧ r' < vNod v' ∧ vNod v' ≤ vNod v + B ∧ ∀ j, M' r' j = f j
/-- every height (rank) in the tree is under a bound -/
def hB (m : nMap) (d : Nat) : Prop := ∀ k x, m k = some x → ht k < d
def rB (m : nMap) (B : Nat) : Prop := ∀ k x, m k = some x → rkR k ≤ B
def lB (m : nMap) (B : Nat) : Prop := ∀ k x, m k = some x → rkL k ≤ B
abbrev RR : Nat := 16
abbrev LL : Nat := 26
end
section
theorem Inv.key {v : tV} {M : nM} (h : Inv v M) {n k : Nat} {x : Int32} (hn : n < vNod v) (hk : M n k = some x) : k < 256 := by
  rcases Nat.lt_or_ge k 256 with h1 | h1
  · exact h1
  · rw [(h.2.2.2 n hn).2.1 k h1] at hk; cases hk
theorem Inv.top {v : tV} {M : nM} (h : Inv v M) {n k : Nat} {x : Int32} (hn : n < vNod v) (h0 : n ≠ 0) (hk : M n k = some x) : ht k ≤ ht (vK v n) := by
  obtain ⟨-, -, -, ⟨g1, g2, g3, -, -⟩, hl, hr⟩ := h.ok hn h0
  rcases Nat.lt_trichotomy k (vK v n) with q | q | q
  · rw [g1 k q] at hk; exact Nat.le_of_lt (hl k x hk)
  · rw [q]; exact Nat.le_refl _
  · rw [g3 k q] at hk; exact Nat.le_of_lt (hr k x hk)
theorem tOk.inL {v : tV} {M : nM} {n k : Nat} {x : Int32} (h : tOk v M n) (hk : M (vL v n) k = some x) : k < vK v n ∧ M n k = some x := by
  obtain ⟨-, -, -, ⟨g1, -, -, g4, -⟩, -, -⟩ := h
  have hlt : k < vK v n := by
    rcases Nat.lt_or_ge k (vK v n) with q | q
    · exact q
    · rw [g4 k q] at hk; cases hk
  exact ⟨hlt, by rw [g1 k hlt]; exact hk⟩
theorem tOk.inR {v : tV} {M : nM} {n k : Nat} {x : Int32} (h : tOk v M n) (hk : M (vR v n) k = some x) : vK v n < k ∧ M n k = some x := by
  obtain ⟨-, -, -, ⟨-, -, g3, -, g5⟩, -, -⟩ := h
  have hlt : vK v n < k := by
    rcases Nat.lt_or_ge (vK v n) k with q | q
    · exact q
    · rw [g5 k q] at hk; cases hk
  exact ⟨hlt, by rw [g3 k hlt]; exact hk⟩
theorem hB.root {v : tV} {M : nM} {n d : Nat} (h : hB (M n) d) (ht0 : tOk v M n) : ht (vK v n) < d := h _ _ ht0.2.2.2.1.2.1
theorem hB.L {v : tV} {M : nM} {n d : Nat} (h : hB (M n) (d + 1)) (ht0 : tOk v M n) : hB (M (vL v n)) d := fun k x hk => by
  have h1 := ht0.2.2.2.2.1 k x hk
  have h2 := h.root ht0
  omega
theorem hB.R {v : tV} {M : nM} {n d : Nat} (h : hB (M n) (d + 1)) (ht0 : tOk v M n) : hB (M (vR v n)) d := fun k x hk => by
  have h1 := ht0.2.2.2.2.2 k x hk
  have h2 := h.root ht0
  omega
theorem rB.L {v : tV} {M : nM} {n B : Nat} (h : rB (M n) B) (ht0 : tOk v M n) : rB (M (vL v n)) B := fun k x hk => h k x (ht0.inL hk).2
theorem lB.R {v : tV} {M : nM} {n B : Nat} (h : lB (M n) B) (ht0 : tOk v M n) : lB (M (vR v n)) B := fun k x hk => h k x (ht0.inR hk).2
theorem rB.R {v : tV} {M : nM} {n B : Nat} (hI : Inv v M) (hn : n < vNod v) (h : rB (M n) (B + 1)) (ht0 : tOk v M n) : rB (M (vR v n)) B := fun k x hk => by
  have h1 := ht0.2.2.2.2.2 k x hk
  have h2 := h _ _ ht0.2.2.2.1.2.1
  have h3 := ht0.inR hk
  have := rkR_dn ht0.2.2.1 (hI.key hn h3.2) h3.1 h1
  omega
theorem lB.L {v : tV} {M : nM} {n B : Nat} (hI : Inv v M) (hn : n < vNod v) (h : lB (M n) (B + 1)) (ht0 : tOk v M n) : lB (M (vL v n)) B := fun k x hk => by
  have h1 := ht0.2.2.2.2.1 k x hk
  have h2 := h _ _ ht0.2.2.2.1.2.1
  have h3 := ht0.inL hk
  have := rkL_dn ht0.2.2.1 (hI.key hn h3.2) h3.1 h1
  omega
theorem rB.pos {v : tV} {M : nM} {n B : Nat} (h : rB (M n) B) (ht0 : tOk v M n) (hp : 0 < rkR (vK v n)) : 0 < B := Nat.lt_of_lt_of_le hp (h _ _ ht0.2.2.2.1.2.1)
theorem rB.all {v : tV} {M : nM} {n : Nat} (hI : Inv v M) (hn : n < vNod v) : rB (M n) RR := fun k x hk => rkR_le (hI.key hn hk)
theorem lB.all {v : tV} {M : nM} {n : Nat} (hI : Inv v M) (hn : n < vNod v) : lB (M n) LL := fun k x hk => rkL_le (hI.key hn hk)
theorem hB.all {m : nMap} : hB m 256 := fun k _ _ => ht_lt k
set_option maxRecDepth 100000 in
theorem rk_p0 : all2 (fun k _ => Nat.blt 0 (rkR k) && Nat.blt 0 (rkL k)) = true := by decide +kernel
theorem rkR_pos {k : Nat} (hk : k < 256) : 0 < rkR k := by
  have h1 := all2_at rk_p0 hk (show 0 < 256 by decide)
  simp only [Bool.and_eq_true, Nat.blt_eq] at h1
  exact h1.1
theorem rkL_pos {k : Nat} (hk : k < 256) : 0 < rkL k := by
  have h1 := all2_at rk_p0 hk (show 0 < 256 by decide)
  simp only [Bool.and_eq_true, Nat.blt_eq] at h1
  exact h1.2
theorem bPost.congr {v : tV} {M : nM} {B : Nat} {f g : nMap} {r : Int32} {v' : tV} (h : bPost v M B f r v') (hfg : ∀ j, f j = g j) : bPost v M B g r v' := by
  obtain ⟨r', M', h1, h2, h3, h4, h5, h6⟩ := h
  exact ⟨r', M', h1, h2, h3, h4, h5, fun j => (h6 j).trans (hfg j)⟩
theorem bPost.mono {v : tV} {M : nM} {B C : Nat} {f : nMap} {r : Int32} {v' : tV} (h : bPost v M B f r v') (hBC : B ≤ C) : bPost v M C f r v' := by
  obtain ⟨r', M', h1, h2, h3, h4, h5, h6⟩ := h
  exact ⟨r', M', h1, h2, h3, h4, by omega, h6⟩
/-- a node made out of an older tree's parts -/
theorem mk_post {v v' : tV} {M M' : nM} {B i κ j : Nat} {x : Int32} {f : nMap} (hI' : Inv v' M') (hE : Ext v M v' M') (hB : vNod v' ≤ vNod v + B) (hroom : vNod v + B < 80000) (hi : i < vNod v') (hj : j < vNod v') (hκ : κ < 256)
    (hl : ∀ k, κ ≤ k → M' i k = none) (hg : ∀ k, k ≤ κ → M' j k = none) (h1 : ∀ k x, M' i k = some x → ht k < ht κ) (h2 : ∀ k x, M' j k = some x → ht k < ht κ)
    (hf : ∀ q, nd κ x (M' i) (M' j) q = f q) : bPost v M (B + 1) f (nI (vNod v')) (mkV v' i κ x j) := by
  obtain ⟨a, b⟩ := mk_inv (x := x) hI' (by omega) hi hj hκ hl hg h1 h2
  refine ⟨vNod v', _, rfl, a, hE.tr b, Nat.lt_succ_self _, ?_, fun q => ?_⟩
  · show vNod v' + 1 ≤ _
    omega
  · rw [up_s]; exact hf q
theorem below_keep {v v' : tV} {M M' : nM} {n k B r' : Nat} (hI : Inv v M) (hn : n < vNod v) (h0 : n ≠ 0) (hk : vK v n < k) (hI' : Inv v' M') (hE : Ext v M v' M') (hB : vNod v' ≤ vNod v + B) (hf : ∀ j, M' r' j = if j < k then M (vR v n) j else none) (he : r' = vR v' n) :
    bPost v M (B + 1) (fun j => if j < k then M n j else none) (nI n) v' := by
  have hO := hI.ok hn h0
  obtain ⟨e0, e1, e2, -⟩ := hE.2.2.2 n hn
  refine ⟨n, M', rfl, hI', hE, Nat.lt_of_lt_of_le hn hE.1, by omega, fun j => ?_⟩
  rw [e0]
  show M n j = if j < k then M n j else none
  by_cases hj : j < k
  · rw [if_pos hj]
  · rw [if_neg hj, hO.2.2.2.1.2.2.1 j (by omega)]
    have h1 := hf j
    rw [if_neg hj, he, e2, (hE.2.2.2 _ (Nat.lt_trans hO.2.1 hn)).1] at h1
    exact h1
theorem below_mk {v v' : tV} {M M' : nM} {n k B r' : Nat} (hI : Inv v M) (hn : n < vNod v) (h0 : n ≠ 0) (hk : vK v n < k) (hI' : Inv v' M') (hE : Ext v M v' M') (hr : r' < vNod v') (hB : vNod v' ≤ vNod v + B) (hroom : vNod v + B < 80000) (hf : ∀ j, M' r' j = if j < k then M (vR v n) j else none) :
    bPost v M (B + 1) (fun j => if j < k then M n j else none) (nI (vNod v')) (mkV v' (vL v' n) (vK v' n) (vV v' n) r') := by
  have hO := hI.ok hn h0
  obtain ⟨e0, e1, e2, e3, e4, -⟩ := hE.2.2.2 n hn
  rw [e1, e3, e4]
  have hLn : vL v n < vNod v := Nat.lt_trans hO.1 hn
  have eL := (hE.2.2.2 _ hLn).1
  obtain ⟨-, -, hk256, ⟨g1, g2, g3, g4, g5⟩, hl, hh⟩ := hO
  refine mk_post hI' hE hB hroom (Nat.lt_of_lt_of_le hLn hE.1) hr hk256 ?_ ?_ ?_ ?_ ?_
  · intro q hq; rw [eL]; exact g4 q hq
  · intro q hq; rw [hf q, g5 q hq]; split <;> rfl
  · intro q x hq; rw [eL] at hq; exact hl q x hq
  · intro q x hq
    rw [hf q] at hq
    split at hq
    · exact hh q x hq
    · cases hq
  · intro q
    rw [eL]
    simp only [nd, hf q]
    rcases Nat.lt_trichotomy q (vK v n) with h | h | h
    · rw [if_pos h, if_pos (by omega), g1 q h]
    · rw [if_neg (by omega), if_pos h, if_pos (by omega), h, g2]
    · rw [if_neg (by omega), if_neg (by omega), g3 q h]
theorem from_keep {v v' : tV} {M M' : nM} {n k B r' : Nat} (hI : Inv v M) (hn : n < vNod v) (h0 : n ≠ 0) (hk : k ≤ vK v n) (hI' : Inv v' M') (hE : Ext v M v' M') (hB : vNod v' ≤ vNod v + B) (hf : ∀ j, M' r' j = if k ≤ j then M (vL v n) j else none) (he : r' = vL v' n) :
    bPost v M (B + 1) (fun j => if k ≤ j then M n j else none) (nI n) v' := by
  have hO := hI.ok hn h0
  obtain ⟨e0, e1, e2, -⟩ := hE.2.2.2 n hn
  refine ⟨n, M', rfl, hI', hE, Nat.lt_of_lt_of_le hn hE.1, by omega, fun j => ?_⟩
  rw [e0]
  show M n j = if k ≤ j then M n j else none
  by_cases hj : k ≤ j
  · rw [if_pos hj]
  · rw [if_neg hj, hO.2.2.2.1.1 j (by omega)]
    have h1 := hf j
    rw [if_neg hj, he, e1, (hE.2.2.2 _ (Nat.lt_trans hO.1 hn)).1] at h1
    exact h1
theorem from_mk {v v' : tV} {M M' : nM} {n k B r' : Nat} (hI : Inv v M) (hn : n < vNod v) (h0 : n ≠ 0) (hk : k ≤ vK v n) (hI' : Inv v' M') (hE : Ext v M v' M') (hr : r' < vNod v') (hB : vNod v' ≤ vNod v + B) (hroom : vNod v + B < 80000) (hf : ∀ j, M' r' j = if k ≤ j then M (vL v n) j else none) :
    bPost v M (B + 1) (fun j => if k ≤ j then M n j else none) (nI (vNod v')) (mkV v' r' (vK v' n) (vV v' n) (vR v' n)) := by
  have hO := hI.ok hn h0
  obtain ⟨e0, e1, e2, e3, e4, -⟩ := hE.2.2.2 n hn
  rw [e2, e3, e4]
  have hRn : vR v n < vNod v := Nat.lt_trans hO.2.1 hn
  have eR := (hE.2.2.2 _ hRn).1
  obtain ⟨-, -, hk256, ⟨g1, g2, g3, g4, g5⟩, hl, hh⟩ := hO
  refine mk_post hI' hE hB hroom hr (Nat.lt_of_lt_of_le hRn hE.1) hk256 ?_ ?_ ?_ ?_ ?_
  · intro q hq; rw [hf q, g4 q hq]; split <;> rfl
  · intro q hq; rw [eR]; exact g5 q hq
  · intro q x hq
    rw [hf q] at hq
    split at hq
    · exact hl q x hq
    · cases hq
  · intro q x hq; rw [eR] at hq; exact hh q x hq
  · intro q
    rw [eR]
    simp only [nd, hf q]
    rcases Nat.lt_trichotomy q (vK v n) with h | h | h
    · rw [if_pos h, g1 q h]
    · rw [if_neg (by omega), if_pos h, if_pos (by omega), h, g2]
    · rw [if_neg (by omega), if_neg (by omega), if_pos (by omega), g3 q h]
/-- two maps, one beside the other -/
def un (m1 m2 : nMap) : nMap := fun j => match m1 j with
  | some x => some x
  | none => m2 j
theorem un_some {m1 m2 : nMap} {j : Nat} {x : Int32} (h : m1 j = some x) : un m1 m2 j = some x := by simp only [un, h]
theorem un_none {m1 m2 : nMap} {j : Nat} (h : m1 j = none) : un m1 m2 j = m2 j := by simp only [un, h]
theorem un_r {m1 m2 : nMap} {j : Nat} (h : m2 j = none) : un m1 m2 j = m1 j := by
  cases h1 : m1 j with
  | none => rw [un_none h1, h]
  | some x => rw [un_some h1]
/-- all keys of the first lie below κ, those of the second from κ on -/
def sep (m1 m2 : nMap) (κ : Nat) : Prop := (∀ k, κ ≤ k → m1 k = none) ∧ (∀ k, k < κ → m2 k = none)
theorem sep.lt {m1 m2 : nMap} {κ k : Nat} {x : Int32} (h : sep m1 m2 κ) (hk : m1 k = some x) : k < κ := by
  rcases Nat.lt_or_ge k κ with q | q
  · exact q
  · rw [h.1 k q] at hk; cases hk
theorem sep.ge {m1 m2 : nMap} {κ k : Nat} {x : Int32} (h : sep m1 m2 κ) (hk : m2 k = some x) : κ ≤ k := by
  rcases Nat.lt_or_ge k κ with q | q
  · rw [h.2 k q] at hk; cases hk
  · exact q
theorem sep.R {v : tV} {M : nM} {a b κ : Nat} (h : sep (M a) (M b) κ) (hO : tOk v M a) : sep (M (vR v a)) (M b) κ := ⟨fun k hk => by
  cases hq : M (vR v a) k with
  | none => rfl
  | some x => have := (hO.inR hq).2; rw [h.1 k hk] at this; exact (Option.some_ne_none _ this.symm).elim, h.2⟩
theorem sep.L {v : tV} {M : nM} {a b κ : Nat} (h : sep (M a) (M b) κ) (hO : tOk v M b) : sep (M a) (M (vL v b)) κ := ⟨h.1, fun k hk => by
  cases hq : M (vL v b) k with
  | none => rfl
  | some x => have := (hO.inL hq).2; rw [h.2 k hk] at this; cases this⟩
theorem both_1 {v v' : tV} {M M' : nM} {a b κ B r' : Nat} (hI : Inv v M) (ha : a < vNod v) (a0 : a ≠ 0) (hb : b < vNod v) (b0 : b ≠ 0) (hs : sep (M a) (M b) κ) (hh : ht (vK v b) < ht (vK v a)) (hI' : Inv v' M') (hE : Ext v M v' M') (hr : r' < vNod v') (hB : vNod v' ≤ vNod v + B) (hroom : vNod v + B < 80000) (hf : ∀ j, M' r' j = un (M (vR v a)) (M b) j) :
    bPost v M (B + 1) (un (M a) (M b)) (nI (vNod v')) (mkV v' (vL v a) (vK v a) (vV v a) r') := by
  have hO := hI.ok ha a0
  have hLn : vL v a < vNod v := Nat.lt_trans hO.1 ha
  have eL := (hE.2.2.2 _ hLn).1
  have hKa : vK v a < κ := hs.lt hO.2.2.2.1.2.1
  obtain ⟨-, -, hk256, ⟨g1, g2, g3, g4, g5⟩, hl, hh2⟩ := hO
  refine mk_post hI' hE hB hroom (Nat.lt_of_lt_of_le hLn hE.1) hr hk256 ?_ ?_ ?_ ?_ ?_
  · intro q hq; rw [eL]; exact g4 q hq
  · intro q hq; rw [hf q, un_none (g5 q hq)]; exact hs.2 q (by omega)
  · intro q x hq; rw [eL] at hq; exact hl q x hq
  · intro q x hq
    rw [hf q] at hq
    cases h1 : M (vR v a) q with
    | some y => exact hh2 q y h1
    | none =>
      rw [un_none h1] at hq
      exact Nat.lt_of_le_of_lt (hI.top hb b0 hq) hh
  · intro q
    rw [eL]
    simp only [nd, hf q]
    rcases Nat.lt_trichotomy q (vK v a) with h | h | h
    · rw [if_pos h, un_r (hs.2 q (by omega)), g1 q h]
    · rw [if_neg (by omega), if_pos h, h, un_some g2]
    · rw [if_neg (by omega), if_neg (by omega)]
      simp only [un, g3 q h]
theorem both_2 {v v' : tV} {M M' : nM} {a b κ B r' : Nat} (hI : Inv v M) (ha : a < vNod v) (a0 : a ≠ 0) (hb : b < vNod v) (b0 : b ≠ 0) (hs : sep (M a) (M b) κ) (hh : ht (vK v a) ≤ ht (vK v b)) (hI' : Inv v' M') (hE : Ext v M v' M') (hr : r' < vNod v') (hB : vNod v' ≤ vNod v + B) (hroom : vNod v + B < 80000) (hf : ∀ j, M' r' j = un (M a) (M (vL v b)) j) :
    bPost v M (B + 1) (un (M a) (M b)) (nI (vNod v')) (mkV v' r' (vK v' b) (vV v' b) (vR v' b)) := by
  have hOa := hI.ok ha a0
  have hO := hI.ok hb b0
  obtain ⟨e0, e1, e2, e3, e4, -⟩ := hE.2.2.2 b hb
  rw [e2, e3, e4]
  have hRn : vR v b < vNod v := Nat.lt_trans hO.2.1 hb
  have eR := (hE.2.2.2 _ hRn).1
  have hKa : vK v a < κ := hs.lt hOa.2.2.2.1.2.1
  have hKb : κ ≤ vK v b := hs.ge hO.2.2.2.1.2.1
  have hlt : ht (vK v a) < ht (vK v b) := by
    rcases Nat.lt_or_ge (ht (vK v a)) (ht (vK v b)) with q | q
    · exact q
    · have := ht_inj hOa.2.2.1 hO.2.2.1 (Nat.le_antisymm hh q)
      omega
  obtain ⟨-, -, hk256, ⟨g1, g2, g3, g4, g5⟩, hl, hh2⟩ := hO
  refine mk_post hI' hE hB hroom hr (Nat.lt_of_lt_of_le hRn hE.1) hk256 ?_ ?_ ?_ ?_ ?_
  · intro q hq; rw [hf q, un_none (hs.1 q (by omega))]; exact g4 q hq
  · intro q hq; rw [eR]; exact g5 q hq
  · intro q x hq
    rw [hf q] at hq
    cases h1 : M a q with
    | some y => exact Nat.lt_of_le_of_lt (hI.top ha a0 h1) hlt
    | none =>
      rw [un_none h1] at hq
      exact hl q x hq
  · intro q x hq; rw [eR] at hq; exact hh2 q x hq
  · intro q
    rw [eR]
    simp only [nd, hf q]
    rcases Nat.lt_trichotomy q (vK v b) with h | h | h
    · rw [if_pos h]
      simp only [un, g1 q h]
    · rw [if_neg (by omega), if_pos h, h, un_none (hs.1 _ hKb), g2]
    · rw [if_neg (by omega), if_neg (by omega), un_none (hs.1 q (by omega)), g3 q h]
end
section
theorem rm_ok {f n F N mx : Nat} (h1 : f + 1 ≤ F) (h2 : 8 + (mx + 11) + n ≤ N) : roomOk (rmS f n) (rmS F N) mx 0 0 := ⟨rfl, rfl, h1, h2⟩
set_option maxHeartbeats 4000000 in
set_option maxRecDepth 100000 in
/-- below(n, k) -/
theorem c_T_below (l : Launch) (G : gG) (a : tA) (d : Nat) : ∀ (v : tV) (M : nM) (n k B : Nat), Inv v M → n < vNod v → k ≤ 256 → hB (M n) d → rB (M n) B → vNod v + B ≤ 80000 → Met l y_T_below (mw y_T_below b_T_below 4 (some .int)) (rmS (d + 1) (40 * (d + 1))) (tPc G a v [.int (nI n), .int (nI k)]) (va_Qi (bPost v M B (fun j => if j < k then M n j else none)) (fun v' t => tP G a v' t.heap) (inA a)) 0 0 (inA a) := by
  induction d using Nat.strongRecOn with
  | ind d ih =>
  intro v M n k B hI hn hk hd hb hroom
  have h8 := hI.2.1
  refine m_ofW (own := R_T) rfl rfl (fun p e s m args below meth c S hr hlk hx hnm hv => ?_)
  obtain ⟨rfl, hP, hD, hK⟩ := hv
  have hw := tS.start hP hD
  refine m_entry [.ref (aH a), .int (nI n), .int (nI k)] (Nat.le_of_ble_eq_true rfl) (fun ls hl => ?_)
  have hl : lv_has ls 4 [(0, .ref (aH a)), (1, .int (nI n)), (2, .int (nI k))] := hl
  refine lv_iload_n S.1 S.2.1 d_T_below_0 rfl (lv_at hl 1 rfl) ?_
  refine nz_ne S (by omega) d_T_below_1 rfl (fun h0 => ?_) (fun h0 => ?_)
  rotate_left
  · refine lv_iconst (v := nI 0) S.1 S.2.1 d_T_below_4 (by decide) ?_
    refine t_iret S hw ⟨0, M, rfl, hI, Ext.rf, hI.1, Nat.le_add_right _ _, fun j => ?_⟩ hr hlk d_T_below_5
    subst h0
    show M 0 j = if _ then M 0 j else none
    rw [hI.2.2.1 j]; split <;> rfl
  have hO := hI.ok hn h0
  have hR0 := hd.root hO
  obtain ⟨d, rfl⟩ : ∃ d', d = d' + 1 := ⟨d - 1, by omega⟩
  have hkn := hO.2.2.1
  have hl1 := hO.1
  have hr1 := hO.2.1
  refine lv_aload_n S.1 S.2.1 d_T_below_6 rfl (lv_at hl 0 rfl) ?_
  refine t_gK S hK hw.1 d_T_below_7 ?_
  refine lv_iload_n S.1 S.2.1 d_T_below_10 rfl (lv_at hl 1 rfl) ?_
  refine t_iK S hK hw.1 (by omega) d_T_below_11 ?_
  refine lv_iload_n S.1 S.2.1 d_T_below_12 rfl (lv_at hl 2 rfl) ?_
  refine nb_lt S (by omega) (by omega) d_T_below_13 rfl (fun hc => ?_) (fun hc => ?_)
  rotate_left
  · refine lv_aload_n S.1 S.2.1 d_T_below_16 rfl (lv_at hl 0 rfl) ?_
    refine lv_aload_n S.1 S.2.1 d_T_below_17 rfl (lv_at hl 0 rfl) ?_
    refine t_gL S hK hw.1 d_T_below_18 ?_
    refine lv_iload_n S.1 S.2.1 d_T_below_21 rfl (lv_at hl 1 rfl) ?_
    refine t_iL S hK hw.1 (by omega) d_T_below_22 ?_
    refine lv_iload_n S.1 S.2.1 d_T_below_23 rfl (lv_at hl 2 rfl) ?_
    refine t_calli (t_run S (t_pre hK hw.1 hw.2.1) k_T_below wi_T_below wv_T_T_below wL_T_51 (ih d (Nat.lt_succ_self d) v M (vL v n) k B hI (by omega) hk (hd.L hO) (hb.L hO) hroom) (rm_ok (by omega) (by omega)) rfl hl.1 rfl (Nat.le_of_ble_eq_true rfl) d_T_below_24 ⟨Nat.le_refl _, Nat.le_refl _⟩) hw (fun r v1 H locs hp hw _ _ => ?_)
    refine t_iret S hw (hp.congr (fun j => ?_)) hr hlk d_T_below_27
    show (if j < k then M (vL v n) j else none) = if j < k then M n j else none
    by_cases hj : j < k
    · rw [if_pos hj, if_pos hj, hO.2.2.2.1.1 j (by omega)]
    · rw [if_neg hj, if_neg hj]
  obtain ⟨B, rfl⟩ : ∃ B', B = B' + 1 := ⟨B - 1, by
    have h1 := hb _ _ hO.2.2.2.1.2.1
    have h2 := rkR_pos hO.2.2.1
    omega⟩
  refine lv_aload_n S.1 S.2.1 d_T_below_28 rfl (lv_at hl 0 rfl) ?_
  refine lv_aload_n S.1 S.2.1 d_T_below_29 rfl (lv_at hl 0 rfl) ?_
  refine t_gR S hK hw.1 d_T_below_30 ?_
  refine lv_iload_n S.1 S.2.1 d_T_below_33 rfl (lv_at hl 1 rfl) ?_
  refine t_iR S hK hw.1 (by omega) d_T_below_34 ?_
  refine lv_iload_n S.1 S.2.1 d_T_below_35 rfl (lv_at hl 2 rfl) ?_
  refine t_calli (t_run S (t_pre hK hw.1 hw.2.1) k_T_below wi_T_below wv_T_T_below wL_T_51 (ih d (Nat.lt_succ_self d) v M (vR v n) k B hI (by omega) hk (hd.R hO) (rB.R hI hn hb hO) (by omega)) (rm_ok (by omega) (by omega)) rfl hl.1 rfl (Nat.le_of_ble_eq_true rfl) d_T_below_36 ⟨Nat.le_refl _, Nat.le_refl _⟩) hw (fun r v1 H locs hp hw _ _ => ?_)
  obtain ⟨r', M1, rfl, hI1, hE1, hr', hB1, hf⟩ := hp
  have h81 := hI1.2.1
  obtain ⟨e0, e1, e2, e3, e4, -⟩ := hE1.2.2.2 n hn
  have h9 := hE1.1
  refine lv_istore_n S.1 S.2.1 d_T_below_39 rfl hl (by decide) rfl (fun ls hl => ?_)
  refine lv_iload_n S.1 S.2.1 d_T_below_40 rfl (lv_at hl 0 rfl) ?_
  refine lv_aload_n S.1 S.2.1 d_T_below_41 rfl (lv_at hl 1 rfl) ?_
  refine t_gR S hK hw.1 d_T_below_42 ?_
  refine lv_iload_n S.1 S.2.1 d_T_below_45 rfl (lv_at hl 2 rfl) ?_
  refine t_iR S hK hw.1 (by omega) d_T_below_46 ?_
  refine nb_ne S (by omega) (by omega) d_T_below_47 rfl (fun hc2 => ?_) (fun hc2 => ?_)
  rotate_left
  · refine lv_iload_n S.1 S.2.1 d_T_below_50 rfl (lv_at hl 2 rfl) ?_
    refine lv_goto S.1 S.2.1 d_T_below_51 rfl ?_
    exact t_iret S hw (below_keep hI hn h0 hc hI1 hE1 hB1 hf hc2) hr hlk d_T_below_77
  refine lv_aload_n S.1 S.2.1 d_T_below_54 rfl (lv_at hl 1 rfl) ?_
  refine lv_aload_n S.1 S.2.1 d_T_below_55 rfl (lv_at hl 1 rfl) ?_
  refine t_gL S hK hw.1 d_T_below_56 ?_
  refine lv_iload_n S.1 S.2.1 d_T_below_59 rfl (lv_at hl 2 rfl) ?_
  refine t_iL S hK hw.1 (by omega) d_T_below_60 ?_
  refine lv_aload_n S.1 S.2.1 d_T_below_61 rfl (lv_at hl 1 rfl) ?_
  refine t_gK S hK hw.1 d_T_below_62 ?_
  refine lv_iload_n S.1 S.2.1 d_T_below_65 rfl (lv_at hl 2 rfl) ?_
  refine t_iK S hK hw.1 (by omega) d_T_below_66 ?_
  refine lv_aload_n S.1 S.2.1 d_T_below_67 rfl (lv_at hl 1 rfl) ?_
  refine t_gV S hK hw.1 d_T_below_68 ?_
  refine lv_iload_n S.1 S.2.1 d_T_below_71 rfl (lv_at hl 2 rfl) ?_
  refine t_iV S hK hw.1 (by omega) d_T_below_72 ?_
  refine lv_iload_n S.1 S.2.1 d_T_below_73 rfl (lv_at hl 0 rfl) ?_
  have hs1 := hI1.size (n := (vL v1 n)) (by omega)
  have hs2 := hI1.size (n := r') (by omega)
  refine t_calli (t_run S (t_pre hK hw.1 hw.2.1) k_T_make wi_T_make wv_T_T_make wL_T_55 (c_T_make l G a v1 (vL v1 n) (vK v1 n) (vV v1 n) r' (by omega) (by omega) (by omega) (by omega) (by omega)) (rm_ok (by omega) (by omega)) rfl hl.1 rfl (Nat.le_of_ble_eq_true rfl) d_T_below_74 ⟨Nat.le_refl _, Nat.le_refl _⟩) hw (fun r v2 H locs hp hw _ _ => ?_)
  obtain ⟨rfl, rfl⟩ := hp
  exact t_iret S hw (below_mk hI hn h0 hc hI1 hE1 hr' hB1 (by omega) hf) hr hlk d_T_below_77
set_option maxHeartbeats 4000000 in
set_option maxRecDepth 100000 in
/-- from(n, k) -/
theorem c_T_from (l : Launch) (G : gG) (a : tA) (d : Nat) : ∀ (v : tV) (M : nM) (n k B : Nat), Inv v M → n < vNod v → k ≤ 256 → hB (M n) d → lB (M n) B → vNod v + B ≤ 80000 → Met l y_T_from (mw y_T_from b_T_from 4 (some .int)) (rmS (d + 1) (40 * (d + 1))) (tPc G a v [.int (nI n), .int (nI k)]) (va_Qi (bPost v M B (fun j => if k ≤ j then M n j else none)) (fun v' t => tP G a v' t.heap) (inA a)) 0 0 (inA a) := by
  induction d using Nat.strongRecOn with
  | ind d ih =>
  intro v M n k B hI hn hk hd hb hroom
  have h8 := hI.2.1
  refine m_ofW (own := R_T) rfl rfl (fun p e s m args below meth c S hr hlk hx hnm hv => ?_)
  obtain ⟨rfl, hP, hD, hK⟩ := hv
  have hw := tS.start hP hD
  refine m_entry [.ref (aH a), .int (nI n), .int (nI k)] (Nat.le_of_ble_eq_true rfl) (fun ls hl => ?_)
  have hl : lv_has ls 4 [(0, .ref (aH a)), (1, .int (nI n)), (2, .int (nI k))] := hl
  refine lv_iload_n S.1 S.2.1 d_T_from_0 rfl (lv_at hl 1 rfl) ?_
  refine nz_ne S (by omega) d_T_from_1 rfl (fun h0 => ?_) (fun h0 => ?_)
  rotate_left
  · refine lv_iconst (v := nI 0) S.1 S.2.1 d_T_from_4 (by decide) ?_
    refine t_iret S hw ⟨0, M, rfl, hI, Ext.rf, hI.1, Nat.le_add_right _ _, fun j => ?_⟩ hr hlk d_T_from_5
    subst h0
    show M 0 j = if _ then M 0 j else none
    rw [hI.2.2.1 j]; split <;> rfl
  have hO := hI.ok hn h0
  have hR0 := hd.root hO
  obtain ⟨d, rfl⟩ : ∃ d', d = d' + 1 := ⟨d - 1, by omega⟩
  have hkn := hO.2.2.1
  have hl1 := hO.1
  have hr1 := hO.2.1
  refine lv_aload_n S.1 S.2.1 d_T_from_6 rfl (lv_at hl 0 rfl) ?_
  refine t_gK S hK hw.1 d_T_from_7 ?_
  refine lv_iload_n S.1 S.2.1 d_T_from_10 rfl (lv_at hl 1 rfl) ?_
  refine t_iK S hK hw.1 (by omega) d_T_from_11 ?_
  refine lv_iload_n S.1 S.2.1 d_T_from_12 rfl (lv_at hl 2 rfl) ?_
  refine nb_ge S (by omega) (by omega) d_T_from_13 rfl (fun hc => ?_) (fun hc => ?_)
  rotate_left
  · refine lv_aload_n S.1 S.2.1 d_T_from_16 rfl (lv_at hl 0 rfl) ?_
    refine lv_aload_n S.1 S.2.1 d_T_from_17 rfl (lv_at hl 0 rfl) ?_
    refine t_gR S hK hw.1 d_T_from_18 ?_
    refine lv_iload_n S.1 S.2.1 d_T_from_21 rfl (lv_at hl 1 rfl) ?_
    refine t_iR S hK hw.1 (by omega) d_T_from_22 ?_
    refine lv_iload_n S.1 S.2.1 d_T_from_23 rfl (lv_at hl 2 rfl) ?_
    refine t_calli (t_run S (t_pre hK hw.1 hw.2.1) k_T_from wi_T_from wv_T_T_from wL_T_59 (ih d (Nat.lt_succ_self d) v M (vR v n) k B hI (by omega) hk (hd.R hO) (hb.R hO) hroom) (rm_ok (by omega) (by omega)) rfl hl.1 rfl (Nat.le_of_ble_eq_true rfl) d_T_from_24 ⟨Nat.le_refl _, Nat.le_refl _⟩) hw (fun r v1 H locs hp hw _ _ => ?_)
    refine t_iret S hw (hp.congr (fun j => ?_)) hr hlk d_T_from_27
    show (if k ≤ j then M (vR v n) j else none) = if k ≤ j then M n j else none
    by_cases hj : k ≤ j
    · rw [if_pos hj, if_pos hj, hO.2.2.2.1.2.2.1 j (by omega)]
    · rw [if_neg hj, if_neg hj]
  obtain ⟨B, rfl⟩ : ∃ B', B = B' + 1 := ⟨B - 1, by
    have h1 := hb _ _ hO.2.2.2.1.2.1
    have h2 := rkL_pos hO.2.2.1
    omega⟩
  refine lv_aload_n S.1 S.2.1 d_T_from_28 rfl (lv_at hl 0 rfl) ?_
  refine lv_aload_n S.1 S.2.1 d_T_from_29 rfl (lv_at hl 0 rfl) ?_
  refine t_gL S hK hw.1 d_T_from_30 ?_
  refine lv_iload_n S.1 S.2.1 d_T_from_33 rfl (lv_at hl 1 rfl) ?_
  refine t_iL S hK hw.1 (by omega) d_T_from_34 ?_
  refine lv_iload_n S.1 S.2.1 d_T_from_35 rfl (lv_at hl 2 rfl) ?_
  refine t_calli (t_run S (t_pre hK hw.1 hw.2.1) k_T_from wi_T_from wv_T_T_from wL_T_59 (ih d (Nat.lt_succ_self d) v M (vL v n) k B hI (by omega) hk (hd.L hO) (lB.L hI hn hb hO) (by omega)) (rm_ok (by omega) (by omega)) rfl hl.1 rfl (Nat.le_of_ble_eq_true rfl) d_T_from_36 ⟨Nat.le_refl _, Nat.le_refl _⟩) hw (fun r v1 H locs hp hw _ _ => ?_)
  obtain ⟨r', M1, rfl, hI1, hE1, hr', hB1, hf⟩ := hp
  have h81 := hI1.2.1
  obtain ⟨e0, e1, e2, e3, e4, -⟩ := hE1.2.2.2 n hn
  have h9 := hE1.1
  refine lv_istore_n S.1 S.2.1 d_T_from_39 rfl hl (by decide) rfl (fun ls hl => ?_)
  refine lv_iload_n S.1 S.2.1 d_T_from_40 rfl (lv_at hl 0 rfl) ?_
  refine lv_aload_n S.1 S.2.1 d_T_from_41 rfl (lv_at hl 1 rfl) ?_
  refine t_gL S hK hw.1 d_T_from_42 ?_
  refine lv_iload_n S.1 S.2.1 d_T_from_45 rfl (lv_at hl 2 rfl) ?_
  refine t_iL S hK hw.1 (by omega) d_T_from_46 ?_
  refine nb_ne S (by omega) (by omega) d_T_from_47 rfl (fun hc2 => ?_) (fun hc2 => ?_)
  rotate_left
  · refine lv_iload_n S.1 S.2.1 d_T_from_50 rfl (lv_at hl 2 rfl) ?_
    refine lv_goto S.1 S.2.1 d_T_from_51 rfl ?_
    exact t_iret S hw (from_keep hI hn h0 hc hI1 hE1 hB1 hf hc2) hr hlk d_T_from_77
  refine lv_aload_n S.1 S.2.1 d_T_from_54 rfl (lv_at hl 1 rfl) ?_
  refine lv_iload_n S.1 S.2.1 d_T_from_55 rfl (lv_at hl 0 rfl) ?_
  refine lv_aload_n S.1 S.2.1 d_T_from_56 rfl (lv_at hl 1 rfl) ?_
  refine t_gK S hK hw.1 d_T_from_57 ?_
  refine lv_iload_n S.1 S.2.1 d_T_from_60 rfl (lv_at hl 2 rfl) ?_
  refine t_iK S hK hw.1 (by omega) d_T_from_61 ?_
  refine lv_aload_n S.1 S.2.1 d_T_from_62 rfl (lv_at hl 1 rfl) ?_
  refine t_gV S hK hw.1 d_T_from_63 ?_
  refine lv_iload_n S.1 S.2.1 d_T_from_66 rfl (lv_at hl 2 rfl) ?_
  refine t_iV S hK hw.1 (by omega) d_T_from_67 ?_
  refine lv_aload_n S.1 S.2.1 d_T_from_68 rfl (lv_at hl 1 rfl) ?_
  refine t_gR S hK hw.1 d_T_from_69 ?_
  refine lv_iload_n S.1 S.2.1 d_T_from_72 rfl (lv_at hl 2 rfl) ?_
  refine t_iR S hK hw.1 (by omega) d_T_from_73 ?_
  have hs1 := hI1.size (n := r') (by omega)
  have hs2 := hI1.size (n := (vR v1 n)) (by omega)
  refine t_calli (t_run S (t_pre hK hw.1 hw.2.1) k_T_make wi_T_make wv_T_T_make wL_T_55 (c_T_make l G a v1 r' (vK v1 n) (vV v1 n) (vR v1 n) (by omega) (by omega) (by omega) (by omega) (by omega)) (rm_ok (by omega) (by omega)) rfl hl.1 rfl (Nat.le_of_ble_eq_true rfl) d_T_from_74 ⟨Nat.le_refl _, Nat.le_refl _⟩) hw (fun r v2 H locs hp hw _ _ => ?_)
  obtain ⟨rfl, rfl⟩ := hp
  exact t_iret S hw (from_mk hI hn h0 hc hI1 hE1 hr' hB1 (by omega) hf) hr hlk d_T_from_77
set_option maxHeartbeats 4000000 in
set_option maxRecDepth 100000 in
/-- both(a, b): heights in a under da, in b under db -/
theorem c_T_both (l : Launch) (G : gG) (a : tA) (d : Nat) : ∀ (v : tV) (M : nM) (i j κ da db B1 B2 : Nat), Inv v M → i < vNod v → j < vNod v → sep (M i) (M j) κ → hB (M i) da → hB (M j) db → da + db = d → rB (M i) B1 → lB (M j) B2 → vNod v + (B1 + B2) ≤ 80000 → Met l y_T_both (mw y_T_both b_T_both 3 (some .int)) (rmS (d + 1) (40 * (d + 1))) (tPc G a v [.int (nI i), .int (nI j)]) (va_Qi (bPost v M (B1 + B2) (un (M i) (M j))) (fun v' t => tP G a v' t.heap) (inA a)) 0 0 (inA a) := by
  induction d using Nat.strongRecOn with
  | ind d ih =>
  intro v M i j κ da db B1 B2 hI hi hj hs hda hdb hdd hb1 hb2 hroom
  have h8 := hI.2.1
  refine m_ofW (own := R_T) rfl rfl (fun p e s m args below meth c S hr hlk hx hnm hv => ?_)
  obtain ⟨rfl, hP, hD, hK⟩ := hv
  have hw := tS.start hP hD
  refine m_entry [.ref (aH a), .int (nI i), .int (nI j)] (Nat.le_of_ble_eq_true rfl) (fun ls hl => ?_)
  have hl : lv_has ls 3 [(0, .ref (aH a)), (1, .int (nI i)), (2, .int (nI j))] := hl
  refine lv_iload_n S.1 S.2.1 d_T_both_0 rfl (lv_at hl 1 rfl) ?_
  refine nz_ne S (by omega) d_T_both_1 rfl (fun i0 => ?_) (fun i0 => ?_)
  rotate_left
  · refine lv_iload_n S.1 S.2.1 d_T_both_4 rfl (lv_at hl 2 rfl) ?_
    refine t_iret S hw ⟨j, M, rfl, hI, Ext.rf, hj, Nat.le_add_right _ _, fun q => ?_⟩ hr hlk d_T_both_5
    subst i0
    rw [un_none (hI.2.2.1 q)]
  refine lv_iload_n S.1 S.2.1 d_T_both_6 rfl (lv_at hl 2 rfl) ?_
  refine nz_ne S (by omega) d_T_both_7 rfl (fun j0 => ?_) (fun j0 => ?_)
  rotate_left
  · refine lv_iload_n S.1 S.2.1 d_T_both_10 rfl (lv_at hl 1 rfl) ?_
    refine t_iret S hw ⟨i, M, rfl, hI, Ext.rf, hi, Nat.le_add_right _ _, fun q => ?_⟩ hr hlk d_T_both_11
    subst j0
    rw [un_r (hI.2.2.1 q)]
  have hOi := hI.ok hi i0
  have hOj := hI.ok hj j0
  have hRi := hda.root hOi
  have hRj := hdb.root hOj
  have hki := hOi.2.2.1
  have hkj := hOj.2.2.1
  have hli := hOi.1
  have hri := hOi.2.1
  have hlj := hOj.1
  have hrj := hOj.2.1
  have hh1 := ht_lt (vK v i)
  have hh2 := ht_lt (vK v j)
  refine lv_aload_n S.1 S.2.1 d_T_both_12 rfl (lv_at hl 0 rfl) ?_
  refine t_gK S hK hw.1 d_T_both_13 ?_
  refine lv_iload_n S.1 S.2.1 d_T_both_16 rfl (lv_at hl 1 rfl) ?_
  refine t_iK S hK hw.1 (by omega) d_T_both_17 ?_
  refine r_calli (r_runS S preEq k_T_height ws_T_height wL_T_62 (c_T_height l (vK v i) (by omega)) (rm_ok (by omega) (by omega)) rfl hl.1 rfl (Nat.le_of_ble_eq_true rfl) d_T_both_18 ⟨Nat.le_refl _, Nat.le_refl _⟩) (fun r hp => ?_)
  subst hp
  refine lv_aload_n S.1 S.2.1 d_T_both_21 rfl (lv_at hl 0 rfl) ?_
  refine t_gK S hK hw.1 d_T_both_22 ?_
  refine lv_iload_n S.1 S.2.1 d_T_both_25 rfl (lv_at hl 2 rfl) ?_
  refine t_iK S hK hw.1 (by omega) d_T_both_26 ?_
  refine r_calli (r_runS S preEq k_T_height ws_T_height wL_T_62 (c_T_height l (vK v j) (by omega)) (rm_ok (by omega) (by omega)) rfl hl.1 rfl (Nat.le_of_ble_eq_true rfl) d_T_both_27 ⟨Nat.le_refl _, Nat.le_refl _⟩) (fun r hp => ?_)
  subst hp
  refine nb_le S (by omega) (by omega) d_T_both_30 rfl (fun hc => ?_) (fun hc => ?_)
  rotate_left
  · obtain ⟨da, rfl⟩ : ∃ d', da = d' + 1 := ⟨da - 1, by omega⟩
    obtain ⟨B1, rfl⟩ : ∃ B', B1 = B' + 1 := ⟨B1 - 1, by
      have h1 := hb1 _ _ hOi.2.2.2.1.2.1
      have h2 := rkR_pos hOi.2.2.1
      omega⟩
    refine lv_aload_n S.1 S.2.1 d_T_both_33 rfl (lv_at hl 0 rfl) ?_
    refine lv_aload_n S.1 S.2.1 d_T_both_34 rfl (lv_at hl 0 rfl) ?_
    refine t_gL S hK hw.1 d_T_both_35 ?_
    refine lv_iload_n S.1 S.2.1 d_T_both_38 rfl (lv_at hl 1 rfl) ?_
    refine t_iL S hK hw.1 (by omega) d_T_both_39 ?_
    refine lv_aload_n S.1 S.2.1 d_T_both_40 rfl (lv_at hl 0 rfl) ?_
    refine t_gK S hK hw.1 d_T_both_41 ?_
    refine lv_iload_n S.1 S.2.1 d_T_both_44 rfl (lv_at hl 1 rfl) ?_
    refine t_iK S hK hw.1 (by omega) d_T_both_45 ?_
    refine lv_aload_n S.1 S.2.1 d_T_both_46 rfl (lv_at hl 0 rfl) ?_
    refine t_gV S hK hw.1 d_T_both_47 ?_
    refine lv_iload_n S.1 S.2.1 d_T_both_50 rfl (lv_at hl 1 rfl) ?_
    refine t_iV S hK hw.1 (by omega) d_T_both_51 ?_
    refine lv_aload_n S.1 S.2.1 d_T_both_52 rfl (lv_at hl 0 rfl) ?_
    refine lv_aload_n S.1 S.2.1 d_T_both_53 rfl (lv_at hl 0 rfl) ?_
    refine t_gR S hK hw.1 d_T_both_54 ?_
    refine lv_iload_n S.1 S.2.1 d_T_both_57 rfl (lv_at hl 1 rfl) ?_
    refine t_iR S hK hw.1 (by omega) d_T_both_58 ?_
    refine lv_iload_n S.1 S.2.1 d_T_both_59 rfl (lv_at hl 2 rfl) ?_
    refine t_calli (t_run S (t_pre hK hw.1 hw.2.1) k_T_both wi_T_both wv_T_T_both wL_T_66 (ih (da + db) (by omega) v M (vR v i) j κ da db B1 B2 hI (by omega) hj (hs.R hOi) (hda.R hOi) hdb rfl (rB.R hI hi hb1 hOi) hb2 (by omega)) (rm_ok (by omega) (by omega)) rfl hl.1 rfl (Nat.le_of_ble_eq_true rfl) d_T_both_60 ⟨Nat.le_refl _, Nat.le_refl _⟩) hw (fun r v1 H locs hp hw _ _ => ?_)
    obtain ⟨r', M1, rfl, hI1, hE1, hr', hB1, hf⟩ := hp
    have h81 := hI1.2.1
    have h9 := hE1.1
    have hs0 := (hE1.2.2.2 (vL v i) (by omega)).2.2.2.2.2.1
    have hs1 := hI1.size (n := vL v i) (by omega)
    have hs2 := hI1.size (n := r') (by omega)
    refine t_calli (t_run S (t_pre hK hw.1 hw.2.1) k_T_make wi_T_make wv_T_T_make wL_T_55 (c_T_make l G a v1 (vL v i) (vK v i) (vV v i) r' (by omega) (by omega) (by omega) (by omega) (by omega)) (rm_ok (by omega) (by omega)) rfl hl.1 rfl (Nat.le_of_ble_eq_true rfl) d_T_both_63 ⟨Nat.le_refl _, Nat.le_refl _⟩) hw (fun r v2 H locs hp hw _ _ => ?_)
    obtain ⟨rfl, rfl⟩ := hp
    refine t_iret S hw ?_ hr hlk d_T_both_66
    have hq := both_1 hI hi i0 hj j0 hs hc hI1 hE1 hr' hB1 (by omega) hf
    exact hq.mono (by omega)
  obtain ⟨db, rfl⟩ : ∃ d', db = d' + 1 := ⟨db - 1, by omega⟩
  obtain ⟨B2, rfl⟩ : ∃ B', B2 = B' + 1 := ⟨B2 - 1, by
    have h1 := hb2 _ _ hOj.2.2.2.1.2.1
    have h2 := rkL_pos hOj.2.2.1
    omega⟩
  refine lv_aload_n S.1 S.2.1 d_T_both_67 rfl (lv_at hl 0 rfl) ?_
  refine lv_aload_n S.1 S.2.1 d_T_both_68 rfl (lv_at hl 0 rfl) ?_
  refine lv_iload_n S.1 S.2.1 d_T_both_69 rfl (lv_at hl 1 rfl) ?_
  refine lv_aload_n S.1 S.2.1 d_T_both_70 rfl (lv_at hl 0 rfl) ?_
  refine t_gL S hK hw.1 d_T_both_71 ?_
  refine lv_iload_n S.1 S.2.1 d_T_both_74 rfl (lv_at hl 2 rfl) ?_
  refine t_iL S hK hw.1 (by omega) d_T_both_75 ?_
  refine t_calli (t_run S (t_pre hK hw.1 hw.2.1) k_T_both wi_T_both wv_T_T_both wL_T_66 (ih (da + db) (by omega) v M i (vL v j) κ da db B1 B2 hI hi (by omega) (hs.L hOj) hda (hdb.L hOj) rfl hb1 (lB.L hI hj hb2 hOj) (by omega)) (rm_ok (by omega) (by omega)) rfl hl.1 rfl (Nat.le_of_ble_eq_true rfl) d_T_both_76 ⟨Nat.le_refl _, Nat.le_refl _⟩) hw (fun r v1 H locs hp hw _ _ => ?_)
  obtain ⟨r', M1, rfl, hI1, hE1, hr', hB1, hf⟩ := hp
  have h81 := hI1.2.1
  have h9 := hE1.1
  obtain ⟨e0, e1, e2, e3, e4, -⟩ := hE1.2.2.2 j hj
  have hs1 := hI1.size (n := vR v1 j) (by omega)
  have hs2 := hI1.size (n := r') (by omega)
  refine lv_aload_n S.1 S.2.1 d_T_both_79 rfl (lv_at hl 0 rfl) ?_
  refine t_gK S hK hw.1 d_T_both_80 ?_
  refine lv_iload_n S.1 S.2.1 d_T_both_83 rfl (lv_at hl 2 rfl) ?_
  refine t_iK S hK hw.1 (by omega) d_T_both_84 ?_
  refine lv_aload_n S.1 S.2.1 d_T_both_85 rfl (lv_at hl 0 rfl) ?_
  refine t_gV S hK hw.1 d_T_both_86 ?_
  refine lv_iload_n S.1 S.2.1 d_T_both_89 rfl (lv_at hl 2 rfl) ?_
  refine t_iV S hK hw.1 (by omega) d_T_both_90 ?_
  refine lv_aload_n S.1 S.2.1 d_T_both_91 rfl (lv_at hl 0 rfl) ?_
  refine t_gR S hK hw.1 d_T_both_92 ?_
  refine lv_iload_n S.1 S.2.1 d_T_both_95 rfl (lv_at hl 2 rfl) ?_
  refine t_iR S hK hw.1 (by omega) d_T_both_96 ?_
  refine t_calli (t_run S (t_pre hK hw.1 hw.2.1) k_T_make wi_T_make wv_T_T_make wL_T_55 (c_T_make l G a v1 r' (vK v1 j) (vV v1 j) (vR v1 j) (by omega) (by omega) (by omega) (by omega) (by omega)) (rm_ok (by omega) (by omega)) rfl hl.1 rfl (Nat.le_of_ble_eq_true rfl) d_T_both_97 ⟨Nat.le_refl _, Nat.le_refl _⟩) hw (fun r v2 H locs hp hw _ _ => ?_)
  obtain ⟨rfl, rfl⟩ := hp
  refine t_iret S hw ?_ hr hlk d_T_both_100
  have hq := both_2 hI hi i0 hj j0 hs hc hI1 hE1 hr' hB1 (by omega) hf
  exact hq.mono (by omega)
end
section
section MA
variable {p : Program} {l : Launch} {e : Env} {R : Room} {s : State} {m : MethodId} {args : Array Value} {below : List Frame} {meth : Method} {c : Code} {H : Heap} {locs : List Loc} {cells slots : Nat} {Q : State → Prop}
variable {cc : ByteArray} {nL : Nat} {pc : Nat} {ls : Array Slot} {rest : List Value} {own : String}
theorem m_entryA (vs : List Value) (ha : args = vs.toArray) {n : Nat} (h : (lg_sl vs).length ≤ n) (k : ∀ ls, lv_has ls n (lv_args 0 vs) → W p l e R s m args below meth c H locs cells slots Q (F0 m 0 ls [])) : W p l e R s m args below meth c H locs cells slots Q (entryFrame m args n) := by
  have h1 : entryFrame m args n = entryFrame m vs.toArray n := by rw [ha]
  rw [h1]
  exact m_entry vs h k
end MA
/-- step of the digest -/
def ds (k : Nat) (x : Option Int32) (h : Int64) : Int64 := match x with
  | some y => 31 * (31 * h + (nI k).toInt64) + y.toInt64
  | none => h
def dg (m : nMap) (h : Int64) : Nat → Int64
  | 0 => h
  | k + 1 => ds k (m k) (dg m h k)
theorem dg_none {m : nMap} {h : Int64} {a : Nat} (hm : ∀ k, a ≤ k → m k = none) : ∀ b, a ≤ b → dg m h b = dg m h a := by
  intro b
  induction b with
  | zero => intro h0; rw [Nat.le_zero.mp h0]
  | succ b ih =>
    intro h1
    by_cases hb : a = b + 1
    · subst hb; rfl
    · show ds b (m b) (dg m h b) = _
      rw [hm b (by omega), ih (by omega)]; rfl
theorem dg_none0 {m : nMap} {h : Int64} {a : Nat} (hm : ∀ k, k < a → m k = none) : ∀ b, b ≤ a → dg m h b = h
  | 0, _ => rfl
  | b + 1, hb => by
    show ds b (m b) (dg m h b) = h
    rw [hm b (by omega), dg_none0 hm b (by omega)]; rfl
theorem dg_congr {m n : nMap} {h : Int64} : ∀ k, (∀ j, j < k → m j = n j) → dg m h k = dg n h k
  | 0, _ => rfl
  | k + 1, hj => by
    show ds k (m k) (dg m h k) = ds k (n k) (dg n h k)
    rw [dg_congr k (fun j q => hj j (by omega)), hj k (by omega)]
theorem dg_node {m mL mR : nMap} {κ : Nat} {x : Int32} {h : Int64} (hN : nodeOf m mL mR κ x) (hκ : κ < 256) : dg m h 256 = dg mR (31 * (31 * dg mL h 256 + (nI κ).toInt64) + x.toInt64) 256 := by
  obtain ⟨h1, h2, h3, h4, h5⟩ := hN
  have e1 : dg m h κ = dg mL h 256 := by rw [dg_congr κ h1, dg_none h4 256 (by omega)]
  have e2 : dg m h (κ + 1) = 31 * (31 * dg mL h 256 + (nI κ).toInt64) + x.toInt64 := by
    show ds κ (m κ) (dg m h κ) = _
    rw [h2, e1]; rfl
  have e3 : ∀ k, κ + 1 ≤ k → dg m h k = dg mR (dg m h (κ + 1)) k := by
    intro k
    induction k with
    | zero => intro q; omega
    | succ k ih =>
      intro q
      by_cases hk : k = κ
      · subst hk
        rw [dg_none0 (a := k + 1) (fun j hj => h5 j (by omega)) (k + 1) (Nat.le_refl _)]
      · show ds k (m k) (dg m h k) = ds k (mR k) (dg mR (dg m h (κ + 1)) k)
        rw [h3 k (by omega), ih (by omega)]
  rw [e3 256 (by omega), e2]
theorem cnt_const {m : nMap} {a : Nat} (hm : ∀ k, a ≤ k → m k = none) : ∀ b, a ≤ b → cnt m b = cnt m a := by
  intro b
  induction b with
  | zero => intro h0; rw [Nat.le_zero.mp h0]
  | succ b ih =>
    intro h1
    by_cases hb : a = b + 1
    · subst hb; rfl
    · show cnt m b + is1 (m b) = _
      rw [hm b (by omega), ih (by omega)]; rfl
theorem smm_const {m : nMap} {a : Nat} (hm : ∀ k, a ≤ k → m k = none) : ∀ b, a ≤ b → smm m b = smm m a := by
  intro b
  induction b with
  | zero => intro h0; rw [Nat.le_zero.mp h0]
  | succ b ih =>
    intro h1
    by_cases hb : a = b + 1
    · subst hb; rfl
    · show smm m b + vl (m b) = _
      rw [hm b (by omega), ih (by omega), vl, Int64.add_zero]
/-- an int against a key -/
theorem clamp_lt {κ : Nat} (hκ : κ < 256) (y : Int32) : nI κ < y ↔ κ < y.toNatClampNeg := by
  rw [Int32.lt_iff_toInt_lt, nI_toInt (by omega)]
  show (κ : Int) < y.toInt ↔ κ < y.toInt.toNat
  omega
/-- in how many keys two maps differ -/
def ne1 (x y : Option Int32) : Nat := if x = y then 0 else 1
def df (m n : nMap) : Nat → Nat
  | 0 => 0
  | k + 1 => df m n k + ne1 (m k) (n k)
theorem ne1_self (x : Option Int32) : ne1 x x = 0 := if_pos rfl
theorem ne1_comm (x y : Option Int32) : ne1 x y = ne1 y x := by
  unfold ne1
  by_cases h : x = y
  · rw [if_pos h, if_pos h.symm]
  · rw [if_neg h, if_neg (fun q => h q.symm)]
theorem df_self (m : nMap) : ∀ k, df m m k = 0
  | 0 => rfl
  | k + 1 => by show df m m k + ne1 (m k) (m k) = 0; rw [df_self m k, ne1_self]
theorem df_comm (m n : nMap) : ∀ k, df m n k = df n m k
  | 0 => rfl
  | k + 1 => by show df m n k + ne1 (m k) (n k) = df n m k + ne1 (n k) (m k); rw [df_comm m n k, ne1_comm]
theorem df_le (m n : nMap) : ∀ k, df m n k ≤ k
  | 0 => Nat.le_refl _
  | k + 1 => by
    have h := df_le m n k
    have h2 : ne1 (m k) (n k) ≤ 1 := by unfold ne1; split <;> omega
    show df m n k + ne1 (m k) (n k) ≤ k + 1
    omega
theorem df_none {m n : nMap} (hn : ∀ k, n k = none) : ∀ k, df m n k = cnt m k
  | 0 => rfl
  | k + 1 => by
    show df m n k + ne1 (m k) (n k) = cnt m k + is1 (m k)
    rw [df_none hn k, hn k]
    cases m k <;> simp [ne1, is1]
theorem df_same {m mL mR n nL nR : nMap} {κ : Nat} {x y : Int32} (h : nodeOf m mL mR κ x) (g : nodeOf n nL nR κ y) : ∀ k, df m n k = df mL nL k + (if κ < k then (if x = y then 0 else 1) else 0) + df mR nR k
  | 0 => rfl
  | k + 1 => by
    have ih := df_same h g k
    obtain ⟨h1, h2, h3, h4, h5⟩ := h
    obtain ⟨g1, g2, g3, g4, g5⟩ := g
    show df m n k + ne1 (m k) (n k) = df mL nL k + ne1 (mL k) (nL k) + (if κ < k + 1 then (if x = y then 0 else 1) else 0) + (df mR nR k + ne1 (mR k) (nR k))
    rw [ih]
    rcases Nat.lt_trichotomy k κ with hk | hk | hk
    · rw [h1 k hk, g1 k hk, h5 k (by omega), g5 k (by omega), ne1_self, if_neg (by omega), if_neg (by omega)]
      omega
    · subst hk
      rw [h2, g2, h4 k (by omega), g4 k (by omega), h5 k (by omega), g5 k (by omega), ne1_self, if_neg (by omega), if_pos (by omega)]
      by_cases hxy : x = y
      · subst hxy; rw [ne1_self, if_pos rfl]; omega
      · rw [if_neg hxy]
        have : ne1 (some x) (some y) = 1 := if_neg (fun q => hxy (Option.some.inj q))
        rw [this]; omega
    · rw [h3 k hk, g3 k hk, h4 k (by omega), g4 k (by omega), ne1_self, if_pos (show κ < k from hk), if_pos (show κ < k + 1 by omega)]
      omega
/-- the higher key is in one map alone: the other is cut there -/
theorem df_cut {m mL mR n nL nR : nMap} {κ : Nat} {x : Int32} (h : nodeOf m mL mR κ x) (h0 : n κ = none) (hL : ∀ k, nL k = if k < κ then n k else none) (hR : ∀ k, nR k = if κ + 1 ≤ k then n k else none) : ∀ k, df m n k = df mL nL k + (if κ < k then 1 else 0) + df mR nR k
  | 0 => rfl
  | k + 1 => by
    have ih := df_cut h h0 hL hR k
    obtain ⟨h1, h2, h3, h4, h5⟩ := h
    show df m n k + ne1 (m k) (n k) = df mL nL k + ne1 (mL k) (nL k) + (if κ < k + 1 then 1 else 0) + (df mR nR k + ne1 (mR k) (nR k))
    rw [ih, hL k, hR k]
    rcases Nat.lt_trichotomy k κ with hk | hk | hk
    · rw [h1 k hk, h5 k (by omega), if_pos hk, if_neg (show ¬ κ + 1 ≤ k by omega), ne1_self, if_neg (by omega), if_neg (by omega)]
      omega
    · subst hk
      rw [h2, h4 k (by omega), h5 k (by omega), h0, if_neg (show ¬ k + 1 ≤ k by omega), if_pos (show k < k + 1 by omega)]
      have : ne1 (some x) none = 1 := if_neg (by intro q; cases q)
      simp only [Nat.lt_irrefl, if_false, ne1_self, this]
      omega
    · rw [h3 k hk, h4 k (by omega), if_neg (show ¬ k < κ by omega), if_pos (show κ + 1 ≤ k by omega), ne1_self, if_pos (by omega), if_pos (by omega)]
      omega
/-- what find answers -/
def fPost (v : tV) (M : nM) (n k : Nat) : Int32 → Prop := fun r => ∃ r', r = nI r' ∧ r' < vNod v ∧ ((r' = 0 ∧ M n k = none) ∨ (r' ≠ 0 ∧ vK v r' = k ∧ M n k = some (vV v r')))
theorem Inv.cntL {v : tV} {M : nM} (hI : Inv v M) {n : Nat} (hn : n < vNod v) (h0 : n ≠ 0) {k : Nat} (hk : vK v n ≤ k) : cnt (M (vL v n)) k = vS v (vL v n) := by
  have hO := hI.ok hn h0
  rw [(hI.2.2.2 _ (Nat.lt_trans hO.1 hn)).2.2.1, cnt_const hO.2.2.2.1.2.2.2.1 k hk, cnt_const hO.2.2.2.1.2.2.2.1 256 (by have := hO.2.2.1; omega)]
theorem Inv.smmL {v : tV} {M : nM} (hI : Inv v M) {n : Nat} (hn : n < vNod v) (h0 : n ≠ 0) {k : Nat} (hk : vK v n ≤ k) : smm (M (vL v n)) k = vT v (vL v n) := by
  have hO := hI.ok hn h0
  rw [(hI.2.2.2 _ (Nat.lt_trans hO.1 hn)).2.2.2, smm_const hO.2.2.2.1.2.2.2.1 k hk, smm_const hO.2.2.2.1.2.2.2.1 256 (by have := hO.2.2.1; omega)]
/-- pass: at a node whose key is below c -/
theorem pass_in {v : tV} {M : nM} (hI : Inv v M) {n : Nat} (hn : n < vNod v) (h0 : n ≠ 0) {k : Nat} (hk : vK v n < k) : cnt (M n) k = vS v (vL v n) + 1 + cnt (M (vR v n)) k ∧ smm (M n) k = vT v (vL v n) + (vV v n).toInt64 + smm (M (vR v n)) k := by
  have hN := (hI.ok hn h0).2.2.2.1
  exact ⟨by rw [cnt_node hN k, if_pos hk, hI.cntL hn h0 (Nat.le_of_lt hk)], by rw [smm_node hN k, if_pos hk, hI.smmL hn h0 (Nat.le_of_lt hk)]⟩
theorem pass_out {v : tV} {M : nM} (hI : Inv v M) {n : Nat} (hn : n < vNod v) (h0 : n ≠ 0) {k : Nat} (hk : k ≤ vK v n) : cnt (M n) k = cnt (M (vL v n)) k ∧ smm (M n) k = smm (M (vL v n)) k := by
  have hN := (hI.ok hn h0).2.2.2.1
  exact ⟨cnt_congr k (fun j hj => hN.1 j (by omega)), smm_congr k (fun j hj => hN.1 j (by omega))⟩
/-- only passed and passedSum may have turned -/
def sameT (v v' : tV) : Prop := ∃ x y, v' = wSum (wPas v x) y
end
section
set_option maxHeartbeats 4000000 in
set_option maxRecDepth 100000 in
/-- find(n, k) -/
theorem c_T_find (l : Launch) (G : gG) (a : tA) (v : tV) (M : nM) (n k : Nat) (hI : Inv v M) (hn : n < vNod v) (hk : k < 256) : Met l y_T_find (mw y_T_find b_T_find 4 (some .int)) (rmS 0 0) (tPc G a v [.int (nI n), .int (nI k)]) (rQi (fPost v M n k)) 0 0 (fun _ => False) := by
  refine m_ofW (own := R_T) rfl rfl (fun p e s m args below meth c S hr hlk hx hnm hv => ?_)
  obtain ⟨hargs, hP, hD, hK⟩ := hv
  refine m_entryA [.ref (aH a), .int (nI n), .int (nI k)] hargs (Nat.le_of_ble_eq_true rfl) (fun ls hl => ?_)
  have hl : lv_has ls 4 [(0, .ref (aH a)), (1, .int (nI n)), (2, .int (nI k))] := hl
  have h8 := hI.2.1
  have loop : ∀ q, q < vNod v → M q k = M n k → ∀ ls, lv_has ls 4 [(3, .int (nI q)), (0, .ref (aH a)), (1, .int (nI n)), (2, .int (nI k))] → W p l e (rmS 0 0) s m args below meth c s.heap [] 0 0 (MQ below (rQi (fPost v M n k)) args s 0 0 (fun _ => False)) (F0 m 2 ls []) := by
    intro q
    induction q using Nat.strongRecOn with
    | ind q ih =>
    intro hq hM ls hl
    refine lv_iload_n S.1 S.2.1 d_T_find_2 rfl (lv_at hl 0 rfl) ?_
    refine nz_eq S (by omega) d_T_find_3 rfl (fun q0 => ?_) (fun q0 => ?_)
    · refine lv_iload_n S.1 S.2.1 d_T_find_45 rfl (lv_at hl 0 rfl) ?_
      refine ri_ret S ⟨q, rfl, hq, Or.inl ⟨q0, ?_⟩⟩ hr hlk d_T_find_46
      rw [← hM, q0]; exact hI.2.2.1 k
    have hO := hI.ok hq q0
    have h1 := hO.1
    have h2 := hO.2.1
    have h3 := hO.2.2.1
    refine lv_aload_n S.1 S.2.1 d_T_find_6 rfl (lv_at hl 1 rfl) ?_
    refine t_gK S hK hP d_T_find_7 ?_
    refine lv_iload_n S.1 S.2.1 d_T_find_10 rfl (lv_at hl 0 rfl) ?_
    refine t_iK S hK hP (by omega) d_T_find_11 ?_
    refine lv_iload_n S.1 S.2.1 d_T_find_12 rfl (lv_at hl 3 rfl) ?_
    refine nb_eq S (by omega) (by omega) d_T_find_13 rfl (fun hc => ?_) (fun hc => ?_)
    · refine lv_iload_n S.1 S.2.1 d_T_find_45 rfl (lv_at hl 0 rfl) ?_
      refine ri_ret S ⟨q, rfl, hq, Or.inr ⟨q0, hc, ?_⟩⟩ hr hlk d_T_find_46
      rw [← hM, ← hc]; exact hO.2.2.2.1.2.1
    refine lv_iload_n S.1 S.2.1 d_T_find_16 rfl (lv_at hl 3 rfl) ?_
    refine lv_aload_n S.1 S.2.1 d_T_find_17 rfl (lv_at hl 1 rfl) ?_
    refine t_gK S hK hP d_T_find_18 ?_
    refine lv_iload_n S.1 S.2.1 d_T_find_21 rfl (lv_at hl 0 rfl) ?_
    refine t_iK S hK hP (by omega) d_T_find_22 ?_
    refine nb_ge S (by omega) (by omega) d_T_find_23 rfl (fun hc2 => ?_) (fun hc2 => ?_)
    · refine lv_aload_n S.1 S.2.1 d_T_find_35 rfl (lv_at hl 1 rfl) ?_
      refine t_gR S hK hP d_T_find_36 ?_
      refine lv_iload_n S.1 S.2.1 d_T_find_39 rfl (lv_at hl 0 rfl) ?_
      refine t_iR S hK hP (by omega) d_T_find_40 ?_
      refine lv_istore_n S.1 S.2.1 d_T_find_41 rfl hl (by decide) rfl (fun ls hl => ?_)
      refine lv_goto S.1 S.2.1 d_T_find_42 rfl ?_
      exact ih (vR v q) h2 (by omega) (by rw [← hM, hO.2.2.2.1.2.2.1 k (by omega)]) ls hl
    · refine lv_aload_n S.1 S.2.1 d_T_find_26 rfl (lv_at hl 1 rfl) ?_
      refine t_gL S hK hP d_T_find_27 ?_
      refine lv_iload_n S.1 S.2.1 d_T_find_30 rfl (lv_at hl 0 rfl) ?_
      refine t_iL S hK hP (by omega) d_T_find_31 ?_
      refine lv_goto S.1 S.2.1 d_T_find_32 rfl ?_
      refine lv_istore_n S.1 S.2.1 d_T_find_41 rfl hl (by decide) rfl (fun ls hl => ?_)
      refine lv_goto S.1 S.2.1 d_T_find_42 rfl ?_
      exact ih (vL v q) h1 (by omega) (by rw [← hM, hO.2.2.2.1.1 k hc2]) ls hl
  refine lv_iload_n S.1 S.2.1 d_T_find_0 rfl (lv_at hl 1 rfl) ?_
  refine lv_istore_n S.1 S.2.1 d_T_find_1 rfl hl (by decide) rfl (fun ls hl => ?_)
  exact loop n hn rfl ls hl
set_option maxHeartbeats 4000000 in
set_option maxRecDepth 100000 in
/-- digested(n, h) -/
theorem c_T_digested (l : Launch) (G : gG) (a : tA) (v : tV) (M : nM) (hI : Inv v M) (d : Nat) : ∀ (n : Nat) (h : Int64), n < vNod v → hB (M n) d → Met l y_T_digested (mw y_T_digested b_T_digested 4 (some .long)) (rmS (d + 1) (40 * (d + 1))) (tPc G a v [.int (nI n), .long h]) (rQj (fun r => r = dg (M n) h 256)) 0 0 (fun _ => False) := by
  induction d using Nat.strongRecOn with
  | ind d ih =>
  intro n h hn hd
  have h8 := hI.2.1
  refine m_ofW (own := R_T) rfl rfl (fun p e s m args below meth c S hr hlk hx hnm hv => ?_)
  obtain ⟨rfl, hP, hD, hK⟩ := hv
  refine m_entry [.ref (aH a), .int (nI n), .long h] (Nat.le_of_ble_eq_true rfl) (fun ls hl => ?_)
  have hl : lv_has ls 4 [(0, .ref (aH a)), (1, .int (nI n)), (2, .long h)] := hl
  refine lv_iload_n S.1 S.2.1 d_T_digested_0 rfl (lv_at hl 1 rfl) ?_
  refine nz_ne S (by omega) d_T_digested_1 rfl (fun h0 => ?_) (fun h0 => ?_)
  rotate_left
  · refine lv_lload_n S.1 S.2.1 d_T_digested_4 rfl (lv_at hl 2 rfl) ?_
    refine rj_ret S ?_ hr hlk d_T_digested_5
    subst h0
    exact (dg_none0 (a := 256) (fun k _ => hI.2.2.1 k) 256 (Nat.le_refl _)).symm
  have hO := hI.ok hn h0
  have hR0 := hd.root hO
  obtain ⟨d, rfl⟩ : ∃ d', d = d' + 1 := ⟨d - 1, by omega⟩
  have h1 := hO.1
  have h2 := hO.2.1
  have h3 := hO.2.2.1
  refine lv_aload_n S.1 S.2.1 d_T_digested_6 rfl (lv_at hl 0 rfl) ?_
  refine lv_aload_n S.1 S.2.1 d_T_digested_7 rfl (lv_at hl 0 rfl) ?_
  refine t_gR S hK hP d_T_digested_8 ?_
  refine lv_iload_n S.1 S.2.1 d_T_digested_11 rfl (lv_at hl 1 rfl) ?_
  refine t_iR S hK hP (by omega) d_T_digested_12 ?_
  refine lv_ldc2 S.1 S.2.1 S.2.2.2.1 (S.2.2.2.2 _ wq_T_102) d_T_digested_13 ?_
  refine lv_ldc2 S.1 S.2.1 S.2.2.2.1 (S.2.2.2.2 _ wq_T_102) d_T_digested_16 ?_
  refine lv_aload_n S.1 S.2.1 d_T_digested_19 rfl (lv_at hl 0 rfl) ?_
  refine lv_aload_n S.1 S.2.1 d_T_digested_20 rfl (lv_at hl 0 rfl) ?_
  refine t_gL S hK hP d_T_digested_21 ?_
  refine lv_iload_n S.1 S.2.1 d_T_digested_24 rfl (lv_at hl 1 rfl) ?_
  refine t_iL S hK hP (by omega) d_T_digested_25 ?_
  refine lv_lload_n S.1 S.2.1 d_T_digested_26 rfl (lv_at hl 2 rfl) ?_
  refine r_callj (r_run S (t_pre hK hP hD) k_T_digested wi_T_digested wv_T_T_digested wL_T_104 (ih d (Nat.lt_succ_self d) (vL v n) h (by omega) (hd.L hO)) (rm_ok (by omega) (by omega)) rfl hl.1 rfl (Nat.le_of_ble_eq_true rfl) d_T_digested_27 ⟨Nat.le_refl _, Nat.le_refl _⟩) (fun r hp => ?_)
  subst hp
  refine lv_lmul S.1 S.2.1 d_T_digested_30 ?_
  refine lv_aload_n S.1 S.2.1 d_T_digested_31 rfl (lv_at hl 0 rfl) ?_
  refine t_gK S hK hP d_T_digested_32 ?_
  refine lv_iload_n S.1 S.2.1 d_T_digested_35 rfl (lv_at hl 1 rfl) ?_
  refine t_iK S hK hP (by omega) d_T_digested_36 ?_
  refine lv_i2l S.1 S.2.1 d_T_digested_37 rfl ?_
  refine lv_ladd S.1 S.2.1 d_T_digested_38 ?_
  refine lv_lmul S.1 S.2.1 d_T_digested_39 ?_
  refine lv_aload_n S.1 S.2.1 d_T_digested_40 rfl (lv_at hl 0 rfl) ?_
  refine t_gV S hK hP d_T_digested_41 ?_
  refine lv_iload_n S.1 S.2.1 d_T_digested_44 rfl (lv_at hl 1 rfl) ?_
  refine t_iV S hK hP (by omega) d_T_digested_45 ?_
  refine lv_i2l S.1 S.2.1 d_T_digested_46 rfl ?_
  refine lv_ladd S.1 S.2.1 d_T_digested_47 ?_
  refine r_callj (r_run S (t_pre hK hP hD) k_T_digested wi_T_digested wv_T_T_digested wL_T_104 (ih d (Nat.lt_succ_self d) (vR v n) _ (by omega) (hd.R hO)) (rm_ok (by omega) (by omega)) rfl hl.1 rfl (Nat.le_of_ble_eq_true rfl) d_T_digested_48 ⟨Nat.le_refl _, Nat.le_refl _⟩) (fun r hp => ?_)
  subst hp
  exact rj_ret S (dg_node hO.2.2.2.1 h3).symm hr hlk d_T_digested_51
set_option maxHeartbeats 4000000 in
set_option maxRecDepth 100000 in
/-- pass(n, y) -/
theorem c_T_pass (l : Launch) (G : gG) (a : tA) (v : tV) (M : nM) (n : Nat) (y : Int32) (hI : Inv v M) (hn : n < vNod v) : Met l y_T_pass (mw y_T_pass b_T_pass 4 none) (rmS 0 0) (tPc G a v [.int (nI n), .int y]) (va_Qv (fun v' => v' = wSum (wPas v (cnt (M n) y.toNatClampNeg)) (smm (M n) y.toNatClampNeg)) (fun v' t => tP G a v' t.heap) (inA a)) 0 0 (inA a) := by
  refine m_ofW (own := R_T) rfl rfl (fun p e s m args below meth c S hr hlk hx hnm hv => ?_)
  obtain ⟨hargs, hP, hD, hK⟩ := hv
  have hw := tS.start hP hD
  refine m_entryA [.ref (aH a), .int (nI n), .int y] hargs (Nat.le_of_ble_eq_true rfl) (fun ls hl => ?_)
  have hl : lv_has ls 4 [(0, .ref (aH a)), (1, .int (nI n)), (2, .int y)] := hl
  have h8 := hI.2.1
  have loop : ∀ q P Z, q < vNod v → P + cnt (M q) y.toNatClampNeg = cnt (M n) y.toNatClampNeg → Z + smm (M q) y.toNatClampNeg = smm (M n) y.toNatClampNeg → ∀ ls H locs, tS G a (inA a) s.heap (wSum (wPas v P) Z) H locs → lv_has ls 4 [(3, .int (nI q)), (0, .ref (aH a)), (1, .int (nI n)), (2, .int y)] → W p l e (rmS 0 0) s m args below meth c H locs 0 0 (MQ below (va_Qv (fun v' => v' = wSum (wPas v (cnt (M n) y.toNatClampNeg)) (smm (M n) y.toNatClampNeg)) (fun v' t => tP G a v' t.heap) (inA a)) args s 0 0 (inA a)) (F0 m 12 ls []) := by
    intro q
    induction q using Nat.strongRecOn with
    | ind q ih =>
    intro P Z hq hPc hZ ls H locs hw hl
    refine lv_iload_n S.1 S.2.1 d_T_pass_12 rfl (lv_at hl 0 rfl) ?_
    refine nz_eq S (by omega) d_T_pass_13 rfl (fun q0 => ?_) (fun q0 => ?_)
    · subst q0
      rw [cnt_none (a := y.toNatClampNeg) (fun k _ => hI.2.2.1 k) _ (Nat.le_refl _), Nat.add_zero] at hPc
      rw [smm_none (a := y.toNatClampNeg) (fun k _ => hI.2.2.1 k) _ (Nat.le_refl _), Int64.add_zero] at hZ
      subst hPc
      subst hZ
      exact t_vret S hw rfl hr hlk d_T_pass_96
    have hO := hI.ok hq q0
    have h1 := hO.1
    have h2 := hO.2.1
    have h3 := hO.2.2.1
    refine lv_aload_n S.1 S.2.1 d_T_pass_16 rfl (lv_at hl 1 rfl) ?_
    refine t_gK S hK hw.1 d_T_pass_17 ?_
    refine lv_iload_n S.1 S.2.1 d_T_pass_20 rfl (lv_at hl 0 rfl) ?_
    refine t_iK S hK hw.1 (show q < 80000 by omega) d_T_pass_21 ?_
    refine lv_iload_n S.1 S.2.1 d_T_pass_22 rfl (lv_at hl 3 rfl) ?_
    refine lv_icmp_ge S.1 S.2.1 d_T_pass_23 rfl (fun hc => ?_) (fun hc => ?_)
    · have hc : y.toNatClampNeg ≤ vK v q := Nat.le_of_not_lt (fun z => absurd ((clamp_lt h3 y).mpr z) (k2_nlt hc))
      obtain ⟨g1, g2⟩ := pass_out hI hq q0 hc
      refine lv_aload_n S.1 S.2.1 d_T_pass_86 rfl (lv_at hl 1 rfl) ?_
      refine t_gL S hK hw.1 d_T_pass_87 ?_
      refine lv_iload_n S.1 S.2.1 d_T_pass_90 rfl (lv_at hl 0 rfl) ?_
      refine t_iL S hK hw.1 (show q < 80000 by omega) d_T_pass_91 ?_
      refine lv_istore_n S.1 S.2.1 d_T_pass_92 rfl hl (by decide) rfl (fun ls hl => ?_)
      refine lv_goto S.1 S.2.1 d_T_pass_93 rfl ?_
      exact ih (vL v q) h1 P Z (by omega) (by rw [← hPc, g1]) (by rw [← hZ, g2]) ls H locs hw hl
    have hc : vK v q < y.toNatClampNeg := (clamp_lt h3 y).mp (k2_lt hc)
    obtain ⟨g1, g2⟩ := pass_in hI hq q0 hc
    refine lv_aload_n S.1 S.2.1 d_T_pass_26 rfl (lv_at hl 1 rfl) ?_
    refine lv_dup S.1 S.2.1 d_T_pass_27 rfl ?_
    refine t_gPas S hK hw.1 d_T_pass_28 ?_
    refine lv_aload_n S.1 S.2.1 d_T_pass_31 rfl (lv_at hl 1 rfl) ?_
    refine t_gS S hK hw.1 d_T_pass_32 ?_
    refine lv_aload_n S.1 S.2.1 d_T_pass_35 rfl (lv_at hl 1 rfl) ?_
    refine t_gL S hK hw.1 d_T_pass_36 ?_
    refine lv_iload_n S.1 S.2.1 d_T_pass_39 rfl (lv_at hl 0 rfl) ?_
    refine t_iL S hK hw.1 (show q < 80000 by omega) d_T_pass_40 ?_
    refine t_iS S hK hw.1 (show vL v q < 80000 by omega) d_T_pass_41 ?_
    refine lv_iconst (v := nI 1) S.1 S.2.1 d_T_pass_42 (by decide) ?_
    refine n_iadd S d_T_pass_43 ?_
    refine n_iadd S d_T_pass_44 ?_
    refine t_pPas S hK hw d_T_pass_45 (fun H locs hw => ?_)
    refine lv_aload_n S.1 S.2.1 d_T_pass_48 rfl (lv_at hl 1 rfl) ?_
    refine lv_dup S.1 S.2.1 d_T_pass_49 rfl ?_
    refine t_gSum S hK hw.1 d_T_pass_50 ?_
    refine lv_aload_n S.1 S.2.1 d_T_pass_53 rfl (lv_at hl 1 rfl) ?_
    refine t_gT S hK hw.1 d_T_pass_54 ?_
    refine lv_aload_n S.1 S.2.1 d_T_pass_57 rfl (lv_at hl 1 rfl) ?_
    refine t_gL S hK hw.1 d_T_pass_58 ?_
    refine lv_iload_n S.1 S.2.1 d_T_pass_61 rfl (lv_at hl 0 rfl) ?_
    refine t_iL S hK hw.1 (show q < 80000 by omega) d_T_pass_62 ?_
    refine t_iT S hK hw.1 (show vL v q < 80000 by omega) d_T_pass_63 ?_
    refine lv_aload_n S.1 S.2.1 d_T_pass_64 rfl (lv_at hl 1 rfl) ?_
    refine t_gV S hK hw.1 d_T_pass_65 ?_
    refine lv_iload_n S.1 S.2.1 d_T_pass_68 rfl (lv_at hl 0 rfl) ?_
    refine t_iV S hK hw.1 (show q < 80000 by omega) d_T_pass_69 ?_
    refine lv_i2l S.1 S.2.1 d_T_pass_70 rfl ?_
    refine lv_ladd S.1 S.2.1 d_T_pass_71 ?_
    refine lv_ladd S.1 S.2.1 d_T_pass_72 ?_
    refine t_pSum S hK hw d_T_pass_73 (fun H locs hw => ?_)
    refine lv_aload_n S.1 S.2.1 d_T_pass_76 rfl (lv_at hl 1 rfl) ?_
    refine t_gR S hK hw.1 d_T_pass_77 ?_
    refine lv_iload_n S.1 S.2.1 d_T_pass_80 rfl (lv_at hl 0 rfl) ?_
    refine t_iR S hK hw.1 (show q < 80000 by omega) d_T_pass_81 ?_
    refine lv_istore_n S.1 S.2.1 d_T_pass_82 rfl hl (by decide) rfl (fun ls hl => ?_)
    refine lv_goto S.1 S.2.1 d_T_pass_83 rfl ?_
    refine ih (vR v q) h2 _ _ (by omega) ?_ ?_ ls H locs hw hl
    · rw [← hPc, g1]
      show P + (vS v (vL v q) + 1) + _ = _
      omega
    · rw [← hZ, g2]
      show Z + (vT v (vL v q) + (vV v q).toInt64) + _ = _
      ac_rfl
  refine lv_aload_n S.1 S.2.1 d_T_pass_0 rfl (lv_at hl 0 rfl) ?_
  refine lv_iconst (v := nI 0) S.1 S.2.1 d_T_pass_1 (by decide) ?_
  refine t_pPas S hK hw d_T_pass_2 (fun H locs hw => ?_)
  refine lv_aload_n S.1 S.2.1 d_T_pass_5 rfl (lv_at hl 0 rfl) ?_
  refine lv_lconst (v := 0) S.1 S.2.1 d_T_pass_6 (by decide) ?_
  refine t_pSum S hK hw d_T_pass_7 (fun H locs hw => ?_)
  refine lv_iload_n S.1 S.2.1 d_T_pass_10 rfl (lv_at hl 1 rfl) ?_
  refine lv_istore_n S.1 S.2.1 d_T_pass_11 rfl hl (by decide) rfl (fun ls hl => ?_)
  exact loop n 0 0 hn (Nat.zero_add _) (Int64.zero_add _) ls H locs hw hl
set_option maxHeartbeats 4000000 in
set_option maxRecDepth 100000 in
/-- check(): nothing is wrong -/
theorem c_T_check (l : Launch) (G : gG) (a : tA) (v : tV) (M : nM) (hI : Inv v M) : Met l y_T_check (mw y_T_check b_T_check 5 (some .int)) (rmS 1 40) (tPc G a v []) (rQi (fun r => r = nI 0)) 0 0 (fun _ => False) := by
  refine m_ofW (own := R_T) rfl rfl (fun p e s m args below meth c S hr hlk hx hnm hv => ?_)
  obtain ⟨hargs, hP, hD, hK⟩ := hv
  refine m_entryA [.ref (aH a)] hargs (Nat.le_of_ble_eq_true rfl) (fun ls hl => ?_)
  have hl : lv_has ls 5 [(0, .ref (aH a))] := hl
  have h8 := hI.2.1
  have loop : ∀ z q, vNod v - q = z → 1 ≤ q → ∀ ls, lv_has ls 5 [(2, .int (nI q)), (1, .int (nI 0)), (0, .ref (aH a))] → q ≤ vNod v → W p l e (rmS 1 40) s m args below meth c s.heap [] 0 0 (MQ below (rQi (fun r => r = nI 0)) args s 0 0 (fun _ => False)) (F0 m 4 ls []) := by
    intro z
    induction z with
    | zero =>
      intro q hz h1 ls hl hq
      refine lv_iload_n S.1 S.2.1 d_T_check_4 rfl (lv_at hl 0 rfl) ?_
      refine lv_aload_n S.1 S.2.1 d_T_check_5 rfl (lv_at hl 2 rfl) ?_
      refine t_gNod S hK hP d_T_check_6 ?_
      refine nb_ge S (by omega) (by omega) d_T_check_9 rfl (fun hc => ?_) (fun hc => absurd hc (by omega))
      refine lv_iload_n S.1 S.2.1 d_T_check_182 rfl (lv_at hl 1 rfl) ?_
      exact ri_ret S rfl hr hlk d_T_check_183
    | succ z ih =>
    intro q hz h1 ls hl hq
    refine lv_iload_n S.1 S.2.1 d_T_check_4 rfl (lv_at hl 0 rfl) ?_
    refine lv_aload_n S.1 S.2.1 d_T_check_5 rfl (lv_at hl 2 rfl) ?_
    refine t_gNod S hK hP d_T_check_6 ?_
    refine nb_ge S (by omega) (by omega) d_T_check_9 rfl (fun hc => absurd hc (by omega)) (fun hc => ?_)
    have hO := hI.ok hc (by omega)
    have g1 := hO.1
    have g2 := hO.2.1
    have g3 := hO.2.2.1
    have b1 := hI.size hc
    have b2 := hI.size (n := vL v q) (by omega)
    have b3 := hI.size (n := vR v q) (by omega)
    have hSz : vS v q = vS v (vL v q) + vS v (vR v q) + 1 := by
      rw [(hI.2.2.2 q hc).2.2.1, (hI.2.2.2 (vL v q) (by omega)).2.2.1, (hI.2.2.2 (vR v q) (by omega)).2.2.1, cnt_node hO.2.2.2.1 256, if_pos g3]
      omega
    have hTz : vT v q = vT v (vL v q) + vT v (vR v q) + (vV v q).toInt64 := by
      rw [(hI.2.2.2 q hc).2.2.2, (hI.2.2.2 (vL v q) (by omega)).2.2.2, (hI.2.2.2 (vR v q) (by omega)).2.2.2, smm_node hO.2.2.2.1 256, if_pos g3]
      ac_rfl
    refine lv_aload_n S.1 S.2.1 d_T_check_12 rfl (lv_at hl 2 rfl) ?_
    refine t_gL S hK hP d_T_check_13 ?_
    refine lv_iload_n S.1 S.2.1 d_T_check_16 rfl (lv_at hl 0 rfl) ?_
    refine t_iL S hK hP (by omega) d_T_check_17 ?_
    refine lv_istore_n S.1 S.2.1 d_T_check_18 rfl hl (by decide) rfl (fun ls hl => ?_)
    refine lv_aload_n S.1 S.2.1 d_T_check_19 rfl (lv_at hl 3 rfl) ?_
    refine t_gR S hK hP d_T_check_20 ?_
    refine lv_iload_n S.1 S.2.1 d_T_check_23 rfl (lv_at hl 1 rfl) ?_
    refine t_iR S hK hP (by omega) d_T_check_24 ?_
    refine lv_istore S.1 S.2.1 d_T_check_25 hl (by decide) rfl (fun ls hl => ?_)
    refine lv_aload_n S.1 S.2.1 d_T_check_27 rfl (lv_at hl 4 rfl) ?_
    refine t_gS S hK hP d_T_check_28 ?_
    refine lv_iload_n S.1 S.2.1 d_T_check_31 rfl (lv_at hl 2 rfl) ?_
    refine t_iS S hK hP (by omega) d_T_check_32 ?_
    refine lv_aload_n S.1 S.2.1 d_T_check_33 rfl (lv_at hl 4 rfl) ?_
    refine t_gS S hK hP d_T_check_34 ?_
    refine lv_iload_n S.1 S.2.1 d_T_check_37 rfl (lv_at hl 1 rfl) ?_
    refine t_iS S hK hP (by omega) d_T_check_38 ?_
    refine lv_aload_n S.1 S.2.1 d_T_check_39 rfl (lv_at hl 4 rfl) ?_
    refine t_gS S hK hP d_T_check_40 ?_
    refine lv_iload S.1 S.2.1 d_T_check_43 (lv_at hl 0 rfl) ?_
    refine t_iS S hK hP (by omega) d_T_check_45 ?_
    refine n_iadd S d_T_check_46 ?_
    refine lv_iconst (v := nI 1) S.1 S.2.1 d_T_check_47 (by decide) ?_
    refine n_iadd S d_T_check_48 ?_
    have k176 : W p l e (rmS 1 40) s m args below meth c s.heap [] 0 0 (MQ below (rQi (fun r => r = nI 0)) args s 0 0 (fun _ => False)) (F0 m 176 ls []) := by
      refine lv_iinc (k := 2) (v := nI (q + 1)) S.1 S.2.1 d_T_check_176 hl rfl (by rw [lit1]; exact nI_1 q) (by decide) rfl (fun ls hl => ?_)
      refine lv_goto S.1 S.2.1 d_T_check_179 rfl ?_
      exact ih (q + 1) (by omega) (by omega) ls (lv_sub hl [0, 3, 4] rfl) (by omega)
    have k130 : W p l e (rmS 1 40) s m args below meth c s.heap [] 0 0 (MQ below (rQi (fun r => r = nI 0)) args s 0 0 (fun _ => False)) (F0 m 130 ls []) := by
      refine lv_iload S.1 S.2.1 d_T_check_130 (lv_at hl 0 rfl) ?_
      refine nz_eq S (by omega) d_T_check_132 rfl (fun _ => k176) (fun r0 => ?_)
      have hOr := hI.ok (n := vR v q) (by omega) r0
      have i1 := (hO.inR hOr.2.2.2.1.2.1).1
      have i2 := hO.2.2.2.2.2 _ _ hOr.2.2.2.1.2.1
      have i3 := hOr.2.2.1
      have j1 := ht_lt (vK v q)
      have j2 := ht_lt (vK v (vR v q))
      refine lv_aload_n S.1 S.2.1 d_T_check_135 rfl (lv_at hl 4 rfl) ?_
      refine t_gK S hK hP d_T_check_136 ?_
      refine lv_iload S.1 S.2.1 d_T_check_139 (lv_at hl 0 rfl) ?_
      refine t_iK S hK hP (by omega) d_T_check_141 ?_
      refine lv_aload_n S.1 S.2.1 d_T_check_142 rfl (lv_at hl 4 rfl) ?_
      refine t_gK S hK hP d_T_check_143 ?_
      refine lv_iload_n S.1 S.2.1 d_T_check_146 rfl (lv_at hl 2 rfl) ?_
      refine t_iK S hK hP (by omega) d_T_check_147 ?_
      refine nb_le S (by omega) (by omega) d_T_check_148 rfl (fun hc => absurd hc (by omega)) (fun _ => ?_)
      refine lv_aload_n S.1 S.2.1 d_T_check_151 rfl (lv_at hl 4 rfl) ?_
      refine t_gK S hK hP d_T_check_152 ?_
      refine lv_iload S.1 S.2.1 d_T_check_155 (lv_at hl 0 rfl) ?_
      refine t_iK S hK hP (by omega) d_T_check_157 ?_
      refine r_calli (r_runS S preEq k_T_height ws_T_height wL_T_62 (c_T_height l (vK v (vR v q)) (by omega)) (rm_ok (by omega) (by omega)) rfl hl.1 rfl (Nat.le_of_ble_eq_true rfl) d_T_check_158 ⟨Nat.le_refl _, Nat.le_refl _⟩) (fun r hp => ?_)
      subst hp
      refine lv_aload_n S.1 S.2.1 d_T_check_161 rfl (lv_at hl 4 rfl) ?_
      refine t_gK S hK hP d_T_check_162 ?_
      refine lv_iload_n S.1 S.2.1 d_T_check_165 rfl (lv_at hl 2 rfl) ?_
      refine t_iK S hK hP (by omega) d_T_check_166 ?_
      refine r_calli (r_runS S preEq k_T_height ws_T_height wL_T_62 (c_T_height l (vK v q) (by omega)) (rm_ok (by omega) (by omega)) rfl hl.1 rfl (Nat.le_of_ble_eq_true rfl) d_T_check_167 ⟨Nat.le_refl _, Nat.le_refl _⟩) (fun r hp => ?_)
      subst hp
      refine nb_le S (by omega) (by omega) d_T_check_170 rfl (fun _ => k176) (fun hc => absurd hc (by omega))
    refine nb_ne S (by omega) (by omega) d_T_check_49 rfl (fun hc => absurd hSz (by omega)) (fun _ => ?_)
    refine lv_aload_n S.1 S.2.1 d_T_check_52 rfl (lv_at hl 4 rfl) ?_
    refine t_gT S hK hP d_T_check_53 ?_
    refine lv_iload_n S.1 S.2.1 d_T_check_56 rfl (lv_at hl 2 rfl) ?_
    refine t_iT S hK hP (by omega) d_T_check_57 ?_
    refine lv_aload_n S.1 S.2.1 d_T_check_58 rfl (lv_at hl 4 rfl) ?_
    refine t_gT S hK hP d_T_check_59 ?_
    refine lv_iload_n S.1 S.2.1 d_T_check_62 rfl (lv_at hl 1 rfl) ?_
    refine t_iT S hK hP (by omega) d_T_check_63 ?_
    refine lv_aload_n S.1 S.2.1 d_T_check_64 rfl (lv_at hl 4 rfl) ?_
    refine t_gT S hK hP d_T_check_65 ?_
    refine lv_iload S.1 S.2.1 d_T_check_68 (lv_at hl 0 rfl) ?_
    refine t_iT S hK hP (by omega) d_T_check_70 ?_
    refine lv_ladd S.1 S.2.1 d_T_check_71 ?_
    refine lv_aload_n S.1 S.2.1 d_T_check_72 rfl (lv_at hl 4 rfl) ?_
    refine t_gV S hK hP d_T_check_73 ?_
    refine lv_iload_n S.1 S.2.1 d_T_check_76 rfl (lv_at hl 2 rfl) ?_
    refine t_iV S hK hP (by omega) d_T_check_77 ?_
    refine lv_i2l S.1 S.2.1 d_T_check_78 rfl ?_
    refine lv_ladd S.1 S.2.1 d_T_check_79 ?_
    refine W.lcmp S.1 S.2.1 d_T_check_80 ?_
    refine lv_if_eq S.1 S.2.1 d_T_check_81 rfl (fun _ => ?_) (fun hc => absurd ((lg_cmp_eq _ _).mpr hTz) hc)
    refine lv_iload_n S.1 S.2.1 d_T_check_87 rfl (lv_at hl 1 rfl) ?_
    refine nz_eq S (by omega) d_T_check_88 rfl (fun _ => k130) (fun l0 => ?_)
    have hOl := hI.ok (n := vL v q) (by omega) l0
    have i1 := (hO.inL hOl.2.2.2.1.2.1).1
    have i2 := hO.2.2.2.2.1 _ _ hOl.2.2.2.1.2.1
    have i3 := hOl.2.2.1
    have j1 := ht_lt (vK v q)
    have j2 := ht_lt (vK v (vL v q))
    refine lv_aload_n S.1 S.2.1 d_T_check_91 rfl (lv_at hl 4 rfl) ?_
    refine t_gK S hK hP d_T_check_92 ?_
    refine lv_iload_n S.1 S.2.1 d_T_check_95 rfl (lv_at hl 1 rfl) ?_
    refine t_iK S hK hP (by omega) d_T_check_96 ?_
    refine lv_aload_n S.1 S.2.1 d_T_check_97 rfl (lv_at hl 4 rfl) ?_
    refine t_gK S hK hP d_T_check_98 ?_
    refine lv_iload_n S.1 S.2.1 d_T_check_101 rfl (lv_at hl 2 rfl) ?_
    refine t_iK S hK hP (by omega) d_T_check_102 ?_
    refine nb_ge S (by omega) (by omega) d_T_check_103 rfl (fun hc => absurd hc (by omega)) (fun _ => ?_)
    refine lv_aload_n S.1 S.2.1 d_T_check_106 rfl (lv_at hl 4 rfl) ?_
    refine t_gK S hK hP d_T_check_107 ?_
    refine lv_iload_n S.1 S.2.1 d_T_check_110 rfl (lv_at hl 1 rfl) ?_
    refine t_iK S hK hP (by omega) d_T_check_111 ?_
    refine r_calli (r_runS S preEq k_T_height ws_T_height wL_T_62 (c_T_height l (vK v (vL v q)) (by omega)) (rm_ok (by omega) (by omega)) rfl hl.1 rfl (Nat.le_of_ble_eq_true rfl) d_T_check_112 ⟨Nat.le_refl _, Nat.le_refl _⟩) (fun r hp => ?_)
    subst hp
    refine lv_aload_n S.1 S.2.1 d_T_check_115 rfl (lv_at hl 4 rfl) ?_
    refine t_gK S hK hP d_T_check_116 ?_
    refine lv_iload_n S.1 S.2.1 d_T_check_119 rfl (lv_at hl 2 rfl) ?_
    refine t_iK S hK hP (by omega) d_T_check_120 ?_
    refine r_calli (r_runS S preEq k_T_height ws_T_height wL_T_62 (c_T_height l (vK v q) (by omega)) (rm_ok (by omega) (by omega)) rfl hl.1 rfl (Nat.le_of_ble_eq_true rfl) d_T_check_121 ⟨Nat.le_refl _, Nat.le_refl _⟩) (fun r hp => ?_)
    subst hp
    refine nb_le S (by omega) (by omega) d_T_check_124 rfl (fun _ => k130) (fun hc => absurd hc (by omega))
  refine lv_iconst (v := nI 0) S.1 S.2.1 d_T_check_0 (by decide) ?_
  refine lv_istore_n S.1 S.2.1 d_T_check_1 rfl hl (by decide) rfl (fun ls hl => ?_)
  refine lv_iconst (v := nI 1) S.1 S.2.1 d_T_check_2 (by decide) ?_
  refine lv_istore_n S.1 S.2.1 d_T_check_3 rfl hl (by decide) rfl (fun ls hl => ?_)
  exact loop _ 1 rfl (Nat.le_refl _) ls hl hI.1
end
section
/-- what others answers: the number x; the tree's nodes as they were -/
def oPost (v : tV) (M : nM) (x : Nat) : Int32 → tV → Prop := fun r v' => r = nI x ∧ vNod v' = vNod v ∧ Inv v' M ∧ Ext v M v' M
theorem Inv.cut {v v' : tV} {M M' : nM} (h : Inv v M) (hE : Ext v M v' M') : Inv (wNod v' (vNod v)) M ∧ Ext v M (wNod v' (vNod v)) M := by
  obtain ⟨a1, a2, a3, a4⟩ := h
  refine ⟨⟨a1, a2, a3, fun n hn => ?_⟩, Nat.le_refl _, hE.2.1, hE.2.2.1, fun j hj => ⟨rfl, (hE.2.2.2 j hj).2⟩⟩
  have hn : n < vNod v := hn
  obtain ⟨b1, b2, b3, b4⟩ := a4 n hn
  obtain ⟨e0, e1, e2, e3, e4, e5, e6⟩ := hE.2.2.2 n hn
  refine ⟨fun h0 => ?_, b2, e5.trans b3, e6.trans b4⟩
  have hb := b1 h0
  show vL v' n < n ∧ vR v' n < n ∧ vK v' n < 256 ∧ nodeOf (M n) (M (vL v' n)) (M (vR v' n)) (vK v' n) (vV v' n) ∧ (∀ k x, M (vL v' n) k = some x → ht k < ht (vK v' n)) ∧ (∀ k x, M (vR v' n) k = some x → ht k < ht (vK v' n))
  rw [e1, e2, e3, e4]
  exact hb

set_option maxHeartbeats 4000000 in
set_option maxRecDepth 100000 in
/-- others(a, b): in how many keys they differ -/
theorem c_T_others (l : Launch) (G : gG) (a : tA) (d : Nat) : ∀ (v : tV) (M : nM) (i j : Nat), Inv v M → i < vNod v → j < vNod v → hB (M i) d → hB (M j) d → vNod v + d * 42 ≤ 80000 → Met l y_T_others (mw y_T_others b_T_others 7 (some .int)) (rmS (d + 258) (60 * d + 40 * 258)) (tPc G a v [.int (nI i), .int (nI j)]) (va_Qi (oPost v M (df (M i) (M j) 256)) (fun v' t => tP G a v' t.heap) (inA a)) 0 0 (inA a) := by
  induction d using Nat.strongRecOn with
  | ind d ih =>
  intro v M i j hI hi hj hdi hdj hroom
  have h8 := hI.2.1
  refine m_ofW (own := R_T) rfl rfl (fun p e s m args below meth c S hr hlk hx hnm hv => ?_)
  obtain ⟨hargs, hP, hD, hK⟩ := hv
  have hw := tS.start hP hD
  refine m_entryA [.ref (aH a), .int (nI i), .int (nI j)] hargs (Nat.le_of_ble_eq_true rfl) (fun ls hl => ?_)
  have hl : lv_has ls 7 [(0, .ref (aH a)), (1, .int (nI i)), (2, .int (nI j))] := hl
  refine lv_iload_n S.1 S.2.1 d_T_others_0 rfl (lv_at hl 1 rfl) ?_
  refine lv_iload_n S.1 S.2.1 d_T_others_1 rfl (lv_at hl 2 rfl) ?_
  refine nb_ne S (by omega) (by omega) d_T_others_2 rfl (fun hij => ?_) (fun hij => ?_)
  rotate_left
  · refine lv_iconst (v := nI 0) S.1 S.2.1 d_T_others_5 (by decide) ?_
    subst hij
    refine t_iret S hw ⟨?_, rfl, hI, Ext.rf⟩ hr hlk d_T_others_6
    rw [df_self]
  have k15 : (i = 0 ∨ (i ≠ 0 ∧ j = 0)) → W p l e (rmS (d + 258) (60 * d + 40 * 258)) s m args below meth c s.heap [] 0 0 (MQ below (va_Qi (oPost v M (df (M i) (M j) 256)) (fun v' t => tP G a v' t.heap) (inA a)) args s 0 0 (inA a)) (F0 m 15 ls []) := by
    intro hz
    refine lv_aload_n S.1 S.2.1 d_T_others_15 rfl (lv_at hl 0 rfl) ?_
    refine t_gS S hK hw.1 d_T_others_16 ?_
    refine lv_iload_n S.1 S.2.1 d_T_others_19 rfl (lv_at hl 1 rfl) ?_
    refine nz_ne S (by omega) d_T_others_20 rfl (fun i0 => ?_) (fun i0 => ?_)
    · have j0 : j = 0 := by omega
      refine lv_iload_n S.1 S.2.1 d_T_others_27 rfl (lv_at hl 1 rfl) ?_
      refine t_iS S hK hw.1 (by omega) d_T_others_28 ?_
      refine t_iret S hw ⟨?_, rfl, hI, Ext.rf⟩ hr hlk d_T_others_29
      subst j0
      rw [df_none (fun k => hI.2.2.1 k), (hI.2.2.2 i hi).2.2.1]
    · refine lv_iload_n S.1 S.2.1 d_T_others_23 rfl (lv_at hl 2 rfl) ?_
      refine lv_goto S.1 S.2.1 d_T_others_24 rfl ?_
      refine t_iS S hK hw.1 (by omega) d_T_others_28 ?_
      refine t_iret S hw ⟨?_, rfl, hI, Ext.rf⟩ hr hlk d_T_others_29
      subst i0
      rw [df_comm, df_none (fun k => hI.2.2.1 k), (hI.2.2.2 j hj).2.2.1]
  refine lv_iload_n S.1 S.2.1 d_T_others_7 rfl (lv_at hl 1 rfl) ?_
  refine nz_eq S (by omega) d_T_others_8 rfl (fun i0 => k15 (Or.inl i0)) (fun i0 => ?_)
  refine lv_iload_n S.1 S.2.1 d_T_others_11 rfl (lv_at hl 2 rfl) ?_
  refine nz_ne S (by omega) d_T_others_12 rfl (fun j0 => ?_) (fun j0 => k15 (Or.inr ⟨i0, j0⟩))
  clear k15
  have hOi := hI.ok hi i0
  have hOj := hI.ok hj j0
  have hRi := hdi.root hOi
  have hRj := hdj.root hOj
  obtain ⟨d, rfl⟩ : ∃ d', d = d' + 1 := ⟨d - 1, by omega⟩
  have hroom : vNod v + (d * 42 + 42) ≤ 80000 := by rw [Nat.succ_mul] at hroom; exact hroom
  have a1 := hOi.1
  have a2 := hOi.2.1
  have a3 := hOi.2.2.1
  have b1 := hOj.1
  have b2 := hOj.2.1
  have b3 := hOj.2.2.1
  refine lv_aload_n S.1 S.2.1 d_T_others_30 rfl (lv_at hl 0 rfl) ?_
  refine t_gK S hK hw.1 d_T_others_31 ?_
  refine lv_iload_n S.1 S.2.1 d_T_others_34 rfl (lv_at hl 1 rfl) ?_
  refine t_iK S hK hw.1 (by omega) d_T_others_35 ?_
  refine lv_aload_n S.1 S.2.1 d_T_others_36 rfl (lv_at hl 0 rfl) ?_
  refine t_gK S hK hw.1 d_T_others_37 ?_
  refine lv_iload_n S.1 S.2.1 d_T_others_40 rfl (lv_at hl 2 rfl) ?_
  refine t_iK S hK hw.1 (by omega) d_T_others_41 ?_
  refine nb_ne S (by omega) (by omega) d_T_others_42 rfl (fun hkk => ?_) (fun hkk => ?_)
  rotate_left
  · refine lv_aload_n S.1 S.2.1 d_T_others_45 rfl (lv_at hl 0 rfl) ?_
    refine lv_aload_n S.1 S.2.1 d_T_others_46 rfl (lv_at hl 0 rfl) ?_
    refine t_gL S hK hw.1 d_T_others_47 ?_
    refine lv_iload_n S.1 S.2.1 d_T_others_50 rfl (lv_at hl 1 rfl) ?_
    refine t_iL S hK hw.1 (by omega) d_T_others_51 ?_
    refine lv_aload_n S.1 S.2.1 d_T_others_52 rfl (lv_at hl 0 rfl) ?_
    refine t_gL S hK hw.1 d_T_others_53 ?_
    refine lv_iload_n S.1 S.2.1 d_T_others_56 rfl (lv_at hl 2 rfl) ?_
    refine t_iL S hK hw.1 (by omega) d_T_others_57 ?_
    refine t_calli (t_run S (t_pre hK hw.1 hw.2.1) k_T_others wi_T_others wv_T_T_others wL_T_99 (ih d (Nat.lt_succ_self d) v M (vL v i) (vL v j) hI (by omega) (by omega) (hdi.L hOi) (hdj.L hOj) (by omega)) (rm_ok (by omega) (by omega)) rfl hl.1 rfl (Nat.le_of_ble_eq_true rfl) d_T_others_58 ⟨Nat.le_refl _, Nat.le_refl _⟩) hw (fun r v1 H locs hp hw _ _ => ?_)
    obtain ⟨rfl, hN1, hI1, hE1⟩ := hp
    obtain ⟨-, -, ei2, -, ei4, -⟩ := hE1.2.2.2 i hi
    obtain ⟨-, -, ej2, -, ej4, -⟩ := hE1.2.2.2 j hj
    have hx1 := df_le (M (vL v i)) (M (vL v j)) 256
    have k81 : ∀ b : Nat, b = (if vV v i = vV v j then 0 else 1) → W p l e (rmS (d + 1 + 258) (60 * (d + 1) + 40 * 258)) s m args below meth c H locs 0 0 (MQ below (va_Qi (oPost v M (df (M i) (M j) 256)) (fun v' t => tP G a v' t.heap) (inA a)) args s 0 0 (inA a)) (F0 m 81 ls [.int (nI b), .int (nI (df (M (vL v i)) (M (vL v j)) 256))]) := by
      intro b hb
      refine n_iadd S d_T_others_81 ?_
      refine lv_aload_n S.1 S.2.1 d_T_others_82 rfl (lv_at hl 0 rfl) ?_
      refine lv_aload_n S.1 S.2.1 d_T_others_83 rfl (lv_at hl 0 rfl) ?_
      refine t_gR S hK hw.1 d_T_others_84 ?_
      refine lv_iload_n S.1 S.2.1 d_T_others_87 rfl (lv_at hl 1 rfl) ?_
      refine t_iR S hK hw.1 (by omega) d_T_others_88 ?_
      refine lv_aload_n S.1 S.2.1 d_T_others_89 rfl (lv_at hl 0 rfl) ?_
      refine t_gR S hK hw.1 d_T_others_90 ?_
      refine lv_iload_n S.1 S.2.1 d_T_others_93 rfl (lv_at hl 2 rfl) ?_
      refine t_iR S hK hw.1 (by omega) d_T_others_94 ?_
      refine t_calli (t_run S (t_pre hK hw.1 hw.2.1) k_T_others wi_T_others wv_T_T_others wL_T_99 (ih d (Nat.lt_succ_self d) v1 M (vR v1 i) (vR v1 j) hI1 (by omega) (by omega) (by rw [ei2]; exact hdi.R hOi) (by rw [ej2]; exact hdj.R hOj) (by omega)) (rm_ok (by omega) (by omega)) rfl hl.1 rfl (Nat.le_of_ble_eq_true rfl) d_T_others_95 ⟨Nat.le_refl _, Nat.le_refl _⟩) hw (fun r v2 H locs hp hw _ _ => ?_)
      obtain ⟨rfl, hN2, hI2, hE2⟩ := hp
      refine n_iadd S d_T_others_98 ?_
      refine t_iret S hw ⟨?_, by omega, hI2, hE1.tr hE2⟩ hr hlk d_T_others_99
      have hkk2 := hOj.2.2.2.1
      rw [← hkk] at hkk2
      rw [df_same hOi.2.2.2.1 hkk2 256, if_pos a3, hb, ei2, ej2]
    refine lv_aload_n S.1 S.2.1 d_T_others_61 rfl (lv_at hl 0 rfl) ?_
    refine t_gV S hK hw.1 d_T_others_62 ?_
    refine lv_iload_n S.1 S.2.1 d_T_others_65 rfl (lv_at hl 1 rfl) ?_
    refine t_iV S hK hw.1 (by omega) d_T_others_66 ?_
    refine lv_aload_n S.1 S.2.1 d_T_others_67 rfl (lv_at hl 0 rfl) ?_
    refine t_gV S hK hw.1 d_T_others_68 ?_
    refine lv_iload_n S.1 S.2.1 d_T_others_71 rfl (lv_at hl 2 rfl) ?_
    refine t_iV S hK hw.1 (by omega) d_T_others_72 ?_
    refine lv_icmp_ne S.1 S.2.1 d_T_others_73 rfl (fun hc => ?_) (fun hc => ?_)
    · refine lv_iconst (v := nI 1) S.1 S.2.1 d_T_others_80 (by decide) ?_
      exact k81 1 (by rw [if_neg (by rw [← ei4, ← ej4]; exact hc)])
    · refine lv_iconst (v := nI 0) S.1 S.2.1 d_T_others_76 (by decide) ?_
      refine lv_goto S.1 S.2.1 d_T_others_77 rfl ?_
      exact k81 0 (by rw [if_pos (by rw [← ei4, ← ej4]; exact hc)])
  have k139 : ∀ hh oo : Nat, ((hh = i ∧ oo = j) ∨ (hh = j ∧ oo = i)) → ht (vK v oo) < ht (vK v hh) → ∀ ls, lv_has ls 7 [(4, .int (nI oo)), (3, .int (nI hh)), (0, .ref (aH a)), (1, .int (nI i)), (2, .int (nI j))] → W p l e (rmS (d + 1 + 258) (60 * (d + 1) + 40 * 258)) s m args below meth c s.heap [] 0 0 (MQ below (va_Qi (oPost v M (df (M i) (M j) 256)) (fun v' t => tP G a v' t.heap) (inA a)) args s 0 0 (inA a)) (F0 m 139 ls []) := by
    intro hh oo hor hht ls hl
    have hdf : df (M i) (M j) 256 = df (M hh) (M oo) 256 := by
      rcases hor with ⟨rfl, rfl⟩ | ⟨rfl, rfl⟩
      · rfl
      · exact df_comm _ _ _
    have hhh : hh < vNod v := by omega
    have hoo : oo < vNod v := by omega
    have h0 : hh ≠ 0 := by omega
    have o0 : oo ≠ 0 := by omega
    have hdh : hB (M hh) (d + 1) := by rcases hor with ⟨rfl, rfl⟩ | ⟨rfl, rfl⟩ <;> assumption
    have hO := hI.ok hhh h0
    have hOo := hI.ok hoo o0
    have c1 := hO.1
    have c2 := hO.2.1
    have c3 := hO.2.2.1
    have hRh := hdh.root hO
    have hcut : M oo (vK v hh) = none := by
      cases hq : M oo (vK v hh) with
      | none => rfl
      | some x => have := hI.top hoo o0 hq; omega
    refine lv_aload_n S.1 S.2.1 d_T_others_139 rfl (lv_at hl 2 rfl) ?_
    refine t_gNod S hK hw.1 d_T_others_140 ?_
    refine lv_istore S.1 S.2.1 d_T_others_143 hl (by decide) rfl (fun ls hl => ?_)
    refine lv_iconst (v := nI 1) S.1 S.2.1 d_T_others_145 (by decide) ?_
    refine lv_aload_n S.1 S.2.1 d_T_others_146 rfl (lv_at hl 3 rfl) ?_
    refine lv_aload_n S.1 S.2.1 d_T_others_147 rfl (lv_at hl 3 rfl) ?_
    refine t_gL S hK hw.1 d_T_others_148 ?_
    refine lv_iload_n S.1 S.2.1 d_T_others_151 rfl (lv_at hl 2 rfl) ?_
    refine t_iL S hK hw.1 (by omega) d_T_others_152 ?_
    refine lv_aload_n S.1 S.2.1 d_T_others_153 rfl (lv_at hl 3 rfl) ?_
    refine lv_iload S.1 S.2.1 d_T_others_154 (lv_at hl 1 rfl) ?_
    refine lv_aload_n S.1 S.2.1 d_T_others_156 rfl (lv_at hl 3 rfl) ?_
    refine t_gK S hK hw.1 d_T_others_157 ?_
    refine lv_iload_n S.1 S.2.1 d_T_others_160 rfl (lv_at hl 2 rfl) ?_
    refine t_iK S hK hw.1 (by omega) d_T_others_161 ?_
    refine t_calli (t_run S (t_pre hK hw.1 hw.2.1) k_T_below wi_T_below wv_T_T_below wL_T_51 (c_T_below l G a 256 v M oo (vK v hh) 16 hI hoo (by omega) hB.all (rB.all hI hoo) (by omega)) (rm_ok (by omega) (by omega)) rfl hl.1 rfl (Nat.le_of_ble_eq_true rfl) d_T_others_162 ⟨Nat.le_refl _, Nat.le_refl _⟩) hw (fun r v1 H locs hp hw _ _ => ?_)
    obtain ⟨r1, M1, rfl, hI1, hE1, hr1, hB1, hf1⟩ := hp
    have hf1 : ∀ k, M1 r1 k = if k < vK v hh then M oo k else none := hf1
    have n1 := hE1.1
    have eh1 := hE1.2.2.2 hh hhh
    have eL1 := (hE1.2.2.2 (vL v hh) (by omega)).1
    refine t_calli (t_run S (t_pre hK hw.1 hw.2.1) k_T_others wi_T_others wv_T_T_others wL_T_99 (ih d (Nat.lt_succ_self d) v1 M1 (vL v hh) r1 hI1 (by omega) (by omega) (by rw [eL1]; exact hdh.L hO) (fun k x hk => by rw [hf1 k] at hk; split at hk; exact Nat.lt_of_lt_of_le (Nat.lt_of_le_of_lt (hI.top hoo o0 hk) hht) (by omega); cases hk) (by omega)) (rm_ok (by omega) (by omega)) rfl hl.1 rfl (Nat.le_of_ble_eq_true rfl) d_T_others_165 ⟨Nat.le_refl _, Nat.le_refl _⟩) hw (fun r v2 H locs hp hw _ _ => ?_)
    obtain ⟨rfl, hN2, hI2, hE2⟩ := hp
    have hE02 := hE1.tr hE2
    have eh2 := hE02.2.2.2 hh hhh
    obtain ⟨-, f1, f2, f3, -⟩ := eh2
    refine n_iadd S d_T_others_168 ?_
    refine lv_aload_n S.1 S.2.1 d_T_others_169 rfl (lv_at hl 3 rfl) ?_
    refine lv_aload_n S.1 S.2.1 d_T_others_170 rfl (lv_at hl 3 rfl) ?_
    refine t_gR S hK hw.1 d_T_others_171 ?_
    refine lv_iload_n S.1 S.2.1 d_T_others_174 rfl (lv_at hl 2 rfl) ?_
    refine t_iR S hK hw.1 (by omega) d_T_others_175 ?_
    refine lv_aload_n S.1 S.2.1 d_T_others_176 rfl (lv_at hl 3 rfl) ?_
    refine lv_iload S.1 S.2.1 d_T_others_177 (lv_at hl 1 rfl) ?_
    refine lv_aload_n S.1 S.2.1 d_T_others_179 rfl (lv_at hl 3 rfl) ?_
    refine t_gK S hK hw.1 d_T_others_180 ?_
    refine lv_iload_n S.1 S.2.1 d_T_others_183 rfl (lv_at hl 2 rfl) ?_
    refine t_iK S hK hw.1 (by omega) d_T_others_184 ?_
    refine lv_iconst (v := nI 1) S.1 S.2.1 d_T_others_185 (by decide) ?_
    refine n_iadd S d_T_others_186 ?_
    refine t_calli (t_run S (t_pre hK hw.1 hw.2.1) k_T_from wi_T_from wv_T_T_from wL_T_59 (c_T_from l G a 256 v2 M1 oo (vK v2 hh + 1) 26 hI2 (by omega) (by omega) hB.all (lB.all hI2 (by omega)) (by omega)) (rm_ok (by omega) (by omega)) rfl hl.1 rfl (Nat.le_of_ble_eq_true rfl) d_T_others_187 ⟨Nat.le_refl _, Nat.le_refl _⟩) hw (fun r v3 H locs hp hw _ _ => ?_)
    obtain ⟨r3, M3, rfl, hI3, hE3, hr3, hB3, hf3⟩ := hp
    have n3 := hE3.1
    have hE03 := hE02.tr hE3
    have eR3 := (hE03.2.2.2 (vR v hh) (by omega)).1
    have eo2 := (hE02.2.2.2 oo hoo).1
    have hf3 : ∀ k, M3 r3 k = if vK v hh + 1 ≤ k then M oo k else none := fun k => by rw [hf3 k, f3, eo2]
    refine t_calli (t_run S (t_pre hK hw.1 hw.2.1) k_T_others wi_T_others wv_T_T_others wL_T_99 (ih d (Nat.lt_succ_self d) v3 M3 (vR v2 hh) r3 hI3 (by omega) (by omega) (by rw [f2, eR3]; exact hdh.R hO) (fun k x hk => by rw [hf3 k] at hk; split at hk; exact Nat.lt_of_lt_of_le (Nat.lt_of_le_of_lt (hI.top hoo o0 hk) hht) (by omega); cases hk) (by omega)) (rm_ok (by omega) (by omega)) rfl hl.1 rfl (Nat.le_of_ble_eq_true rfl) d_T_others_190 ⟨Nat.le_refl _, Nat.le_refl _⟩) hw (fun r v4 H locs hp hw _ _ => ?_)
    obtain ⟨rfl, hN4, hI4, hE4⟩ := hp
    have hE04 := hE03.tr hE4
    refine n_iadd S d_T_others_193 ?_
    refine lv_istore S.1 S.2.1 d_T_others_194 hl (by decide) rfl (fun ls hl => ?_)
    refine lv_aload_n S.1 S.2.1 d_T_others_196 rfl (lv_at hl 4 rfl) ?_
    refine lv_iload S.1 S.2.1 d_T_others_197 (lv_at hl 1 rfl) ?_
    refine t_pNod S hK hw d_T_others_199 (fun H locs hw => ?_)
    refine lv_iload S.1 S.2.1 d_T_others_202 (lv_at hl 0 rfl) ?_
    obtain ⟨q1, q2⟩ := hI.cut hE04
    refine t_iret S hw ⟨?_, rfl, q1, q2⟩ hr hlk d_T_others_204
    rw [hdf, df_cut hO.2.2.2.1 hcut hf1 hf3 256, if_pos c3, f2, eR3, eL1]
    congr 1
    omega
  have j1 := ht_lt (vK v i)
  have j2 := ht_lt (vK v j)
  refine lv_aload_n S.1 S.2.1 d_T_others_100 rfl (lv_at hl 0 rfl) ?_
  refine t_gK S hK hw.1 d_T_others_101 ?_
  refine lv_iload_n S.1 S.2.1 d_T_others_104 rfl (lv_at hl 1 rfl) ?_
  refine t_iK S hK hw.1 (by omega) d_T_others_105 ?_
  refine r_calli (r_runS S preEq k_T_height ws_T_height wL_T_62 (c_T_height l (vK v i) (by omega)) (rm_ok (by omega) (by omega)) rfl hl.1 rfl (Nat.le_of_ble_eq_true rfl) d_T_others_106 ⟨Nat.le_refl _, Nat.le_refl _⟩) (fun r hp => ?_)
  subst hp
  refine lv_aload_n S.1 S.2.1 d_T_others_109 rfl (lv_at hl 0 rfl) ?_
  refine t_gK S hK hw.1 d_T_others_110 ?_
  refine lv_iload_n S.1 S.2.1 d_T_others_113 rfl (lv_at hl 2 rfl) ?_
  refine t_iK S hK hw.1 (by omega) d_T_others_114 ?_
  refine r_calli (r_runS S preEq k_T_height ws_T_height wL_T_62 (c_T_height l (vK v j) (by omega)) (rm_ok (by omega) (by omega)) rfl hl.1 rfl (Nat.le_of_ble_eq_true rfl) d_T_others_115 ⟨Nat.le_refl _, Nat.le_refl _⟩) (fun r hp => ?_)
  subst hp
  refine nb_le S (by omega) (by omega) d_T_others_118 rfl (fun hc => ?_) (fun hc => ?_)
  · have hlt : ht (vK v i) < ht (vK v j) := by
      rcases Nat.lt_or_ge (ht (vK v i)) (ht (vK v j)) with q | q
      · exact q
      · exact absurd (ht_inj a3 b3 (Nat.le_antisymm hc q)) hkk
    refine lv_iload_n S.1 S.2.1 d_T_others_125 rfl (lv_at hl 2 rfl) ?_
    refine lv_istore_n S.1 S.2.1 d_T_others_126 rfl hl (by decide) rfl (fun ls hl => ?_)
    refine lv_iload_n S.1 S.2.1 d_T_others_127 rfl (lv_at hl 0 rfl) ?_
    refine lv_iload_n S.1 S.2.1 d_T_others_128 rfl (lv_at hl 2 rfl) ?_
    refine nb_ne S (by omega) (by omega) d_T_others_129 rfl (fun _ => ?_) (fun hq => absurd hq (fun z => hij z.symm))
    refine lv_iload_n S.1 S.2.1 d_T_others_136 rfl (lv_at hl 2 rfl) ?_
    refine lv_istore S.1 S.2.1 d_T_others_137 hl (by decide) rfl (fun ls hl => ?_)
    exact k139 j i (Or.inr ⟨rfl, rfl⟩) hlt ls hl
  · refine lv_iload_n S.1 S.2.1 d_T_others_121 rfl (lv_at hl 1 rfl) ?_
    refine lv_goto S.1 S.2.1 d_T_others_122 rfl ?_
    refine lv_istore_n S.1 S.2.1 d_T_others_126 rfl hl (by decide) rfl (fun ls hl => ?_)
    refine lv_iload_n S.1 S.2.1 d_T_others_127 rfl (lv_at hl 0 rfl) ?_
    refine lv_iload_n S.1 S.2.1 d_T_others_128 rfl (lv_at hl 2 rfl) ?_
    refine nb_ne S (by omega) (by omega) d_T_others_129 rfl (fun hq => absurd rfl hq) (fun _ => ?_)
    refine lv_iload_n S.1 S.2.1 d_T_others_132 rfl (lv_at hl 3 rfl) ?_
    refine lv_goto S.1 S.2.1 d_T_others_133 rfl ?_
    refine lv_istore S.1 S.2.1 d_T_others_137 hl (by decide) rfl (fun ls hl => ?_)
    exact k139 i j (Or.inl ⟨rfl, rfl⟩) hc ls hl
end
section
/-! methods that throw an exception of their own making: contracts, calls, handlers -/
abbrev nIo : String := "java/lang/IndexOutOfBoundsException"
abbrev nNs : String := "java/util/NoSuchElementException"
abbrev nIs : String := "java/lang/IllegalStateException"
/-- the end of such a method: one new cell of six slots, of the class cls; nothing old has changed -/
def xQ (cls : String) (st : State) (o : Outcome) (t : State) : Prop := ∃ (b : Addr) (cell : Cell), o = .threw b ∧ st.heap.size ≤ b ∧ t.heap[b]? = some cell ∧ cell.vm = .none ∧ st.vm.findClass cls = some cell.cls ∧ st.WarmedH t.vm ∧ st.sameButNew ({ t with vm := st.vm } : State) [] 1 6
def MetX (l : Launch) (y : MethodName) (ws : List Cond) (rm : Room) (Pc : Array Value → State → Prop) (cls : String) : Prop := MetFree l y (headSpec ws rm) Pc (fun _ _ _ _ _ => True) (fun _ st o t => xQ cls st o t)
def XQ (below : List Frame) (cls : String) (s : State) : State → Prop := fun t => ∃ o, t.status = .running ∧ Ended t below o ∧ xQ cls s o t
abbrev rmX (f n : Nat) : Room := { frames := f, cells := 1, slots := 6, locals := n }
theorem x_same {s t : State} {k n : Nat} (h : s.sameButNew t [] k n) : ∀ q, q < s.heap.size → t.heap[q]? = s.heap[q]? := by
  intro q hq
  obtain ⟨-, -, -, -, -, h6⟩ := h
  have hc : s.heap[q]? = some s.heap[q] := Array.getElem?_eq_getElem hq
  obtain ⟨c', h1, h2, h3, h4⟩ := h6 q _ hc
  rw [h1, hc]
  have hs : c'.slots = s.heap[q].slots := Array.ext_getElem? (fun i => h4 i (by simp))
  rw [h2, hs]
theorem x_ofW {l : Launch} {y : MethodName} {own cls : String} {rm : Room} {Pc : Array Value → State → Prop} {cc : ByteArray} {maxL : Nat} {ret : Option FieldType}
    (hy : plainName y.cls = true) (ho : y.cls = own)
    (body : ∀ p e s m args below meth c, CallFix p m c cc maxL s args lw_t own → meth.sig.returnType = ret → meth.locks = false → c.exceptionTable.isEmpty = true → meth.name = y.name → Pc args s →
      W p l e rm s m args below meth c s.heap [] 0 0 (XQ below cls s) (entryFrame m args maxL)) : MetX l y (mw y cc maxL ret) rm Pc cls := by
  refine MetFree.of_bodyS (code := cc) (maxLocals := maxL) (ret := ret) hy ?_ ?_
  · intro args s m h hn
    obtain ⟨meth, c, h1, h2, h3, h4, h5, h6, -, -⟩ := Cond.code_spec hn (atoms_spec (ws := mw y cc maxL ret) h _ List.mem_cons_self)
    exact ⟨meth, c, h1, h2, h3, h4, h5, h6⟩
  · intro p e s m args below meth c s₁ B hml hP _
    have hh0 : s₁.heap = s.heap := by rw [B.state]; rfl
    have hts := atoms_spec (ws := mw y cc maxL ret) B.pre
    obtain ⟨t, a1, o, b1, b2, b3⟩ := body p e s m args below meth c ⟨B.exec, B.bytes, hml, by rw [← ho]; exact findClass_of_methodNamed B.named, fun w h => hts w (List.mem_cons_of_mem _ h)⟩ B.returns B.notSynchronized (B.noHandlers (hts _ List.mem_cons_self)) (name_of_methodNamed B.named B.method).1 hP s₁ hh0 (Stand.of_body B)
    exact ⟨t, o, a1, b1, b2, b3⟩
/-! what an exception's making asks beside the tables' steady words -/
def thW : List Cond := [.declares y_Rt_init, .declares y_Ex_init, .declares y_Th_init, .castable nIo nIo, .castable nNs nNs, .laysStatic "java/lang/Throwable" "UNASSIGNED_STACK" "[Ljava/lang/StackTraceElement;", .laysStatic "java/lang/Throwable" "SUPPRESSED_SENTINEL" "Ljava/util/List;", .isRef (.static "java/lang/Throwable" "UNASSIGNED_STACK" "[Ljava/lang/StackTraceElement;"), .isRef (.static "java/lang/Throwable" "SUPPRESSED_SENTINEL" "Ljava/util/List;")]
def nc (A B : String) (U : State) : Prop := ∃ c1 c2, U.vm.findClass A = some c1 ∧ U.vm.findClass B = some c2 ∧ U.vm.assignable c1 c2 = false
def thK (z : Nat) (U : State) : Prop := (∀ w ∈ thW, w.before #[] U = true) ∧ (∃ c k, U.vm.findClass "java/lang/Throwable" = some c ∧ U.vm.classes[c]? = some k ∧ k.statics = some z) ∧ z < U.heap.size ∧ nc nNs nIo U ∧ nc nNs nIs U
theorem nc.moved {A B : String} {u U : State} (hvm : u.vm.Alike U.vm) (h : nc A B u) : nc A B U := by
  obtain ⟨c1, c2, h1, h2, h3⟩ := h
  exact ⟨c1, c2, by rw [hvm.findClass]; exact h1, by rw [hvm.findClass]; exact h2, by rw [hvm.assignable]; exact h3⟩
theorem x_tr {u U : State} {c : Cond} (hc : c.onTables = true) (h : c.before #[] (u.setVm U.vm) = true) : c.before #[] U = true := by
  have e := Cond.onTables_vm (A := #[]) (A' := #[]) (U := u) (U' := U) U.vm c hc
  have hU : U.setVm U.vm = U := rfl
  rw [hU] at e
  rw [← e]
  exact h
theorem x_stat {u U : State} {z : Nat} {f d : String} (hvm : u.vm.Alike U.vm) (hz : ∃ c k, u.vm.findClass "java/lang/Throwable" = some c ∧ u.vm.classes[c]? = some k ∧ k.statics = some z) (hh : U.heap[z]? = u.heap[z]?)
    (h : (Cond.laysStatic "java/lang/Throwable" f d).before #[] u = true) (g : (Cond.isRef (.static "java/lang/Throwable" f d)).before #[] u = true) : (Cond.laysStatic "java/lang/Throwable" f d).before #[] U = true ∧ (Cond.isRef (.static "java/lang/Throwable" f d)).before #[] U = true := by
  obtain ⟨c, k, i, fd, a, cell, hc, hf, hst, hsta, hcell, hiss, hcls, hlt, hty⟩ := Cond.laysStatic_spec h
  obtain ⟨c', k', hc', hk', hz'⟩ := hz
  cases hc.symm.trans hc'
  have hkc : u.vm.classes[c]? = some k := (State.fieldFound?_spec hf).1
  cases hkc.symm.trans hk'
  cases hsta.symm.trans hz'
  obtain ⟨k2, hf2, hek⟩ := State.fieldFound?_setVm (s := u) hvm hf
  have hf3 : U.fieldFound? "java/lang/Throwable" f d = some (c, k2, i, fd) := by simpa only [State.fieldFound?, State.vm_setVm] using hf2
  have hk2 : U.vm.classes[c]? = some k2 := (State.fieldFound?_spec hf3).1
  obtain ⟨k3, hk3, he3⟩ := hvm.2.2 _ _ hkc
  cases hk2.symm.trans hk3
  have hs2 : k2.statics = some z := by rw [he3]; exact hsta
  have ht2 : k2.staticTypes[fd.slot]? = some fd.type := by rw [he3]; exact hty
  have hcell2 : U.heap[z]? = some cell := by rw [hh]; exact hcell
  refine ⟨Cond.laysStatic_of (s := U) (by rw [hvm.findClass]; exact hc) hf3 hst hs2 hcell2 hiss hcls hlt ht2, ?_⟩
  obtain ⟨v, hv, hvr⟩ := Cond.isRef_spec g
  have e1 : (Term.static "java/lang/Throwable" f d).eval #[] u none [] u = cell.slots[fd.slot]? := by
    simp [Term.eval, State.fieldNamed?, hf, hst, hsta, hcell, hiss]
  have e2 : (Term.static "java/lang/Throwable" f d).eval #[] U none [] U = cell.slots[fd.slot]? := by
    simp [Term.eval, State.fieldNamed?, hf3, hst, hs2, hcell2, hiss]
  have e3 : (Term.static "java/lang/Throwable" f d).eval #[] U none [] U = some v := by rw [e2, ← e1]; exact hv
  simp only [Cond.before, Cond.holds, Cond.value, e3]
  cases v <;> simp [Value.isRef] at hvr ⊢
theorem thK.moved {u U : State} {z : Nat} (hvm : u.vm.Alike U.vm) (hh : U.heap[z]? = u.heap[z]?) (h : thK z u) : thK z U := by
  obtain ⟨hw, hz, hlt, n1, n2⟩ := h
  have a1 := x_stat hvm hz hh (hw _ (List.mem_of_getElem? (i := 5) rfl)) (hw _ (List.mem_of_getElem? (i := 7) rfl))
  have a2 := x_stat hvm hz hh (hw _ (List.mem_of_getElem? (i := 6) rfl)) (hw _ (List.mem_of_getElem? (i := 8) rfl))
  refine ⟨fun w h => ?_, ?_, ?_, n1.moved hvm, n2.moved hvm⟩
  · simp only [thW, List.mem_cons, List.not_mem_nil, or_false] at h
    rcases h with rfl | rfl | rfl | rfl | rfl | rfl | rfl | rfl | rfl
    · exact x_tr rfl (by rw [Cond.declares_setVm hvm]; exact hw _ (List.mem_of_getElem? (i := 0) rfl))
    · exact x_tr rfl (by rw [Cond.declares_setVm hvm]; exact hw _ (List.mem_of_getElem? (i := 1) rfl))
    · exact x_tr rfl (by rw [Cond.declares_setVm hvm]; exact hw _ (List.mem_of_getElem? (i := 2) rfl))
    · exact x_tr rfl (by rw [Cond.castable_setVm hvm]; exact hw _ (List.mem_of_getElem? (i := 3) rfl))
    · exact x_tr rfl (by rw [Cond.castable_setVm hvm]; exact hw _ (List.mem_of_getElem? (i := 4) rfl))
    · exact a1.1
    · exact a2.1
    · exact a1.2
    · exact a2.2
  · obtain ⟨c, k, h1, h2, h3⟩ := hz
    obtain ⟨k3, hk3, he3⟩ := hvm.2.2 _ _ h2
    exact ⟨c, k3, by rw [hvm.findClass]; exact h1, hk3, by rw [he3]; exact h3⟩
  · have h1 : u.heap[z]? = some u.heap[z] := Array.getElem?_eq_getElem hlt
    rw [h1] at hh
    exact (Array.getElem?_eq_some_iff.mp hh).1
theorem thW_any {U : State} {A : Array Value} (h : ∀ w ∈ thW, w.before #[] U = true) : ∀ w ∈ thW, w.before A U = true := by
  intro w hw
  have h1 := h w hw
  simp only [thW, List.mem_cons, List.not_mem_nil, or_false] at hw
  rcases hw with rfl | rfl | rfl | rfl | rfl | rfl | rfl | rfl | rfl
  · exact va_any rfl h1
  · exact va_any rfl h1
  · exact va_any rfl h1
  · exact va_any rfl h1
  · exact va_any rfl h1
  · exact h1
  · exact h1
  · exact h1
  · exact h1
set_option maxRecDepth 100000 in
theorem x_at_Io : (Jvm.Bundle.ownAtoms0 R_T 43 nIo ["java/lang/RuntimeException", "java/lang/Exception"]).all (fun a => decide (a ∈ lw_t ++ thW)) = true := by decide +kernel
set_option maxRecDepth 100000 in
theorem x_at_Ns : (Jvm.Bundle.ownAtoms0 R_T 87 nNs ["java/lang/RuntimeException", "java/lang/Exception"]).all (fun a => decide (a ∈ lw_t ++ thW)) = true := by decide +kernel
theorem x_atoms {L : List Cond} (hL : L.all (fun a => decide (a ∈ lw_t ++ thW)) = true) {args : Array Value} {s : State} (h1 : ∀ w ∈ lw_t, w.before args s = true) (h2 : ∀ w ∈ thW, w.before #[] s = true) : ∀ a ∈ L, a.before args s = true := by
  intro a ha
  have := of_decide_eq_true (List.all_eq_true.mp hL a ha)
  rcases List.mem_append.mp this with h | h
  · exact h1 a h
  · exact thW_any h2 a h
section XN
variable {p : Program} {l : Launch} {e : Env} {R : Room} {s : State} {m : MethodId} {args : Array Value} {below : List Frame} {meth : Method} {c : Code} {H : Heap} {locs : List Loc} {cells slots : Nat} {Q : State → Prop}
variable {cc : ByteArray} {nL : Nat} {pc : Nat} {ls : Array Slot} {rest st0 : List Value} {own cls : String}
theorem x_out (hx : c.exceptionTable.isEmpty = true) (q : Nat) : ∀ x ∈ c.exceptionTable.toList, covers x q = false := by
  have h0 : c.exceptionTable.size = 0 := by simpa [Array.isEmpty] using hx
  have h1 : c.exceptionTable.toList = [] := List.eq_nil_of_length_eq_zero (by simpa using h0)
  intro y hy
  rw [h1] at hy
  cases hy
set_option maxHeartbeats 1000000 in
/-- new X; dup; X.<init>(); athrow -/
theorem x_new (S : CallFix p m c cc nL s args lw_t R_T) (hsz : ls.size = nL) (hfl : l.flags = pinnedFlags ++ [noTraceFlag]) (hx : c.exceptionTable.isEmpty = true) (hlk : meth.locks = false) {names : List String} {ic idx : Nat} (hat : ∀ w ∈ Jvm.Bundle.ownAtoms0 R_T ic cls names, w.before args s = true)
    (hcl : Cond.classLink R_T idx cls ∈ lw_t) (hins : Cond.instantiable cls 6 ∈ lw_t) (hini : Cond.initialized cls ∈ lw_t) (hf1 : Jvm.Bundle.fit cls = true) (hf2 : ∀ n ∈ names, Jvm.Bundle.fit n = true)
    (hd0 : decode cc pc = .ok (.new idx, 3)) (hd3 : decode cc (pc + 3) = .ok (.dup, 1)) (hd4 : decode cc (pc + 3 + 1) = .ok (.invokespecial ic, 3)) (hd7 : decode cc (pc + 3 + 1 + 3) = .ok (.athrow, 1))
    (hr1 : names.length + 3 < R.frames) (hr2 : 1 + (rest.map fun v => v.category).sum + (13 * (names.length + 1) + 41) ≤ R.locals) (hr3 : 1 ≤ R.cells) (hr4 : 6 ≤ R.slots) : W p l e R s m args below meth c s.heap [] 0 0 (XQ below cls s) (F0 m pc ls rest) := by
  refine W.newc S.1 S.2.1 S.2.2.2.1 (S.2.2.2.2 _ hcl) (S.2.2.2.2 _ hins) (S.2.2.2.2 _ hini) (g := F0 m pc ls rest) rfl hd0 (by omega) (by omega) (fun cC kC h1 h2 h3 h4 => ?_)
  refine W.eq (g2 := F0 m (pc + 3) ls (.ref s.heap.size :: rest)) rfl ?_
  refine lv_dup S.1 S.2.1 hd3 rfl ?_
  intro T hT X
  have hcell : T.heap[s.heap.size]? = some (freshCell cC kC) := by rw [hT]; simp
  obtain ⟨U, st, hrun, hend, hW, hsame, ce, hce, hown⟩ := X.ctorThrow0 S.1 (Launch.traces_off hfl X.admits) (own := R_T) (cls := cls) (names := names) (ic := ic) S.2.2.2.1 hf1 hf2 hat (fun x hx => by cases hx) h1 h2 hcell (Nat.le_refl _)
    (g := F0 m (pc + 3 + 1) ls (.ref s.heap.size :: .ref s.heap.size :: rest)) rfl (hsz.trans S.2.2.1.symm) rfl rfl (rest := rest) rfl (by rw [S.2.1]; exact hd4) (by rw [S.2.1]; exact hd7) (x_out hx _) hr1 (by
      show 2 * 0 + (1 + (rest.map fun v => v.category).sum) + _ ≤ _
      omega) hlk
  exact ⟨U, st, .threw s.heap.size, hrun, hend, s.heap.size, ce, rfl, Nat.le_refl _, hce, hown.vm, hown.cls, hW, hsame⟩
end XN
section XC
variable {p : Program} {l : Launch} {e : Env} {R : Room} {s : State} {m : MethodId} {args : Array Value} {below : List Frame} {meth : Method} {c : Code} {locs : List Loc} {cells slots : Nat}
set_option maxHeartbeats 1000000 in
/-- a call of a method that throws: the note lies over the caller's frame -/
theorem x_back {y : MethodName} {ws : List Cond} {rm : Room} {Pc : Array Value → State → Prop} {cls : String} {bytes : ByteArray} {maxL len Wd : Nat} {ret : Option FieldType} {U : State} {g : JFrame} {ig : Instr} {mk : MethodId} {a : Array Value}
    (hM : MetX l y ws rm Pc cls) (X : Stand p l e R s m args below meth c U locs cells slots) (hg : g.method = m) (hsize : g.locals.size = c.maxLocals) (hdg : decode c.code g.pc = .ok (ig, len)) (hW : 2 * g.monitorRoom + (g.stack.map fun v => v.category).sum ≤ Wd) (hn : U.methodNamed? y = some mk)
    (hws : ∀ w ∈ ws, w.before a U = true) (hcode : (Cond.code y bytes maxL ret).before a U = true) (hini : (Cond.initialized y.cls).before a U = true) (hframes : rm.frames + 1 ≤ R.frames) (hlocals : Wd + (maxL + 11) + rm.locals ≤ R.locals) (hcs : cells + rm.cells ≤ R.cells) (hss : slots + rm.slots ≤ R.slots) (hP : Pc a (U.calling g mk a)) :
    ∃ (b : Addr) (cell : Cell) (V : State), Stand p l e R s m args below meth c V locs (cells + 1) (slots + 6) ∧ U.heap.size ≤ b ∧ V.heap[b]? = some cell ∧ cell.vm = .none ∧ U.vm.findClass cls = some cell.cls ∧ U.heap.size ≤ V.heap.size ∧ (∀ q, q < U.heap.size → V.heap[q]? = U.heap[q]?) ∧
      Steps p.tables e below (doInvoke e (U.setTop g) [] mk a).1 ((V.setTop g).pushFrame (.throwing b)) := by
  obtain ⟨methY, cY, hmY, hcY, -, hlY, -, -, -, -⟩ := Cond.code_spec hn hcode
  obtain ⟨kY, hkY, -⟩ := className_of_methodNamed hn
  have hinitY : kY.init = .initialized := Cond.initialized_spec (findClass_of_methodNamed hn) hkY hini
  have h : At U g.method c below := by rw [hg]; exact X.here
  have happ : (headSpec ws rm).appliesLoose y e.platform (U.calling g mk a) = true :=
    Spec.appliesLoose_calling (g := g) h hdg hn hkY hinitY
      (X.room_calling (g := g) (R' := (headSpec ws rm).room) hsize hmY hcY hframes (by rw [hlY]; show _ + _ + rm.locals ≤ _; omega) hcs hss) (atoms_intro hws)
  obtain ⟨mid, hmid⟩ := h.above
  have hfr : (U.setTop g).frames = (.java g :: mid) ++ below := by rw [State.frames_setTop' g h.top, hmid]; rfl
  obtain ⟨o, s₂, hsteps, -, hend, hq⟩ := Steps.callFree hM p X.admits X.cas X.clock (acts := []) hfr happ hP trivial
  have hq' : xQ cls (U.calling g mk a) o s₂ := hq
  rw [State.frames_setTop' g h.top] at hend
  obtain ⟨b, cell, rfl, hb1, hb2, hb3, hb4, hW₂, hsm⟩ := hq'
  have hpre := x_same hsm
  obtain ⟨e2, q2, q3, q4, q5, q6⟩ := hsm
  have e3 : s₂ = ({ (U.calling g mk a).setFrames s₂.frames with heap := s₂.heap, slotsUsed := s₂.slotsUsed } : State).setVm s₂.vm := by
    have : s₂ = ({ s₂ with vm := (U.calling g mk a).vm } : State).setVm s₂.vm := rfl
    rw [e2] at this
    exact this
  have hf₂ : s₂.frames = .throwing b :: .java g :: U.frames.tail := hend
  have hW' : U.WarmedH s₂.vm := hW₂
  obtain ⟨g₀, hg0⟩ := Option.isSome_iff_exists.mp h.top
  obtain ⟨r, hr⟩ := State.topJava?_eq_some.mp hg0
  have hs₂ : s₂ = ((({ U with heap := s₂.heap, slotsUsed := s₂.slotsUsed } : State).setVm s₂.vm).setTop g).pushFrame (.throwing b) := by
    have hr' : (({ U with heap := s₂.heap, slotsUsed := s₂.slotsUsed } : State).setVm s₂.vm).frames = .java g₀ :: r := hr
    refine e3.trans ?_
    rw [hf₂, State.calling_eq h.top, State.setFrames_setFrames, State.pushFrame, State.frames_setTop _ hr', State.setTop_of_frames _ hr', State.setFrames_setFrames, hr]
    rfl
  have hsame : U.sameButNew ({ U with heap := s₂.heap, slotsUsed := s₂.slotsUsed } : State) [] 1 6 := by
    refine ⟨?_, q2, q3, q4, q5, q6⟩
    obtain ⟨t, ht, -⟩ := State.frames_cons hr
    show ({ U with heap := s₂.heap, slotsUsed := s₂.slotsUsed } : State) = { U.setFrames U.frames with heap := s₂.heap, slotsUsed := s₂.slotsUsed }
    rw [State.setFrames_self ht]
  subst hg
  have hst := X.same.trans (hsame.setVm s.vm)
  rw [List.append_nil] at hst
  refine ⟨b, cell, (({ U with heap := s₂.heap, slotsUsed := s₂.slotsUsed } : State).setVm s₂.vm),
    ⟨X.admits, X.cas, X.clock, X.frames, X.room, X.hears, X.method, X.code, (X.here.setHeapUsed s₂.heap s₂.slotsUsed).setVm hW'.alike, X.tail, State.WarmedH.trans X.warmed hW', X.limits, X.bytes, hst⟩,
    hb1, hb2, hb3, hb4, q2, hpre, ?_⟩
  rw [← hs₂]
  exact hsteps
end XC
end
section
section XW
variable {p : Program} {l : Launch} {e : Env} {R : Room} {s : State} {m : MethodId} {args : Array Value} {below : List Frame} {meth : Method} {c : Code} {H : Heap} {locs : List Loc} {cells slots : Nat} {Q : State → Prop}
variable {cc : ByteArray} {nL : Nat} {pc : Nat} {ls : Array Slot} {rest st0 As : List Value} {own cls : String} {y : MethodName} {bytes : ByteArray} {maxL n index b : Nat} {ret : Option FieldType} {rm : Room} {Pc : Array Value → State → Prop}
/-- a call that throws: where the machine stands behind it -/
def xRun (p : Program) (l : Launch) (e : Env) (R : Room) (s : State) (m : MethodId) (args : Array Value) (below : List Frame) (meth : Method) (c : Code) (H : Heap) (locs : List Loc) (cells slots : Nat) (g : JFrame) (rest : List Value) (cls : String) : Prop :=
  ∀ T : State, T.heap = H → Stand p l e R s m args below meth c T locs cells slots → ∃ (d : Addr) (cell : Cell) (V : State), Stand p l e R s m args below meth c V locs (cells + 1) (slots + 6) ∧ H.size ≤ d ∧ V.heap[d]? = some cell ∧ cell.vm = .none ∧ s.vm.findClass cls = some cell.cls ∧ H.size ≤ V.heap.size ∧ (∀ q, q < H.size → V.heap[q]? = H[q]?) ∧
    Steps p.tables e below (T.setTop g) ((V.setTop { g with stack := rest }).pushFrame (.throwing d))
abbrev roomX (rm R : Room) (maxL : Nat) : Prop := rm.cells = 1 ∧ rm.slots = 6 ∧ rm.frames + 1 ≤ R.frames ∧ 8 + (maxL + 11) + rm.locals ≤ R.locals
theorem x_ws (S : CallFix p m c cc nL s args lw_t own) (hc : Cond.code y bytes maxL ret ∈ lw_t) {a' : Array Value} {U : State} (hW : s.WarmedH U.vm) : ∀ w ∈ mw y bytes maxL ret, w.before a' U = true :=
  fun w hw => pay_in S.2.2.2.2 (mw_good hc) w hw a' U hW
set_option maxHeartbeats 1000000 in
theorem x_runV (S : CallFix p m c cc nL s args lw_t own) {C : String} (hp : PreV s H C b Pc As) (K : tCall y bytes maxL ret n) (hi : Cond.instanceMethod y ∈ lw_t) (hs : Cond.selects C y y ∈ lw_t) (hl : Cond.methodLink own index y ∈ lw_t) (hM : MetX l y (mw y bytes maxL ret) rm Pc cls) (hr : roomX rm R maxL) (hn : As.length = n) (hsz : ls.size = nL) (hst : st0 = As.reverse ++ .ref b :: rest) (hW : (rest.map fun v => v.category).sum ≤ 8) (hdg : decode cc pc = .ok (.invokevirtual index, 3)) (hf : cells + 1 ≤ R.cells ∧ slots + 6 ≤ R.slots) :
    xRun p l e R s m args below meth c H locs cells slots (F0 m pc ls st0) rest cls := by
  intro T hT X
  obtain ⟨hbl, ⟨cellB, hcB, hoB, hclB⟩, hPc⟩ := hp
  obtain ⟨mk, methM, hnamed, hmethM, hstM, habM⟩ := Cond.instanceMethod_spec (S.2.2.2.2 _ hi)
  obtain ⟨methM', cM, hmethM', -, -, -, -, -, -, hsigM⟩ := Cond.code_spec hnamed (S.2.2.2.2 _ K.1)
  cases hmethM.symm.trans hmethM'
  obtain ⟨c2, r2, m2, q1, q2, q3, q4, kP, hkP, hkPi⟩ := Cond.selects_spec (S.2.2.2.2 _ hs)
  cases hclB.symm.trans q1
  cases (State.methodFound?_of_named hnamed K.2.2.1).symm.trans q2
  cases hnamed.symm.trans q3
  have hselP : selectMethod e.platform s.vm cellB.cls mk = .method mk := by rw [Launch.admits_selectMethod X.admits]; exact q4
  have hlen : As.length = methM.sig.parameters.length := by
    have h2 := K.2.2.2
    rw [hsigM] at h2
    rw [hn]
    exact (Option.some.inj h2).symm
  obtain ⟨vm₁, X₁, hstep₁⟩ := X.invokevirtual S.1 S.2.2.2.1 (S.2.2.2.2 _ hl) hnamed hmethM hstM hkP hkPi K.2.2.1 (a := b) (cell := cellB) (by rw [hT]; exact hcB)
    (fun z h => by rw [h] at hoB; cases hoB) hselP hmethM habM hkP hkPi (g := F0 m pc ls st0) rfl (argsL := As) (rest := rest) hlen hst (by rw [S.2.1]; exact hdg)
  have hW1 := X₁.warmed
  obtain ⟨d, cell, V, X', h1, h2, h3, h4, h5, h6, st⟩ := x_back hM X₁ (g := F0 m pc ls rest) rfl (hsz.trans S.2.2.1.symm) (by rw [S.2.1]; exact hdg) (Wd := 8) (lv_room hW) (X₁.named hnamed) (x_ws S K.1 hW1) (x_ws S K.1 hW1 _ List.mem_cons_self) (bytes := bytes) (maxL := maxL) (ret := ret)
    (word_at hW1 (lw_good _ K.2.1) (S.2.2.2.2 _ K.2.1)) hr.2.2.1 hr.2.2.2 (by rw [hr.1]; exact hf.1) (by rw [hr.2.1]; exact hf.2) (hbl _ _ _ _ (hPc (T.setVm vm₁) hT hW1))
  have hTz : (T.setVm vm₁).heap = H := hT
  rw [hTz] at h1 h5 h6
  exact ⟨d, cell, V, X', h1, h2, h3, by rw [← hW1.alike.findClass]; exact h4, h5, h6, hstep₁ _ fun acts => by rw [doInvoke_state]; exact st⟩
set_option maxHeartbeats 1000000 in
theorem x_runS (S : CallFix p m c cc nL s args lw_t own) (hp : PreS s H Pc As) (K : tCall y bytes maxL ret n) (hs : Cond.static y ∈ lw_t) (hl : Cond.methodLink own index y ∈ lw_t) (hM : MetX l y (mw y bytes maxL ret) rm Pc cls) (hr : roomX rm R maxL) (hn : As.length = n) (hsz : ls.size = nL) (hst : st0 = As.reverse ++ rest) (hW : (rest.map fun v => v.category).sum ≤ 8) (hdg : decode cc pc = .ok (.invokestatic index, 3)) (hf : cells + 1 ≤ R.cells ∧ slots + 6 ≤ R.slots) :
    xRun p l e R s m args below meth c H locs cells slots (F0 m pc ls st0) rest cls := by
  intro T hT X
  obtain ⟨mk, hnamed⟩ := Cond.code_named (S.2.2.2.2 _ K.1)
  obtain ⟨methM, cM, hmethM, -, -, -, -, -, -, hsigM⟩ := Cond.code_spec hnamed (S.2.2.2.2 _ K.1)
  have hstatic : methM.isStatic = true := Cond.static_spec hnamed hmethM (S.2.2.2.2 _ hs)
  obtain ⟨kP, hkP, -⟩ := className_of_methodNamed hnamed
  have hinitP : kP.init = .initialized := Cond.initialized_spec (findClass_of_methodNamed hnamed) hkP (S.2.2.2.2 _ K.2.1)
  have hlen : As.length = methM.sig.parameters.length := by
    have h2 := K.2.2.2
    rw [hsigM] at h2
    rw [hn]
    exact (Option.some.inj h2).symm
  obtain ⟨vm₁, X₁, hstep₁⟩ := X.invokestatic S.1 S.2.2.2.1 (S.2.2.2.2 _ hl) hnamed hmethM hstatic hkP hinitP K.2.2.1 (g := F0 m pc ls st0) rfl (argsL := As) (rest := rest) hlen hst (by rw [S.2.1]; exact hdg)
  have hW1 := X₁.warmed
  obtain ⟨d, cell, V, X', h1, h2, h3, h4, h5, h6, st⟩ := x_back hM X₁ (g := F0 m pc ls rest) rfl (hsz.trans S.2.2.1.symm) (by rw [S.2.1]; exact hdg) (Wd := 8) (lv_room hW) (X₁.named hnamed) (x_ws S K.1 hW1) (x_ws S K.1 hW1 _ List.mem_cons_self) (bytes := bytes) (maxL := maxL) (ret := ret)
    (word_at hW1 (lw_good _ K.2.1) (S.2.2.2.2 _ K.2.1)) hr.2.2.1 hr.2.2.2 (by rw [hr.1]; exact hf.1) (by rw [hr.2.1]; exact hf.2) (hp.1 _ _ _ _ (hp.2 (T.setVm vm₁) hT hW1))
  have hTz : (T.setVm vm₁).heap = H := hT
  rw [hTz] at h1 h5 h6
  exact ⟨d, cell, V, X', h1, h2, h3, by rw [← hW1.alike.findClass]; exact h4, h5, h6, hstep₁ _ fun acts => by rw [doInvoke_state]; exact st⟩
/-- no handler: the exception goes on to the invoker -/
theorem x_prop {g : JFrame} (hg : g.method = m) (h1 : g.locked = none) (h2 : g.entered = []) (hx : c.exceptionTable.isEmpty = true) (hlk : meth.locks = false) (hr : xRun p l e R s m args below meth c s.heap [] 0 0 g rest cls) : W p l e R s m args below meth c s.heap [] 0 0 (XQ below cls s) g := by
  intro T hT X
  obtain ⟨d, cell, V, X', a1, a2, a3, a4, a5, a6, st⟩ := hr T hT X
  obtain ⟨k1, k2, k3, k4, k5⟩ := X'.leaveThrown d (g := { g with stack := rest }) hg h1 h2 (x_out hx _) hlk
  exact ⟨_, st.trans k1, .threw d, k2, k3, d, cell, rfl, a1, a2, a3, a4, k4, k5⟩
end XW
/-! a handler whose class is resolved at the search -/
section XH
variable {e : Env} {s : State} {f : JFrame} {a : Addr}
theorem x_go_tr {Q : Handler → Pre} {E : CtlPost} {d : Bool} {acts : List Action} {x : ExceptionTableEntry} {t : List ExceptionTableEntry} {cI : ClassId} {vm' : Vm} (hx : covers x f.pc = true) (h0 : x.catchType ≠ 0)
    (hg : (Jvm.resolveClass f.method.cls x.catchType).Gives e.toSetting s.vm (.ok cI) vm') (hr : vm'.classReady f.method.cls x.catchType cI) (hsz : vm'.classes.size ≤ s.vm.classes.size) :
    wp (findHandler.go f a (x :: t)) Q E e d acts s ↔ wp (findHandler.go f a (x :: t)) Q E e d acts (s.setVm vm') := by
  simp only [covers] at hx
  obtain ⟨ha, ht⟩ := hg.op (op := VmOp.resolveClass f.method.cls x.catchType) rfl
  obtain ⟨k, hkd, hres⟩ := hr
  have e1 : (s.setVm vm').vm = vm' := rfl
  simp [findHandler.go, hx, h0, ha, ht, hsz, resolveClass_memo e hkd hres, VmOp.dirties, VmOp.acts]
  exact Iff.rfl
end XH
def asg (A B : String) (v : Bool) (s : State) : Prop := ∃ c1 c2, s.vm.findClass A = some c1 ∧ s.vm.findClass B = some c2 ∧ s.vm.assignable c1 c2 = v
/-- the table's rows up to the one that takes an exception of the class cls, thrown at pc -/
def xHit (s : State) (own cls : String) (pc : Nat) : List (Nat × Nat × Nat × Nat) → Nat → Prop
  | [], _ => False
  | x :: r, q => x.1 ≤ pc ∧ pc < x.2.1 ∧ x.2.2.2 ≠ 0 ∧ ∃ C, Cond.classLink own x.2.2.2 C ∈ lw_t ∧ ((x.2.2.1 = q ∧ asg cls C true s) ∨ (asg cls C false s ∧ xHit s own cls pc r q))
section XF
variable {p : Program} {l : Launch} {e : Env} {R : Room} {s : State} {m : MethodId} {args : Array Value} {below : List Frame} {meth : Method} {c : Code} {H : Heap} {locs : List Loc} {cells slots : Nat} {Qw : State → Prop}
variable {cc : ByteArray} {nL : Nat} {pc : Nat} {ls : Array Slot} {rest st0 : List Value} {own cls : String}
theorem x_find (S : CallFix p m c cc nL s args lw_t own) (hpl : e.platform.magicAccessors = ({} : Platform).magicAccessors) {g : JFrame} (hg : g.method = m) {b : Addr} {cell : Cell} (hv : cell.vm = .none) (hc : s.vm.findClass cls = some cell.cls) {q : Nat} :
    ∀ (ents : List ExceptionTableEntry) (Y : State), s.WarmedH Y.vm → Y.heap[b]? = some cell → xHit s own cls g.pc (ents.map (fun h => (h.startPc, h.endPc, h.handlerPc, h.catchType))) q →
      ∃ vm', s.WarmedH vm' ∧ ∀ (Q : Handler → Pre) (E : CtlPost) (d : Bool) (acts : List Action), wp (findHandler.go g b ents) Q E e d acts Y ↔ Q (.found q) d acts (Y.setVm vm') := by
  intro ents
  induction ents with
  | nil => intro Y _ _ h; exact h.elim
  | cons x t ih =>
    intro Y hW hcell h
    obtain ⟨h1, h2, h3, C, hl, hor⟩ := h
    have h1 : x.startPc ≤ g.pc := h1
    have h2 : g.pc < x.endPc := h2
    have h3 : x.catchType ≠ 0 := h3
    have hl : Cond.classLink own x.catchType C ∈ lw_t := hl
    obtain ⟨cC, hfc, hcl⟩ := Cond.classLink_spec S.2.2.2.1 (S.2.2.2.2 _ hl) e.platform hpl
    rw [← hg] at hcl
    obtain ⟨hg₁, hwarm₁, hready₁⟩ := State.classEntry (e := e) hW hcl
    have hsz : (Y.vm.noted g.method.cls x.catchType (.cls cC)).classes.size ≤ Y.vm.classes.size := by simp
    generalize Y.vm.noted g.method.cls x.catchType (.cls cC) = vm₁ at hg₁ hwarm₁ hready₁ hsz
    have hcov : covers x g.pc = true := by simp [covers, h1, h2]
    have hal := hwarm₁.alike
    have k1 : ∃ k, vm₁.classes[cell.cls]? = some k := Vm.classAt_of_findClass (name := cls) (by rw [hal.findClass]; exact hc)
    have k2 : ∃ k, vm₁.classes[cC]? = some k := Vm.classAt_of_findClass (name := C) (by rw [hal.findClass]; exact hfc)
    have tr : ∀ (Q : Handler → Pre) (E : CtlPost) (d : Bool) (acts : List Action), wp (findHandler.go g b (x :: t)) Q E e d acts Y ↔ (if vm₁.assignable cell.cls cC = true then Q (.found x.handlerPc) d acts (Y.setVm vm₁) else wp (findHandler.go g b t) Q E e d acts (Y.setVm vm₁)) := by
      intro Q E d acts
      rw [x_go_tr hcov h3 hg₁ hready₁ hsz]
      exact Jvm.W.findHandler_go_class (s := Y.setVm vm₁) hcov h3 hready₁ hcell (fun k z => by rw [hv] at z; cases z) k1 k2
    rcases hor with ⟨hq, c1, c2, a1, a2, a3⟩ | ⟨⟨c1, c2, a1, a2, a3⟩, hrec⟩
    · cases a1.symm.trans hc
      cases a2.symm.trans hfc
      refine ⟨vm₁, hwarm₁, fun Q E d acts => ?_⟩
      rw [tr, if_pos (by rw [hal.assignable]; exact a3), show x.handlerPc = q from hq]
    · cases a1.symm.trans hc
      cases a2.symm.trans hfc
      obtain ⟨vm₂, hw2, hf2⟩ := ih (Y.setVm vm₁) hwarm₁ hcell hrec
      refine ⟨vm₂, hw2, fun Q E d acts => ?_⟩
      rw [tr, if_neg (by rw [hal.assignable, a3]; decide), hf2]
      exact Iff.rfl
theorem x_step {u : State} {f : JFrame} {r : List Frame} {b : Addr} {q : Nat} {vm' : Vm} (hfind : ∀ (Q : Handler → Pre) (E : CtlPost) (d : Bool) (acts : List Action), wp (findHandler f b) Q E e d acts u ↔ Q (.found q) d acts (u.setVm vm')) :
    (stepThrowing e u b (.java f :: r)).Is ((u.setVm vm').setFrames (.java { f with pc := q, stack := [.ref b] } :: r)) [] := by
  simp only [stepThrowing, searchFrame, vmDo]
  generalize hr : Sem.go _ e false [] u = res
  obtain ⟨as, rfl, ha⟩ := Sem.eq_ok_of hr (a := Handler.found q) (s' := u.setVm vm') (acts' := []) (by simp [hfind _ _ _ _])
  exact ⟨rfl, ha⟩
set_option maxHeartbeats 1000000 in
/-- the exception is caught -/
theorem x_catch (S : CallFix p m c cc nL s args lw_t own) {tups : List (Nat × Nat × Nat × Nat)} (htab : c.exceptionTable.toList.map (fun h => (h.startPc, h.endPc, h.handlerPc, h.catchType)) = tups) {q : Nat} (hit : xHit s own cls pc tups q) (hr : xRun p l e R s m args below meth c H locs cells slots (F0 m pc ls st0) rest cls)
    (kk : ∀ (b : Nat) (H1 : Heap), H.size ≤ H1.size → (∀ z, z < H.size → H1[z]? = H[z]?) → W p l e R s m args below meth c H1 locs (cells + 1) (slots + 6) Qw (F0 m q ls [.ref b])) : W p l e R s m args below meth c H locs cells slots Qw (F0 m pc ls st0) := by
  intro T hT X
  obtain ⟨b, cell, V, X', a1, a2, a3, a4, a5, a6, st⟩ := hr T hT X
  have hpl : e.platform.magicAccessors = ({} : Platform).magicAccessors := by rw [X.admits.platform]
  obtain ⟨vm', hwarm, hfind⟩ := x_find S hpl (g := F0 m pc ls rest) rfl a3 a4 c.exceptionTable.toList ((V.setTop (F0 m pc ls rest)).pushFrame (.throwing b)) (by rw [Stand.throwing_vm]; exact X'.warmed) (by rw [Stand.throwing_heap]; exact a2) (by rw [htab]; exact hit)
  have hfind2 : ∀ (Q : Handler → Pre) (E : CtlPost) (d : Bool) (acts : List Action), wp (findHandler (F0 m pc ls rest) b) Q E e d acts ((V.setTop (F0 m pc ls rest)).pushFrame (.throwing b)) ↔ Q (.found q) d acts (((V.setTop (F0 m pc ls rest)).pushFrame (.throwing b)).setVm vm') := by
    intro Q E d acts
    rw [Jvm.W.findHandler_eq (s := (V.setTop (F0 m pc ls rest)).pushFrame (.throwing b)) (by rw [Stand.throwing_vm]; exact X'.method') X'.code]
    exact hfind Q E d acts
  obtain ⟨t, k1, k2⟩ := kk b V.heap a5 a6 (V.setVm vm') rfl (X'.noted hwarm)
  refine ⟨t, st.trans ?_, k2⟩
  have h : At V (F0 m pc ls rest).method c below := X'.here
  obtain ⟨hgo, hw⟩ := h.throwing b
  refine Steps.head hgo hw ?_
  rw [stepThread_throwing (frames_entered h.top _), (x_step (u := (V.setTop (F0 m pc ls rest)).pushFrame (.throwing b)) hfind2).1]
  obtain ⟨g₀, hg⟩ := Option.isSome_iff_exists.mp h.top
  obtain ⟨r, hr⟩ := State.topJava?_eq_some.mp hg
  have hr2 : (V.setVm vm').frames = .java g₀ :: r := hr
  rw [State.setTop_of_frames _ hr2] at k1
  rw [State.pushFrame, State.setTop_of_frames _ hr, State.setFrames_setFrames, hr]
  show Steps p.tables e below (((V.setVm vm').setFrames _).setFrames (.java (F0 m q ls [.ref b]) :: r)) t
  rw [State.setFrames_setFrames]
  exact k1
end XF
end
section
/-- the whole tree, as versions' maps: n versions, mp x is the map of version x; after c calls -/
def TI (v : tV) (mp : Nat → nMap) (n c : Nat) : Prop := ∃ M, Inv v M ∧ vVer v = n ∧ 1 ≤ n ∧ (∀ x, x < n → vO v x < vNod v ∧ ∀ k, M (vO v x) k = mp x k) ∧ vNod v ≤ 1 + 127 * c
theorem TI.add {v v4 : tV} {M M4 : nM} {mp : Nat → nMap} {c r4 : Nat} {f : nMap} (h1 : 1 ≤ vVer v) (hroot : ∀ x, x < vVer v → vO v x < vNod v ∧ ∀ k, M (vO v x) k = mp x k) (hnod : vNod v ≤ 1 + 127 * c) (hI : Inv v4 M4) (hE : Ext v M v4 M4) (hr : r4 < vNod v4) (hB : vNod v4 ≤ vNod v + 127) (hf : ∀ k, M4 r4 k = f k) :
    TI (wVer (wO v4 (up (vO v4) (vVer v4) r4)) (vVer v4 + 1)) (up mp (vVer v) f) (vVer v + 1) (c + 1) := by
  obtain ⟨e1, e2, e3, e4⟩ := hE
  refine ⟨M4, hI, ?_, by omega, fun x hx => ?_, ?_⟩
  · show vVer v4 + 1 = vVer v + 1
    rw [e2]
  · show up (vO v4) (vVer v4) r4 x < vNod v4 ∧ ∀ k, M4 (up (vO v4) (vVer v4) r4 x) k = up mp (vVer v) f x k
    rw [e2, e3]
    by_cases hxn : x = vVer v
    · subst hxn
      rw [up_s, up_s]
      exact ⟨hr, hf⟩
    · rw [up_n hxn, up_n hxn]
      obtain ⟨g1, g2⟩ := hroot x (by omega)
      refine ⟨by omega, fun k => ?_⟩
      rw [(e4 _ g1).1]
      exact g2 k
  · show vNod v4 ≤ 1 + 127 * (c + 1)
    omega
theorem TI.same {v v' : tV} {M : nM} {mp : Nat → nMap} {c : Nat} (h1 : 1 ≤ vVer v) (hroot : ∀ x, x < vVer v → vO v x < vNod v ∧ ∀ k, M (vO v x) k = mp x k) (hnod : vNod v ≤ 1 + 127 * c) (hN : vNod v' = vNod v) (hI : Inv v' M) (hE : Ext v M v' M) : TI v' mp (vVer v) c := by
  obtain ⟨e1, e2, e3, e4⟩ := hE
  refine ⟨M, hI, e2, h1, fun x hx => ?_, by omega⟩
  rw [e3, hN]
  exact hroot x hx
/-- many, sum: between two ints -/
def mny (m : nMap) (a b : Int32) : Int32 := if a < b then nI (cnt m b.toNatClampNeg - cnt m a.toNatClampNeg) else nI 0
def smy (m : nMap) (a b : Int32) : Int64 := if a < b then smm m b.toNatClampNeg - smm m a.toNatClampNeg else 0
theorem clamp_mono {a b : Int32} (h : a < b) : a.toNatClampNeg ≤ b.toNatClampNeg := by
  rw [Int32.lt_iff_toInt_lt] at h
  show a.toInt.toNat ≤ b.toInt.toNat
  omega
/-- what select answers -/
def sel (m : nMap) (i : Nat) : Int32 → Prop := fun r => ∃ κ, r = nI κ ∧ κ < 256 ∧ (∃ x, m κ = some x) ∧ cnt m κ = i
theorem pick {x : Nat} {M : nM} {mp : Nat → nMap} {n : Nat} (h : ∀ k, M n k = mp x k) : M n = mp x := funext h
set_option maxHeartbeats 4000000 in
set_option maxRecDepth 100000 in
/-- put(x, k, y): a new version -/
theorem c_T_put (l : Launch) (G : gG) (a : tA) (v : tV) (mp : Nat → nMap) (n cn x k : Nat) (y : Int32) (hT : TI v mp n cn) (hx0 : x < n) (hk : k < 256) (hn6 : n < 600) (hc : cn < 512) : Met l y_T_put (mw y_T_put b_T_put 6 (some .int)) (rmS 520 21000) (tPc G a v [.int (nI x), .int (nI k), .int y]) (va_Qi (fun r v' => r = nI n ∧ TI v' (up mp n (up (mp x) k (some y))) (n + 1) (cn + 1)) (fun v' t => tP G a v' t.heap) (inA a)) 0 0 (inA a) := by
  obtain ⟨M, hI, rfl, hn1, hroot, hnod⟩ := hT
  have h8 := hI.2.1
  obtain ⟨hx1, hx2⟩ := hroot x hx0
  refine m_ofW (own := R_T) rfl rfl (fun p e s m args below meth c S hr hlk hx hnm hv => ?_)
  obtain ⟨hargs, hP, hD, hK⟩ := hv
  have hw := tS.start hP hD
  refine m_entryA [.ref (aH a), .int (nI x), .int (nI k), .int y] hargs (Nat.le_of_ble_eq_true rfl) (fun ls hl => ?_)
  have hl : lv_has ls 6 [(0, .ref (aH a)), (1, .int (nI x)), (2, .int (nI k)), (3, .int y)] := hl
  refine lv_aload_n S.1 S.2.1 d_T_put_0 rfl (lv_at hl 0 rfl) ?_
  refine lv_iload_n S.1 S.2.1 d_T_put_1 rfl (lv_at hl 1 rfl) ?_
  refine r_callv (r_run S (t_pre hK hw.1 hw.2.1) k_T_isVersion wi_T_isVersion wv_T_T_isVersion wL_T_69 (c_T_isVersion l G a v x (by omega) (by omega)) (rm_ok (by omega) (by omega)) rfl hl.1 rfl (Nat.le_of_ble_eq_true rfl) d_T_put_2 ⟨Nat.le_refl _, Nat.le_refl _⟩) ?_
  refine lv_iload_n S.1 S.2.1 d_T_put_5 rfl (lv_at hl 2 rfl) ?_
  refine r_callv (r_runS S preEq k_T_isKey ws_T_isKey wL_T_73 (c_T_isKey l k hk) (rm_ok (by omega) (by omega)) rfl hl.1 rfl (Nat.le_of_ble_eq_true rfl) d_T_put_6 ⟨Nat.le_refl _, Nat.le_refl _⟩) ?_
  refine lv_aload_n S.1 S.2.1 d_T_put_9 rfl (lv_at hl 0 rfl) ?_
  refine r_callv (r_run S (t_pre hK hw.1 hw.2.1) k_T_may wi_T_may wv_T_T_may wL_T_76 (c_T_may l G a v (by omega)) (rm_ok (by omega) (by omega)) rfl hl.1 rfl (Nat.le_of_ble_eq_true rfl) d_T_put_10 ⟨Nat.le_refl _, Nat.le_refl _⟩) ?_
  refine lv_aload_n S.1 S.2.1 d_T_put_13 rfl (lv_at hl 0 rfl) ?_
  refine lv_aload_n S.1 S.2.1 d_T_put_14 rfl (lv_at hl 0 rfl) ?_
  refine t_gO S hK hw.1 d_T_put_15 ?_
  refine lv_iload_n S.1 S.2.1 d_T_put_18 rfl (lv_at hl 1 rfl) ?_
  refine t_iO S hK hw.1 (by omega) d_T_put_19 ?_
  refine lv_iload_n S.1 S.2.1 d_T_put_20 rfl (lv_at hl 2 rfl) ?_
  refine r_calli (r_run S (t_pre hK hw.1 hw.2.1) k_T_find wi_T_find wv_T_T_find wL_T_79 (c_T_find l G a v M (vO v x) k hI hx1 hk) (rm_ok (by omega) (by omega)) rfl hl.1 rfl (Nat.le_of_ble_eq_true rfl) d_T_put_21 ⟨Nat.le_refl _, Nat.le_refl _⟩) (fun r hp => ?_)
  obtain ⟨q, rfl, hq, hor⟩ := hp
  refine lv_istore S.1 S.2.1 d_T_put_24 hl (by decide) rfl (fun ls hl => ?_)
  refine lv_iload S.1 S.2.1 d_T_put_26 (lv_at hl 0 rfl) ?_
  have k53 : W p l e (rmS 520 21000) s m args below meth c s.heap [] 0 0 (MQ below (va_Qi (fun r v2 => r = nI (vVer v) ∧ TI v2 (up mp (vVer v) (up (mp x) k (some y))) (vVer v + 1) (cn + 1)) (fun v' t => tP G a v' t.heap) (inA a)) args s 0 0 (inA a)) (F0 m 53 ls []) := by
    refine lv_aload_n S.1 S.2.1 d_T_put_53 rfl (lv_at hl 1 rfl) ?_
    refine lv_iconst (v := nI 0) S.1 S.2.1 d_T_put_54 (by decide) ?_
    refine lv_iload_n S.1 S.2.1 d_T_put_55 rfl (lv_at hl 3 rfl) ?_
    refine lv_iload_n S.1 S.2.1 d_T_put_56 rfl (lv_at hl 4 rfl) ?_
    refine lv_iconst (v := nI 0) S.1 S.2.1 d_T_put_57 (by decide) ?_
    have s0 : vS v 0 = 0 := by rw [(hI.2.2.2 0 (by omega)).2.2.1]; exact cnt_none (a := 256) (fun j _ => hI.2.2.1 j) 256 (Nat.le_refl _)
    refine t_calli (t_run S (t_pre hK hw.1 hw.2.1) k_T_make wi_T_make wv_T_T_make wL_T_55 (c_T_make l G a v 0 k y 0 (by omega) (by omega) (by omega) hk (by omega)) (rm_ok (by omega) (by omega)) rfl hl.1 rfl (Nat.le_of_ble_eq_true rfl) d_T_put_58 ⟨Nat.le_refl _, Nat.le_refl _⟩) hw (fun r v1 H locs hp hw _ _ => ?_)
    obtain ⟨rfl, rfl⟩ := hp
    obtain ⟨hI1, hE1⟩ := mk_inv (x := y) hI (by omega) (i := 0) (j := 0) (by omega) (by omega) hk (fun j _ => hI.2.2.1 j) (fun j _ => hI.2.2.1 j) (fun j z hz => by rw [hI.2.2.1 j] at hz; cases hz) (fun j z hz => by rw [hI.2.2.1 j] at hz; cases hz)
    have hone : ∀ j, up M (vNod v) (nd k y (M 0) (M 0)) (vNod v) j = if j = k then some y else none := fun j => by
      rw [up_s]
      simp only [nd, hI.2.2.1 j]
      by_cases h1 : j < k
      · rw [if_pos h1, if_neg (by omega)]
      · rw [if_neg h1]
    have n1 : vNod (mkV v 0 k y 0) = vNod v + 1 := rfl
    generalize up M (vNod v) (nd k y (M 0) (M 0)) = M1 at hI1 hE1 hone
    have eo1 : vO (mkV v 0 k y 0) = vO v := rfl
    generalize mkV v 0 k y 0 = v1 at hI1 hE1 hw n1 eo1
    have er1 := (hE1.2.2.2 _ hx1).1
    refine lv_istore S.1 S.2.1 d_T_put_61 hl (by decide) rfl (fun ls hl => ?_)
    refine lv_aload_n S.1 S.2.1 d_T_put_63 rfl (lv_at hl 2 rfl) ?_
    refine lv_aload_n S.1 S.2.1 d_T_put_64 rfl (lv_at hl 2 rfl) ?_
    refine lv_aload_n S.1 S.2.1 d_T_put_65 rfl (lv_at hl 2 rfl) ?_
    refine lv_aload_n S.1 S.2.1 d_T_put_66 rfl (lv_at hl 2 rfl) ?_
    refine lv_aload_n S.1 S.2.1 d_T_put_67 rfl (lv_at hl 2 rfl) ?_
    refine t_gO S hK hw.1 d_T_put_68 ?_
    refine lv_iload_n S.1 S.2.1 d_T_put_71 rfl (lv_at hl 3 rfl) ?_
    refine t_iO S hK hw.1 (by omega) d_T_put_72 ?_
    refine lv_iload_n S.1 S.2.1 d_T_put_73 rfl (lv_at hl 4 rfl) ?_
    refine t_calli (t_run S (t_pre hK hw.1 hw.2.1) k_T_below wi_T_below wv_T_T_below wL_T_51 (c_T_below l G a 256 v1 M1 (vO v1 x) k 16 hI1 (by rw [eo1]; omega) (by omega) hB.all (rB.all hI1 (by rw [eo1]; omega)) (by omega)) (rm_ok (by omega) (by omega)) rfl hl.1 rfl (Nat.le_of_ble_eq_true rfl) d_T_put_74 ⟨Nat.le_refl _, Nat.le_refl _⟩) hw (fun r v2 H locs hp hw _ _ => ?_)
    obtain ⟨r2, M2, rfl, hI2, hE2, hr2, hB2, hf2⟩ := hp
    have n2 := hE2.1
    have e12 := hE1.tr hE2
    have eo2 := e12.2.2.1
    have hf2 : ∀ j, M2 r2 j = if j < k then mp x j else none := fun j => by have h9 := hf2 j; simp only [eo1, er1, hx2] at h9; exact h9
    have hone2 : ∀ j, M2 (vNod v) j = if j = k then some y else none := fun j => by rw [(hE2.2.2.2 (vNod v) (by omega)).1]; exact hone j
    refine lv_iload S.1 S.2.1 d_T_put_77 (lv_at hl 0 rfl) ?_
    refine t_calli (t_run S (t_pre hK hw.1 hw.2.1) k_T_both wi_T_both wv_T_T_both wL_T_66 (c_T_both l G a 512 v2 M2 r2 (vNod v) k 256 256 16 26 hI2 hr2 (by omega) ⟨fun j hj => by rw [hf2 j, if_neg (by omega)], fun j hj => by rw [hone2 j, if_neg (by omega)]⟩ hB.all hB.all rfl (rB.all hI2 hr2) (lB.all hI2 (by omega)) (by omega)) (rm_ok (by omega) (by omega)) rfl hl.1 rfl (Nat.le_of_ble_eq_true rfl) d_T_put_79 ⟨Nat.le_refl _, Nat.le_refl _⟩) hw (fun r v3 H locs hp hw _ _ => ?_)
    obtain ⟨r3, M3, rfl, hI3, hE3, hr3, hB3, hf3⟩ := hp
    have n3 := hE3.1
    have e13 := e12.tr hE3
    have eo3 := e13.2.2.1
    have er3 := (e13.2.2.2 _ hx1).1
    have hf3 : ∀ j, M3 r3 j = if j < k then mp x j else if j = k then some y else none := fun j => by
      rw [hf3 j]
      simp only [un, hf2 j, hone2 j]
      by_cases h1 : j < k
      · rw [if_pos h1, if_pos h1, if_neg (by omega)]
        cases mp x j <;> rfl
      · rw [if_neg h1, if_neg h1]
    refine lv_aload_n S.1 S.2.1 d_T_put_82 rfl (lv_at hl 2 rfl) ?_
    refine lv_aload_n S.1 S.2.1 d_T_put_83 rfl (lv_at hl 2 rfl) ?_
    refine t_gO S hK hw.1 d_T_put_84 ?_
    refine lv_iload_n S.1 S.2.1 d_T_put_87 rfl (lv_at hl 3 rfl) ?_
    refine t_iO S hK hw.1 (by omega) d_T_put_88 ?_
    refine lv_iload_n S.1 S.2.1 d_T_put_89 rfl (lv_at hl 4 rfl) ?_
    refine lv_iconst (v := nI 1) S.1 S.2.1 d_T_put_90 (by decide) ?_
    refine n_iadd S d_T_put_91 ?_
    refine t_calli (t_run S (t_pre hK hw.1 hw.2.1) k_T_from wi_T_from wv_T_T_from wL_T_59 (c_T_from l G a 256 v3 M3 (vO v3 x) (k + 1) 26 hI3 (by rw [eo3]; omega) (by omega) hB.all (lB.all hI3 (by rw [eo3]; omega)) (by omega)) (rm_ok (by omega) (by omega)) rfl hl.1 rfl (Nat.le_of_ble_eq_true rfl) d_T_put_92 ⟨Nat.le_refl _, Nat.le_refl _⟩) hw (fun r v4 H locs hp hw _ _ => ?_)
    obtain ⟨r4, M4, rfl, hI4, hE4, hr4, hB4, hf4⟩ := hp
    have n4 := hE4.1
    have e14 := e13.tr hE4
    have hf4 : ∀ j, M4 r4 j = if k + 1 ≤ j then mp x j else none := fun j => by have h9 := hf4 j; simp only [eo3, er3, hx2] at h9; exact h9
    have hf34 : ∀ j, M4 r3 j = if j < k then mp x j else if j = k then some y else none := fun j => by rw [(hE4.2.2.2 r3 hr3).1]; exact hf3 j
    refine t_calli (t_run S (t_pre hK hw.1 hw.2.1) k_T_both wi_T_both wv_T_T_both wL_T_66 (c_T_both l G a 512 v4 M4 r3 r4 (k + 1) 256 256 16 26 hI4 (by omega) hr4 ⟨fun j hj => by rw [hf34 j, if_neg (by omega), if_neg (by omega)], fun j hj => by rw [hf4 j, if_neg (by omega)]⟩ hB.all hB.all rfl (rB.all hI4 (by omega)) (lB.all hI4 hr4) (by omega)) (rm_ok (by omega) (by omega)) rfl hl.1 rfl (Nat.le_of_ble_eq_true rfl) d_T_put_95 ⟨Nat.le_refl _, Nat.le_refl _⟩) hw (fun r v5 H locs hp hw _ _ => ?_)
    obtain ⟨r5, M5, rfl, hI5, hE5, hr5, hB5, hf5⟩ := hp
    have e15 := e14.tr hE5
    have ev5 := e15.2.1
    have hf5 : ∀ j, M5 r5 j = up (mp x) k (some y) j := fun j => by
      rw [hf5 j]
      simp only [un, hf34 j, hf4 j]
      rcases Nat.lt_trichotomy j k with h1 | h1 | h1
      · rw [if_pos h1, if_neg (show ¬ k + 1 ≤ j by omega), up_n (by omega)]
        cases mp x j <;> rfl
      · subst h1
        rw [if_neg (Nat.lt_irrefl j), if_pos rfl, up_s]
      · rw [if_neg (show ¬ j < k by omega), if_neg (show ¬ j = k by omega), if_pos (show k + 1 ≤ j by omega), up_n (by omega)]
    refine t_calli (t_run S (t_pre hK hw.1 hw.2.1) k_T_add wi_T_add wv_T_T_add wL_T_82 (c_T_add l G a v5 r5 (by omega)) (rm_ok (by omega) (by omega)) rfl hl.1 rfl (Nat.le_of_ble_eq_true rfl) d_T_put_98 ⟨Nat.le_refl _, Nat.le_refl _⟩) hw (fun r v6 H locs hp hw _ _ => ?_)
    obtain ⟨rfl, rfl⟩ := hp
    exact t_iret S hw ⟨by rw [ev5], TI.add hn1 hroot hnod hI5 e15 hr5 (by omega) hf5⟩ hr hlk d_T_put_101
  refine nz_eq S (by omega) d_T_put_28 rfl (fun _ => k53) (fun q0 => ?_)
  refine lv_aload_n S.1 S.2.1 d_T_put_31 rfl (lv_at hl 1 rfl) ?_
  refine t_gV S hK hw.1 d_T_put_32 ?_
  refine lv_iload S.1 S.2.1 d_T_put_35 (lv_at hl 0 rfl) ?_
  refine t_iV S hK hw.1 (by omega) d_T_put_37 ?_
  refine lv_iload_n S.1 S.2.1 d_T_put_38 rfl (lv_at hl 4 rfl) ?_
  refine lv_icmp_ne S.1 S.2.1 d_T_put_39 rfl (fun _ => k53) (fun hc2 => ?_)
  refine lv_aload_n S.1 S.2.1 d_T_put_42 rfl (lv_at hl 1 rfl) ?_
  refine lv_aload_n S.1 S.2.1 d_T_put_43 rfl (lv_at hl 1 rfl) ?_
  refine t_gO S hK hw.1 d_T_put_44 ?_
  refine lv_iload_n S.1 S.2.1 d_T_put_47 rfl (lv_at hl 2 rfl) ?_
  refine t_iO S hK hw.1 (by omega) d_T_put_48 ?_
  refine t_calli (t_run S (t_pre hK hw.1 hw.2.1) k_T_add wi_T_add wv_T_T_add wL_T_82 (c_T_add l G a v (vO v x) (by omega)) (rm_ok (by omega) (by omega)) rfl hl.1 rfl (Nat.le_of_ble_eq_true rfl) d_T_put_49 ⟨Nat.le_refl _, Nat.le_refl _⟩) hw (fun r v1 H locs hp hw _ _ => ?_)
  obtain ⟨rfl, rfl⟩ := hp
  refine t_iret S hw ⟨rfl, TI.add hn1 hroot hnod hI Ext.rf hx1 (by omega) (fun j => ?_)⟩ hr hlk d_T_put_52
  rcases hor with ⟨h1, -⟩ | ⟨-, -, h2⟩
  · exact absurd h1 q0
  by_cases hj : j = k
  · subst hj
    rw [up_s, h2, hc2]
  · rw [up_n hj, hx2 j]
set_option maxHeartbeats 4000000 in
set_option maxRecDepth 100000 in
/-- remove(x, k): a new version -/
theorem c_T_remove (l : Launch) (G : gG) (a : tA) (v : tV) (mp : Nat → nMap) (n cn x k : Nat) (z : Int32) (hT : TI v mp n cn) (hx0 : x < n) (hk : k < 256) (hn6 : n < 600) (hc : cn < 512) (hz : mp x k = some z) : Met l y_T_remove (mw y_T_remove b_T_remove 3 (some .int)) (rmS 520 21000) (tPc G a v [.int (nI x), .int (nI k)]) (va_Qi (fun r v' => r = nI n ∧ TI v' (up mp n (up (mp x) k none)) (n + 1) (cn + 1)) (fun v' t => tP G a v' t.heap) (inA a)) 0 0 (inA a) := by
  obtain ⟨M, hI, rfl, hn1, hroot, hnod⟩ := hT
  have h8 := hI.2.1
  obtain ⟨hx1, hx2⟩ := hroot x hx0
  refine m_ofW (own := R_T) rfl rfl (fun p e s m args below meth c S hr hlk hx hnm hv => ?_)
  obtain ⟨rfl, hP, hD, hK⟩ := hv
  have hw := tS.start hP hD
  refine m_entry [.ref (aH a), .int (nI x), .int (nI k)] (Nat.le_of_ble_eq_true rfl) (fun ls hl => ?_)
  have hl : lv_has ls 3 [(0, .ref (aH a)), (1, .int (nI x)), (2, .int (nI k))] := hl
  refine lv_aload_n S.1 S.2.1 d_T_remove_0 rfl (lv_at hl 0 rfl) ?_
  refine lv_iload_n S.1 S.2.1 d_T_remove_1 rfl (lv_at hl 1 rfl) ?_
  refine r_callv (r_run S (t_pre hK hw.1 hw.2.1) k_T_isVersion wi_T_isVersion wv_T_T_isVersion wL_T_69 (c_T_isVersion l G a v x (by omega) (by omega)) (rm_ok (by omega) (by omega)) rfl hl.1 rfl (Nat.le_of_ble_eq_true rfl) d_T_remove_2 ⟨Nat.le_refl _, Nat.le_refl _⟩) ?_
  refine lv_iload_n S.1 S.2.1 d_T_remove_5 rfl (lv_at hl 2 rfl) ?_
  refine r_callv (r_runS S preEq k_T_isKey ws_T_isKey wL_T_73 (c_T_isKey l k hk) (rm_ok (by omega) (by omega)) rfl hl.1 rfl (Nat.le_of_ble_eq_true rfl) d_T_remove_6 ⟨Nat.le_refl _, Nat.le_refl _⟩) ?_
  refine lv_aload_n S.1 S.2.1 d_T_remove_9 rfl (lv_at hl 0 rfl) ?_
  refine r_callv (r_run S (t_pre hK hw.1 hw.2.1) k_T_may wi_T_may wv_T_T_may wL_T_76 (c_T_may l G a v (by omega)) (rm_ok (by omega) (by omega)) rfl hl.1 rfl (Nat.le_of_ble_eq_true rfl) d_T_remove_10 ⟨Nat.le_refl _, Nat.le_refl _⟩) ?_
  refine lv_aload_n S.1 S.2.1 d_T_remove_13 rfl (lv_at hl 0 rfl) ?_
  refine lv_aload_n S.1 S.2.1 d_T_remove_14 rfl (lv_at hl 0 rfl) ?_
  refine t_gO S hK hw.1 d_T_remove_15 ?_
  refine lv_iload_n S.1 S.2.1 d_T_remove_18 rfl (lv_at hl 1 rfl) ?_
  refine t_iO S hK hw.1 (by omega) d_T_remove_19 ?_
  refine lv_iload_n S.1 S.2.1 d_T_remove_20 rfl (lv_at hl 2 rfl) ?_
  refine r_calli (r_run S (t_pre hK hw.1 hw.2.1) k_T_find wi_T_find wv_T_T_find wL_T_79 (c_T_find l G a v M (vO v x) k hI hx1 hk) (rm_ok (by omega) (by omega)) rfl hl.1 rfl (Nat.le_of_ble_eq_true rfl) d_T_remove_21 ⟨Nat.le_refl _, Nat.le_refl _⟩) (fun r hp => ?_)
  obtain ⟨q, rfl, hq, hor⟩ := hp
  refine nz_ne S (by omega) d_T_remove_24 rfl (fun q0 => ?_) (fun q0 => ?_)
  rotate_left
  · rcases hor with ⟨-, h2⟩ | ⟨h1, -⟩
    · rw [hx2 k, hz] at h2; cases h2
    · exact absurd q0 h1
  refine lv_aload_n S.1 S.2.1 d_T_remove_35 rfl (lv_at hl 0 rfl) ?_
  refine lv_aload_n S.1 S.2.1 d_T_remove_36 rfl (lv_at hl 0 rfl) ?_
  refine lv_aload_n S.1 S.2.1 d_T_remove_37 rfl (lv_at hl 0 rfl) ?_
  refine lv_aload_n S.1 S.2.1 d_T_remove_38 rfl (lv_at hl 0 rfl) ?_
  refine t_gO S hK hw.1 d_T_remove_39 ?_
  refine lv_iload_n S.1 S.2.1 d_T_remove_42 rfl (lv_at hl 1 rfl) ?_
  refine t_iO S hK hw.1 (by omega) d_T_remove_43 ?_
  refine lv_iload_n S.1 S.2.1 d_T_remove_44 rfl (lv_at hl 2 rfl) ?_
  refine t_calli (t_run S (t_pre hK hw.1 hw.2.1) k_T_below wi_T_below wv_T_T_below wL_T_51 (c_T_below l G a 256 v M (vO v x) k 16 hI hx1 (by omega) hB.all (rB.all hI hx1) (by omega)) (rm_ok (by omega) (by omega)) rfl hl.1 rfl (Nat.le_of_ble_eq_true rfl) d_T_remove_45 ⟨Nat.le_refl _, Nat.le_refl _⟩) hw (fun r v2 H locs hp hw _ _ => ?_)
  obtain ⟨r2, M2, rfl, hI2, hE2, hr2, hB2, hf2⟩ := hp
  have n2 := hE2.1
  have eo2 := hE2.2.2.1
  have er2 := (hE2.2.2.2 _ hx1).1
  have hf2 : ∀ j, M2 r2 j = if j < k then mp x j else none := fun j => by have h9 := hf2 j; simp only [hx2] at h9; exact h9
  refine lv_aload_n S.1 S.2.1 d_T_remove_48 rfl (lv_at hl 0 rfl) ?_
  refine lv_aload_n S.1 S.2.1 d_T_remove_49 rfl (lv_at hl 0 rfl) ?_
  refine t_gO S hK hw.1 d_T_remove_50 ?_
  refine lv_iload_n S.1 S.2.1 d_T_remove_53 rfl (lv_at hl 1 rfl) ?_
  refine t_iO S hK hw.1 (by omega) d_T_remove_54 ?_
  refine lv_iload_n S.1 S.2.1 d_T_remove_55 rfl (lv_at hl 2 rfl) ?_
  refine lv_iconst (v := nI 1) S.1 S.2.1 d_T_remove_56 (by decide) ?_
  refine n_iadd S d_T_remove_57 ?_
  refine t_calli (t_run S (t_pre hK hw.1 hw.2.1) k_T_from wi_T_from wv_T_T_from wL_T_59 (c_T_from l G a 256 v2 M2 (vO v2 x) (k + 1) 26 hI2 (by rw [eo2]; omega) (by omega) hB.all (lB.all hI2 (by rw [eo2]; omega)) (by omega)) (rm_ok (by omega) (by omega)) rfl hl.1 rfl (Nat.le_of_ble_eq_true rfl) d_T_remove_58 ⟨Nat.le_refl _, Nat.le_refl _⟩) hw (fun r v4 H locs hp hw _ _ => ?_)
  obtain ⟨r4, M4, rfl, hI4, hE4, hr4, hB4, hf4⟩ := hp
  have n4 := hE4.1
  have e14 := hE2.tr hE4
  have hf4 : ∀ j, M4 r4 j = if k + 1 ≤ j then mp x j else none := fun j => by have h9 := hf4 j; simp only [eo2, er2, hx2] at h9; exact h9
  have hf24 : ∀ j, M4 r2 j = if j < k then mp x j else none := fun j => by rw [(hE4.2.2.2 r2 hr2).1]; exact hf2 j
  refine t_calli (t_run S (t_pre hK hw.1 hw.2.1) k_T_both wi_T_both wv_T_T_both wL_T_66 (c_T_both l G a 512 v4 M4 r2 r4 (k + 1) 256 256 16 26 hI4 (by omega) hr4 ⟨fun j hj => by rw [hf24 j, if_neg (by omega)], fun j hj => by rw [hf4 j, if_neg (by omega)]⟩ hB.all hB.all rfl (rB.all hI4 (by omega)) (lB.all hI4 hr4) (by omega)) (rm_ok (by omega) (by omega)) rfl hl.1 rfl (Nat.le_of_ble_eq_true rfl) d_T_remove_61 ⟨Nat.le_refl _, Nat.le_refl _⟩) hw (fun r v5 H locs hp hw _ _ => ?_)
  obtain ⟨r5, M5, rfl, hI5, hE5, hr5, hB5, hf5⟩ := hp
  have e15 := e14.tr hE5
  have ev5 := e15.2.1
  have hf5 : ∀ j, M5 r5 j = up (mp x) k none j := fun j => by
    rw [hf5 j]
    simp only [un, hf24 j, hf4 j]
    rcases Nat.lt_trichotomy j k with h1 | h1 | h1
    · rw [if_pos h1, if_neg (show ¬ k + 1 ≤ j by omega), up_n (by omega)]
      cases mp x j <;> rfl
    · subst h1
      rw [if_neg (Nat.lt_irrefl j), if_neg (show ¬ j + 1 ≤ j by omega), up_s]
    · rw [if_neg (show ¬ j < k by omega), if_pos (show k + 1 ≤ j by omega), up_n (by omega)]
  refine t_calli (t_run S (t_pre hK hw.1 hw.2.1) k_T_add wi_T_add wv_T_T_add wL_T_82 (c_T_add l G a v5 r5 (by omega)) (rm_ok (by omega) (by omega)) rfl hl.1 rfl (Nat.le_of_ble_eq_true rfl) d_T_remove_64 ⟨Nat.le_refl _, Nat.le_refl _⟩) hw (fun r v6 H locs hp hw _ _ => ?_)
  obtain ⟨rfl, rfl⟩ := hp
  exact t_iret S hw ⟨by rw [ev5], TI.add hn1 hroot hnod hI5 e15 hr5 (by omega) hf5⟩ hr hlk d_T_remove_67
set_option maxHeartbeats 4000000 in
set_option maxRecDepth 100000 in
/-- join(x, w, k): a new version -/
theorem c_T_join (l : Launch) (G : gG) (a : tA) (v : tV) (mp : Nat → nMap) (n cn x w k : Nat) (hT : TI v mp n cn) (hx0 : x < n) (hw0 : w < n) (hk : k ≤ 256) (hn6 : n < 600) (hc : cn < 512) : Met l y_T_join (mw y_T_join b_T_join 4 (some .int)) (rmS 520 21000) (tPc G a v [.int (nI x), .int (nI w), .int (nI k)]) (va_Qi (fun r v' => r = nI n ∧ TI v' (up mp n (fun j => if j < k then mp x j else mp w j)) (n + 1) (cn + 1)) (fun v' t => tP G a v' t.heap) (inA a)) 0 0 (inA a) := by
  obtain ⟨M, hI, rfl, hn1, hroot, hnod⟩ := hT
  have h8 := hI.2.1
  obtain ⟨hx1, hx2⟩ := hroot x hx0
  obtain ⟨hy1, hy2⟩ := hroot w hw0
  refine m_ofW (own := R_T) rfl rfl (fun p e s m args below meth c S hr hlk hx hnm hv => ?_)
  obtain ⟨rfl, hP, hD, hK⟩ := hv
  have hw := tS.start hP hD
  refine m_entry [.ref (aH a), .int (nI x), .int (nI w), .int (nI k)] (Nat.le_of_ble_eq_true rfl) (fun ls hl => ?_)
  have hl : lv_has ls 4 [(0, .ref (aH a)), (1, .int (nI x)), (2, .int (nI w)), (3, .int (nI k))] := hl
  refine lv_aload_n S.1 S.2.1 d_T_join_0 rfl (lv_at hl 0 rfl) ?_
  refine lv_iload_n S.1 S.2.1 d_T_join_1 rfl (lv_at hl 1 rfl) ?_
  refine r_callv (r_run S (t_pre hK hw.1 hw.2.1) k_T_isVersion wi_T_isVersion wv_T_T_isVersion wL_T_69 (c_T_isVersion l G a v x (by omega) (by omega)) (rm_ok (by omega) (by omega)) rfl hl.1 rfl (Nat.le_of_ble_eq_true rfl) d_T_join_2 ⟨Nat.le_refl _, Nat.le_refl _⟩) ?_
  refine lv_aload_n S.1 S.2.1 d_T_join_5 rfl (lv_at hl 0 rfl) ?_
  refine lv_iload_n S.1 S.2.1 d_T_join_6 rfl (lv_at hl 2 rfl) ?_
  refine r_callv (r_run S (t_pre hK hw.1 hw.2.1) k_T_isVersion wi_T_isVersion wv_T_T_isVersion wL_T_69 (c_T_isVersion l G a v w (by omega) (by omega)) (rm_ok (by omega) (by omega)) rfl hl.1 rfl (Nat.le_of_ble_eq_true rfl) d_T_join_7 ⟨Nat.le_refl _, Nat.le_refl _⟩) ?_
  refine lv_iload_n S.1 S.2.1 d_T_join_10 rfl (lv_at hl 3 rfl) ?_
  refine n_iflt S (by omega) d_T_join_11 rfl ?_
  refine lv_iload_n S.1 S.2.1 d_T_join_14 rfl (lv_at hl 3 rfl) ?_
  refine lv_sipush (v := nI 256) S.1 S.2.1 d_T_join_15 (by decide) ?_
  refine nb_gt S (by omega) (by omega) d_T_join_18 rfl (fun h => absurd h (by omega)) (fun _ => ?_)
  refine lv_iconst (v := nI 1) S.1 S.2.1 d_T_join_21 (by decide) ?_
  refine lv_goto S.1 S.2.1 d_T_join_22 rfl ?_
  refine r_callv (r_runS S preEq k_T_there ws_T_there wL_T_44 (c_T_there l) (rm_ok (by omega) (by omega)) rfl hl.1 rfl (Nat.le_of_ble_eq_true rfl) d_T_join_26 ⟨Nat.le_refl _, Nat.le_refl _⟩) ?_
  refine lv_aload_n S.1 S.2.1 d_T_join_29 rfl (lv_at hl 0 rfl) ?_
  refine r_callv (r_run S (t_pre hK hw.1 hw.2.1) k_T_may wi_T_may wv_T_T_may wL_T_76 (c_T_may l G a v (by omega)) (rm_ok (by omega) (by omega)) rfl hl.1 rfl (Nat.le_of_ble_eq_true rfl) d_T_join_30 ⟨Nat.le_refl _, Nat.le_refl _⟩) ?_
  refine lv_aload_n S.1 S.2.1 d_T_join_33 rfl (lv_at hl 0 rfl) ?_
  refine lv_aload_n S.1 S.2.1 d_T_join_34 rfl (lv_at hl 0 rfl) ?_
  refine lv_aload_n S.1 S.2.1 d_T_join_35 rfl (lv_at hl 0 rfl) ?_
  refine lv_aload_n S.1 S.2.1 d_T_join_36 rfl (lv_at hl 0 rfl) ?_
  refine t_gO S hK hw.1 d_T_join_37 ?_
  refine lv_iload_n S.1 S.2.1 d_T_join_40 rfl (lv_at hl 1 rfl) ?_
  refine t_iO S hK hw.1 (by omega) d_T_join_41 ?_
  refine lv_iload_n S.1 S.2.1 d_T_join_42 rfl (lv_at hl 3 rfl) ?_
  refine t_calli (t_run S (t_pre hK hw.1 hw.2.1) k_T_below wi_T_below wv_T_T_below wL_T_51 (c_T_below l G a 256 v M (vO v x) k 16 hI hx1 (by omega) hB.all (rB.all hI hx1) (by omega)) (rm_ok (by omega) (by omega)) rfl hl.1 rfl (Nat.le_of_ble_eq_true rfl) d_T_join_43 ⟨Nat.le_refl _, Nat.le_refl _⟩) hw (fun r v2 H locs hp hw _ _ => ?_)
  obtain ⟨r2, M2, rfl, hI2, hE2, hr2, hB2, hf2⟩ := hp
  have n2 := hE2.1
  have eo2 := hE2.2.2.1
  have er2 := (hE2.2.2.2 _ hy1).1
  have hf2 : ∀ j, M2 r2 j = if j < k then mp x j else none := fun j => by have h9 := hf2 j; simp only [hx2] at h9; exact h9
  refine lv_aload_n S.1 S.2.1 d_T_join_46 rfl (lv_at hl 0 rfl) ?_
  refine lv_aload_n S.1 S.2.1 d_T_join_47 rfl (lv_at hl 0 rfl) ?_
  refine t_gO S hK hw.1 d_T_join_48 ?_
  refine lv_iload_n S.1 S.2.1 d_T_join_51 rfl (lv_at hl 2 rfl) ?_
  refine t_iO S hK hw.1 (by omega) d_T_join_52 ?_
  refine lv_iload_n S.1 S.2.1 d_T_join_53 rfl (lv_at hl 3 rfl) ?_
  refine t_calli (t_run S (t_pre hK hw.1 hw.2.1) k_T_from wi_T_from wv_T_T_from wL_T_59 (c_T_from l G a 256 v2 M2 (vO v2 w) (k) 26 hI2 (by rw [eo2]; omega) (by omega) hB.all (lB.all hI2 (by rw [eo2]; omega)) (by omega)) (rm_ok (by omega) (by omega)) rfl hl.1 rfl (Nat.le_of_ble_eq_true rfl) d_T_join_54 ⟨Nat.le_refl _, Nat.le_refl _⟩) hw (fun r v4 H locs hp hw _ _ => ?_)
  obtain ⟨r4, M4, rfl, hI4, hE4, hr4, hB4, hf4⟩ := hp
  have n4 := hE4.1
  have e14 := hE2.tr hE4
  have hf4 : ∀ j, M4 r4 j = if k ≤ j then mp w j else none := fun j => by have h9 := hf4 j; simp only [eo2, er2, hy2] at h9; exact h9
  have hf24 : ∀ j, M4 r2 j = if j < k then mp x j else none := fun j => by rw [(hE4.2.2.2 r2 hr2).1]; exact hf2 j
  refine t_calli (t_run S (t_pre hK hw.1 hw.2.1) k_T_both wi_T_both wv_T_T_both wL_T_66 (c_T_both l G a 512 v4 M4 r2 r4 (k) 256 256 16 26 hI4 (by omega) hr4 ⟨fun j hj => by rw [hf24 j, if_neg (by omega)], fun j hj => by rw [hf4 j, if_neg (by omega)]⟩ hB.all hB.all rfl (rB.all hI4 (by omega)) (lB.all hI4 hr4) (by omega)) (rm_ok (by omega) (by omega)) rfl hl.1 rfl (Nat.le_of_ble_eq_true rfl) d_T_join_57 ⟨Nat.le_refl _, Nat.le_refl _⟩) hw (fun r v5 H locs hp hw _ _ => ?_)
  obtain ⟨r5, M5, rfl, hI5, hE5, hr5, hB5, hf5⟩ := hp
  have e15 := e14.tr hE5
  have ev5 := e15.2.1
  have hf5 : ∀ j, M5 r5 j = (fun j => if j < k then mp x j else mp w j) j := fun j => by
    rw [hf5 j]
    simp only [un, hf24 j, hf4 j]
    by_cases h1 : j < k
    · rw [if_pos h1, if_pos h1, if_neg (show ¬ k ≤ j by omega)]
      cases mp x j <;> rfl
    · rw [if_neg h1, if_neg h1, if_pos (show k ≤ j by omega)]
  refine t_calli (t_run S (t_pre hK hw.1 hw.2.1) k_T_add wi_T_add wv_T_T_add wL_T_82 (c_T_add l G a v5 r5 (by omega)) (rm_ok (by omega) (by omega)) rfl hl.1 rfl (Nat.le_of_ble_eq_true rfl) d_T_join_60 ⟨Nat.le_refl _, Nat.le_refl _⟩) hw (fun r v6 H locs hp hw _ _ => ?_)
  obtain ⟨rfl, rfl⟩ := hp
  exact t_iret S hw ⟨by rw [ev5], TI.add hn1 hroot hnod hI5 e15 hr5 (by omega) hf5⟩ hr hlk d_T_join_63
end
section
set_option maxHeartbeats 4000000 in
set_option maxRecDepth 100000 in
/-- get(x, k) -/
theorem c_T_get (l : Launch) (G : gG) (a : tA) (v : tV) (mp : Nat → nMap) (n cn x k : Nat) (z : Int32) (hT : TI v mp n cn) (hx0 : x < n) (hk : k < 256) (hn6 : n ≤ 600) (hz : mp x k = some z) : Met l y_T_get (mw y_T_get b_T_get 4 (some .int)) (rmS 10 200) (tPc G a v [.int (nI x), .int (nI k)]) (rQi (fun r => r = z)) 0 0 (fun _ => False) := by
  obtain ⟨M, hI, rfl, hn1, hroot, hnod⟩ := hT
  have h8 := hI.2.1
  obtain ⟨hx1, hx2⟩ := hroot x hx0
  refine m_ofW (own := R_T) rfl rfl (fun p e s m args below meth c S hr hlk hx hnm hv => ?_)
  obtain ⟨rfl, hP, hD, hK⟩ := hv
  refine m_entry [.ref (aH a), .int (nI x), .int (nI k)] (Nat.le_of_ble_eq_true rfl) (fun ls hl => ?_)
  have hl : lv_has ls 4 [(0, .ref (aH a)), (1, .int (nI x)), (2, .int (nI k))] := hl
  refine lv_aload_n S.1 S.2.1 d_T_get_0 rfl (lv_at hl 0 rfl) ?_
  refine lv_iload_n S.1 S.2.1 d_T_get_1 rfl (lv_at hl 1 rfl) ?_
  refine r_callv (r_run S (t_pre hK hP hD) k_T_isVersion wi_T_isVersion wv_T_T_isVersion wL_T_69 (c_T_isVersion l G a v x (by omega) (by omega)) (rm_ok (by omega) (by omega)) rfl hl.1 rfl (Nat.le_of_ble_eq_true rfl) d_T_get_2 ⟨Nat.le_refl _, Nat.le_refl _⟩) ?_
  refine lv_iload_n S.1 S.2.1 d_T_get_5 rfl (lv_at hl 2 rfl) ?_
  refine r_callv (r_runS S preEq k_T_isKey ws_T_isKey wL_T_73 (c_T_isKey l k hk) (rm_ok (by omega) (by omega)) rfl hl.1 rfl (Nat.le_of_ble_eq_true rfl) d_T_get_6 ⟨Nat.le_refl _, Nat.le_refl _⟩) ?_
  refine lv_aload_n S.1 S.2.1 d_T_get_9 rfl (lv_at hl 0 rfl) ?_
  refine lv_aload_n S.1 S.2.1 d_T_get_10 rfl (lv_at hl 0 rfl) ?_
  refine t_gO S hK hP d_T_get_11 ?_
  refine lv_iload_n S.1 S.2.1 d_T_get_14 rfl (lv_at hl 1 rfl) ?_
  refine t_iO S hK hP (by omega) d_T_get_15 ?_
  refine lv_iload_n S.1 S.2.1 d_T_get_16 rfl (lv_at hl 2 rfl) ?_
  refine r_calli (r_run S (t_pre hK hP hD) k_T_find wi_T_find wv_T_T_find wL_T_79 (c_T_find l G a v M (vO v x) k hI hx1 hk) (rm_ok (by omega) (by omega)) rfl hl.1 rfl (Nat.le_of_ble_eq_true rfl) d_T_get_17 ⟨Nat.le_refl _, Nat.le_refl _⟩) (fun r hp => ?_)
  obtain ⟨q, rfl, hq, hor⟩ := hp
  refine lv_istore_n S.1 S.2.1 d_T_get_20 rfl hl (by decide) rfl (fun ls hl => ?_)
  refine lv_iload_n S.1 S.2.1 d_T_get_21 rfl (lv_at hl 0 rfl) ?_
  rw [hx2 k, hz] at hor
  rcases hor with ⟨-, h2⟩ | ⟨q0, -, h2⟩
  · cases h2
  refine nz_ne S (by omega) d_T_get_22 rfl (fun _ => ?_) (fun h => absurd h q0)
  refine lv_aload_n S.1 S.2.1 d_T_get_33 rfl (lv_at hl 1 rfl) ?_
  refine t_gV S hK hP d_T_get_34 ?_
  refine lv_iload_n S.1 S.2.1 d_T_get_37 rfl (lv_at hl 0 rfl) ?_
  refine t_iV S hK hP (by omega) d_T_get_38 ?_
  exact ri_ret S (Option.some.inj h2).symm hr hlk d_T_get_39
set_option maxHeartbeats 4000000 in
set_option maxRecDepth 100000 in
/-- digest(x) -/
theorem c_T_digest (l : Launch) (G : gG) (a : tA) (v : tV) (mp : Nat → nMap) (n cn x : Nat) (hT : TI v mp n cn) (hx0 : x < n) (hn6 : n ≤ 600) : Met l y_T_digest (mw y_T_digest b_T_digest 2 (some .long)) (rmS 260 11000) (tPc G a v [.int (nI x)]) (rQj (fun r => r = dg (mp x) 7 256)) 0 0 (fun _ => False) := by
  obtain ⟨M, hI, rfl, hn1, hroot, hnod⟩ := hT
  have h8 := hI.2.1
  obtain ⟨hx1, hx2⟩ := hroot x hx0
  refine m_ofW (own := R_T) rfl rfl (fun p e s m args below meth c S hr hlk hx hnm hv => ?_)
  obtain ⟨rfl, hP, hD, hK⟩ := hv
  refine m_entry [.ref (aH a), .int (nI x)] (Nat.le_of_ble_eq_true rfl) (fun ls hl => ?_)
  have hl : lv_has ls 2 [(0, .ref (aH a)), (1, .int (nI x))] := hl
  refine lv_aload_n S.1 S.2.1 d_T_digest_0 rfl (lv_at hl 0 rfl) ?_
  refine lv_iload_n S.1 S.2.1 d_T_digest_1 rfl (lv_at hl 1 rfl) ?_
  refine r_callv (r_run S (t_pre hK hP hD) k_T_isVersion wi_T_isVersion wv_T_T_isVersion wL_T_69 (c_T_isVersion l G a v x (by omega) (by omega)) (rm_ok (by omega) (by omega)) rfl hl.1 rfl (Nat.le_of_ble_eq_true rfl) d_T_digest_2 ⟨Nat.le_refl _, Nat.le_refl _⟩) ?_
  refine lv_aload_n S.1 S.2.1 d_T_digest_5 rfl (lv_at hl 0 rfl) ?_
  refine lv_aload_n S.1 S.2.1 d_T_digest_6 rfl (lv_at hl 0 rfl) ?_
  refine t_gO S hK hP d_T_digest_7 ?_
  refine lv_iload_n S.1 S.2.1 d_T_digest_10 rfl (lv_at hl 1 rfl) ?_
  refine t_iO S hK hP (by omega) d_T_digest_11 ?_
  refine lv_ldc2 S.1 S.2.1 S.2.2.2.1 (S.2.2.2.2 _ wq_T_108) d_T_digest_12 ?_
  refine r_callj (r_run S (t_pre hK hP hD) k_T_digested wi_T_digested wv_T_T_digested wL_T_104 (c_T_digested l G a v M hI 256 (vO v x) 7 hx1 hB.all) (rm_ok (by omega) (by omega)) rfl hl.1 rfl (Nat.le_of_ble_eq_true rfl) d_T_digest_15 ⟨Nat.le_refl _, Nat.le_refl _⟩) (fun r hp => ?_)
  refine rj_ret S ?_ hr hlk d_T_digest_18
  rw [hp, pick hx2]
set_option maxHeartbeats 4000000 in
set_option maxRecDepth 100000 in
/-- differ(x, w) -/
theorem c_T_differ (l : Launch) (G : gG) (a : tA) (v : tV) (mp : Nat → nMap) (n cn x w : Nat) (hT : TI v mp n cn) (hx0 : x < n) (hw0 : w < n) (hn6 : n ≤ 600) (hc : cn ≤ 512) : Met l y_T_differ (mw y_T_differ b_T_differ 3 (some .int)) (rmS 520 26000) (tPc G a v [.int (nI x), .int (nI w)]) (va_Qi (fun r v' => r = nI (df (mp x) (mp w) 256) ∧ TI v' mp n cn) (fun v' t => tP G a v' t.heap) (inA a)) 0 0 (inA a) := by
  obtain ⟨M, hI, rfl, hn1, hroot, hnod⟩ := hT
  have h8 := hI.2.1
  obtain ⟨hx1, hx2⟩ := hroot x hx0
  obtain ⟨hy1, hy2⟩ := hroot w hw0
  refine m_ofW (own := R_T) rfl rfl (fun p e s m args below meth c S hr hlk hx hnm hv => ?_)
  obtain ⟨rfl, hP, hD, hK⟩ := hv
  have hw := tS.start hP hD
  refine m_entry [.ref (aH a), .int (nI x), .int (nI w)] (Nat.le_of_ble_eq_true rfl) (fun ls hl => ?_)
  have hl : lv_has ls 3 [(0, .ref (aH a)), (1, .int (nI x)), (2, .int (nI w))] := hl
  refine lv_aload_n S.1 S.2.1 d_T_differ_0 rfl (lv_at hl 0 rfl) ?_
  refine lv_iload_n S.1 S.2.1 d_T_differ_1 rfl (lv_at hl 1 rfl) ?_
  refine r_callv (r_run S (t_pre hK hw.1 hw.2.1) k_T_isVersion wi_T_isVersion wv_T_T_isVersion wL_T_69 (c_T_isVersion l G a v x (by omega) (by omega)) (rm_ok (by omega) (by omega)) rfl hl.1 rfl (Nat.le_of_ble_eq_true rfl) d_T_differ_2 ⟨Nat.le_refl _, Nat.le_refl _⟩) ?_
  refine lv_aload_n S.1 S.2.1 d_T_differ_5 rfl (lv_at hl 0 rfl) ?_
  refine lv_iload_n S.1 S.2.1 d_T_differ_6 rfl (lv_at hl 2 rfl) ?_
  refine r_callv (r_run S (t_pre hK hw.1 hw.2.1) k_T_isVersion wi_T_isVersion wv_T_T_isVersion wL_T_69 (c_T_isVersion l G a v w (by omega) (by omega)) (rm_ok (by omega) (by omega)) rfl hl.1 rfl (Nat.le_of_ble_eq_true rfl) d_T_differ_7 ⟨Nat.le_refl _, Nat.le_refl _⟩) ?_
  refine lv_aload_n S.1 S.2.1 d_T_differ_10 rfl (lv_at hl 0 rfl) ?_
  refine lv_aload_n S.1 S.2.1 d_T_differ_11 rfl (lv_at hl 0 rfl) ?_
  refine t_gO S hK hw.1 d_T_differ_12 ?_
  refine lv_iload_n S.1 S.2.1 d_T_differ_15 rfl (lv_at hl 1 rfl) ?_
  refine t_iO S hK hw.1 (by omega) d_T_differ_16 ?_
  refine lv_aload_n S.1 S.2.1 d_T_differ_17 rfl (lv_at hl 0 rfl) ?_
  refine t_gO S hK hw.1 d_T_differ_18 ?_
  refine lv_iload_n S.1 S.2.1 d_T_differ_21 rfl (lv_at hl 2 rfl) ?_
  refine t_iO S hK hw.1 (by omega) d_T_differ_22 ?_
  refine t_calli (t_run S (t_pre hK hw.1 hw.2.1) k_T_others wi_T_others wv_T_T_others wL_T_99 (c_T_others l G a 256 v M (vO v x) (vO v w) hI hx1 hy1 hB.all hB.all (by omega)) (rm_ok (by omega) (by omega)) rfl hl.1 rfl (Nat.le_of_ble_eq_true rfl) d_T_differ_23 ⟨Nat.le_refl _, Nat.le_refl _⟩) hw (fun r v1 H locs hp hw _ _ => ?_)
  obtain ⟨rfl, hN, hI1, hE1⟩ := hp
  refine t_iret S hw ⟨?_, TI.same hn1 hroot hnod hN hI1 hE1⟩ hr hlk d_T_differ_26
  rw [pick hx2, pick hy2]
set_option maxHeartbeats 4000000 in
set_option maxRecDepth 100000 in
/-- many(x, y, z) -/
theorem c_T_many (l : Launch) (G : gG) (a : tA) (v : tV) (mp : Nat → nMap) (n cn x : Nat) (y z : Int32) (hT : TI v mp n cn) (hx0 : x < n) (hn6 : n ≤ 600) : Met l y_T_many (mw y_T_many b_T_many 5 (some .int)) (rmS 10 200) (tPc G a v [.int (nI x), .int y, .int z]) (va_Qi (fun r v' => r = mny (mp x) y z ∧ TI v' mp n cn) (fun v' t => tP G a v' t.heap) (inA a)) 0 0 (inA a) := by
  obtain ⟨M, hI, rfl, hn1, hroot, hnod⟩ := hT
  have h8 := hI.2.1
  obtain ⟨hx1, hx2⟩ := hroot x hx0
  refine m_ofW (own := R_T) rfl rfl (fun p e s m args below meth c S hr hlk hx hnm hv => ?_)
  obtain ⟨rfl, hP, hD, hK⟩ := hv
  have hw := tS.start hP hD
  refine m_entry [.ref (aH a), .int (nI x), .int y, .int z] (Nat.le_of_ble_eq_true rfl) (fun ls hl => ?_)
  have hl : lv_has ls 5 [(0, .ref (aH a)), (1, .int (nI x)), (2, .int y), (3, .int z)] := hl
  refine lv_aload_n S.1 S.2.1 d_T_many_0 rfl (lv_at hl 0 rfl) ?_
  refine lv_iload_n S.1 S.2.1 d_T_many_1 rfl (lv_at hl 1 rfl) ?_
  refine r_callv (r_run S (t_pre hK hw.1 hw.2.1) k_T_isVersion wi_T_isVersion wv_T_T_isVersion wL_T_69 (c_T_isVersion l G a v x (by omega) (by omega)) (rm_ok (by omega) (by omega)) rfl hl.1 rfl (Nat.le_of_ble_eq_true rfl) d_T_many_2 ⟨Nat.le_refl _, Nat.le_refl _⟩) ?_
  refine lv_iload_n S.1 S.2.1 d_T_many_5 rfl (lv_at hl 2 rfl) ?_
  refine lv_iload_n S.1 S.2.1 d_T_many_6 rfl (lv_at hl 3 rfl) ?_
  refine lv_icmp_lt S.1 S.2.1 d_T_many_7 rfl (fun hyz => ?_) (fun hyz => ?_)
  rotate_left
  · refine lv_iconst (v := nI 0) S.1 S.2.1 d_T_many_10 (by decide) ?_
    exact t_iret S hw ⟨by rw [mny, if_neg hyz], M, hI, rfl, hn1, hroot, hnod⟩ hr hlk d_T_many_11
  refine lv_aload_n S.1 S.2.1 d_T_many_12 rfl (lv_at hl 0 rfl) ?_
  refine lv_aload_n S.1 S.2.1 d_T_many_13 rfl (lv_at hl 0 rfl) ?_
  refine t_gO S hK hw.1 d_T_many_14 ?_
  refine lv_iload_n S.1 S.2.1 d_T_many_17 rfl (lv_at hl 1 rfl) ?_
  refine t_iO S hK hw.1 (by omega) d_T_many_18 ?_
  refine lv_iload_n S.1 S.2.1 d_T_many_19 rfl (lv_at hl 2 rfl) ?_
  refine t_callv (t_run S (t_pre hK hw.1 hw.2.1) k_T_pass wi_T_pass wv_T_T_pass wL_T_95 (c_T_pass l G a v M (vO v x) y hI hx1) (rm_ok (by omega) (by omega)) rfl hl.1 rfl (Nat.le_of_ble_eq_true rfl) d_T_many_20 ⟨Nat.le_refl _, Nat.le_refl _⟩) hw (fun v1 H locs hp hw _ _ => ?_)
  subst hp
  refine lv_aload_n S.1 S.2.1 d_T_many_23 rfl (lv_at hl 0 rfl) ?_
  refine t_gPas S hK hw.1 d_T_many_24 ?_
  refine lv_istore S.1 S.2.1 d_T_many_27 hl (by decide) rfl (fun ls hl => ?_)
  refine lv_aload_n S.1 S.2.1 d_T_many_29 rfl (lv_at hl 1 rfl) ?_
  refine lv_aload_n S.1 S.2.1 d_T_many_30 rfl (lv_at hl 1 rfl) ?_
  refine t_gO S hK hw.1 d_T_many_31 ?_
  refine lv_iload_n S.1 S.2.1 d_T_many_34 rfl (lv_at hl 2 rfl) ?_
  refine t_iO S hK hw.1 (show x < 600 by omega) d_T_many_35 ?_
  refine lv_iload_n S.1 S.2.1 d_T_many_36 rfl (lv_at hl 4 rfl) ?_
  refine t_callv (t_run S (t_pre hK hw.1 hw.2.1) k_T_pass wi_T_pass wv_T_T_pass wL_T_95 (c_T_pass l G a _ M (vO v x) z hI hx1) (rm_ok (by omega) (by omega)) rfl hl.1 rfl (Nat.le_of_ble_eq_true rfl) d_T_many_37 ⟨Nat.le_refl _, Nat.le_refl _⟩) hw (fun v1 H locs hp hw _ _ => ?_)
  subst hp
  refine lv_aload_n S.1 S.2.1 d_T_many_40 rfl (lv_at hl 1 rfl) ?_
  refine t_gPas S hK hw.1 d_T_many_41 ?_
  refine lv_iload S.1 S.2.1 d_T_many_44 (lv_at hl 0 rfl) ?_
  refine n_isub S (cnt_mono (M (vO v x)) (clamp_mono hyz)) d_T_many_46 ?_
  exact t_iret S hw ⟨by rw [mny, if_pos hyz, ← pick hx2], M, hI, rfl, hn1, hroot, hnod⟩ hr hlk d_T_many_47
set_option maxHeartbeats 4000000 in
set_option maxRecDepth 100000 in
/-- sum(x, y, z) -/
theorem c_T_sum (l : Launch) (G : gG) (a : tA) (v : tV) (mp : Nat → nMap) (n cn x : Nat) (y z : Int32) (hT : TI v mp n cn) (hx0 : x < n) (hn6 : n ≤ 600) : Met l y_T_sum (mw y_T_sum b_T_sum 6 (some .long)) (rmS 10 200) (tPc G a v [.int (nI x), .int y, .int z]) (va_Ql (fun r v' => r = smy (mp x) y z ∧ TI v' mp n cn) (fun v' t => tP G a v' t.heap) (inA a)) 0 0 (inA a) := by
  obtain ⟨M, hI, rfl, hn1, hroot, hnod⟩ := hT
  have h8 := hI.2.1
  obtain ⟨hx1, hx2⟩ := hroot x hx0
  refine m_ofW (own := R_T) rfl rfl (fun p e s m args below meth c S hr hlk hx hnm hv => ?_)
  obtain ⟨rfl, hP, hD, hK⟩ := hv
  have hw := tS.start hP hD
  refine m_entry [.ref (aH a), .int (nI x), .int y, .int z] (Nat.le_of_ble_eq_true rfl) (fun ls hl => ?_)
  have hl : lv_has ls 6 [(0, .ref (aH a)), (1, .int (nI x)), (2, .int y), (3, .int z)] := hl
  refine lv_aload_n S.1 S.2.1 d_T_sum_0 rfl (lv_at hl 0 rfl) ?_
  refine lv_iload_n S.1 S.2.1 d_T_sum_1 rfl (lv_at hl 1 rfl) ?_
  refine r_callv (r_run S (t_pre hK hw.1 hw.2.1) k_T_isVersion wi_T_isVersion wv_T_T_isVersion wL_T_69 (c_T_isVersion l G a v x (by omega) (by omega)) (rm_ok (by omega) (by omega)) rfl hl.1 rfl (Nat.le_of_ble_eq_true rfl) d_T_sum_2 ⟨Nat.le_refl _, Nat.le_refl _⟩) ?_
  refine lv_iload_n S.1 S.2.1 d_T_sum_5 rfl (lv_at hl 2 rfl) ?_
  refine lv_iload_n S.1 S.2.1 d_T_sum_6 rfl (lv_at hl 3 rfl) ?_
  refine lv_icmp_lt S.1 S.2.1 d_T_sum_7 rfl (fun hyz => ?_) (fun hyz => ?_)
  rotate_left
  · refine lv_lconst (v := 0) S.1 S.2.1 d_T_sum_10 (by decide) ?_
    exact t_lret S hw ⟨by rw [smy, if_neg hyz], M, hI, rfl, hn1, hroot, hnod⟩ hr hlk d_T_sum_11
  refine lv_aload_n S.1 S.2.1 d_T_sum_12 rfl (lv_at hl 0 rfl) ?_
  refine lv_aload_n S.1 S.2.1 d_T_sum_13 rfl (lv_at hl 0 rfl) ?_
  refine t_gO S hK hw.1 d_T_sum_14 ?_
  refine lv_iload_n S.1 S.2.1 d_T_sum_17 rfl (lv_at hl 1 rfl) ?_
  refine t_iO S hK hw.1 (by omega) d_T_sum_18 ?_
  refine lv_iload_n S.1 S.2.1 d_T_sum_19 rfl (lv_at hl 2 rfl) ?_
  refine t_callv (t_run S (t_pre hK hw.1 hw.2.1) k_T_pass wi_T_pass wv_T_T_pass wL_T_95 (c_T_pass l G a v M (vO v x) y hI hx1) (rm_ok (by omega) (by omega)) rfl hl.1 rfl (Nat.le_of_ble_eq_true rfl) d_T_sum_20 ⟨Nat.le_refl _, Nat.le_refl _⟩) hw (fun v1 H locs hp hw _ _ => ?_)
  subst hp
  refine lv_aload_n S.1 S.2.1 d_T_sum_23 rfl (lv_at hl 0 rfl) ?_
  refine t_gSum S hK hw.1 d_T_sum_24 ?_
  refine lv_lstore S.1 S.2.1 d_T_sum_27 hl (by decide) rfl (fun ls hl => ?_)
  refine lv_aload_n S.1 S.2.1 d_T_sum_29 rfl (lv_at hl 1 rfl) ?_
  refine lv_aload_n S.1 S.2.1 d_T_sum_30 rfl (lv_at hl 1 rfl) ?_
  refine t_gO S hK hw.1 d_T_sum_31 ?_
  refine lv_iload_n S.1 S.2.1 d_T_sum_34 rfl (lv_at hl 2 rfl) ?_
  refine t_iO S hK hw.1 (show x < 600 by omega) d_T_sum_35 ?_
  refine lv_iload_n S.1 S.2.1 d_T_sum_36 rfl (lv_at hl 4 rfl) ?_
  refine t_callv (t_run S (t_pre hK hw.1 hw.2.1) k_T_pass wi_T_pass wv_T_T_pass wL_T_95 (c_T_pass l G a _ M (vO v x) z hI hx1) (rm_ok (by omega) (by omega)) rfl hl.1 rfl (Nat.le_of_ble_eq_true rfl) d_T_sum_37 ⟨Nat.le_refl _, Nat.le_refl _⟩) hw (fun v1 H locs hp hw _ _ => ?_)
  subst hp
  refine lv_aload_n S.1 S.2.1 d_T_sum_40 rfl (lv_at hl 1 rfl) ?_
  refine t_gSum S hK hw.1 d_T_sum_41 ?_
  refine lv_lload S.1 S.2.1 d_T_sum_44 (lv_at hl 0 rfl) ?_
  refine lv_lsub S.1 S.2.1 d_T_sum_46 ?_
  exact t_lret S hw ⟨by rw [smy, if_pos hyz, ← pick hx2], M, hI, rfl, hn1, hroot, hnod⟩ hr hlk d_T_sum_47
set_option maxHeartbeats 4000000 in
set_option maxRecDepth 100000 in
/-- select(x, i) -/
theorem c_T_select (l : Launch) (G : gG) (a : tA) (v : tV) (mp : Nat → nMap) (n cn x i : Nat) (hT : TI v mp n cn) (hx0 : x < n) (hn6 : n ≤ 600) (hi : i < cnt (mp x) 256) : Met l y_T_select (mw y_T_select b_T_select 5 (some .int)) (rmS 10 200) (tPc G a v [.int (nI x), .int (nI i)]) (rQi (sel (mp x) i)) 0 0 (fun _ => False) := by
  obtain ⟨M, hI, rfl, hn1, hroot, hnod⟩ := hT
  have h8 := hI.2.1
  obtain ⟨hx1, hx2⟩ := hroot x hx0
  have hi2 := cnt_le (mp x) 256
  have hsz : vS v (vO v x) = cnt (mp x) 256 := by rw [(hI.2.2.2 _ hx1).2.2.1, pick hx2]
  refine m_ofW (own := R_T) rfl rfl (fun p e s m args below meth c S hr hlk hx hnm hv => ?_)
  obtain ⟨hargs, hP, hD, hK⟩ := hv
  refine m_entryA [.ref (aH a), .int (nI x), .int (nI i)] hargs (Nat.le_of_ble_eq_true rfl) (fun ls hl => ?_)
  have hl : lv_has ls 5 [(0, .ref (aH a)), (1, .int (nI x)), (2, .int (nI i))] := hl
  refine lv_aload_n S.1 S.2.1 d_T_select_0 rfl (lv_at hl 0 rfl) ?_
  refine lv_iload_n S.1 S.2.1 d_T_select_1 rfl (lv_at hl 1 rfl) ?_
  refine r_callv (r_run S (t_pre hK hP hD) k_T_isVersion wi_T_isVersion wv_T_T_isVersion wL_T_69 (c_T_isVersion l G a v x (by omega) (by omega)) (rm_ok (by omega) (by omega)) rfl hl.1 rfl (Nat.le_of_ble_eq_true rfl) d_T_select_2 ⟨Nat.le_refl _, Nat.le_refl _⟩) ?_
  refine lv_iload_n S.1 S.2.1 d_T_select_5 rfl (lv_at hl 2 rfl) ?_
  refine n_iflt S (by omega) d_T_select_6 rfl ?_
  refine lv_iload_n S.1 S.2.1 d_T_select_9 rfl (lv_at hl 2 rfl) ?_
  refine lv_aload_n S.1 S.2.1 d_T_select_10 rfl (lv_at hl 0 rfl) ?_
  refine t_gS S hK hP d_T_select_11 ?_
  refine lv_aload_n S.1 S.2.1 d_T_select_14 rfl (lv_at hl 0 rfl) ?_
  refine t_gO S hK hP d_T_select_15 ?_
  refine lv_iload_n S.1 S.2.1 d_T_select_18 rfl (lv_at hl 1 rfl) ?_
  refine t_iO S hK hP (by omega) d_T_select_19 ?_
  refine t_iS S hK hP (by omega) d_T_select_20 ?_
  refine nb_ge S (by omega) (by omega) d_T_select_21 rfl (fun h => absurd h (by omega)) (fun _ => ?_)
  refine lv_iconst (v := nI 1) S.1 S.2.1 d_T_select_24 (by decide) ?_
  refine lv_goto S.1 S.2.1 d_T_select_25 rfl ?_
  refine r_callv (r_runS S preEq k_T_there ws_T_there wL_T_44 (c_T_there l) (rm_ok (by omega) (by omega)) rfl hl.1 rfl (Nat.le_of_ble_eq_true rfl) d_T_select_29 ⟨Nat.le_refl _, Nat.le_refl _⟩) ?_
  have loop : ∀ q b, q < vNod v → b < vS v q → b ≤ i → (∀ κ z, M q κ = some z → mp x κ = some z ∧ cnt (mp x) κ = (i - b) + cnt (M q) κ) → ∀ ls, lv_has ls 5 [(4, .int (nI b)), (3, .int (nI q)), (0, .ref (aH a)), (1, .int (nI x)), (2, .int (nI i))] → W p l e (rmS 10 200) s m args below meth c s.heap [] 0 0 (MQ below (rQi (sel (mp x) i)) args s 0 0 (fun _ => False)) (F0 m 42 ls []) := by
    intro q
    induction q using Nat.strongRecOn with
    | ind q ih =>
    intro b hq hb hbi hM ls hl
    have q0 : q ≠ 0 := by
      intro h
      subst h
      rw [(hI.2.2.2 0 (by omega)).2.2.1, cnt_none (a := 256) (fun j _ => hI.2.2.1 j) 256 (Nat.le_refl _)] at hb
      omega
    have hO := hI.ok hq q0
    have g1 := hO.1
    have g2 := hO.2.1
    have g3 := hO.2.2.1
    have hN := hO.2.2.2.1
    have b1 := hI.size hq
    have b2 := hI.size (n := vL v q) (by omega)
    have hcL : ∀ κ, κ ≤ vK v q → cnt (M q) κ = cnt (M (vL v q)) κ := fun κ hκ => cnt_congr κ (fun j hj => hN.1 j (by omega))
    have hcR : ∀ κ, vK v q < κ → cnt (M q) κ = vS v (vL v q) + 1 + cnt (M (vR v q)) κ := fun κ hκ => (pass_in hI hq q0 hκ).1
    have hSz : vS v q = vS v (vL v q) + 1 + vS v (vR v q) := by
      rw [(hI.2.2.2 q hq).2.2.1, (hI.2.2.2 (vR v q) (by omega)).2.2.1, hcR 256 g3]
    refine lv_aload_n S.1 S.2.1 d_T_select_42 rfl (lv_at hl 2 rfl) ?_
    refine t_gS S hK hP d_T_select_43 ?_
    refine lv_aload_n S.1 S.2.1 d_T_select_46 rfl (lv_at hl 2 rfl) ?_
    refine t_gL S hK hP d_T_select_47 ?_
    refine lv_iload_n S.1 S.2.1 d_T_select_50 rfl (lv_at hl 1 rfl) ?_
    refine t_iL S hK hP (by omega) d_T_select_51 ?_
    refine t_iS S hK hP (by omega) d_T_select_52 ?_
    refine lv_iload S.1 S.2.1 d_T_select_53 (lv_at hl 0 rfl) ?_
    refine nb_eq S (by omega) (by omega) d_T_select_55 rfl (fun hc => ?_) (fun hc => ?_)
    · refine lv_aload_n S.1 S.2.1 d_T_select_112 rfl (lv_at hl 2 rfl) ?_
      refine t_gK S hK hP d_T_select_113 ?_
      refine lv_iload_n S.1 S.2.1 d_T_select_116 rfl (lv_at hl 1 rfl) ?_
      refine t_iK S hK hP (by omega) d_T_select_117 ?_
      obtain ⟨m1, m2⟩ := hM _ _ hN.2.1
      refine ri_ret S ⟨vK v q, rfl, g3, ⟨_, m1⟩, ?_⟩ hr hlk d_T_select_118
      rw [m2, hcL _ (Nat.le_refl _), hI.cntL hq q0 (Nat.le_refl _), hc]
      omega
    refine lv_iload S.1 S.2.1 d_T_select_58 (lv_at hl 0 rfl) ?_
    refine lv_aload_n S.1 S.2.1 d_T_select_60 rfl (lv_at hl 2 rfl) ?_
    refine t_gS S hK hP d_T_select_61 ?_
    refine lv_aload_n S.1 S.2.1 d_T_select_64 rfl (lv_at hl 2 rfl) ?_
    refine t_gL S hK hP d_T_select_65 ?_
    refine lv_iload_n S.1 S.2.1 d_T_select_68 rfl (lv_at hl 1 rfl) ?_
    refine t_iL S hK hP (by omega) d_T_select_69 ?_
    refine t_iS S hK hP (by omega) d_T_select_70 ?_
    refine nb_ge S (by omega) (by omega) d_T_select_71 rfl (fun hc2 => ?_) (fun hc2 => ?_)
    · refine lv_iload S.1 S.2.1 d_T_select_84 (lv_at hl 0 rfl) ?_
      refine lv_aload_n S.1 S.2.1 d_T_select_86 rfl (lv_at hl 2 rfl) ?_
      refine t_gS S hK hP d_T_select_87 ?_
      refine lv_aload_n S.1 S.2.1 d_T_select_90 rfl (lv_at hl 2 rfl) ?_
      refine t_gL S hK hP d_T_select_91 ?_
      refine lv_iload_n S.1 S.2.1 d_T_select_94 rfl (lv_at hl 1 rfl) ?_
      refine t_iL S hK hP (by omega) d_T_select_95 ?_
      refine t_iS S hK hP (by omega) d_T_select_96 ?_
      refine lv_iconst (v := nI 1) S.1 S.2.1 d_T_select_97 (by decide) ?_
      refine n_iadd S d_T_select_98 ?_
      refine n_isub S (show vS v (vL v q) + 1 ≤ b by omega) d_T_select_99 ?_
      refine lv_istore S.1 S.2.1 d_T_select_100 hl (by decide) rfl (fun ls hl => ?_)
      refine lv_aload_n S.1 S.2.1 d_T_select_102 rfl (lv_at hl 2 rfl) ?_
      refine t_gR S hK hP d_T_select_103 ?_
      refine lv_iload_n S.1 S.2.1 d_T_select_106 rfl (lv_at hl 1 rfl) ?_
      refine t_iR S hK hP (by omega) d_T_select_107 ?_
      refine lv_istore_n S.1 S.2.1 d_T_select_108 rfl hl (by decide) rfl (fun ls hl => ?_)
      refine lv_goto S.1 S.2.1 d_T_select_109 rfl ?_
      refine ih (vR v q) g2 (b - (vS v (vL v q) + 1)) (by omega) (by omega) (by omega) (fun κ z hκ => ?_) ls (lv_sub hl [1, 0, 2, 3, 4] rfl)
      obtain ⟨r1, r2⟩ := hO.inR hκ
      obtain ⟨m1, m2⟩ := hM κ z r2
      refine ⟨m1, ?_⟩
      rw [m2, hcR κ r1]
      omega
    · refine lv_aload_n S.1 S.2.1 d_T_select_74 rfl (lv_at hl 2 rfl) ?_
      refine t_gL S hK hP d_T_select_75 ?_
      refine lv_iload_n S.1 S.2.1 d_T_select_78 rfl (lv_at hl 1 rfl) ?_
      refine t_iL S hK hP (by omega) d_T_select_79 ?_
      refine lv_istore_n S.1 S.2.1 d_T_select_80 rfl hl (by decide) rfl (fun ls hl => ?_)
      refine lv_goto S.1 S.2.1 d_T_select_81 rfl ?_
      refine ih (vL v q) g1 b (by omega) (by omega) hbi (fun κ z hκ => ?_) ls (lv_sub hl [1, 0, 2, 3, 4] rfl)
      obtain ⟨r1, r2⟩ := hO.inL hκ
      obtain ⟨m1, m2⟩ := hM κ z r2
      refine ⟨m1, ?_⟩
      rw [m2, hcL κ (by omega)]
  refine lv_aload_n S.1 S.2.1 d_T_select_32 rfl (lv_at hl 0 rfl) ?_
  refine t_gO S hK hP d_T_select_33 ?_
  refine lv_iload_n S.1 S.2.1 d_T_select_36 rfl (lv_at hl 1 rfl) ?_
  refine t_iO S hK hP (by omega) d_T_select_37 ?_
  refine lv_istore_n S.1 S.2.1 d_T_select_38 rfl hl (by decide) rfl (fun ls hl => ?_)
  refine lv_iload_n S.1 S.2.1 d_T_select_39 rfl (lv_at hl 3 rfl) ?_
  refine lv_istore S.1 S.2.1 d_T_select_40 hl (by decide) rfl (fun ls hl => ?_)
  refine loop (vO v x) i hx1 (by omega) (Nat.le_refl _) (fun κ z hκ => ?_) ls hl
  rw [hx2 κ] at hκ
  refine ⟨hκ, ?_⟩
  rw [pick hx2]
  omega
end
section
def xPc (z : Nat) (G : gG) (a : tA) (v : tV) (As : List Value) : Array Value → State → Prop := fun u U => tPc G a v As u U ∧ thK z U
def sPc (z : Nat) (As : List Value) : Array Value → State → Prop := fun u U => u = As.toArray ∧ thK z U
theorem thK.blind {z : Nat} {U : State} {g : JFrame} {mk : MethodId} {u : Array Value} (h : thK z U) : thK z (U.calling g mk u) := h.moved (Vm.Alike.refl U.vm) rfl
theorem xPc.blind {z : Nat} {G : gG} {a : tA} {v : tV} {As : List Value} : FrameBlind (xPc z G a v As) := fun _ _ _ _ q => ⟨tPc.blind _ _ _ _ q.1, q.2.blind⟩
theorem sPc.blind {z : Nat} {As : List Value} : FrameBlind (sPc z As) := fun _ _ _ _ q => ⟨q.1, q.2.blind⟩
theorem x_preV {z : Nat} {G : gG} {a : tA} {v : tV} {As : List Value} {s : State} {H : Heap} {A : Nat → Prop} (hK : gK G s) (hP : tP G a v H) (hD : tD a A) (hth : thK z s) (hz : H[z]? = s.heap[z]?) : PreV s H R_T (aH a) (xPc z G a v As) As :=
  ⟨xPc.blind, t_recv hK hP, fun U hU hW => ⟨⟨rfl, by rw [hU]; exact hP, hD.weaken (fun _ _ => trivial), hK.moved hW.alike⟩, hth.moved hW.alike (by rw [hU]; exact hz)⟩⟩
theorem x_preS {z : Nat} {As : List Value} {s : State} {H : Heap} (hth : thK z s) (hz : H[z]? = s.heap[z]?) : PreS s H (sPc z As) As :=
  ⟨sPc.blind, fun U hU hW => ⟨rfl, hth.moved hW.alike (by rw [hU]; exact hz)⟩⟩
theorem rm_okX {f n F N mx : Nat} (h1 : f + 1 ≤ F) (h2 : 8 + (mx + 11) + n ≤ N) : roomOk (rmS f n) (rmX F N) mx 0 0 := ⟨rfl, rfl, h1, h2⟩
theorem rm_X {f n F N mx : Nat} (h1 : f + 1 ≤ F) (h2 : 8 + (mx + 11) + n ≤ N) : roomX (rmX f n) (rmX F N) mx := ⟨rfl, rfl, h1, h2⟩
/-- out of the range 0 .. n - 1 -/
def bad (y : Int32) (n : Nat) : Prop := y < 0 ∨ nI n ≤ y
theorem bad_or {n : Nat} (hn : n < 2 ^ 31) (y : Int32) : bad y n ∨ ∃ x : Nat, x < n ∧ y = nI x := by
  rcases pk_ix y hn with h | h | h
  · exact Or.inl (Or.inl h)
  · exact Or.inl (Or.inr h)
  · exact Or.inr h
set_option maxHeartbeats 4000000 in
set_option maxRecDepth 100000 in
/-- there(false) throws -/
theorem x_T_there (l : Launch) (hfl : l.flags = pinnedFlags ++ [noTraceFlag]) (z : Nat) : MetX l y_T_there (mw y_T_there b_T_there 1 none) (rmX 6 90) (sPc z [.int (nI 0)]) nIo := by
  refine x_ofW (own := R_T) rfl rfl (fun p e s m args below meth c S hr hlk hx hnm hv => ?_)
  obtain ⟨rfl, hth⟩ := hv
  refine m_entry [.int (nI 0)] (Nat.le_of_ble_eq_true rfl) (fun ls hl => ?_)
  have hl : lv_has ls 1 [(0, .int (nI 0))] := hl
  refine lv_iload_n S.1 S.2.1 d_T_there_0 rfl (lv_at hl 0 rfl) ?_
  refine nz_ne S (by decide) d_T_there_1 rfl (fun h => absurd rfl h) (fun _ => ?_)
  exact x_new S hl.1 hfl hx hlk (x_atoms x_at_Io S.2.2.2.2 hth.1) wK_T_41 wN_Io wI_Io (by decide) (by decide) d_T_there_4 d_T_there_7 d_T_there_8 d_T_there_11 (Nat.le_of_ble_eq_true rfl) (Nat.le_of_ble_eq_true rfl) (Nat.le_of_ble_eq_true rfl) (Nat.le_of_ble_eq_true rfl)
set_option maxHeartbeats 4000000 in
set_option maxRecDepth 100000 in
/-- isVersion(y) throws, y no version -/
theorem x_T_isVersion (l : Launch) (hfl : l.flags = pinnedFlags ++ [noTraceFlag]) (z : Nat) (G : gG) (a : tA) (v : tV) (y : Int32) (hb : bad y (vVer v)) : MetX l y_T_isVersion (mw y_T_isVersion b_T_isVersion 2 none) (rmX 7 120) (xPc z G a v [.int y]) nIo := by
  refine x_ofW (own := R_T) rfl rfl (fun p e s m args below meth c S hr hlk hx hnm hv => ?_)
  obtain ⟨⟨rfl, hP, hD, hK⟩, hth⟩ := hv
  refine m_entry [.ref (aH a), .int y] (Nat.le_of_ble_eq_true rfl) (fun ls hl => ?_)
  have hl : lv_has ls 2 [(0, .ref (aH a)), (1, .int y)] := hl
  have k16 : W p l e (rmX 7 120) s m #[Value.ref (aH a), Value.int y] below meth c s.heap [] 0 0 (XQ below nIo s) (F0 m 16 ls []) := by
    refine lv_iconst (v := nI 0) S.1 S.2.1 d_T_isVersion_16 (by decide) ?_
    exact x_prop rfl rfl rfl hx hlk (x_runS S (x_preS hth rfl) k_T_there ws_T_there wL_T_44 (x_T_there l hfl z) (rm_X (by omega) (by omega)) rfl hl.1 rfl (Nat.le_of_ble_eq_true rfl) d_T_isVersion_17 ⟨Nat.le_of_ble_eq_true rfl, Nat.le_of_ble_eq_true rfl⟩)
  refine lv_iload_n S.1 S.2.1 d_T_isVersion_0 rfl (lv_at hl 1 rfl) ?_
  refine lv_if_lt S.1 S.2.1 d_T_isVersion_1 rfl (fun _ => k16) (fun h0 => ?_)
  refine lv_iload_n S.1 S.2.1 d_T_isVersion_4 rfl (lv_at hl 1 rfl) ?_
  refine lv_aload_n S.1 S.2.1 d_T_isVersion_5 rfl (lv_at hl 0 rfl) ?_
  refine t_gVer S hK hP d_T_isVersion_6 ?_
  refine lv_icmp_ge S.1 S.2.1 d_T_isVersion_9 rfl (fun _ => k16) (fun h1 => hb.elim (fun h => absurd h h0) (fun h => absurd h h1))
set_option maxHeartbeats 4000000 in
set_option maxRecDepth 100000 in
/-- isKey(y) throws, y no key -/
theorem x_T_isKey (l : Launch) (hfl : l.flags = pinnedFlags ++ [noTraceFlag]) (z : Nat) (y : Int32) (hb : bad y 256) : MetX l y_T_isKey (mw y_T_isKey b_T_isKey 1 none) (rmX 7 120) (sPc z [.int y]) nIo := by
  refine x_ofW (own := R_T) rfl rfl (fun p e s m args below meth c S hr hlk hx hnm hv => ?_)
  obtain ⟨rfl, hth⟩ := hv
  refine m_entry [.int y] (Nat.le_of_ble_eq_true rfl) (fun ls hl => ?_)
  have hl : lv_has ls 1 [(0, .int y)] := hl
  have k15 : W p l e (rmX 7 120) s m #[Value.int y] below meth c s.heap [] 0 0 (XQ below nIo s) (F0 m 15 ls []) := by
    refine lv_iconst (v := nI 0) S.1 S.2.1 d_T_isKey_15 (by decide) ?_
    exact x_prop rfl rfl rfl hx hlk (x_runS S (x_preS hth rfl) k_T_there ws_T_there wL_T_44 (x_T_there l hfl z) (rm_X (by omega) (by omega)) rfl hl.1 rfl (Nat.le_of_ble_eq_true rfl) d_T_isKey_16 ⟨Nat.le_of_ble_eq_true rfl, Nat.le_of_ble_eq_true rfl⟩)
  refine lv_iload_n S.1 S.2.1 d_T_isKey_0 rfl (lv_at hl 0 rfl) ?_
  refine lv_if_lt S.1 S.2.1 d_T_isKey_1 rfl (fun _ => k15) (fun h0 => ?_)
  refine lv_iload_n S.1 S.2.1 d_T_isKey_4 rfl (lv_at hl 0 rfl) ?_
  refine lv_sipush (v := nI 256) S.1 S.2.1 d_T_isKey_5 (by decide) ?_
  refine lv_icmp_ge S.1 S.2.1 d_T_isKey_8 rfl (fun _ => k15) (fun h1 => hb.elim (fun h => absurd h h0) (fun h => absurd h h1))
set_option maxHeartbeats 4000000 in
set_option maxRecDepth 100000 in
/-- put: no version -/
theorem x_T_put_v (l : Launch) (hfl : l.flags = pinnedFlags ++ [noTraceFlag]) (z : Nat) (G : gG) (a : tA) (v : tV) (y0 y1 y2 : Int32) (hb : bad y0 (vVer v)) : MetX l y_T_put (mw y_T_put b_T_put 6 (some .int)) (rmX 8 150) (xPc z G a v [.int y0, .int y1, .int y2]) nIo := by
  refine x_ofW (own := R_T) rfl rfl (fun p e s m args below meth c S hr hlk hx hnm hv => ?_)
  obtain ⟨⟨rfl, hP, hD, hK⟩, hth⟩ := hv
  refine m_entry [.ref (aH a), .int y0, .int y1, .int y2] (Nat.le_of_ble_eq_true rfl) (fun ls hl => ?_)
  have hl : lv_has ls 6 [(0, .ref (aH a)), (1, .int y0), (2, .int y1), (3, .int y2)] := hl
  refine lv_aload_n S.1 S.2.1 d_T_put_0 rfl (lv_at hl 0 rfl) ?_
  refine lv_iload_n S.1 S.2.1 d_T_put_1 rfl (lv_at hl 1 rfl) ?_
  exact x_prop rfl rfl rfl hx hlk (x_runV S (x_preV hK hP hD hth rfl) k_T_isVersion wi_T_isVersion wv_T_T_isVersion wL_T_69 (x_T_isVersion l hfl z G a v y0 hb) (rm_X (by omega) (by omega)) rfl hl.1 rfl (Nat.le_of_ble_eq_true rfl) d_T_put_2 ⟨Nat.le_of_ble_eq_true rfl, Nat.le_of_ble_eq_true rfl⟩)
set_option maxHeartbeats 4000000 in
set_option maxRecDepth 100000 in
/-- remove: no version -/
theorem x_T_remove_v (l : Launch) (hfl : l.flags = pinnedFlags ++ [noTraceFlag]) (z : Nat) (G : gG) (a : tA) (v : tV) (y0 y1 : Int32) (hb : bad y0 (vVer v)) : MetX l y_T_remove (mw y_T_remove b_T_remove 3 (some .int)) (rmX 8 150) (xPc z G a v [.int y0, .int y1]) nIo := by
  refine x_ofW (own := R_T) rfl rfl (fun p e s m args below meth c S hr hlk hx hnm hv => ?_)
  obtain ⟨⟨rfl, hP, hD, hK⟩, hth⟩ := hv
  refine m_entry [.ref (aH a), .int y0, .int y1] (Nat.le_of_ble_eq_true rfl) (fun ls hl => ?_)
  have hl : lv_has ls 3 [(0, .ref (aH a)), (1, .int y0), (2, .int y1)] := hl
  refine lv_aload_n S.1 S.2.1 d_T_remove_0 rfl (lv_at hl 0 rfl) ?_
  refine lv_iload_n S.1 S.2.1 d_T_remove_1 rfl (lv_at hl 1 rfl) ?_
  exact x_prop rfl rfl rfl hx hlk (x_runV S (x_preV hK hP hD hth rfl) k_T_isVersion wi_T_isVersion wv_T_T_isVersion wL_T_69 (x_T_isVersion l hfl z G a v y0 hb) (rm_X (by omega) (by omega)) rfl hl.1 rfl (Nat.le_of_ble_eq_true rfl) d_T_remove_2 ⟨Nat.le_of_ble_eq_true rfl, Nat.le_of_ble_eq_true rfl⟩)
set_option maxHeartbeats 4000000 in
set_option maxRecDepth 100000 in
/-- join: no version -/
theorem x_T_join_v (l : Launch) (hfl : l.flags = pinnedFlags ++ [noTraceFlag]) (z : Nat) (G : gG) (a : tA) (v : tV) (y0 y1 y2 : Int32) (hb : bad y0 (vVer v)) : MetX l y_T_join (mw y_T_join b_T_join 4 (some .int)) (rmX 8 150) (xPc z G a v [.int y0, .int y1, .int y2]) nIo := by
  refine x_ofW (own := R_T) rfl rfl (fun p e s m args below meth c S hr hlk hx hnm hv => ?_)
  obtain ⟨⟨rfl, hP, hD, hK⟩, hth⟩ := hv
  refine m_entry [.ref (aH a), .int y0, .int y1, .int y2] (Nat.le_of_ble_eq_true rfl) (fun ls hl => ?_)
  have hl : lv_has ls 4 [(0, .ref (aH a)), (1, .int y0), (2, .int y1), (3, .int y2)] := hl
  refine lv_aload_n S.1 S.2.1 d_T_join_0 rfl (lv_at hl 0 rfl) ?_
  refine lv_iload_n S.1 S.2.1 d_T_join_1 rfl (lv_at hl 1 rfl) ?_
  exact x_prop rfl rfl rfl hx hlk (x_runV S (x_preV hK hP hD hth rfl) k_T_isVersion wi_T_isVersion wv_T_T_isVersion wL_T_69 (x_T_isVersion l hfl z G a v y0 hb) (rm_X (by omega) (by omega)) rfl hl.1 rfl (Nat.le_of_ble_eq_true rfl) d_T_join_2 ⟨Nat.le_of_ble_eq_true rfl, Nat.le_of_ble_eq_true rfl⟩)
set_option maxHeartbeats 4000000 in
set_option maxRecDepth 100000 in
/-- get: no version -/
theorem x_T_get_v (l : Launch) (hfl : l.flags = pinnedFlags ++ [noTraceFlag]) (z : Nat) (G : gG) (a : tA) (v : tV) (y0 y1 : Int32) (hb : bad y0 (vVer v)) : MetX l y_T_get (mw y_T_get b_T_get 4 (some .int)) (rmX 8 150) (xPc z G a v [.int y0, .int y1]) nIo := by
  refine x_ofW (own := R_T) rfl rfl (fun p e s m args below meth c S hr hlk hx hnm hv => ?_)
  obtain ⟨⟨rfl, hP, hD, hK⟩, hth⟩ := hv
  refine m_entry [.ref (aH a), .int y0, .int y1] (Nat.le_of_ble_eq_true rfl) (fun ls hl => ?_)
  have hl : lv_has ls 4 [(0, .ref (aH a)), (1, .int y0), (2, .int y1)] := hl
  refine lv_aload_n S.1 S.2.1 d_T_get_0 rfl (lv_at hl 0 rfl) ?_
  refine lv_iload_n S.1 S.2.1 d_T_get_1 rfl (lv_at hl 1 rfl) ?_
  exact x_prop rfl rfl rfl hx hlk (x_runV S (x_preV hK hP hD hth rfl) k_T_isVersion wi_T_isVersion wv_T_T_isVersion wL_T_69 (x_T_isVersion l hfl z G a v y0 hb) (rm_X (by omega) (by omega)) rfl hl.1 rfl (Nat.le_of_ble_eq_true rfl) d_T_get_2 ⟨Nat.le_of_ble_eq_true rfl, Nat.le_of_ble_eq_true rfl⟩)
set_option maxHeartbeats 4000000 in
set_option maxRecDepth 100000 in
/-- select: no version -/
theorem x_T_select_v (l : Launch) (hfl : l.flags = pinnedFlags ++ [noTraceFlag]) (z : Nat) (G : gG) (a : tA) (v : tV) (y0 y1 : Int32) (hb : bad y0 (vVer v)) : MetX l y_T_select (mw y_T_select b_T_select 5 (some .int)) (rmX 8 150) (xPc z G a v [.int y0, .int y1]) nIo := by
  refine x_ofW (own := R_T) rfl rfl (fun p e s m args below meth c S hr hlk hx hnm hv => ?_)
  obtain ⟨⟨rfl, hP, hD, hK⟩, hth⟩ := hv
  refine m_entry [.ref (aH a), .int y0, .int y1] (Nat.le_of_ble_eq_true rfl) (fun ls hl => ?_)
  have hl : lv_has ls 5 [(0, .ref (aH a)), (1, .int y0), (2, .int y1)] := hl
  refine lv_aload_n S.1 S.2.1 d_T_select_0 rfl (lv_at hl 0 rfl) ?_
  refine lv_iload_n S.1 S.2.1 d_T_select_1 rfl (lv_at hl 1 rfl) ?_
  exact x_prop rfl rfl rfl hx hlk (x_runV S (x_preV hK hP hD hth rfl) k_T_isVersion wi_T_isVersion wv_T_T_isVersion wL_T_69 (x_T_isVersion l hfl z G a v y0 hb) (rm_X (by omega) (by omega)) rfl hl.1 rfl (Nat.le_of_ble_eq_true rfl) d_T_select_2 ⟨Nat.le_of_ble_eq_true rfl, Nat.le_of_ble_eq_true rfl⟩)
set_option maxHeartbeats 4000000 in
set_option maxRecDepth 100000 in
/-- many: no version -/
theorem x_T_many_v (l : Launch) (hfl : l.flags = pinnedFlags ++ [noTraceFlag]) (z : Nat) (G : gG) (a : tA) (v : tV) (y0 y1 y2 : Int32) (hb : bad y0 (vVer v)) : MetX l y_T_many (mw y_T_many b_T_many 5 (some .int)) (rmX 8 150) (xPc z G a v [.int y0, .int y1, .int y2]) nIo := by
  refine x_ofW (own := R_T) rfl rfl (fun p e s m args below meth c S hr hlk hx hnm hv => ?_)
  obtain ⟨⟨rfl, hP, hD, hK⟩, hth⟩ := hv
  refine m_entry [.ref (aH a), .int y0, .int y1, .int y2] (Nat.le_of_ble_eq_true rfl) (fun ls hl => ?_)
  have hl : lv_has ls 5 [(0, .ref (aH a)), (1, .int y0), (2, .int y1), (3, .int y2)] := hl
  refine lv_aload_n S.1 S.2.1 d_T_many_0 rfl (lv_at hl 0 rfl) ?_
  refine lv_iload_n S.1 S.2.1 d_T_many_1 rfl (lv_at hl 1 rfl) ?_
  exact x_prop rfl rfl rfl hx hlk (x_runV S (x_preV hK hP hD hth rfl) k_T_isVersion wi_T_isVersion wv_T_T_isVersion wL_T_69 (x_T_isVersion l hfl z G a v y0 hb) (rm_X (by omega) (by omega)) rfl hl.1 rfl (Nat.le_of_ble_eq_true rfl) d_T_many_2 ⟨Nat.le_of_ble_eq_true rfl, Nat.le_of_ble_eq_true rfl⟩)
set_option maxHeartbeats 4000000 in
set_option maxRecDepth 100000 in
/-- sum: no version -/
theorem x_T_sum_v (l : Launch) (hfl : l.flags = pinnedFlags ++ [noTraceFlag]) (z : Nat) (G : gG) (a : tA) (v : tV) (y0 y1 y2 : Int32) (hb : bad y0 (vVer v)) : MetX l y_T_sum (mw y_T_sum b_T_sum 6 (some .long)) (rmX 8 150) (xPc z G a v [.int y0, .int y1, .int y2]) nIo := by
  refine x_ofW (own := R_T) rfl rfl (fun p e s m args below meth c S hr hlk hx hnm hv => ?_)
  obtain ⟨⟨rfl, hP, hD, hK⟩, hth⟩ := hv
  refine m_entry [.ref (aH a), .int y0, .int y1, .int y2] (Nat.le_of_ble_eq_true rfl) (fun ls hl => ?_)
  have hl : lv_has ls 6 [(0, .ref (aH a)), (1, .int y0), (2, .int y1), (3, .int y2)] := hl
  refine lv_aload_n S.1 S.2.1 d_T_sum_0 rfl (lv_at hl 0 rfl) ?_
  refine lv_iload_n S.1 S.2.1 d_T_sum_1 rfl (lv_at hl 1 rfl) ?_
  exact x_prop rfl rfl rfl hx hlk (x_runV S (x_preV hK hP hD hth rfl) k_T_isVersion wi_T_isVersion wv_T_T_isVersion wL_T_69 (x_T_isVersion l hfl z G a v y0 hb) (rm_X (by omega) (by omega)) rfl hl.1 rfl (Nat.le_of_ble_eq_true rfl) d_T_sum_2 ⟨Nat.le_of_ble_eq_true rfl, Nat.le_of_ble_eq_true rfl⟩)
set_option maxHeartbeats 4000000 in
set_option maxRecDepth 100000 in
/-- differ: no version -/
theorem x_T_differ_v (l : Launch) (hfl : l.flags = pinnedFlags ++ [noTraceFlag]) (z : Nat) (G : gG) (a : tA) (v : tV) (y0 y1 : Int32) (hb : bad y0 (vVer v)) : MetX l y_T_differ (mw y_T_differ b_T_differ 3 (some .int)) (rmX 8 150) (xPc z G a v [.int y0, .int y1]) nIo := by
  refine x_ofW (own := R_T) rfl rfl (fun p e s m args below meth c S hr hlk hx hnm hv => ?_)
  obtain ⟨⟨rfl, hP, hD, hK⟩, hth⟩ := hv
  refine m_entry [.ref (aH a), .int y0, .int y1] (Nat.le_of_ble_eq_true rfl) (fun ls hl => ?_)
  have hl : lv_has ls 3 [(0, .ref (aH a)), (1, .int y0), (2, .int y1)] := hl
  refine lv_aload_n S.1 S.2.1 d_T_differ_0 rfl (lv_at hl 0 rfl) ?_
  refine lv_iload_n S.1 S.2.1 d_T_differ_1 rfl (lv_at hl 1 rfl) ?_
  exact x_prop rfl rfl rfl hx hlk (x_runV S (x_preV hK hP hD hth rfl) k_T_isVersion wi_T_isVersion wv_T_T_isVersion wL_T_69 (x_T_isVersion l hfl z G a v y0 hb) (rm_X (by omega) (by omega)) rfl hl.1 rfl (Nat.le_of_ble_eq_true rfl) d_T_differ_2 ⟨Nat.le_of_ble_eq_true rfl, Nat.le_of_ble_eq_true rfl⟩)
set_option maxHeartbeats 4000000 in
set_option maxRecDepth 100000 in
/-- digest: no version -/
theorem x_T_digest_v (l : Launch) (hfl : l.flags = pinnedFlags ++ [noTraceFlag]) (z : Nat) (G : gG) (a : tA) (v : tV) (y0 : Int32) (hb : bad y0 (vVer v)) : MetX l y_T_digest (mw y_T_digest b_T_digest 2 (some .long)) (rmX 8 150) (xPc z G a v [.int y0]) nIo := by
  refine x_ofW (own := R_T) rfl rfl (fun p e s m args below meth c S hr hlk hx hnm hv => ?_)
  obtain ⟨⟨rfl, hP, hD, hK⟩, hth⟩ := hv
  refine m_entry [.ref (aH a), .int y0] (Nat.le_of_ble_eq_true rfl) (fun ls hl => ?_)
  have hl : lv_has ls 2 [(0, .ref (aH a)), (1, .int y0)] := hl
  refine lv_aload_n S.1 S.2.1 d_T_digest_0 rfl (lv_at hl 0 rfl) ?_
  refine lv_iload_n S.1 S.2.1 d_T_digest_1 rfl (lv_at hl 1 rfl) ?_
  exact x_prop rfl rfl rfl hx hlk (x_runV S (x_preV hK hP hD hth rfl) k_T_isVersion wi_T_isVersion wv_T_T_isVersion wL_T_69 (x_T_isVersion l hfl z G a v y0 hb) (rm_X (by omega) (by omega)) rfl hl.1 rfl (Nat.le_of_ble_eq_true rfl) d_T_digest_2 ⟨Nat.le_of_ble_eq_true rfl, Nat.le_of_ble_eq_true rfl⟩)
set_option maxHeartbeats 4000000 in
set_option maxRecDepth 100000 in
/-- put: no key -/
theorem x_T_put_k (l : Launch) (hfl : l.flags = pinnedFlags ++ [noTraceFlag]) (z : Nat) (G : gG) (a : tA) (v : tV) (x : Nat) (y1 y2 : Int32) (hx0 : x < vVer v) (hv6 : vVer v ≤ 600) (hb : bad y1 256) : MetX l y_T_put (mw y_T_put b_T_put 6 (some .int)) (rmX 8 150) (xPc z G a v [.int (nI x), .int y1, .int y2]) nIo := by
  refine x_ofW (own := R_T) rfl rfl (fun p e s m args below meth c S hr hlk hx hnm hv => ?_)
  obtain ⟨⟨rfl, hP, hD, hK⟩, hth⟩ := hv
  refine m_entry [.ref (aH a), .int (nI x), .int y1, .int y2] (Nat.le_of_ble_eq_true rfl) (fun ls hl => ?_)
  have hl : lv_has ls 6 [(0, .ref (aH a)), (1, .int (nI x)), (2, .int y1), (3, .int y2)] := hl
  refine lv_aload_n S.1 S.2.1 d_T_put_0 rfl (lv_at hl 0 rfl) ?_
  refine lv_iload_n S.1 S.2.1 d_T_put_1 rfl (lv_at hl 1 rfl) ?_
  refine r_callv (r_run S (t_pre hK hP hD) k_T_isVersion wi_T_isVersion wv_T_T_isVersion wL_T_69 (c_T_isVersion l G a v x hx0 hv6) (rm_okX (by omega) (by omega)) rfl hl.1 rfl (Nat.le_of_ble_eq_true rfl) d_T_put_2 ⟨Nat.zero_le _, Nat.zero_le _⟩) ?_
  refine lv_iload_n S.1 S.2.1 d_T_put_5 rfl (lv_at hl 2 rfl) ?_
  exact x_prop rfl rfl rfl hx hlk (x_runS S (x_preS hth rfl) k_T_isKey ws_T_isKey wL_T_73 (x_T_isKey l hfl z y1 hb) (rm_X (by omega) (by omega)) rfl hl.1 rfl (Nat.le_of_ble_eq_true rfl) d_T_put_6 ⟨Nat.le_of_ble_eq_true rfl, Nat.le_of_ble_eq_true rfl⟩)
set_option maxHeartbeats 4000000 in
set_option maxRecDepth 100000 in
/-- remove: no key -/
theorem x_T_remove_k (l : Launch) (hfl : l.flags = pinnedFlags ++ [noTraceFlag]) (z : Nat) (G : gG) (a : tA) (v : tV) (x : Nat) (y1 : Int32) (hx0 : x < vVer v) (hv6 : vVer v ≤ 600) (hb : bad y1 256) : MetX l y_T_remove (mw y_T_remove b_T_remove 3 (some .int)) (rmX 8 150) (xPc z G a v [.int (nI x), .int y1]) nIo := by
  refine x_ofW (own := R_T) rfl rfl (fun p e s m args below meth c S hr hlk hx hnm hv => ?_)
  obtain ⟨⟨rfl, hP, hD, hK⟩, hth⟩ := hv
  refine m_entry [.ref (aH a), .int (nI x), .int y1] (Nat.le_of_ble_eq_true rfl) (fun ls hl => ?_)
  have hl : lv_has ls 3 [(0, .ref (aH a)), (1, .int (nI x)), (2, .int y1)] := hl
  refine lv_aload_n S.1 S.2.1 d_T_remove_0 rfl (lv_at hl 0 rfl) ?_
  refine lv_iload_n S.1 S.2.1 d_T_remove_1 rfl (lv_at hl 1 rfl) ?_
  refine r_callv (r_run S (t_pre hK hP hD) k_T_isVersion wi_T_isVersion wv_T_T_isVersion wL_T_69 (c_T_isVersion l G a v x hx0 hv6) (rm_okX (by omega) (by omega)) rfl hl.1 rfl (Nat.le_of_ble_eq_true rfl) d_T_remove_2 ⟨Nat.zero_le _, Nat.zero_le _⟩) ?_
  refine lv_iload_n S.1 S.2.1 d_T_remove_5 rfl (lv_at hl 2 rfl) ?_
  exact x_prop rfl rfl rfl hx hlk (x_runS S (x_preS hth rfl) k_T_isKey ws_T_isKey wL_T_73 (x_T_isKey l hfl z y1 hb) (rm_X (by omega) (by omega)) rfl hl.1 rfl (Nat.le_of_ble_eq_true rfl) d_T_remove_6 ⟨Nat.le_of_ble_eq_true rfl, Nat.le_of_ble_eq_true rfl⟩)
set_option maxHeartbeats 4000000 in
set_option maxRecDepth 100000 in
/-- get: no key -/
theorem x_T_get_k (l : Launch) (hfl : l.flags = pinnedFlags ++ [noTraceFlag]) (z : Nat) (G : gG) (a : tA) (v : tV) (x : Nat) (y1 : Int32) (hx0 : x < vVer v) (hv6 : vVer v ≤ 600) (hb : bad y1 256) : MetX l y_T_get (mw y_T_get b_T_get 4 (some .int)) (rmX 8 150) (xPc z G a v [.int (nI x), .int y1]) nIo := by
  refine x_ofW (own := R_T) rfl rfl (fun p e s m args below meth c S hr hlk hx hnm hv => ?_)
  obtain ⟨⟨rfl, hP, hD, hK⟩, hth⟩ := hv
  refine m_entry [.ref (aH a), .int (nI x), .int y1] (Nat.le_of_ble_eq_true rfl) (fun ls hl => ?_)
  have hl : lv_has ls 4 [(0, .ref (aH a)), (1, .int (nI x)), (2, .int y1)] := hl
  refine lv_aload_n S.1 S.2.1 d_T_get_0 rfl (lv_at hl 0 rfl) ?_
  refine lv_iload_n S.1 S.2.1 d_T_get_1 rfl (lv_at hl 1 rfl) ?_
  refine r_callv (r_run S (t_pre hK hP hD) k_T_isVersion wi_T_isVersion wv_T_T_isVersion wL_T_69 (c_T_isVersion l G a v x hx0 hv6) (rm_okX (by omega) (by omega)) rfl hl.1 rfl (Nat.le_of_ble_eq_true rfl) d_T_get_2 ⟨Nat.zero_le _, Nat.zero_le _⟩) ?_
  refine lv_iload_n S.1 S.2.1 d_T_get_5 rfl (lv_at hl 2 rfl) ?_
  exact x_prop rfl rfl rfl hx hlk (x_runS S (x_preS hth rfl) k_T_isKey ws_T_isKey wL_T_73 (x_T_isKey l hfl z y1 hb) (rm_X (by omega) (by omega)) rfl hl.1 rfl (Nat.le_of_ble_eq_true rfl) d_T_get_6 ⟨Nat.le_of_ble_eq_true rfl, Nat.le_of_ble_eq_true rfl⟩)
set_option maxHeartbeats 4000000 in
set_option maxRecDepth 100000 in
/-- join: the second is no version -/
theorem x_T_join_w (l : Launch) (hfl : l.flags = pinnedFlags ++ [noTraceFlag]) (z : Nat) (G : gG) (a : tA) (v : tV) (x : Nat) (y1 y2 : Int32) (hx0 : x < vVer v) (hv6 : vVer v ≤ 600) (hb : bad y1 (vVer v)) : MetX l y_T_join (mw y_T_join b_T_join 4 (some .int)) (rmX 8 150) (xPc z G a v [.int (nI x), .int y1, .int y2]) nIo := by
  refine x_ofW (own := R_T) rfl rfl (fun p e s m args below meth c S hr hlk hx hnm hv => ?_)
  obtain ⟨⟨rfl, hP, hD, hK⟩, hth⟩ := hv
  refine m_entry [.ref (aH a), .int (nI x), .int y1, .int y2] (Nat.le_of_ble_eq_true rfl) (fun ls hl => ?_)
  have hl : lv_has ls 4 [(0, .ref (aH a)), (1, .int (nI x)), (2, .int y1), (3, .int y2)] := hl
  refine lv_aload_n S.1 S.2.1 d_T_join_0 rfl (lv_at hl 0 rfl) ?_
  refine lv_iload_n S.1 S.2.1 d_T_join_1 rfl (lv_at hl 1 rfl) ?_
  refine r_callv (r_run S (t_pre hK hP hD) k_T_isVersion wi_T_isVersion wv_T_T_isVersion wL_T_69 (c_T_isVersion l G a v x hx0 hv6) (rm_okX (by omega) (by omega)) rfl hl.1 rfl (Nat.le_of_ble_eq_true rfl) d_T_join_2 ⟨Nat.zero_le _, Nat.zero_le _⟩) ?_
  refine lv_aload_n S.1 S.2.1 d_T_join_5 rfl (lv_at hl 0 rfl) ?_
  refine lv_iload_n S.1 S.2.1 d_T_join_6 rfl (lv_at hl 2 rfl) ?_
  exact x_prop rfl rfl rfl hx hlk (x_runV S (x_preV hK hP hD hth rfl) k_T_isVersion wi_T_isVersion wv_T_T_isVersion wL_T_69 (x_T_isVersion l hfl z G a v y1 hb) (rm_X (by omega) (by omega)) rfl hl.1 rfl (Nat.le_of_ble_eq_true rfl) d_T_join_7 ⟨Nat.le_of_ble_eq_true rfl, Nat.le_of_ble_eq_true rfl⟩)
set_option maxHeartbeats 4000000 in
set_option maxRecDepth 100000 in
/-- differ: the second is no version -/
theorem x_T_differ_w (l : Launch) (hfl : l.flags = pinnedFlags ++ [noTraceFlag]) (z : Nat) (G : gG) (a : tA) (v : tV) (x : Nat) (y1 : Int32) (hx0 : x < vVer v) (hv6 : vVer v ≤ 600) (hb : bad y1 (vVer v)) : MetX l y_T_differ (mw y_T_differ b_T_differ 3 (some .int)) (rmX 8 150) (xPc z G a v [.int (nI x), .int y1]) nIo := by
  refine x_ofW (own := R_T) rfl rfl (fun p e s m args below meth c S hr hlk hx hnm hv => ?_)
  obtain ⟨⟨rfl, hP, hD, hK⟩, hth⟩ := hv
  refine m_entry [.ref (aH a), .int (nI x), .int y1] (Nat.le_of_ble_eq_true rfl) (fun ls hl => ?_)
  have hl : lv_has ls 3 [(0, .ref (aH a)), (1, .int (nI x)), (2, .int y1)] := hl
  refine lv_aload_n S.1 S.2.1 d_T_differ_0 rfl (lv_at hl 0 rfl) ?_
  refine lv_iload_n S.1 S.2.1 d_T_differ_1 rfl (lv_at hl 1 rfl) ?_
  refine r_callv (r_run S (t_pre hK hP hD) k_T_isVersion wi_T_isVersion wv_T_T_isVersion wL_T_69 (c_T_isVersion l G a v x hx0 hv6) (rm_okX (by omega) (by omega)) rfl hl.1 rfl (Nat.le_of_ble_eq_true rfl) d_T_differ_2 ⟨Nat.zero_le _, Nat.zero_le _⟩) ?_
  refine lv_aload_n S.1 S.2.1 d_T_differ_5 rfl (lv_at hl 0 rfl) ?_
  refine lv_iload_n S.1 S.2.1 d_T_differ_6 rfl (lv_at hl 2 rfl) ?_
  exact x_prop rfl rfl rfl hx hlk (x_runV S (x_preV hK hP hD hth rfl) k_T_isVersion wi_T_isVersion wv_T_T_isVersion wL_T_69 (x_T_isVersion l hfl z G a v y1 hb) (rm_X (by omega) (by omega)) rfl hl.1 rfl (Nat.le_of_ble_eq_true rfl) d_T_differ_7 ⟨Nat.le_of_ble_eq_true rfl, Nat.le_of_ble_eq_true rfl⟩)
set_option maxHeartbeats 4000000 in
set_option maxRecDepth 100000 in
/-- join: no place to cut -/
theorem x_T_join_k (l : Launch) (hfl : l.flags = pinnedFlags ++ [noTraceFlag]) (z : Nat) (G : gG) (a : tA) (v : tV) (x w : Nat) (y2 : Int32) (hx0 : x < vVer v) (hw0 : w < vVer v) (hv6 : vVer v ≤ 600) (hb : bad y2 257) : MetX l y_T_join (mw y_T_join b_T_join 4 (some .int)) (rmX 8 150) (xPc z G a v [.int (nI x), .int (nI w), .int y2]) nIo := by
  refine x_ofW (own := R_T) rfl rfl (fun p e s m args below meth c S hr hlk hx hnm hv => ?_)
  obtain ⟨⟨rfl, hP, hD, hK⟩, hth⟩ := hv
  refine m_entry [.ref (aH a), .int (nI x), .int (nI w), .int y2] (Nat.le_of_ble_eq_true rfl) (fun ls hl => ?_)
  have hl : lv_has ls 4 [(0, .ref (aH a)), (1, .int (nI x)), (2, .int (nI w)), (3, .int y2)] := hl
  have k25 : W p l e (rmX 8 150) s m #[Value.ref (aH a), .int (nI x), .int (nI w), .int y2] below meth c s.heap [] 0 0 (XQ below nIo s) (F0 m 25 ls []) := by
    refine lv_iconst (v := nI 0) S.1 S.2.1 d_T_join_25 (by decide) ?_
    exact x_prop rfl rfl rfl hx hlk (x_runS S (x_preS hth rfl) k_T_there ws_T_there wL_T_44 (x_T_there l hfl z) (rm_X (by omega) (by omega)) rfl hl.1 rfl (Nat.le_of_ble_eq_true rfl) d_T_join_26 ⟨Nat.le_of_ble_eq_true rfl, Nat.le_of_ble_eq_true rfl⟩)
  refine lv_aload_n S.1 S.2.1 d_T_join_0 rfl (lv_at hl 0 rfl) ?_
  refine lv_iload_n S.1 S.2.1 d_T_join_1 rfl (lv_at hl 1 rfl) ?_
  refine r_callv (r_run S (t_pre hK hP hD) k_T_isVersion wi_T_isVersion wv_T_T_isVersion wL_T_69 (c_T_isVersion l G a v x hx0 hv6) (rm_okX (by omega) (by omega)) rfl hl.1 rfl (Nat.le_of_ble_eq_true rfl) d_T_join_2 ⟨Nat.zero_le _, Nat.zero_le _⟩) ?_
  refine lv_aload_n S.1 S.2.1 d_T_join_5 rfl (lv_at hl 0 rfl) ?_
  refine lv_iload_n S.1 S.2.1 d_T_join_6 rfl (lv_at hl 2 rfl) ?_
  refine r_callv (r_run S (t_pre hK hP hD) k_T_isVersion wi_T_isVersion wv_T_T_isVersion wL_T_69 (c_T_isVersion l G a v w hw0 hv6) (rm_okX (by omega) (by omega)) rfl hl.1 rfl (Nat.le_of_ble_eq_true rfl) d_T_join_7 ⟨Nat.zero_le _, Nat.zero_le _⟩) ?_
  refine lv_iload_n S.1 S.2.1 d_T_join_10 rfl (lv_at hl 3 rfl) ?_
  refine lv_if_lt S.1 S.2.1 d_T_join_11 rfl (fun _ => k25) (fun h0 => ?_)
  refine lv_iload_n S.1 S.2.1 d_T_join_14 rfl (lv_at hl 3 rfl) ?_
  refine lv_sipush (v := nI 256) S.1 S.2.1 d_T_join_15 (by decide) ?_
  refine lv_icmp_gt S.1 S.2.1 d_T_join_18 rfl (fun _ => k25) (fun h1 => hb.elim (fun h => absurd h h0) (fun h => absurd ?_ h1))
  rw [Int32.le_iff_toInt_le, nI_toInt (by decide)] at h
  rw [show (nI 256 < y2 ↔ _) from Int32.lt_iff_toInt_lt, nI_toInt (by decide)]
  omega
set_option maxHeartbeats 4000000 in
set_option maxRecDepth 100000 in
/-- select: out of the size -/
theorem x_T_select_i (l : Launch) (hfl : l.flags = pinnedFlags ++ [noTraceFlag]) (z : Nat) (G : gG) (a : tA) (v : tV) (mp : Nat → nMap) (n cn x : Nat) (y1 : Int32) (hT : TI v mp n cn) (hx0 : x < n) (hv6 : n ≤ 600) (hb : bad y1 (cnt (mp x) 256)) : MetX l y_T_select (mw y_T_select b_T_select 5 (some .int)) (rmX 8 150) (xPc z G a v [.int (nI x), .int y1]) nIo := by
  obtain ⟨M, hI, rfl, hn1, hroot, hnod⟩ := hT
  have h8 := hI.2.1
  obtain ⟨hx1, hx2⟩ := hroot x hx0
  have hsz : vS v (vO v x) = cnt (mp x) 256 := by rw [(hI.2.2.2 _ hx1).2.2.1, pick hx2]
  rw [← hsz] at hb
  refine x_ofW (own := R_T) rfl rfl (fun p e s m args below meth c S hr hlk hx hnm hv => ?_)
  obtain ⟨⟨rfl, hP, hD, hK⟩, hth⟩ := hv
  refine m_entry [.ref (aH a), .int (nI x), .int y1] (Nat.le_of_ble_eq_true rfl) (fun ls hl => ?_)
  have hl : lv_has ls 5 [(0, .ref (aH a)), (1, .int (nI x)), (2, .int y1)] := hl
  have k28 : W p l e (rmX 8 150) s m #[Value.ref (aH a), .int (nI x), .int y1] below meth c s.heap [] 0 0 (XQ below nIo s) (F0 m 28 ls []) := by
    refine lv_iconst (v := nI 0) S.1 S.2.1 d_T_select_28 (by decide) ?_
    exact x_prop rfl rfl rfl hx hlk (x_runS S (x_preS hth rfl) k_T_there ws_T_there wL_T_44 (x_T_there l hfl z) (rm_X (by omega) (by omega)) rfl hl.1 rfl (Nat.le_of_ble_eq_true rfl) d_T_select_29 ⟨Nat.le_of_ble_eq_true rfl, Nat.le_of_ble_eq_true rfl⟩)
  refine lv_aload_n S.1 S.2.1 d_T_select_0 rfl (lv_at hl 0 rfl) ?_
  refine lv_iload_n S.1 S.2.1 d_T_select_1 rfl (lv_at hl 1 rfl) ?_
  refine r_callv (r_run S (t_pre hK hP hD) k_T_isVersion wi_T_isVersion wv_T_T_isVersion wL_T_69 (c_T_isVersion l G a v x hx0 hv6) (rm_okX (by omega) (by omega)) rfl hl.1 rfl (Nat.le_of_ble_eq_true rfl) d_T_select_2 ⟨Nat.zero_le _, Nat.zero_le _⟩) ?_
  refine lv_iload_n S.1 S.2.1 d_T_select_5 rfl (lv_at hl 2 rfl) ?_
  refine lv_if_lt S.1 S.2.1 d_T_select_6 rfl (fun _ => k28) (fun h0 => ?_)
  refine lv_iload_n S.1 S.2.1 d_T_select_9 rfl (lv_at hl 2 rfl) ?_
  refine lv_aload_n S.1 S.2.1 d_T_select_10 rfl (lv_at hl 0 rfl) ?_
  refine t_gS S hK hP d_T_select_11 ?_
  refine lv_aload_n S.1 S.2.1 d_T_select_14 rfl (lv_at hl 0 rfl) ?_
  refine t_gO S hK hP d_T_select_15 ?_
  refine lv_iload_n S.1 S.2.1 d_T_select_18 rfl (lv_at hl 1 rfl) ?_
  refine t_iO S hK hP (by omega) d_T_select_19 ?_
  refine t_iS S hK hP (by omega) d_T_select_20 ?_
  exact lv_icmp_ge S.1 S.2.1 d_T_select_21 rfl (fun _ => k28) (fun h1 => hb.elim (fun h => absurd h h0) (fun h => absurd h h1))
set_option maxHeartbeats 4000000 in
set_option maxRecDepth 100000 in
/-- remove: nothing there -/
theorem x_T_remove_n (l : Launch) (hfl : l.flags = pinnedFlags ++ [noTraceFlag]) (z : Nat) (G : gG) (a : tA) (v : tV) (mp : Nat → nMap) (n cn x k : Nat) (hT : TI v mp n cn) (hx0 : x < n) (hk : k < 256) (hv6 : n < 600) (hz : mp x k = none) : MetX l y_T_remove (mw y_T_remove b_T_remove 3 (some .int)) (rmX 8 150) (xPc z G a v [.int (nI x), .int (nI k)]) nNs := by
  obtain ⟨M, hI, rfl, hn1, hroot, hnod⟩ := hT
  have h8 := hI.2.1
  obtain ⟨hx1, hx2⟩ := hroot x hx0
  refine x_ofW (own := R_T) rfl rfl (fun p e s m args below meth c S hr hlk hx hnm hv => ?_)
  obtain ⟨⟨rfl, hP, hD, hK⟩, hth⟩ := hv
  refine m_entry [.ref (aH a), .int (nI x), .int (nI k)] (Nat.le_of_ble_eq_true rfl) (fun ls hl => ?_)
  have hl : lv_has ls 3 [(0, .ref (aH a)), (1, .int (nI x)), (2, .int (nI k))] := hl
  refine lv_aload_n S.1 S.2.1 d_T_remove_0 rfl (lv_at hl 0 rfl) ?_
  refine lv_iload_n S.1 S.2.1 d_T_remove_1 rfl (lv_at hl 1 rfl) ?_
  refine r_callv (r_run S (t_pre hK hP hD) k_T_isVersion wi_T_isVersion wv_T_T_isVersion wL_T_69 (c_T_isVersion l G a v x hx0 (by omega)) (rm_okX (by omega) (by omega)) rfl hl.1 rfl (Nat.le_of_ble_eq_true rfl) d_T_remove_2 ⟨Nat.zero_le _, Nat.zero_le _⟩) ?_
  refine lv_iload_n S.1 S.2.1 d_T_remove_5 rfl (lv_at hl 2 rfl) ?_
  refine r_callv (r_runS S preEq k_T_isKey ws_T_isKey wL_T_73 (c_T_isKey l k hk) (rm_okX (by omega) (by omega)) rfl hl.1 rfl (Nat.le_of_ble_eq_true rfl) d_T_remove_6 ⟨Nat.zero_le _, Nat.zero_le _⟩) ?_
  refine lv_aload_n S.1 S.2.1 d_T_remove_9 rfl (lv_at hl 0 rfl) ?_
  refine r_callv (r_run S (t_pre hK hP hD) k_T_may wi_T_may wv_T_T_may wL_T_76 (c_T_may l G a v hv6) (rm_okX (by omega) (by omega)) rfl hl.1 rfl (Nat.le_of_ble_eq_true rfl) d_T_remove_10 ⟨Nat.zero_le _, Nat.zero_le _⟩) ?_
  refine lv_aload_n S.1 S.2.1 d_T_remove_13 rfl (lv_at hl 0 rfl) ?_
  refine lv_aload_n S.1 S.2.1 d_T_remove_14 rfl (lv_at hl 0 rfl) ?_
  refine t_gO S hK hP d_T_remove_15 ?_
  refine lv_iload_n S.1 S.2.1 d_T_remove_18 rfl (lv_at hl 1 rfl) ?_
  refine t_iO S hK hP (by omega) d_T_remove_19 ?_
  refine lv_iload_n S.1 S.2.1 d_T_remove_20 rfl (lv_at hl 2 rfl) ?_
  refine r_calli (r_run S (t_pre hK hP hD) k_T_find wi_T_find wv_T_T_find wL_T_79 (c_T_find l G a v M (vO v x) k hI hx1 hk) (rm_okX (by omega) (by omega)) rfl hl.1 rfl (Nat.le_of_ble_eq_true rfl) d_T_remove_21 ⟨Nat.zero_le _, Nat.zero_le _⟩) (fun r hp => ?_)
  obtain ⟨q, rfl, hq, hor⟩ := hp
  rw [hx2 k, hz] at hor
  rcases hor with ⟨q0, -⟩ | ⟨-, -, h2⟩
  rotate_left
  · cases h2
  refine nz_ne S (by omega) d_T_remove_24 rfl (fun h => absurd q0 h) (fun _ => ?_)
  exact x_new S hl.1 hfl hx hlk (x_atoms x_at_Ns S.2.2.2.2 hth.1) wK_T_85 wN_Ns wI_Ns (by decide) (by decide) d_T_remove_27 d_T_remove_30 d_T_remove_31 d_T_remove_34 (Nat.le_of_ble_eq_true rfl) (Nat.le_of_ble_eq_true rfl) (Nat.le_of_ble_eq_true rfl) (Nat.le_of_ble_eq_true rfl)
set_option maxHeartbeats 4000000 in
set_option maxRecDepth 100000 in
/-- get: nothing there -/
theorem x_T_get_n (l : Launch) (hfl : l.flags = pinnedFlags ++ [noTraceFlag]) (z : Nat) (G : gG) (a : tA) (v : tV) (mp : Nat → nMap) (n cn x k : Nat) (hT : TI v mp n cn) (hx0 : x < n) (hk : k < 256) (hv6 : n < 600) (hz : mp x k = none) : MetX l y_T_get (mw y_T_get b_T_get 4 (some .int)) (rmX 8 150) (xPc z G a v [.int (nI x), .int (nI k)]) nNs := by
  obtain ⟨M, hI, rfl, hn1, hroot, hnod⟩ := hT
  have h8 := hI.2.1
  obtain ⟨hx1, hx2⟩ := hroot x hx0
  refine x_ofW (own := R_T) rfl rfl (fun p e s m args below meth c S hr hlk hx hnm hv => ?_)
  obtain ⟨⟨rfl, hP, hD, hK⟩, hth⟩ := hv
  refine m_entry [.ref (aH a), .int (nI x), .int (nI k)] (Nat.le_of_ble_eq_true rfl) (fun ls hl => ?_)
  have hl : lv_has ls 4 [(0, .ref (aH a)), (1, .int (nI x)), (2, .int (nI k))] := hl
  refine lv_aload_n S.1 S.2.1 d_T_get_0 rfl (lv_at hl 0 rfl) ?_
  refine lv_iload_n S.1 S.2.1 d_T_get_1 rfl (lv_at hl 1 rfl) ?_
  refine r_callv (r_run S (t_pre hK hP hD) k_T_isVersion wi_T_isVersion wv_T_T_isVersion wL_T_69 (c_T_isVersion l G a v x hx0 (by omega)) (rm_okX (by omega) (by omega)) rfl hl.1 rfl (Nat.le_of_ble_eq_true rfl) d_T_get_2 ⟨Nat.zero_le _, Nat.zero_le _⟩) ?_
  refine lv_iload_n S.1 S.2.1 d_T_get_5 rfl (lv_at hl 2 rfl) ?_
  refine r_callv (r_runS S preEq k_T_isKey ws_T_isKey wL_T_73 (c_T_isKey l k hk) (rm_okX (by omega) (by omega)) rfl hl.1 rfl (Nat.le_of_ble_eq_true rfl) d_T_get_6 ⟨Nat.zero_le _, Nat.zero_le _⟩) ?_
  refine lv_aload_n S.1 S.2.1 d_T_get_9 rfl (lv_at hl 0 rfl) ?_
  refine lv_aload_n S.1 S.2.1 d_T_get_10 rfl (lv_at hl 0 rfl) ?_
  refine t_gO S hK hP d_T_get_11 ?_
  refine lv_iload_n S.1 S.2.1 d_T_get_14 rfl (lv_at hl 1 rfl) ?_
  refine t_iO S hK hP (by omega) d_T_get_15 ?_
  refine lv_iload_n S.1 S.2.1 d_T_get_16 rfl (lv_at hl 2 rfl) ?_
  refine r_calli (r_run S (t_pre hK hP hD) k_T_find wi_T_find wv_T_T_find wL_T_79 (c_T_find l G a v M (vO v x) k hI hx1 hk) (rm_okX (by omega) (by omega)) rfl hl.1 rfl (Nat.le_of_ble_eq_true rfl) d_T_get_17 ⟨Nat.zero_le _, Nat.zero_le _⟩) (fun r hp => ?_)
  obtain ⟨q, rfl, hq, hor⟩ := hp
  rw [hx2 k, hz] at hor
  rcases hor with ⟨q0, -⟩ | ⟨-, -, h2⟩
  rotate_left
  · cases h2
  refine lv_istore_n S.1 S.2.1 d_T_get_20 rfl hl (by decide) rfl (fun ls hl => ?_)
  refine lv_iload_n S.1 S.2.1 d_T_get_21 rfl (lv_at hl 0 rfl) ?_
  refine nz_ne S (by omega) d_T_get_22 rfl (fun h => absurd q0 h) (fun _ => ?_)
  exact x_new S hl.1 hfl hx hlk (x_atoms x_at_Ns S.2.2.2.2 hth.1) wK_T_85 wN_Ns wI_Ns (by decide) (by decide) d_T_get_25 d_T_get_28 d_T_get_29 d_T_get_32 (Nat.le_of_ble_eq_true rfl) (Nat.le_of_ble_eq_true rfl) (Nat.le_of_ble_eq_true rfl) (Nat.le_of_ble_eq_true rfl)
end
section
/-! MeldTreeModel: addresses h value has; ((versions, thrown), value, has) -/
abbrev mA : Type := Nat × Nat × Nat
abbrev eH (b : mA) : Nat := b.1
abbrev eV (b : mA) : Nat := b.2.1
abbrev eB (b : mA) : Nat := b.2.2
abbrev mV : Type := (Nat × Nat) × (Nat → Int32) × (Nat → Nat)
abbrev uVer (u : mV) : Nat := u.1.1
abbrev uThr (u : mV) : Nat := u.1.2
abbrev uV (u : mV) : Nat → Int32 := u.2.1
abbrev uH (u : mV) : Nat → Nat := u.2.2
abbrev xVer (u : mV) (x : Nat) : mV := ((x, uThr u), u.2)
abbrev xThr (u : mV) (x : Nat) : mV := ((uVer u, x), u.2)
abbrev xV (u : mV) (f : Nat → Int32) : mV := (u.1, f, uH u)
abbrev xH (u : mV) (f : Nat → Nat) : mV := (u.1, uV u, f)
abbrev mfs (b : mA) (u : mV) : List Value := [.ref (eV b), .ref (eB b), .int (nI (uVer u)), .int (nI (uThr u))]
abbrev md (G : gG) (b : mA) (u : mV) : va_W := [(eH b, .inr (1, mfs b u)), (eV b, .inl (G.2.1, 153600, .inl (uV u))), (eB b, .inl (G.2.2.2.2, 153600, .inl (fun j => nI (uH u j))))]
def mP (G : gG) (b : mA) (u : mV) (H : Heap) : Prop := va_P G.1 cls2 (md G b u) H
def mD (b : mA) (A : Nat → Prop) : Prop := ∀ G u, va_D A (md G b u)
def inB (b : mA) : Nat → Prop := fun q => q = eH b ∨ q = eV b ∨ q = eB b
def mS (G : gG) (b : mA) (A : Nat → Prop) (H0 : Heap) (u : mV) (H : Heap) (locs : List Loc) : Prop := mP G b u H ∧ mD b A ∧ va_S A H0 H locs
theorem md_fst {G G' : gG} {b : mA} {u u' : mV} {i : Nat} {x : Nat × va_E} (h : (md G b u)[i]? = some x) : ∃ y, (md G' b u')[i]? = some y ∧ y.1 = x.1 := by
  match i with
  | 0 => cases h; exact ⟨_, rfl, rfl⟩
  | 1 => cases h; exact ⟨_, rfl, rfl⟩
  | 2 => cases h; exact ⟨_, rfl, rfl⟩
  | n + 3 => cases h
theorem md_inB {G : gG} {b : mA} {u : mV} {i : Nat} {x : Nat × va_E} (h : (md G b u)[i]? = some x) : inB b x.1 := by
  match i with
  | 0 => cases h; exact Or.inl rfl
  | 1 => cases h; exact Or.inr (Or.inl rfl)
  | 2 => cases h; exact Or.inr (Or.inr rfl)
  | n + 3 => cases h
theorem mD.of {G : gG} {b : mA} {u : mV} {A : Nat → Prop} (h : va_D A (md G b u)) : mD b A := fun G' u' =>
  ⟨fun i j x y hi hj hxy => by
    obtain ⟨x', h1, h2⟩ := md_fst (G' := G) (u' := u) hi
    obtain ⟨y', h3, h4⟩ := md_fst (G' := G) (u' := u) hj
    exact h.1 i j x' y' h1 h3 (h2.trans (hxy.trans h4.symm)), fun k q hk => by
    obtain ⟨x', h1, h2⟩ := md_fst (G' := G) (u' := u) hk
    rw [← h2]
    exact h.2 k x' h1⟩
theorem mD.self {b : mA} {A : Nat → Prop} (h : mD b A) : mD b (inB b) := fun G u => ⟨(h G u).1, fun _ _ hk => md_inB hk⟩
theorem mD.weaken {b : mA} {A B : Nat → Prop} (h : mD b A) (hAB : ∀ q, inB b q → B q) : mD b B := fun G u => ⟨(h G u).1, fun _ _ hk => hAB _ (md_inB hk)⟩
theorem mD.sub {b : mA} {A : Nat → Prop} (h : mD b A) : ∀ q, inB b q → A q := by
  intro q hq
  have h2 := (h ((fun _ => 0, fun _ _ => 0), 0, 0, 0, 0) ((0, 0), fun _ => 0, fun _ => 0)).2
  rcases hq with rfl | rfl | rfl
  · exact h2 0 _ rfl
  · exact h2 1 _ rfl
  · exact h2 2 _ rfl
theorem mP.kept {G : gG} {b : mA} {u : mV} {H H1 : Heap} (h : mP G b u H) (hq : ∀ q, inB b q → H1[q]? = H[q]?) : mP G b u H1 := va_P.kept h (fun _ _ hk => hq _ (md_inB hk))
theorem mP.lt {G : gG} {b : mA} {u : mV} {H : Heap} (h : mP G b u H) : ∀ q, inB b q → q < H.size := by
  intro q hq
  rcases hq with rfl | rfl | rfl
  · exact (h 0 _ rfl).lt
  · exact (h 1 _ rfl).lt
  · exact (h 2 _ rfl).lt
def mPc (G : gG) (b : mA) (u : mV) (As : List Value) : Array Value → State → Prop := fun w U => w = (Value.ref (eH b) :: As).toArray ∧ mP G b u U.heap ∧ mD b (fun _ => True) ∧ gK G U
theorem mPc.blind {G : gG} {b : mA} {u : mV} {As : List Value} : FrameBlind (mPc G b u As) := fun _ U g mk q => ⟨q.1, q.2.1, q.2.2.1, q.2.2.2.moved (u := U) (U := U.calling g mk _) (Vm.Alike.refl U.vm)⟩
theorem mS.start {G : gG} {b : mA} {u : mV} {s : State} (hP : mP G b u s.heap) (hD : mD b (fun _ => True)) : mS G b (inB b) s.heap u s.heap [] := ⟨hP, hD.self, va_S.rf⟩
theorem nar_bool {t : Nat} (h : t < 2) : vp_nar .boolean (nI t) = nI t := by
  rcases (show t = 0 ∨ t = 1 by omega) with rfl | rfl
  · decide
  · decide
section MW
variable {p : Program} {l : Launch} {e : Env} {R : Room} {s : State} {m : MethodId} {args : Array Value} {below : List Frame} {meth : Method} {c : Code} {H : Heap} {locs : List Loc} {cells slots : Nat} {Q : State → Prop}
variable {cc : ByteArray} {nL : Nat} {pc : Nat} {ls : Array Slot} {rest : List Value} {own : String} {G : gG} {b : mA} {u : mV} {A : Nat → Prop} {H0 : Heap}
theorem m_gf (S : CallFix p m c cc nL s args lw_t R_M) (hK : gK G s) (hP : mP G b u H) {index : Nat} (k : Nat) (hk : k < 4) (hl : Cond.fieldLink R_M index R_M (F_M k).2.1 (F_M k).2.2.1 ∈ lw_t) (ho : (F_M k).1 = R_M) {x : Value} (hx : (mfs b u)[k]? = some x) (hdg : decode cc pc = .ok (.getfield index, 3)) (kk : W p l e R s m args below meth c H locs cells slots Q (F0 m (pc + 3) ls (x :: rest))) : W p l e R s m args below meth c H locs cells slots Q (F0 m pc ls (.ref (eH b) :: rest)) :=
  va_get (D := G.1) (cl := cls2) (ci := 1) (T := F_M) (C := R_M) (N := 4) S.1 S.2.1 S.2.2.2.2 u_M_in S.2.2.2.1 hK hP 0 rfl rfl k hk (S.2.2.2.2 _ hl) (fun _ h9 => by rw [ho] at h9; exact h9) hx hdg kk
theorem m_gV (S : CallFix p m c cc nL s args lw_t R_M) (hK : gK G s) (hP : mP G b u H) (hdg : decode cc pc = .ok (.getfield 10, 3)) (kk : W p l e R s m args below meth c H locs cells slots Q (F0 m (pc + 3) ls (.ref (eV b) :: rest))) : W p l e R s m args below meth c H locs cells slots Q (F0 m pc ls (.ref (eH b) :: rest)) :=
  m_gf S hK hP 0 (by decide) wF_M_10 rfl rfl hdg kk
theorem m_gH (S : CallFix p m c cc nL s args lw_t R_M) (hK : gK G s) (hP : mP G b u H) (hdg : decode cc pc = .ok (.getfield 14, 3)) (kk : W p l e R s m args below meth c H locs cells slots Q (F0 m (pc + 3) ls (.ref (eB b) :: rest))) : W p l e R s m args below meth c H locs cells slots Q (F0 m pc ls (.ref (eH b) :: rest)) :=
  m_gf S hK hP 1 (by decide) wF_M_14 rfl rfl hdg kk
theorem m_gVer (S : CallFix p m c cc nL s args lw_t R_M) (hK : gK G s) (hP : mP G b u H) (hdg : decode cc pc = .ok (.getfield 18, 3)) (kk : W p l e R s m args below meth c H locs cells slots Q (F0 m (pc + 3) ls (.int (nI (uVer u)) :: rest))) : W p l e R s m args below meth c H locs cells slots Q (F0 m pc ls (.ref (eH b) :: rest)) :=
  m_gf S hK hP 2 (by decide) wF_M_18 rfl rfl hdg kk
theorem m_gThr (S : CallFix p m c cc nL s args lw_t R_M) (hK : gK G s) (hP : mP G b u H) (hdg : decode cc pc = .ok (.getfield 22, 3)) (kk : W p l e R s m args below meth c H locs cells slots Q (F0 m (pc + 3) ls (.int (nI (uThr u)) :: rest))) : W p l e R s m args below meth c H locs cells slots Q (F0 m pc ls (.ref (eH b) :: rest)) :=
  m_gf S hK hP 3 (by decide) wF_M_22 rfl rfl hdg kk
theorem m_pf (S : CallFix p m c cc nL s args lw_t R_M) (hK : gK G s) (hw : mS G b A H0 u H locs) {index : Nat} (k : Nat) (hk : k < 4) (hl : Cond.fieldLink R_M index R_M (F_M k).2.1 (F_M k).2.2.1 ∈ lw_t) (ho : (F_M k).1 = R_M) (hfin : (F_M k).2.2.2 = false) {x : Value} {ty : FieldType} (hd : parseFieldDescriptor (F_M k).2.2.1 = some ty) (hn : narrow ty x = x) (hfit : fits ty x = true) {u' : mV} (hv : (md G b u).set 0 (eH b, .inr (1, (mfs b u).set k x)) = md G b u') (hdg : decode cc pc = .ok (.putfield index, 3)) (kk : ∀ H1 locs1, mS G b A H0 u' H1 locs1 → W p l e R s m args below meth c H1 locs1 cells slots Q (F0 m (pc + 3) ls rest)) : W p l e R s m args below meth c H locs cells slots Q (F0 m pc ls (x :: .ref (eH b) :: rest)) :=
  va_put (D := G.1) (cl := cls2) (ci := 1) (T := F_M) (C := R_M) (N := 4) S.1 S.2.1 S.2.2.2.2 u_M_in ty_M ty_M_ok n_M S.2.2.2.1 hK hw.1 (hw.2.1 G u) hw.2.2 0 rfl rfl k hk (S.2.2.2.2 _ hl) (fun _ h9 => by rw [ho] at h9; exact h9) hfin hd hn hfit hk hdg (fun H1 locs1 h1 h2 h3 => kk H1 locs1 ⟨by rw [hv] at h1; exact h1, hw.2.1, h3⟩)
theorem m_pVer (S : CallFix p m c cc nL s args lw_t R_M) (hK : gK G s) (hw : mS G b A H0 u H locs) {x : Nat} (hdg : decode cc pc = .ok (.putfield 18, 3)) (kk : ∀ H1 locs1, mS G b A H0 (xVer u x) H1 locs1 → W p l e R s m args below meth c H1 locs1 cells slots Q (F0 m (pc + 3) ls rest)) : W p l e R s m args below meth c H locs cells slots Q (F0 m pc ls (.int (nI x) :: .ref (eH b) :: rest)) :=
  m_pf S hK hw 2 (by decide) wF_M_18 rfl rfl (ty := .int) (by decide +kernel) rfl rfl rfl hdg kk
theorem m_pThr (S : CallFix p m c cc nL s args lw_t R_M) (hK : gK G s) (hw : mS G b A H0 u H locs) {x : Nat} (hdg : decode cc pc = .ok (.putfield 22, 3)) (kk : ∀ H1 locs1, mS G b A H0 (xThr u x) H1 locs1 → W p l e R s m args below meth c H1 locs1 cells slots Q (F0 m (pc + 3) ls rest)) : W p l e R s m args below meth c H locs cells slots Q (F0 m pc ls (.int (nI x) :: .ref (eH b) :: rest)) :=
  m_pf S hK hw 3 (by decide) wF_M_22 rfl rfl (ty := .int) (by decide +kernel) rfl rfl rfl hdg kk
theorem m_iV (S : CallFix p m c cc nL s args lw_t R_M) (hK : gK G s) (hP : mP G b u H) {j : Nat} (hj : j < 153600) (hdg : decode cc pc = .ok (.iaload, 1)) (kk : W p l e R s m args below meth c H locs cells slots Q (F0 m (pc + 1) ls (.int (uV u j) :: rest))) : W p l e R s m args below meth c H locs cells slots Q (F0 m pc ls (.int (nI j) :: .ref (eV b) :: rest)) :=
  va_iald (D := G.1) (cl := cls2) S.1 S.2.1 hK hP 1 0 rfl rfl (vp_in_nI hj (by decide)) hdg (by rw [nI_clamp (Nat.lt_trans hj (by decide))]; exact kk)
theorem m_iH (S : CallFix p m c cc nL s args lw_t R_M) (hK : gK G s) (hP : mP G b u H) {j : Nat} (hj : j < 153600) (hdg : decode cc pc = .ok (.baload, 1)) (kk : W p l e R s m args below meth c H locs cells slots Q (F0 m (pc + 1) ls (.int (nI (uH u j)) :: rest))) : W p l e R s m args below meth c H locs cells slots Q (F0 m pc ls (.int (nI j) :: .ref (eB b) :: rest)) :=
  va_zald (D := G.1) (cl := cls2) S.1 S.2.1 hK hP 2 3 rfl rfl (vp_in_nI hj (by decide)) hdg (by rw [nI_clamp (Nat.lt_trans hj (by decide))]; exact kk)
theorem m_sV (S : CallFix p m c cc nL s args lw_t R_M) (hK : gK G s) (hw : mS G b A H0 u H locs) {j : Nat} {x : Int32} (hj : j < 153600) (hdg : decode cc pc = .ok (.iastore, 1)) (kk : ∀ H1 locs1, mS G b A H0 (xV u (up (uV u) j x)) H1 locs1 → W p l e R s m args below meth c H1 locs1 cells slots Q (F0 m (pc + 1) ls rest)) : W p l e R s m args below meth c H locs cells slots Q (F0 m pc ls (.int x :: .int (nI j) :: .ref (eV b) :: rest)) :=
  va_iast (D := G.1) (cl := cls2) S.1 S.2.1 hK hw.1 (hw.2.1 G u) hw.2.2 1 0 rfl rfl (vp_in_nI hj (by decide)) hdg (fun H1 locs1 h1 h2 h3 => kk H1 locs1 ⟨by rw [nI_clamp (Nat.lt_trans hj (by decide))] at h1; exact h1, hw.2.1, h3⟩)
theorem m_sH (S : CallFix p m c cc nL s args lw_t R_M) (hK : gK G s) (hw : mS G b A H0 u H locs) {j x : Nat} (hj : j < 153600) (hx : x < 2) (hdg : decode cc pc = .ok (.bastore, 1)) (kk : ∀ H1 locs1, mS G b A H0 (xH u (up (uH u) j x)) H1 locs1 → W p l e R s m args below meth c H1 locs1 cells slots Q (F0 m (pc + 1) ls rest)) : W p l e R s m args below meth c H locs cells slots Q (F0 m pc ls (.int (nI x) :: .int (nI j) :: .ref (eB b) :: rest)) :=
  va_zast (D := G.1) (cl := cls2) S.1 S.2.1 hK hw.1 (hw.2.1 G u) hw.2.2 2 3 rfl rfl (vp_in_nI hj (by decide)) hdg (fun H1 locs1 h1 h2 h3 => kk H1 locs1 ⟨by rw [nI_clamp (Nat.lt_trans hj (by decide)), nar_bool hx, upd_up] at h1; exact h1, hw.2.1, h3⟩)
theorem nz_le (S : CallFix p m c cc nL s args lw_t own) {x : Nat} {off : Int} {tgt : Nat} (hx : x < 2 ^ 31) (hdg : decode cc pc = .ok (.ifCond .le off, 3)) (ht : (pc : Int) + off = (tgt : Int)) (kt : x = 0 → W p l e R s m args below meth c H locs cells slots Q (F0 m tgt ls rest)) (kf : x ≠ 0 → W p l e R s m args below meth c H locs cells slots Q (F0 m (pc + 3) ls rest)) : W p l e R s m args below meth c H locs cells slots Q (F0 m pc ls (.int (nI x) :: rest)) :=
  lv_if_le S.1 S.2.1 hdg ht (fun h => kt (by rcases Nat.eq_zero_or_pos x with q | q; exact q; exact absurd h (nI_nle q hx))) (fun h => kf (fun q => h (by rw [q, nI_0]; decide)))
end MW
section MC
variable {p : Program} {l : Launch} {e : Env} {R : Room} {s : State} {m : MethodId} {args : Array Value} {below : List Frame} {meth : Method} {c : Code} {H : Heap} {locs : List Loc} {cells slots : Nat} {Q : State → Prop}
variable {cc : ByteArray} {nL : Nat} {pc : Nat} {ls : Array Slot} {rest : List Value} {own : String} {G : gG} {b : mA} {u : mV} {A : Nat → Prop} {H0 : Heap}
variable {y : MethodName} {bytes : ByteArray} {maxL n index mc ms : Nat} {ret : Option FieldType} {rm : Room} {Pc : Array Value → State → Prop} {Qc : Array Value → State → Outcome → State → Prop} {free : Addr → Prop} {As st0 : List Value} {q : Nat}
theorem m_recv (hK : gK G s) (hP : mP G b u H) : ∃ cellB : Cell, H[eH b]? = some cellB ∧ cellB.vm.isStatics = false ∧ s.vm.findClass R_M = some cellB.cls := va_recv (ci := 1) (q := (R_M, F_M, 4)) (q0 := 0) hK hP rfl rfl
theorem m_pre (hK : gK G s) (hP : mP G b u H) (hD : mD b A) : PreV s H R_M (eH b) (mPc G b u As) As :=
  ⟨mPc.blind, m_recv hK hP, fun U hU hW => ⟨rfl, by rw [hU]; exact hP, hD.weaken (fun _ _ => trivial), hK.moved hW.alike⟩⟩
theorem m_run (S : CallFix p m c cc nL s args lw_t own) (hp : PreV s H R_M q Pc As) (C : tCall y bytes maxL ret n) (hi : Cond.instanceMethod y ∈ lw_t) (hs : Cond.selects R_M y y ∈ lw_t) (hl : Cond.methodLink own index y ∈ lw_t) (hM : Met l y (mw y bytes maxL ret) rm Pc Qc mc ms free) (hr : roomOk rm R maxL mc ms) (hn : As.length = n) (hsz : ls.size = nL) (hst : st0 = As.reverse ++ .ref q :: rest) (hW : (rest.map fun v => v.category).sum ≤ 8) (hdg : decode cc pc = .ok (.invokevirtual index, 3)) (hf : cells + mc ≤ R.cells ∧ slots + ms ≤ R.slots) :
    va_Run p l e R s m args below meth c H locs cells slots mc ms (F0 m pc ls st0) rest (Qc (Value.ref q :: As).toArray) free :=
  va_runV S hM ⟨m_callB S C hl hr, S.2.2.2.2 _ hi, S.2.2.2.2 _ hs⟩ hp rfl hn hsz hst (lv_room hW) hdg hf
theorem mr_run (S : CallFix p m c cc nL s args lw_t own) (hp : PreV s H R_M q Pc As) (C : tCall y bytes maxL ret n) (hi : Cond.instanceMethod y ∈ lw_t) (hs : Cond.selects R_M y y ∈ lw_t) (hl : Cond.methodLink own index y ∈ lw_t) (hM : Met l y (mw y bytes maxL ret) rm Pc Qc mc ms free) (hr : roomOk rm R maxL mc ms) (hn : As.length = n) (hsz : ls.size = nL) (hst : st0 = As.reverse ++ .ref q :: rest) (hW : (rest.map fun v => v.category).sum ≤ 8) (hdg : decode cc pc = .ok (.invokevirtual index, 3)) (hf : cells + mc ≤ R.cells ∧ slots + ms ≤ R.slots) :
    CallRun p l e R s m args below meth c H locs cells slots mc ms (F0 m pc ls st0) rest (Qc (Value.ref q :: As).toArray) free :=
  W.runV S hM ⟨m_callB S C hl hr, S.2.2.2.2 _ hi, S.2.2.2.2 _ hs⟩ hp rfl hn hsz hst (lv_room hW) hdg hf
theorem m_calli {post : Int32 → mV → Prop} {w : Array Value} (hr : va_Run p l e R s m args below meth c H locs cells slots 0 0 (F0 m pc ls st0) rest (va_Qi post (fun u' t => mP G b u' t.heap) (inB b) w) (inB b)) (hw : mS G b A H0 u H locs)
    (kk : ∀ (r : Int32) (u' : mV) (H1 : Heap) (locs1 : List Loc), post r u' → mS G b A H0 u' H1 locs1 → H.size ≤ H1.size → (∀ q : Nat, q < H.size → ¬ inB b q → H1[q]? = H[q]?) → W p l e R s m args below meth c H1 locs1 cells slots Q (F0 m (pc + 3) ls (.int r :: rest))) : W p l e R s m args below meth c H locs cells slots Q (F0 m pc ls st0) :=
  va_calli hr hw.2.2 (fun q _ h => hw.2.1.sub q h) hw.2.1.sub (fun r u t H1 locs1 ht _ hp hb hz hk hS => kk r u H1 locs1 hp ⟨(show mP G b u H1 by rw [← ht]; exact hb), hw.2.1, hS⟩ hz hk)
theorem m_calll {post : Int64 → mV → Prop} {w : Array Value} (hr : va_Run p l e R s m args below meth c H locs cells slots 0 0 (F0 m pc ls st0) rest (va_Ql post (fun u' t => mP G b u' t.heap) (inB b) w) (inB b)) (hw : mS G b A H0 u H locs)
    (kk : ∀ (r : Int64) (u' : mV) (H1 : Heap) (locs1 : List Loc), post r u' → mS G b A H0 u' H1 locs1 → H.size ≤ H1.size → (∀ q : Nat, q < H.size → ¬ inB b q → H1[q]? = H[q]?) → W p l e R s m args below meth c H1 locs1 cells slots Q (F0 m (pc + 3) ls (.long r :: rest))) : W p l e R s m args below meth c H locs cells slots Q (F0 m pc ls st0) :=
  va_calll hr hw.2.2 (fun q _ h => hw.2.1.sub q h) hw.2.1.sub (fun r u t H1 locs1 ht _ hp hb hz hk hS => kk r u H1 locs1 hp ⟨(show mP G b u H1 by rw [← ht]; exact hb), hw.2.1, hS⟩ hz hk)
theorem m_iret {post : Int32 → mV → Prop} {r : Int32} (S : CallFix p m c cc nL s args lw_t own) (hw : mS G b (inB b) s.heap u H locs) (hp : post r u) (hr : meth.sig.returnType = some .int) (hlk : meth.locks = false) (hdg : decode cc pc = .ok (.ireturn, 1)) : W p l e R s m args below meth c H locs cells slots (MQ below (va_Qi post (fun u' t => mP G b u' t.heap) (inB b)) args s cells slots (inB b)) (F0 m pc ls [.int r]) :=
  W.iret S.1 S.2.1 hr (fun t ht _ => ⟨⟨r, u, rfl, hp, (show mP G b u t.heap by rw [ht]; exact hw.1)⟩, hw.2.2.F ht⟩) hw.2.2.2.2 hdg hlk
theorem m_lret {post : Int64 → mV → Prop} {r : Int64} (S : CallFix p m c cc nL s args lw_t own) (hw : mS G b (inB b) s.heap u H locs) (hp : post r u) (hr : meth.sig.returnType = some .long) (hlk : meth.locks = false) (hdg : decode cc pc = .ok (.lreturn, 1)) : W p l e R s m args below meth c H locs cells slots (MQ below (va_Ql post (fun u' t => mP G b u' t.heap) (inB b)) args s cells slots (inB b)) (F0 m pc ls [.long r]) :=
  W.lret S.1 S.2.1 hr (fun t ht _ => ⟨⟨r, u, rfl, hp, (show mP G b u t.heap by rw [ht]; exact hw.1)⟩, hw.2.2.F ht⟩) hw.2.2.2.2 hdg hlk
end MC
end
section
/-- the model's rows hold the versions' maps -/
def MR (u : mV) (mp : Nat → nMap) (n : Nat) : Prop := uVer u = n ∧ 1 ≤ n ∧ n ≤ 600 ∧ (∀ x, x < n → ∀ k, k < 256 → uH u (256 * x + k) = is1 (mp x k) ∧ ∀ y, mp x k = some y → uV u (256 * x + k) = y) ∧ ∀ x, x < n → ∀ k, 256 ≤ k → mp x k = none
theorem is1_lt (x : Option Int32) : is1 x < 2 := by cases x <;> simp [is1]
theorem is1_0 {x : Option Int32} : is1 x = 0 ↔ x = none := by cases x <;> simp [is1]
theorem MR.congr {u : mV} {mp mp' : Nat → nMap} {n : Nat} (h : MR u mp n) (he : ∀ x, x < n → ∀ k, mp' x k = mp x k) : MR u mp' n := by
  obtain ⟨h1, h2, h3, h4, h5⟩ := h
  refine ⟨h1, h2, h3, fun x hx k hk => ?_, fun x hx k hk => ?_⟩
  · rw [he x hx k]; exact h4 x hx k hk
  · rw [he x hx k]; exact h5 x hx k hk
/-- what made leaves -/
def mdPost (u : mV) (v w k : Nat) : Int32 → mV → Prop := fun r u' => r = nI (uVer u) ∧ uVer u' = uVer u + 1 ∧ uThr u' = uThr u ∧ (∀ j, j < 256 * uVer u → uV u' j = uV u j ∧ uH u' j = uH u j) ∧ ∀ i, i < 256 → uV u' (256 * uVer u + i) = uV u (256 * (if i < k then v else w) + i) ∧ uH u' (256 * uVer u + i) = uH u (256 * (if i < k then v else w) + i)
theorem MR.made {u u' : mV} {mp : Nat → nMap} {v w k : Nat} {r : Int32} (h : MR u mp (uVer u)) (hn : uVer u < 600) (hv : v < uVer u) (hw : w < uVer u) (hp : mdPost u v w k r u') : MR u' (up mp (uVer u) (fun j => if j < k then mp v j else mp w j)) (uVer u + 1) := by
  obtain ⟨-, h2, h3, h4, h5⟩ := h
  obtain ⟨-, p2, -, p4, p5⟩ := hp
  refine ⟨p2, by omega, by omega, fun x hx j hj => ?_, fun x hx j hj => ?_⟩
  · by_cases hxn : x = uVer u
    · subst hxn
      rw [up_s, (p5 j hj).1, (p5 j hj).2]
      by_cases hjk : j < k
      · rw [if_pos hjk, if_pos hjk]; exact h4 v hv j hj
      · rw [if_neg hjk, if_neg hjk]; exact h4 w hw j hj
    · rw [up_n hxn, (p4 _ (by omega)).1, (p4 _ (by omega)).2]
      exact h4 x (by omega) j hj
  · by_cases hxn : x = uVer u
    · subst hxn
      rw [up_s]
      show (if j < k then mp v j else mp w j) = none
      rw [h5 v hv j hj, h5 w hw j hj]; split <;> rfl
    · rw [up_n hxn]; exact h5 x (by omega) j hj
theorem MR.set {u : mV} {mp : Nat → nMap} {n x k : Nat} {y : Int32} {o : Option Int32} (h : MR u mp n) (hx : x < n) (hk : k < 256) (ho : ∀ z, o = some z → y = z) : MR (xH (xV u (up (uV u) (256 * x + k) y)) (up (uH u) (256 * x + k) (is1 o))) (up mp x (up (mp x) k o)) n := by
  obtain ⟨h1, h2, h3, h4, h5⟩ := h
  refine ⟨h1, h2, h3, fun x' hx' k' hk' => ?_, fun x' hx' k' hk' => ?_⟩
  · show up (uH u) (256 * x + k) (is1 o) (256 * x' + k') = _ ∧ ∀ z, _ → up (uV u) (256 * x + k) y (256 * x' + k') = z
    by_cases hxx : x' = x
    · subst hxx
      rw [up_s (f := mp)]
      by_cases hkk : k' = k
      · subst hkk
        rw [up_s, up_s, up_s]
        exact ⟨rfl, ho⟩
      · rw [up_n (by omega), up_n hkk, up_n (by omega)]
        exact h4 x' hx' k' hk'
    · rw [up_n hxx, up_n (by omega), up_n (by omega)]
      exact h4 x' hx' k' hk'
  · by_cases hxx : x' = x
    · subst hxx
      rw [up_s, up_n (by omega)]; exact h5 x' hx' k' hk'
    · rw [up_n hxx]; exact h5 x' hx' k' hk'
/-- how many, what sum, from a to below b -/
def c2 (m : nMap) (a b : Nat) : Nat → Nat
  | 0 => 0
  | k + 1 => c2 m a b k + (if a ≤ k ∧ k < b then is1 (m k) else 0)
def s2 (m : nMap) (a b : Nat) : Nat → Int64
  | 0 => 0
  | k + 1 => s2 m a b k + (if a ≤ k ∧ k < b then vl (m k) else 0)
theorem c2_le (m : nMap) (a b : Nat) : ∀ k, c2 m a b k ≤ k
  | 0 => Nat.le_refl _
  | k + 1 => by
    have h := c2_le m a b k
    have h2 := is1_lt (m k)
    show c2 m a b k + (if a ≤ k ∧ k < b then is1 (m k) else 0) ≤ k + 1
    split <;> omega
theorem c2_no {m : nMap} {a b : Nat} (h : b ≤ a) : ∀ k, c2 m a b k = 0
  | 0 => rfl
  | k + 1 => by
    show c2 m a b k + (if a ≤ k ∧ k < b then is1 (m k) else 0) = 0
    rw [c2_no h k, if_neg (by omega)]
theorem s2_no {m : nMap} {a b : Nat} (h : b ≤ a) : ∀ k, s2 m a b k = 0
  | 0 => rfl
  | k + 1 => by
    show s2 m a b k + (if a ≤ k ∧ k < b then vl (m k) else 0) = 0
    rw [s2_no h k, if_neg (by omega), Int64.add_zero]
theorem c2_eq {m : nMap} {a b : Nat} (h : a ≤ b) : ∀ k, c2 m a b k + cnt m (min k a) = cnt m (min k b)
  | 0 => by simp [c2, cnt]
  | k + 1 => by
    have ih := c2_eq (m := m) h k
    show c2 m a b k + (if a ≤ k ∧ k < b then is1 (m k) else 0) + cnt m (min (k + 1) a) = cnt m (min (k + 1) b)
    rcases Nat.lt_or_ge k a with h1 | h1
    · rw [if_neg (by omega), Nat.min_eq_left (show k + 1 ≤ a by omega), Nat.min_eq_left (show k + 1 ≤ b by omega)]
      rw [Nat.min_eq_left (show k ≤ a by omega), Nat.min_eq_left (show k ≤ b by omega)] at ih
      show _ + 0 + (cnt m k + is1 (m k)) = cnt m k + is1 (m k)
      omega
    · rcases Nat.lt_or_ge k b with h2 | h2
      · rw [if_pos ⟨h1, h2⟩, Nat.min_eq_right (show a ≤ k + 1 by omega), Nat.min_eq_left (show k + 1 ≤ b by omega)]
        rw [Nat.min_eq_right h1, Nat.min_eq_left (show k ≤ b by omega)] at ih
        show _ + is1 (m k) + cnt m a = cnt m k + is1 (m k)
        omega
      · rw [if_neg (by omega), Nat.min_eq_right (show a ≤ k + 1 by omega), Nat.min_eq_right (show b ≤ k + 1 by omega)]
        rw [Nat.min_eq_right h1, Nat.min_eq_right h2] at ih
        omega
theorem s2_eq {m : nMap} {a b : Nat} (h : a ≤ b) : ∀ k, s2 m a b k + smm m (min k a) = smm m (min k b)
  | 0 => by simp [s2, smm]
  | k + 1 => by
    have ih := s2_eq (m := m) h k
    show s2 m a b k + (if a ≤ k ∧ k < b then vl (m k) else 0) + smm m (min (k + 1) a) = smm m (min (k + 1) b)
    rcases Nat.lt_or_ge k a with h1 | h1
    · rw [if_neg (by omega), Nat.min_eq_left (show k + 1 ≤ a by omega), Nat.min_eq_left (show k + 1 ≤ b by omega)]
      rw [Nat.min_eq_left (show k ≤ a by omega), Nat.min_eq_left (show k ≤ b by omega)] at ih
      show _ + 0 + (smm m k + vl (m k)) = smm m k + vl (m k)
      rw [← Int64.add_assoc, Int64.add_zero, ih]
    · rcases Nat.lt_or_ge k b with h2 | h2
      · rw [if_pos ⟨h1, h2⟩, Nat.min_eq_right (show a ≤ k + 1 by omega), Nat.min_eq_left (show k + 1 ≤ b by omega)]
        rw [Nat.min_eq_right h1, Nat.min_eq_left (show k ≤ b by omega)] at ih
        show _ + vl (m k) + smm m a = smm m k + vl (m k)
        rw [← ih]; ac_rfl
      · rw [if_neg (by omega), Nat.min_eq_right (show a ≤ k + 1 by omega), Nat.min_eq_right (show b ≤ k + 1 by omega)]
        rw [Nat.min_eq_right h1, Nat.min_eq_right h2] at ih
        rw [Int64.add_zero]; exact ih
theorem cnt_min {m : nMap} (hm : ∀ k, 256 ≤ k → m k = none) (a : Nat) : cnt m (min 256 a) = cnt m a := by
  rcases Nat.le_total a 256 with h | h
  · rw [Nat.min_eq_right h]
  · rw [Nat.min_eq_left h, cnt_const hm a h]
theorem smm_min {m : nMap} (hm : ∀ k, 256 ≤ k → m k = none) (a : Nat) : smm m (min 256 a) = smm m a := by
  rcases Nat.le_total a 256 with h | h
  · rw [Nat.min_eq_right h]
  · rw [Nat.min_eq_left h, smm_const hm a h]
theorem c2_mny {m : nMap} (hm : ∀ k, 256 ≤ k → m k = none) (y z : Int32) : nI (c2 m y.toNatClampNeg z.toNatClampNeg 256) = mny m y z := by
  unfold mny
  by_cases h : y < z
  · have h1 := c2_eq (m := m) (clamp_mono h) 256
    rw [cnt_min hm, cnt_min hm] at h1
    have e9 : c2 m y.toNatClampNeg z.toNatClampNeg 256 = cnt m z.toNatClampNeg - cnt m y.toNatClampNeg := by omega
    rw [if_pos h, e9]
  · rw [if_neg h, c2_no]
    rw [Int32.lt_iff_toInt_lt] at h
    show z.toInt.toNat ≤ y.toInt.toNat
    omega
theorem s2_smy {m : nMap} (hm : ∀ k, 256 ≤ k → m k = none) (y z : Int32) : s2 m y.toNatClampNeg z.toNatClampNeg 256 = smy m y z := by
  unfold smy
  by_cases h : y < z
  · have h1 := s2_eq (m := m) (clamp_mono h) 256
    rw [smm_min hm, smm_min hm] at h1
    rw [if_pos h, ← h1, Int64.add_sub_cancel]
  · rw [if_neg h, s2_no]
    rw [Int32.lt_iff_toInt_lt] at h
    show z.toInt.toNat ≤ y.toInt.toNat
    omega
set_option maxHeartbeats 4000000 in
set_option maxRecDepth 100000 in
theorem c_M_isOne_t (l : Launch) (G : gG) (b : mA) (u : mV) (x : Nat) (hx0 : x < uVer u) (h6 : uVer u ≤ 600) : Met l y_M_isOne (mw y_M_isOne b_M_isOne 2 (some .boolean)) (rmS 0 0) (mPc G b u [.int (nI x)]) (rQi (fun r => r = nI 1)) 0 0 (fun _ => False) := by
  refine m_ofW (own := R_M) rfl rfl (fun p e s m args below meth c S hr hlk hx hnm hv => ?_)
  obtain ⟨rfl, hP, hD, hK⟩ := hv
  refine m_entry [.ref (eH b), .int (nI x)] (Nat.le_of_ble_eq_true rfl) (fun ls hl => ?_)
  have hl : lv_has ls 2 [(0, .ref (eH b)), (1, .int (nI x))] := hl
  refine lv_iload_n S.1 S.2.1 d_M_isOne_0 rfl (lv_at hl 1 rfl) ?_
  refine n_iflt S (by omega) d_M_isOne_1 rfl ?_
  refine lv_iload_n S.1 S.2.1 d_M_isOne_4 rfl (lv_at hl 1 rfl) ?_
  refine lv_aload_n S.1 S.2.1 d_M_isOne_5 rfl (lv_at hl 0 rfl) ?_
  refine m_gVer S hK hP d_M_isOne_6 ?_
  refine nb_ge S (by omega) (by omega) d_M_isOne_9 rfl (fun h => absurd h (by omega)) (fun _ => ?_)
  refine lv_iconst (v := nI 1) S.1 S.2.1 d_M_isOne_12 (by decide) ?_
  refine lv_goto S.1 S.2.1 d_M_isOne_13 rfl ?_
  exact rz_ret S rfl hr rfl hlk d_M_isOne_17
set_option maxHeartbeats 4000000 in
set_option maxRecDepth 100000 in
theorem c_M_isOne_f (l : Launch) (G : gG) (b : mA) (u : mV) (y : Int32) (hb : bad y (uVer u)) : Met l y_M_isOne (mw y_M_isOne b_M_isOne 2 (some .boolean)) (rmS 0 0) (mPc G b u [.int y]) (rQi (fun r => r = nI 0)) 0 0 (fun _ => False) := by
  refine m_ofW (own := R_M) rfl rfl (fun p e s m args below meth c S hr hlk hx hnm hv => ?_)
  obtain ⟨rfl, hP, hD, hK⟩ := hv
  refine m_entry [.ref (eH b), .int y] (Nat.le_of_ble_eq_true rfl) (fun ls hl => ?_)
  have hl : lv_has ls 2 [(0, .ref (eH b)), (1, .int y)] := hl
  have k16 : W p l e (rmS 0 0) s m #[Value.ref (eH b), Value.int y] below meth c s.heap [] 0 0 (MQ below (rQi (fun r => r = nI 0)) #[Value.ref (eH b), Value.int y] s 0 0 (fun _ => False)) (F0 m 16 ls []) := by
    refine lv_iconst (v := nI 0) S.1 S.2.1 d_M_isOne_16 (by decide) ?_
    exact rz_ret S rfl hr rfl hlk d_M_isOne_17
  refine lv_iload_n S.1 S.2.1 d_M_isOne_0 rfl (lv_at hl 1 rfl) ?_
  refine lv_if_lt S.1 S.2.1 d_M_isOne_1 rfl (fun _ => k16) (fun h0 => ?_)
  refine lv_iload_n S.1 S.2.1 d_M_isOne_4 rfl (lv_at hl 1 rfl) ?_
  refine lv_aload_n S.1 S.2.1 d_M_isOne_5 rfl (lv_at hl 0 rfl) ?_
  refine m_gVer S hK hP d_M_isOne_6 ?_
  exact lv_icmp_ge S.1 S.2.1 d_M_isOne_9 rfl (fun _ => k16) (fun h1 => hb.elim (fun h => absurd h h0) (fun h => absurd h h1))
set_option maxHeartbeats 4000000 in
set_option maxRecDepth 100000 in
theorem c_M_isKey_t (l : Launch) (k : Nat) (hk : k < 256) : Met l y_M_isKey (mw y_M_isKey b_M_isKey 1 (some .boolean)) (rmS 0 0) (fun u _ => u = ([.int (nI k)] : List Value).toArray) (rQi (fun r => r = nI 1)) 0 0 (fun _ => False) := by
  refine m_ofW (own := R_M) rfl rfl (fun p e s m args below meth c S hr hlk hx hnm hv => ?_)
  obtain rfl := hv
  refine m_entry [.int (nI k)] (Nat.le_of_ble_eq_true rfl) (fun ls hl => ?_)
  have hl : lv_has ls 1 [(0, .int (nI k))] := hl
  refine lv_iload_n S.1 S.2.1 d_M_isKey_0 rfl (lv_at hl 0 rfl) ?_
  refine n_iflt S (by omega) d_M_isKey_1 rfl ?_
  refine lv_iload_n S.1 S.2.1 d_M_isKey_4 rfl (lv_at hl 0 rfl) ?_
  refine lv_sipush (v := nI 256) S.1 S.2.1 d_M_isKey_5 (by decide) ?_
  refine nb_ge S (by omega) (by omega) d_M_isKey_8 rfl (fun h => absurd h (by omega)) (fun _ => ?_)
  refine lv_iconst (v := nI 1) S.1 S.2.1 d_M_isKey_11 (by decide) ?_
  refine lv_goto S.1 S.2.1 d_M_isKey_12 rfl ?_
  exact rz_ret S rfl hr rfl hlk d_M_isKey_16
set_option maxHeartbeats 4000000 in
set_option maxRecDepth 100000 in
theorem c_M_isKey_f (l : Launch) (y : Int32) (hb : bad y 256) : Met l y_M_isKey (mw y_M_isKey b_M_isKey 1 (some .boolean)) (rmS 0 0) (fun u _ => u = ([.int y] : List Value).toArray) (rQi (fun r => r = nI 0)) 0 0 (fun _ => False) := by
  refine m_ofW (own := R_M) rfl rfl (fun p e s m args below meth c S hr hlk hx hnm hv => ?_)
  obtain rfl := hv
  refine m_entry [.int y] (Nat.le_of_ble_eq_true rfl) (fun ls hl => ?_)
  have hl : lv_has ls 1 [(0, .int y)] := hl
  have k15 : W p l e (rmS 0 0) s m #[Value.int y] below meth c s.heap [] 0 0 (MQ below (rQi (fun r => r = nI 0)) #[Value.int y] s 0 0 (fun _ => False)) (F0 m 15 ls []) := by
    refine lv_iconst (v := nI 0) S.1 S.2.1 d_M_isKey_15 (by decide) ?_
    exact rz_ret S rfl hr rfl hlk d_M_isKey_16
  refine lv_iload_n S.1 S.2.1 d_M_isKey_0 rfl (lv_at hl 0 rfl) ?_
  refine lv_if_lt S.1 S.2.1 d_M_isKey_1 rfl (fun _ => k15) (fun h0 => ?_)
  refine lv_iload_n S.1 S.2.1 d_M_isKey_4 rfl (lv_at hl 0 rfl) ?_
  refine lv_sipush (v := nI 256) S.1 S.2.1 d_M_isKey_5 (by decide) ?_
  exact lv_icmp_ge S.1 S.2.1 d_M_isKey_8 rfl (fun _ => k15) (fun h1 => hb.elim (fun h => absurd h h0) (fun h => absurd h h1))
set_option maxHeartbeats 4000000 in
set_option maxRecDepth 100000 in
theorem c_M_thrown (l : Launch) (G : gG) (b : mA) (u : mV) : Met l y_M_thrown (mw y_M_thrown b_M_thrown 1 (some .int)) (rmS 0 0) (mPc G b u []) (rQi (fun r => r = nI (uThr u))) 0 0 (fun _ => False) := by
  refine m_ofW (own := R_M) rfl rfl (fun p e s m args below meth c S hr hlk hx hnm hv => ?_)
  obtain ⟨rfl, hP, hD, hK⟩ := hv
  refine m_entry [.ref (eH b)] (Nat.le_of_ble_eq_true rfl) (fun ls hl => ?_)
  have hl : lv_has ls 1 [(0, .ref (eH b))] := hl
  refine lv_aload_n S.1 S.2.1 d_M_thrown_0 rfl (lv_at hl 0 rfl) ?_
  refine m_gThr S hK hP d_M_thrown_1 ?_
  exact ri_ret S rfl hr hlk d_M_thrown_4
set_option maxHeartbeats 4000000 in
set_option maxRecDepth 100000 in
theorem c_M_versions (l : Launch) (G : gG) (b : mA) (u : mV) : Met l y_M_versions (mw y_M_versions b_M_versions 1 (some .int)) (rmS 0 0) (mPc G b u []) (va_Qi (fun r u' => r = nI (uVer u) ∧ u' = xThr u 0) (fun u' t => mP G b u' t.heap) (inB b)) 0 0 (inB b) := by
  refine m_ofW (own := R_M) rfl rfl (fun p e s m args below meth c S hr hlk hx hnm hv => ?_)
  obtain ⟨rfl, hP, hD, hK⟩ := hv
  have hw := mS.start hP hD
  refine m_entry [.ref (eH b)] (Nat.le_of_ble_eq_true rfl) (fun ls hl => ?_)
  have hl : lv_has ls 1 [(0, .ref (eH b))] := hl
  refine lv_aload_n S.1 S.2.1 d_M_versions_0 rfl (lv_at hl 0 rfl) ?_
  refine lv_iconst (v := nI 0) S.1 S.2.1 d_M_versions_1 (by decide) ?_
  refine m_pThr S hK hw d_M_versions_2 (fun H locs hw => ?_)
  refine lv_aload_n S.1 S.2.1 d_M_versions_5 rfl (lv_at hl 0 rfl) ?_
  refine m_gVer S hK hw.1 d_M_versions_6 ?_
  exact m_iret S hw ⟨rfl, rfl⟩ hr hlk d_M_versions_9
set_option maxHeartbeats 4000000 in
set_option maxRecDepth 100000 in
theorem c_M_check (l : Launch) (G : gG) (b : mA) (u : mV) : Met l y_M_check (mw y_M_check b_M_check 1 (some .int)) (rmS 0 0) (mPc G b u []) (va_Qi (fun r u' => r = nI 0 ∧ u' = xThr u 0) (fun u' t => mP G b u' t.heap) (inB b)) 0 0 (inB b) := by
  refine m_ofW (own := R_M) rfl rfl (fun p e s m args below meth c S hr hlk hx hnm hv => ?_)
  obtain ⟨rfl, hP, hD, hK⟩ := hv
  have hw := mS.start hP hD
  refine m_entry [.ref (eH b)] (Nat.le_of_ble_eq_true rfl) (fun ls hl => ?_)
  have hl : lv_has ls 1 [(0, .ref (eH b))] := hl
  refine lv_aload_n S.1 S.2.1 d_M_check_0 rfl (lv_at hl 0 rfl) ?_
  refine lv_iconst (v := nI 0) S.1 S.2.1 d_M_check_1 (by decide) ?_
  refine m_pThr S hK hw d_M_check_2 (fun H locs hw => ?_)
  refine lv_iconst (v := nI 0) S.1 S.2.1 d_M_check_5 (by decide) ?_
  exact m_iret S hw ⟨rfl, rfl⟩ hr hlk d_M_check_6
set_option maxHeartbeats 4000000 in
set_option maxRecDepth 100000 in
/-- made(v, w, k) -/
theorem c_M_made (l : Launch) (G : gG) (b : mA) (u : mV) (v w k : Nat) (hn : uVer u < 600) (hv0 : v < uVer u) (hw0 : w < uVer u) (hk : k ≤ 256) (hB0 : ∀ j, j < 256 * uVer u → uH u j < 2) : Met l y_M_made (mw y_M_made b_M_made 7 (some .int)) (rmS 0 0) (mPc G b u [.int (nI v), .int (nI w), .int (nI k)]) (va_Qi (mdPost u v w k) (fun u' t => mP G b u' t.heap) (inB b)) 0 0 (inB b) := by
  refine m_ofW (own := R_M) rfl rfl (fun p e s m args below meth c S hr hlk hx hnm hv => ?_)
  obtain ⟨hargs, hP, hD, hK⟩ := hv
  have hw := mS.start hP hD
  refine m_entryA [.ref (eH b), .int (nI v), .int (nI w), .int (nI k)] hargs (Nat.le_of_ble_eq_true rfl) (fun ls hl => ?_)
  have hl : lv_has ls 7 [(0, .ref (eH b)), (1, .int (nI v)), (2, .int (nI w)), (3, .int (nI k))] := hl
  have hB2 : ∀ u1 : mV, ∀ j, j < 256 * uVer u → (∀ j, j < 256 * uVer u → uV u1 j = uV u j ∧ uH u1 j = uH u j) → uH u1 j < 2 := fun u1 j hj h => by rw [(h j hj).2]; exact hB0 j hj
  have loop : ∀ d i u1, 256 - i = d → i ≤ 256 → uVer u1 = uVer u → uThr u1 = uThr u → (∀ j, j < 256 * uVer u → uV u1 j = uV u j ∧ uH u1 j = uH u j) → (∀ q, q < i → uV u1 (256 * uVer u + q) = uV u (256 * (if q < k then v else w) + q) ∧ uH u1 (256 * uVer u + q) = uH u (256 * (if q < k then v else w) + q)) → ∀ ls H locs, mS G b (inB b) s.heap u1 H locs → lv_has ls 7 [(5, .int (nI i)), (4, .int (nI (256 * uVer u))), (0, .ref (eH b)), (1, .int (nI v)), (2, .int (nI w)), (3, .int (nI k))] → W p l e (rmS 0 0) s m args below meth c H locs 0 0 (MQ below (va_Qi (mdPost u v w k) (fun u' t => mP G b u' t.heap) (inB b)) args s 0 0 (inB b)) (F0 m 13 ls []) := by
    intro d
    induction d with
    | zero =>
      intro i u1 hd hi h1 h2 h3 h4 ls H locs hw hl
      refine lv_iload S.1 S.2.1 d_M_made_13 (lv_at hl 0 rfl) ?_
      refine lv_sipush (v := nI 256) S.1 S.2.1 d_M_made_15 (by decide) ?_
      refine nb_ge S (by omega) (by omega) d_M_made_18 rfl (fun _ => ?_) (fun h => absurd h (by omega))
      refine lv_aload_n S.1 S.2.1 d_M_made_81 rfl (lv_at hl 2 rfl) ?_
      refine lv_dup S.1 S.2.1 d_M_made_82 rfl ?_
      refine m_gVer S hK hw.1 d_M_made_83 ?_
      refine lv_iconst (v := nI 1) S.1 S.2.1 d_M_made_86 (by decide) ?_
      refine n_iadd S d_M_made_87 ?_
      refine m_pVer S hK hw d_M_made_88 (fun H locs hw => ?_)
      refine lv_aload_n S.1 S.2.1 d_M_made_91 rfl (lv_at hl 2 rfl) ?_
      refine m_gVer S hK hw.1 d_M_made_92 ?_
      refine lv_iconst (v := nI 1) S.1 S.2.1 d_M_made_95 (by decide) ?_
      refine n_isub S (show 1 ≤ uVer u1 + 1 by omega) d_M_made_96 ?_
      refine m_iret S hw ⟨?_, ?_, h2, h3, fun q hq => h4 q (by omega)⟩ hr hlk d_M_made_97
      · rw [← h1]; rfl
      · show uVer u1 + 1 = _; omega
    | succ d ih =>
      intro i u1 hd hi h1 h2 h3 h4 ls H locs hw hl
      refine lv_iload S.1 S.2.1 d_M_made_13 (lv_at hl 0 rfl) ?_
      refine lv_sipush (v := nI 256) S.1 S.2.1 d_M_made_15 (by decide) ?_
      refine nb_ge S (by omega) (by omega) d_M_made_18 rfl (fun h => absurd h (by omega)) (fun _ => ?_)
      refine lv_sipush (v := nI 256) S.1 S.2.1 d_M_made_21 (by decide) ?_
      refine lv_iload S.1 S.2.1 d_M_made_24 (lv_at hl 0 rfl) ?_
      refine lv_iload_n S.1 S.2.1 d_M_made_26 rfl (lv_at hl 5 rfl) ?_
      have k35 : ∀ z, z = (if i < k then v else w) → W p l e (rmS 0 0) s m args below meth c H locs 0 0 (MQ below (va_Qi (mdPost u v w k) (fun u' t => mP G b u' t.heap) (inB b)) args s 0 0 (inB b)) (F0 m 35 ls [.int (nI z), .int (nI 256)]) := by
        intro z hz
        have hz2 : z < uVer u := by rw [hz]; split <;> omega
        refine n_imul S d_M_made_35 ?_
        refine lv_iload S.1 S.2.1 d_M_made_36 (lv_at hl 0 rfl) ?_
        refine n_iadd S d_M_made_38 ?_
        refine lv_istore S.1 S.2.1 d_M_made_39 hl (by decide) rfl (fun ls hl => ?_)
        refine lv_aload_n S.1 S.2.1 d_M_made_41 rfl (lv_at hl 3 rfl) ?_
        refine m_gV S hK hw.1 d_M_made_42 ?_
        refine lv_iload S.1 S.2.1 d_M_made_45 (lv_at hl 2 rfl) ?_
        refine lv_iload S.1 S.2.1 d_M_made_47 (lv_at hl 1 rfl) ?_
        refine n_iadd S d_M_made_49 ?_
        refine lv_aload_n S.1 S.2.1 d_M_made_50 rfl (lv_at hl 3 rfl) ?_
        refine m_gV S hK hw.1 d_M_made_51 ?_
        refine lv_iload S.1 S.2.1 d_M_made_54 (lv_at hl 0 rfl) ?_
        refine m_iV S hK hw.1 (by omega) d_M_made_56 ?_
        refine m_sV S hK hw (by omega) d_M_made_57 (fun H locs hw => ?_)
        refine lv_aload_n S.1 S.2.1 d_M_made_58 rfl (lv_at hl 3 rfl) ?_
        refine m_gH S hK hw.1 d_M_made_59 ?_
        refine lv_iload S.1 S.2.1 d_M_made_62 (lv_at hl 2 rfl) ?_
        refine lv_iload S.1 S.2.1 d_M_made_64 (lv_at hl 1 rfl) ?_
        refine n_iadd S d_M_made_66 ?_
        refine lv_aload_n S.1 S.2.1 d_M_made_67 rfl (lv_at hl 3 rfl) ?_
        refine m_gH S hK hw.1 d_M_made_68 ?_
        refine lv_iload S.1 S.2.1 d_M_made_71 (lv_at hl 0 rfl) ?_
        refine m_iH S hK hw.1 (by omega) d_M_made_73 ?_
        have hb2 : uH u1 (256 * z + i) < 2 := hB2 u1 (256 * z + i) (by omega) h3
        refine m_sH S hK hw (by omega) (show uH u1 (256 * z + i) < 2 from hb2) d_M_made_74 (fun H locs hw => ?_)
        refine lv_iinc (k := 1) (v := nI (i + 1)) S.1 S.2.1 d_M_made_75 hl rfl (by rw [lit1]; exact nI_1 i) (by decide) rfl (fun ls hl => ?_)
        refine lv_goto S.1 S.2.1 d_M_made_78 rfl ?_
        refine ih (i + 1) (xH (xV u1 (up (uV u1) (256 * uVer u + i) (uV u1 (256 * z + i)))) (up (uH u1) (256 * uVer u + i) (uH u1 (256 * z + i)))) (by omega) (by omega) h1 h2 (fun j hj => ?_) (fun q hq => ?_) ls H locs hw (lv_sub hl [0, 2, 3, 4, 5, 6] rfl)
        · show up (uV u1) (256 * uVer u + i) _ j = _ ∧ up (uH u1) (256 * uVer u + i) _ j = _
          rw [up_n (by omega), up_n (by omega)]
          exact h3 j hj
        · show up (uV u1) (256 * uVer u + i) (uV u1 (256 * z + i)) (256 * uVer u + q) = _ ∧ up (uH u1) (256 * uVer u + i) (uH u1 (256 * z + i)) (256 * uVer u + q) = _
          by_cases hqi : q = i
          · subst hqi
            rw [up_s, up_s, ← hz]
            exact h3 _ (by omega)
          · rw [up_n (by omega), up_n (by omega)]
            exact h4 q (by omega)
      refine nb_ge S (by omega) (by omega) d_M_made_27 rfl (fun hc => ?_) (fun hc => ?_)
      · refine lv_iload_n S.1 S.2.1 d_M_made_34 rfl (lv_at hl 4 rfl) ?_
        exact k35 w (by rw [if_neg (by omega)])
      · refine lv_iload_n S.1 S.2.1 d_M_made_30 rfl (lv_at hl 3 rfl) ?_
        refine lv_goto S.1 S.2.1 d_M_made_31 rfl ?_
        exact k35 v (by rw [if_pos hc])
  refine lv_sipush (v := nI 256) S.1 S.2.1 d_M_made_0 (by decide) ?_
  refine lv_aload_n S.1 S.2.1 d_M_made_3 rfl (lv_at hl 0 rfl) ?_
  refine m_gVer S hK hw.1 d_M_made_4 ?_
  refine n_imul S d_M_made_7 ?_
  refine lv_istore S.1 S.2.1 d_M_made_8 hl (by decide) rfl (fun ls hl => ?_)
  refine lv_iconst (v := nI 0) S.1 S.2.1 d_M_made_10 (by decide) ?_
  refine lv_istore S.1 S.2.1 d_M_made_11 hl (by decide) rfl (fun ls hl => ?_)
  exact loop _ 0 u rfl (by omega) rfl rfl (fun _ _ => ⟨rfl, rfl⟩) (fun q hq => absurd hq (Nat.not_lt_zero q)) ls _ _ hw hl
theorem MR.b2 {u : mV} {mp : Nat → nMap} {n : Nat} (h : MR u mp n) : ∀ j, j < 256 * n → uH u j < 2 := by
  intro j hj
  have h1 := (h.2.2.2.1 (j / 256) (by omega) (j % 256) (by omega)).1
  rw [show 256 * (j / 256) + j % 256 = j by omega] at h1
  rw [h1]
  exact is1_lt _
end
section
set_option maxHeartbeats 4000000 in
set_option maxRecDepth 100000 in
theorem c_M_put_v (l : Launch) (G : gG) (b : mA) (u : mV) (y0 y1 y2 : Int32) (hb : bad y0 (uVer u)) : Met l y_M_put (mw y_M_put b_M_put 5 (some .int)) (rmS 5 100) (mPc G b u [.int y0, .int y1, .int y2]) (va_Qi (fun _ u' => u' = xThr u 1) (fun u' t => mP G b u' t.heap) (inB b)) 0 0 (inB b) := by
  refine m_ofW (own := R_M) rfl rfl (fun p e s m args below meth c S hr hlk hx hnm hv => ?_)
  obtain ⟨rfl, hP, hD, hK⟩ := hv
  have hw := mS.start hP hD
  refine m_entry [.ref (eH b), .int y0, .int y1, .int y2] (Nat.le_of_ble_eq_true rfl) (fun ls hl => ?_)
  have hl : lv_has ls 5 [(0, .ref (eH b)), (1, .int y0), (2, .int y1), (3, .int y2)] := hl
  refine lv_aload_n S.1 S.2.1 d_M_put_0 rfl (lv_at hl 0 rfl) ?_
  refine lv_aload_n S.1 S.2.1 d_M_put_1 rfl (lv_at hl 0 rfl) ?_
  refine lv_iload_n S.1 S.2.1 d_M_put_2 rfl (lv_at hl 1 rfl) ?_
  refine r_calli (mr_run S (m_pre hK hw.1 hw.2.1) k_M_isOne wi_M_isOne wv_M_M_isOne wL_M_25 (c_M_isOne_f l G b u y0 hb) (rm_ok (by omega) (by omega)) rfl hl.1 rfl (Nat.le_of_ble_eq_true rfl) d_M_put_3 ⟨Nat.le_refl _, Nat.le_refl _⟩) (fun r hp => ?_)
  subst hp
  refine nz_eq S (by decide) d_M_put_6 rfl (fun _ => ?_) (fun h => absurd rfl h)
  refine lv_iconst (v := nI 1) S.1 S.2.1 d_M_put_16 (by decide) ?_
  refine lv_goto S.1 S.2.1 d_M_put_17 rfl ?_
  refine m_pThr S hK hw d_M_put_35 (fun H locs hw => ?_)
  refine lv_aload_n S.1 S.2.1 d_M_put_38 rfl (lv_at hl 0 rfl) ?_
  refine m_gThr S hK hw.1 d_M_put_39 ?_
  refine nz_le S (x := 1) (by decide) d_M_put_42 rfl (fun h => absurd h (by decide)) (fun _ => ?_)
  refine lv_iconst (v := nI 0) S.1 S.2.1 d_M_put_45 (by decide) ?_
  exact m_iret S hw rfl hr hlk d_M_put_46
set_option maxHeartbeats 4000000 in
set_option maxRecDepth 100000 in
theorem c_M_put_k (l : Launch) (G : gG) (b : mA) (u : mV) (x : Nat) (y1 y2 : Int32) (hx0 : x < uVer u) (h6 : uVer u ≤ 600) (hb : bad y1 256) : Met l y_M_put (mw y_M_put b_M_put 5 (some .int)) (rmS 5 100) (mPc G b u [.int (nI x), .int y1, .int y2]) (va_Qi (fun _ u' => u' = xThr u 1) (fun u' t => mP G b u' t.heap) (inB b)) 0 0 (inB b) := by
  refine m_ofW (own := R_M) rfl rfl (fun p e s m args below meth c S hr hlk hx hnm hv => ?_)
  obtain ⟨rfl, hP, hD, hK⟩ := hv
  have hw := mS.start hP hD
  refine m_entry [.ref (eH b), .int (nI x), .int y1, .int y2] (Nat.le_of_ble_eq_true rfl) (fun ls hl => ?_)
  have hl : lv_has ls 5 [(0, .ref (eH b)), (1, .int (nI x)), (2, .int y1), (3, .int y2)] := hl
  refine lv_aload_n S.1 S.2.1 d_M_put_0 rfl (lv_at hl 0 rfl) ?_
  refine lv_aload_n S.1 S.2.1 d_M_put_1 rfl (lv_at hl 0 rfl) ?_
  refine lv_iload_n S.1 S.2.1 d_M_put_2 rfl (lv_at hl 1 rfl) ?_
  refine r_calli (mr_run S (m_pre hK hw.1 hw.2.1) k_M_isOne wi_M_isOne wv_M_M_isOne wL_M_25 (c_M_isOne_t l G b u x hx0 h6) (rm_ok (by omega) (by omega)) rfl hl.1 rfl (Nat.le_of_ble_eq_true rfl) d_M_put_3 ⟨Nat.le_refl _, Nat.le_refl _⟩) (fun r hp => ?_)
  subst hp
  refine nz_eq S (by decide) d_M_put_6 rfl (fun h => absurd h (by decide)) (fun _ => ?_)
  refine lv_iload_n S.1 S.2.1 d_M_put_9 rfl (lv_at hl 2 rfl) ?_
  refine r_calli (r_runS S preEq k_M_isKey ws_M_isKey wL_M_29 (c_M_isKey_f l y1 hb) (rm_ok (by omega) (by omega)) rfl hl.1 rfl (Nat.le_of_ble_eq_true rfl) d_M_put_10 ⟨Nat.le_refl _, Nat.le_refl _⟩) (fun r hp => ?_)
  subst hp
  refine nz_ne S (by decide) d_M_put_13 rfl (fun h => absurd rfl h) (fun _ => ?_)
  refine lv_iconst (v := nI 1) S.1 S.2.1 d_M_put_16 (by decide) ?_
  refine lv_goto S.1 S.2.1 d_M_put_17 rfl ?_
  refine m_pThr S hK hw d_M_put_35 (fun H locs hw => ?_)
  refine lv_aload_n S.1 S.2.1 d_M_put_38 rfl (lv_at hl 0 rfl) ?_
  refine m_gThr S hK hw.1 d_M_put_39 ?_
  refine nz_le S (x := 1) (by decide) d_M_put_42 rfl (fun h => absurd h (by decide)) (fun _ => ?_)
  refine lv_iconst (v := nI 0) S.1 S.2.1 d_M_put_45 (by decide) ?_
  exact m_iret S hw rfl hr hlk d_M_put_46
set_option maxHeartbeats 4000000 in
set_option maxRecDepth 100000 in
theorem c_M_remove_v (l : Launch) (G : gG) (b : mA) (u : mV) (y0 y1 : Int32) (hb : bad y0 (uVer u)) : Met l y_M_remove (mw y_M_remove b_M_remove 4 (some .int)) (rmS 5 100) (mPc G b u [.int y0, .int y1]) (va_Qi (fun _ u' => u' = xThr u 1) (fun u' t => mP G b u' t.heap) (inB b)) 0 0 (inB b) := by
  refine m_ofW (own := R_M) rfl rfl (fun p e s m args below meth c S hr hlk hx hnm hv => ?_)
  obtain ⟨rfl, hP, hD, hK⟩ := hv
  have hw := mS.start hP hD
  refine m_entry [.ref (eH b), .int y0, .int y1] (Nat.le_of_ble_eq_true rfl) (fun ls hl => ?_)
  have hl : lv_has ls 4 [(0, .ref (eH b)), (1, .int y0), (2, .int y1)] := hl
  refine lv_aload_n S.1 S.2.1 d_M_remove_0 rfl (lv_at hl 0 rfl) ?_
  refine lv_aload_n S.1 S.2.1 d_M_remove_1 rfl (lv_at hl 0 rfl) ?_
  refine lv_iload_n S.1 S.2.1 d_M_remove_2 rfl (lv_at hl 1 rfl) ?_
  refine r_calli (mr_run S (m_pre hK hw.1 hw.2.1) k_M_isOne wi_M_isOne wv_M_M_isOne wL_M_25 (c_M_isOne_f l G b u y0 hb) (rm_ok (by omega) (by omega)) rfl hl.1 rfl (Nat.le_of_ble_eq_true rfl) d_M_remove_3 ⟨Nat.le_refl _, Nat.le_refl _⟩) (fun r hp => ?_)
  subst hp
  refine nz_eq S (by decide) d_M_remove_6 rfl (fun _ => ?_) (fun h => absurd rfl h)
  refine lv_iconst (v := nI 1) S.1 S.2.1 d_M_remove_16 (by decide) ?_
  refine lv_goto S.1 S.2.1 d_M_remove_17 rfl ?_
  refine m_pThr S hK hw d_M_remove_54 (fun H locs hw => ?_)
  refine lv_aload_n S.1 S.2.1 d_M_remove_57 rfl (lv_at hl 0 rfl) ?_
  refine m_gThr S hK hw.1 d_M_remove_58 ?_
  refine nz_le S (x := 1) (by decide) d_M_remove_61 rfl (fun h => absurd h (by decide)) (fun _ => ?_)
  refine lv_iconst (v := nI 0) S.1 S.2.1 d_M_remove_64 (by decide) ?_
  exact m_iret S hw rfl hr hlk d_M_remove_65
set_option maxHeartbeats 4000000 in
set_option maxRecDepth 100000 in
theorem c_M_remove_k (l : Launch) (G : gG) (b : mA) (u : mV) (x : Nat) (y1 : Int32) (hx0 : x < uVer u) (h6 : uVer u ≤ 600) (hb : bad y1 256) : Met l y_M_remove (mw y_M_remove b_M_remove 4 (some .int)) (rmS 5 100) (mPc G b u [.int (nI x), .int y1]) (va_Qi (fun _ u' => u' = xThr u 1) (fun u' t => mP G b u' t.heap) (inB b)) 0 0 (inB b) := by
  refine m_ofW (own := R_M) rfl rfl (fun p e s m args below meth c S hr hlk hx hnm hv => ?_)
  obtain ⟨rfl, hP, hD, hK⟩ := hv
  have hw := mS.start hP hD
  refine m_entry [.ref (eH b), .int (nI x), .int y1] (Nat.le_of_ble_eq_true rfl) (fun ls hl => ?_)
  have hl : lv_has ls 4 [(0, .ref (eH b)), (1, .int (nI x)), (2, .int y1)] := hl
  refine lv_aload_n S.1 S.2.1 d_M_remove_0 rfl (lv_at hl 0 rfl) ?_
  refine lv_aload_n S.1 S.2.1 d_M_remove_1 rfl (lv_at hl 0 rfl) ?_
  refine lv_iload_n S.1 S.2.1 d_M_remove_2 rfl (lv_at hl 1 rfl) ?_
  refine r_calli (mr_run S (m_pre hK hw.1 hw.2.1) k_M_isOne wi_M_isOne wv_M_M_isOne wL_M_25 (c_M_isOne_t l G b u x hx0 h6) (rm_ok (by omega) (by omega)) rfl hl.1 rfl (Nat.le_of_ble_eq_true rfl) d_M_remove_3 ⟨Nat.le_refl _, Nat.le_refl _⟩) (fun r hp => ?_)
  subst hp
  refine nz_eq S (by decide) d_M_remove_6 rfl (fun h => absurd h (by decide)) (fun _ => ?_)
  refine lv_iload_n S.1 S.2.1 d_M_remove_9 rfl (lv_at hl 2 rfl) ?_
  refine r_calli (r_runS S preEq k_M_isKey ws_M_isKey wL_M_29 (c_M_isKey_f l y1 hb) (rm_ok (by omega) (by omega)) rfl hl.1 rfl (Nat.le_of_ble_eq_true rfl) d_M_remove_10 ⟨Nat.le_refl _, Nat.le_refl _⟩) (fun r hp => ?_)
  subst hp
  refine nz_ne S (by decide) d_M_remove_13 rfl (fun h => absurd rfl h) (fun _ => ?_)
  refine lv_iconst (v := nI 1) S.1 S.2.1 d_M_remove_16 (by decide) ?_
  refine lv_goto S.1 S.2.1 d_M_remove_17 rfl ?_
  refine m_pThr S hK hw d_M_remove_54 (fun H locs hw => ?_)
  refine lv_aload_n S.1 S.2.1 d_M_remove_57 rfl (lv_at hl 0 rfl) ?_
  refine m_gThr S hK hw.1 d_M_remove_58 ?_
  refine nz_le S (x := 1) (by decide) d_M_remove_61 rfl (fun h => absurd h (by decide)) (fun _ => ?_)
  refine lv_iconst (v := nI 0) S.1 S.2.1 d_M_remove_64 (by decide) ?_
  exact m_iret S hw rfl hr hlk d_M_remove_65
set_option maxHeartbeats 4000000 in
set_option maxRecDepth 100000 in
theorem c_M_get_v (l : Launch) (G : gG) (b : mA) (u : mV) (y0 y1 : Int32) (hb : bad y0 (uVer u)) : Met l y_M_get (mw y_M_get b_M_get 3 (some .int)) (rmS 5 100) (mPc G b u [.int y0, .int y1]) (va_Qi (fun _ u' => u' = xThr u 1) (fun u' t => mP G b u' t.heap) (inB b)) 0 0 (inB b) := by
  refine m_ofW (own := R_M) rfl rfl (fun p e s m args below meth c S hr hlk hx hnm hv => ?_)
  obtain ⟨rfl, hP, hD, hK⟩ := hv
  have hw := mS.start hP hD
  refine m_entry [.ref (eH b), .int y0, .int y1] (Nat.le_of_ble_eq_true rfl) (fun ls hl => ?_)
  have hl : lv_has ls 3 [(0, .ref (eH b)), (1, .int y0), (2, .int y1)] := hl
  refine lv_aload_n S.1 S.2.1 d_M_get_0 rfl (lv_at hl 0 rfl) ?_
  refine lv_aload_n S.1 S.2.1 d_M_get_1 rfl (lv_at hl 0 rfl) ?_
  refine lv_iload_n S.1 S.2.1 d_M_get_2 rfl (lv_at hl 1 rfl) ?_
  refine r_calli (mr_run S (m_pre hK hw.1 hw.2.1) k_M_isOne wi_M_isOne wv_M_M_isOne wL_M_25 (c_M_isOne_f l G b u y0 hb) (rm_ok (by omega) (by omega)) rfl hl.1 rfl (Nat.le_of_ble_eq_true rfl) d_M_get_3 ⟨Nat.le_refl _, Nat.le_refl _⟩) (fun r hp => ?_)
  subst hp
  refine nz_eq S (by decide) d_M_get_6 rfl (fun _ => ?_) (fun h => absurd rfl h)
  refine lv_iconst (v := nI 1) S.1 S.2.1 d_M_get_16 (by decide) ?_
  refine lv_goto S.1 S.2.1 d_M_get_17 rfl ?_
  refine m_pThr S hK hw d_M_get_40 (fun H locs hw => ?_)
  refine lv_aload_n S.1 S.2.1 d_M_get_43 rfl (lv_at hl 0 rfl) ?_
  refine m_gThr S hK hw.1 d_M_get_44 ?_
  refine nz_le S (x := 1) (by decide) d_M_get_47 rfl (fun h => absurd h (by decide)) (fun _ => ?_)
  refine lv_iconst (v := nI 0) S.1 S.2.1 d_M_get_50 (by decide) ?_
  refine lv_goto S.1 S.2.1 d_M_get_51 rfl ?_
  exact m_iret S hw rfl hr hlk d_M_get_66
set_option maxHeartbeats 4000000 in
set_option maxRecDepth 100000 in
theorem c_M_get_k (l : Launch) (G : gG) (b : mA) (u : mV) (x : Nat) (y1 : Int32) (hx0 : x < uVer u) (h6 : uVer u ≤ 600) (hb : bad y1 256) : Met l y_M_get (mw y_M_get b_M_get 3 (some .int)) (rmS 5 100) (mPc G b u [.int (nI x), .int y1]) (va_Qi (fun _ u' => u' = xThr u 1) (fun u' t => mP G b u' t.heap) (inB b)) 0 0 (inB b) := by
  refine m_ofW (own := R_M) rfl rfl (fun p e s m args below meth c S hr hlk hx hnm hv => ?_)
  obtain ⟨rfl, hP, hD, hK⟩ := hv
  have hw := mS.start hP hD
  refine m_entry [.ref (eH b), .int (nI x), .int y1] (Nat.le_of_ble_eq_true rfl) (fun ls hl => ?_)
  have hl : lv_has ls 3 [(0, .ref (eH b)), (1, .int (nI x)), (2, .int y1)] := hl
  refine lv_aload_n S.1 S.2.1 d_M_get_0 rfl (lv_at hl 0 rfl) ?_
  refine lv_aload_n S.1 S.2.1 d_M_get_1 rfl (lv_at hl 0 rfl) ?_
  refine lv_iload_n S.1 S.2.1 d_M_get_2 rfl (lv_at hl 1 rfl) ?_
  refine r_calli (mr_run S (m_pre hK hw.1 hw.2.1) k_M_isOne wi_M_isOne wv_M_M_isOne wL_M_25 (c_M_isOne_t l G b u x hx0 h6) (rm_ok (by omega) (by omega)) rfl hl.1 rfl (Nat.le_of_ble_eq_true rfl) d_M_get_3 ⟨Nat.le_refl _, Nat.le_refl _⟩) (fun r hp => ?_)
  subst hp
  refine nz_eq S (by decide) d_M_get_6 rfl (fun h => absurd h (by decide)) (fun _ => ?_)
  refine lv_iload_n S.1 S.2.1 d_M_get_9 rfl (lv_at hl 2 rfl) ?_
  refine r_calli (r_runS S preEq k_M_isKey ws_M_isKey wL_M_29 (c_M_isKey_f l y1 hb) (rm_ok (by omega) (by omega)) rfl hl.1 rfl (Nat.le_of_ble_eq_true rfl) d_M_get_10 ⟨Nat.le_refl _, Nat.le_refl _⟩) (fun r hp => ?_)
  subst hp
  refine nz_ne S (by decide) d_M_get_13 rfl (fun h => absurd rfl h) (fun _ => ?_)
  refine lv_iconst (v := nI 1) S.1 S.2.1 d_M_get_16 (by decide) ?_
  refine lv_goto S.1 S.2.1 d_M_get_17 rfl ?_
  refine m_pThr S hK hw d_M_get_40 (fun H locs hw => ?_)
  refine lv_aload_n S.1 S.2.1 d_M_get_43 rfl (lv_at hl 0 rfl) ?_
  refine m_gThr S hK hw.1 d_M_get_44 ?_
  refine nz_le S (x := 1) (by decide) d_M_get_47 rfl (fun h => absurd h (by decide)) (fun _ => ?_)
  refine lv_iconst (v := nI 0) S.1 S.2.1 d_M_get_50 (by decide) ?_
  refine lv_goto S.1 S.2.1 d_M_get_51 rfl ?_
  exact m_iret S hw rfl hr hlk d_M_get_66
set_option maxHeartbeats 4000000 in
set_option maxRecDepth 100000 in
/-- put(x, k, y): a new row -/
theorem c_M_put (l : Launch) (G : gG) (b : mA) (u : mV) (mp : Nat → nMap) (n : Nat) (x k : Nat) (y : Int32) (hM : MR u mp n) (hx0 : x < n) (hk : k < 256) (hn6 : n < 600) : Met l y_M_put (mw y_M_put b_M_put 5 (some .int)) (rmS 5 100) (mPc G b u [.int (nI x), .int (nI k), .int y]) (va_Qi (fun r u' => r = nI n ∧ uThr u' = 0 ∧ MR u' (up mp n (up (mp x) k (some y))) (n + 1)) (fun u' t => mP G b u' t.heap) (inB b)) 0 0 (inB b) := by
  have hM0 := hM
  obtain ⟨rfl, hn1, h6, hrow, hnone⟩ := hM
  refine m_ofW (own := R_M) rfl rfl (fun p e s m args below meth c S hr hlk hx hnm hv => ?_)
  obtain ⟨rfl, hP, hD, hK⟩ := hv
  have hw := mS.start hP hD
  refine m_entry [.ref (eH b), .int (nI x), .int (nI k), .int y] (Nat.le_of_ble_eq_true rfl) (fun ls hl => ?_)
  have hl : lv_has ls 5 [(0, .ref (eH b)), (1, .int (nI x)), (2, .int (nI k)), (3, .int y)] := hl
  refine lv_aload_n S.1 S.2.1 d_M_put_0 rfl (lv_at hl 0 rfl) ?_
  refine lv_aload_n S.1 S.2.1 d_M_put_1 rfl (lv_at hl 0 rfl) ?_
  refine lv_iload_n S.1 S.2.1 d_M_put_2 rfl (lv_at hl 1 rfl) ?_
  refine r_calli (mr_run S (m_pre hK hw.1 hw.2.1) k_M_isOne wi_M_isOne wv_M_M_isOne wL_M_25 (c_M_isOne_t l G b u x hx0 h6) (rm_ok (by omega) (by omega)) rfl hl.1 rfl (Nat.le_of_ble_eq_true rfl) d_M_put_3 ⟨Nat.le_refl _, Nat.le_refl _⟩) (fun r hp => ?_)
  subst hp
  refine nz_eq S (by decide) d_M_put_6 rfl (fun h => absurd h (by decide)) (fun _ => ?_)
  refine lv_iload_n S.1 S.2.1 d_M_put_9 rfl (lv_at hl 2 rfl) ?_
  refine r_calli (r_runS S preEq k_M_isKey ws_M_isKey wL_M_29 (c_M_isKey_t l k hk) (rm_ok (by omega) (by omega)) rfl hl.1 rfl (Nat.le_of_ble_eq_true rfl) d_M_put_10 ⟨Nat.le_refl _, Nat.le_refl _⟩) (fun r hp => ?_)
  subst hp
  refine nz_ne S (by decide) d_M_put_13 rfl (fun _ => ?_) (fun h => absurd h (by decide))
  refine lv_aload_n S.1 S.2.1 d_M_put_20 rfl (lv_at hl 0 rfl) ?_
  refine m_gVer S hK hw.1 d_M_put_21 ?_
  refine lv_sipush (v := nI 600) S.1 S.2.1 d_M_put_24 (by decide) ?_
  refine nb_ne S (by omega) (by omega) d_M_put_27 rfl (fun _ => ?_) (fun h => absurd h (by omega))
  refine lv_iconst (v := nI 0) S.1 S.2.1 d_M_put_34 (by decide) ?_
  refine m_pThr S hK hw d_M_put_35 (fun H locs hw => ?_)
  refine lv_aload_n S.1 S.2.1 d_M_put_38 rfl (lv_at hl 0 rfl) ?_
  refine m_gThr S hK hw.1 d_M_put_39 ?_
  refine nz_le S (x := 0) (by decide) d_M_put_42 rfl (fun _ => ?_) (fun h => absurd rfl h)
  refine lv_aload_n S.1 S.2.1 d_M_put_47 rfl (lv_at hl 0 rfl) ?_
  refine lv_iload_n S.1 S.2.1 d_M_put_48 rfl (lv_at hl 1 rfl) ?_
  refine lv_iload_n S.1 S.2.1 d_M_put_49 rfl (lv_at hl 1 rfl) ?_
  refine lv_iconst (v := nI 0) S.1 S.2.1 d_M_put_50 (by decide) ?_
  refine m_calli (m_run S (m_pre hK hw.1 hw.2.1) k_M_made wi_M_made wv_M_M_made wL_M_32 (c_M_made l G b (xThr u 0) x x 0 hn6 hx0 hx0 (by omega) hM0.b2) (rm_ok (by omega) (by omega)) rfl hl.1 rfl (Nat.le_of_ble_eq_true rfl) d_M_put_51 ⟨Nat.le_refl _, Nat.le_refl _⟩) hw (fun r u1 H locs hp hw _ _ => ?_)
  have hR := MR.made (u := xThr u 0) hM0 hn6 hx0 hx0 hp
  obtain ⟨rfl, p2, p3, -, -⟩ := hp
  have p2 : uVer u1 = uVer u + 1 := p2
  refine lv_istore S.1 S.2.1 d_M_put_54 hl (by decide) rfl (fun ls hl => ?_)
  refine lv_aload_n S.1 S.2.1 d_M_put_56 rfl (lv_at hl 1 rfl) ?_
  refine m_gV S hK hw.1 d_M_put_57 ?_
  refine lv_sipush (v := nI 256) S.1 S.2.1 d_M_put_60 (by decide) ?_
  refine lv_iload S.1 S.2.1 d_M_put_63 (lv_at hl 0 rfl) ?_
  refine n_imul S d_M_put_65 ?_
  refine lv_iload_n S.1 S.2.1 d_M_put_66 rfl (lv_at hl 3 rfl) ?_
  refine n_iadd S d_M_put_67 ?_
  refine lv_iload_n S.1 S.2.1 d_M_put_68 rfl (lv_at hl 4 rfl) ?_
  refine m_sV S hK hw (by omega) d_M_put_69 (fun H locs hw => ?_)
  refine lv_aload_n S.1 S.2.1 d_M_put_70 rfl (lv_at hl 1 rfl) ?_
  refine m_gH S hK hw.1 d_M_put_71 ?_
  refine lv_sipush (v := nI 256) S.1 S.2.1 d_M_put_74 (by decide) ?_
  refine lv_iload S.1 S.2.1 d_M_put_77 (lv_at hl 0 rfl) ?_
  refine n_imul S d_M_put_79 ?_
  refine lv_iload_n S.1 S.2.1 d_M_put_80 rfl (lv_at hl 3 rfl) ?_
  refine n_iadd S d_M_put_81 ?_
  refine lv_iconst (v := nI 1) S.1 S.2.1 d_M_put_82 (by decide) ?_
  refine m_sH S hK hw (by omega) (by omega) d_M_put_83 (fun H locs hw => ?_)
  refine lv_iload S.1 S.2.1 d_M_put_84 (lv_at hl 0 rfl) ?_
  refine m_iret S hw ⟨rfl, p3, ?_⟩ hr hlk d_M_put_86
  have hR2 := hR.set (x := uVer u) (k := k) (y := y) (o := some y) (Nat.lt_succ_self _) hk (fun z hz => Option.some.inj hz)
  refine MR.congr hR2 (fun x' hx' j => ?_)
  by_cases hxx : x' = uVer u
  · subst hxx
    rw [up_s, up_s]
    by_cases hj : j = k
    · subst hj; rw [up_s, up_s]
    · rw [up_n hj, up_n hj]
      show mp x j = up mp (uVer u) (fun j => if j < 0 then mp x j else mp x j) (uVer u) j
      rw [up_s]
      show mp x j = if j < 0 then mp x j else mp x j
      rw [if_neg (Nat.not_lt_zero j)]
  · rw [up_n hxx, up_n hxx]
    show mp x' j = up mp (uVer u) _ x' j
    rw [up_n hxx]
set_option maxHeartbeats 4000000 in
set_option maxRecDepth 100000 in
theorem c_M_remove_n (l : Launch) (G : gG) (b : mA) (u : mV) (mp : Nat → nMap) (n : Nat) (x k : Nat) (hz : mp x k = none) (hM : MR u mp n) (hx0 : x < n) (hk : k < 256) (hn6 : n < 600) : Met l y_M_remove (mw y_M_remove b_M_remove 4 (some .int)) (rmS 5 100) (mPc G b u [.int (nI x), .int (nI k)]) (va_Qi (fun _ u' => u' = xThr u 3) (fun u' t => mP G b u' t.heap) (inB b)) 0 0 (inB b) := by
  have hM0 := hM
  obtain ⟨rfl, hn1, h6, hrow, hnone⟩ := hM
  have hH := (hrow x hx0 k hk).1
  rw [hz] at hH
  refine m_ofW (own := R_M) rfl rfl (fun p e s m args below meth c S hr hlk hx hnm hv => ?_)
  obtain ⟨rfl, hP, hD, hK⟩ := hv
  have hw := mS.start hP hD
  refine m_entry [.ref (eH b), .int (nI x), .int (nI k)] (Nat.le_of_ble_eq_true rfl) (fun ls hl => ?_)
  have hl : lv_has ls 4 [(0, .ref (eH b)), (1, .int (nI x)), (2, .int (nI k))] := hl
  refine lv_aload_n S.1 S.2.1 d_M_remove_0 rfl (lv_at hl 0 rfl) ?_
  refine lv_aload_n S.1 S.2.1 d_M_remove_1 rfl (lv_at hl 0 rfl) ?_
  refine lv_iload_n S.1 S.2.1 d_M_remove_2 rfl (lv_at hl 1 rfl) ?_
  refine r_calli (mr_run S (m_pre hK hw.1 hw.2.1) k_M_isOne wi_M_isOne wv_M_M_isOne wL_M_25 (c_M_isOne_t l G b u x hx0 h6) (rm_ok (by omega) (by omega)) rfl hl.1 rfl (Nat.le_of_ble_eq_true rfl) d_M_remove_3 ⟨Nat.le_refl _, Nat.le_refl _⟩) (fun r hp => ?_)
  subst hp
  refine nz_eq S (by decide) d_M_remove_6 rfl (fun h => absurd h (by decide)) (fun _ => ?_)
  refine lv_iload_n S.1 S.2.1 d_M_remove_9 rfl (lv_at hl 2 rfl) ?_
  refine r_calli (r_runS S preEq k_M_isKey ws_M_isKey wL_M_29 (c_M_isKey_t l k hk) (rm_ok (by omega) (by omega)) rfl hl.1 rfl (Nat.le_of_ble_eq_true rfl) d_M_remove_10 ⟨Nat.le_refl _, Nat.le_refl _⟩) (fun r hp => ?_)
  subst hp
  refine nz_ne S (by decide) d_M_remove_13 rfl (fun _ => ?_) (fun h => absurd h (by decide))
  refine lv_aload_n S.1 S.2.1 d_M_remove_20 rfl (lv_at hl 0 rfl) ?_
  refine m_gVer S hK hw.1 d_M_remove_21 ?_
  refine lv_sipush (v := nI 600) S.1 S.2.1 d_M_remove_24 (by decide) ?_
  refine nb_ne S (by omega) (by omega) d_M_remove_27 rfl (fun _ => ?_) (fun h => absurd h (by omega))
  refine lv_aload_n S.1 S.2.1 d_M_remove_34 rfl (lv_at hl 0 rfl) ?_
  refine m_gH S hK hw.1 d_M_remove_35 ?_
  refine lv_sipush (v := nI 256) S.1 S.2.1 d_M_remove_38 (by decide) ?_
  refine lv_iload_n S.1 S.2.1 d_M_remove_41 rfl (lv_at hl 1 rfl) ?_
  refine n_imul S d_M_remove_42 ?_
  refine lv_iload_n S.1 S.2.1 d_M_remove_43 rfl (lv_at hl 2 rfl) ?_
  refine n_iadd S d_M_remove_44 ?_
  refine m_iH S hK hw.1 (by omega) d_M_remove_45 ?_
  rw [hH]
  refine nz_ne S (by decide) d_M_remove_46 rfl (fun h => absurd rfl h) (fun _ => ?_)
  refine lv_iconst (v := nI 3) S.1 S.2.1 d_M_remove_49 (by decide) ?_
  refine lv_goto S.1 S.2.1 d_M_remove_50 rfl ?_
  refine m_pThr S hK hw d_M_remove_54 (fun H locs hw => ?_)
  refine lv_aload_n S.1 S.2.1 d_M_remove_57 rfl (lv_at hl 0 rfl) ?_
  refine m_gThr S hK hw.1 d_M_remove_58 ?_
  refine nz_le S (x := 3) (by decide) d_M_remove_61 rfl (fun h => absurd h (by decide)) (fun _ => ?_)
  refine lv_iconst (v := nI 0) S.1 S.2.1 d_M_remove_64 (by decide) ?_
  exact m_iret S hw rfl hr hlk d_M_remove_65
set_option maxHeartbeats 4000000 in
set_option maxRecDepth 100000 in
theorem c_M_remove (l : Launch) (G : gG) (b : mA) (u : mV) (mp : Nat → nMap) (n : Nat) (x k : Nat) (z : Int32) (hz : mp x k = some z) (hM : MR u mp n) (hx0 : x < n) (hk : k < 256) (hn6 : n < 600) : Met l y_M_remove (mw y_M_remove b_M_remove 4 (some .int)) (rmS 5 100) (mPc G b u [.int (nI x), .int (nI k)]) (va_Qi (fun r u' => r = nI n ∧ uThr u' = 0 ∧ MR u' (up mp n (up (mp x) k none)) (n + 1)) (fun u' t => mP G b u' t.heap) (inB b)) 0 0 (inB b) := by
  have hM0 := hM
  obtain ⟨rfl, hn1, h6, hrow, hnone⟩ := hM
  have hH := (hrow x hx0 k hk).1
  rw [hz] at hH
  refine m_ofW (own := R_M) rfl rfl (fun p e s m args below meth c S hr hlk hx hnm hv => ?_)
  obtain ⟨rfl, hP, hD, hK⟩ := hv
  have hw := mS.start hP hD
  refine m_entry [.ref (eH b), .int (nI x), .int (nI k)] (Nat.le_of_ble_eq_true rfl) (fun ls hl => ?_)
  have hl : lv_has ls 4 [(0, .ref (eH b)), (1, .int (nI x)), (2, .int (nI k))] := hl
  refine lv_aload_n S.1 S.2.1 d_M_remove_0 rfl (lv_at hl 0 rfl) ?_
  refine lv_aload_n S.1 S.2.1 d_M_remove_1 rfl (lv_at hl 0 rfl) ?_
  refine lv_iload_n S.1 S.2.1 d_M_remove_2 rfl (lv_at hl 1 rfl) ?_
  refine r_calli (mr_run S (m_pre hK hw.1 hw.2.1) k_M_isOne wi_M_isOne wv_M_M_isOne wL_M_25 (c_M_isOne_t l G b u x hx0 h6) (rm_ok (by omega) (by omega)) rfl hl.1 rfl (Nat.le_of_ble_eq_true rfl) d_M_remove_3 ⟨Nat.le_refl _, Nat.le_refl _⟩) (fun r hp => ?_)
  subst hp
  refine nz_eq S (by decide) d_M_remove_6 rfl (fun h => absurd h (by decide)) (fun _ => ?_)
  refine lv_iload_n S.1 S.2.1 d_M_remove_9 rfl (lv_at hl 2 rfl) ?_
  refine r_calli (r_runS S preEq k_M_isKey ws_M_isKey wL_M_29 (c_M_isKey_t l k hk) (rm_ok (by omega) (by omega)) rfl hl.1 rfl (Nat.le_of_ble_eq_true rfl) d_M_remove_10 ⟨Nat.le_refl _, Nat.le_refl _⟩) (fun r hp => ?_)
  subst hp
  refine nz_ne S (by decide) d_M_remove_13 rfl (fun _ => ?_) (fun h => absurd h (by decide))
  refine lv_aload_n S.1 S.2.1 d_M_remove_20 rfl (lv_at hl 0 rfl) ?_
  refine m_gVer S hK hw.1 d_M_remove_21 ?_
  refine lv_sipush (v := nI 600) S.1 S.2.1 d_M_remove_24 (by decide) ?_
  refine nb_ne S (by omega) (by omega) d_M_remove_27 rfl (fun _ => ?_) (fun h => absurd h (by omega))
  refine lv_aload_n S.1 S.2.1 d_M_remove_34 rfl (lv_at hl 0 rfl) ?_
  refine m_gH S hK hw.1 d_M_remove_35 ?_
  refine lv_sipush (v := nI 256) S.1 S.2.1 d_M_remove_38 (by decide) ?_
  refine lv_iload_n S.1 S.2.1 d_M_remove_41 rfl (lv_at hl 1 rfl) ?_
  refine n_imul S d_M_remove_42 ?_
  refine lv_iload_n S.1 S.2.1 d_M_remove_43 rfl (lv_at hl 2 rfl) ?_
  refine n_iadd S d_M_remove_44 ?_
  refine m_iH S hK hw.1 (by omega) d_M_remove_45 ?_
  rw [hH]
  refine nz_ne S (x := 1) (by decide) d_M_remove_46 rfl (fun _ => ?_) (fun h => absurd h (by decide))
  refine lv_iconst (v := nI 0) S.1 S.2.1 d_M_remove_53 (by decide) ?_
  refine m_pThr S hK hw d_M_remove_54 (fun H locs hw => ?_)
  refine lv_aload_n S.1 S.2.1 d_M_remove_57 rfl (lv_at hl 0 rfl) ?_
  refine m_gThr S hK hw.1 d_M_remove_58 ?_
  refine nz_le S (x := 0) (by decide) d_M_remove_61 rfl (fun _ => ?_) (fun h => absurd rfl h)
  refine lv_aload_n S.1 S.2.1 d_M_remove_66 rfl (lv_at hl 0 rfl) ?_
  refine lv_iload_n S.1 S.2.1 d_M_remove_67 rfl (lv_at hl 1 rfl) ?_
  refine lv_iload_n S.1 S.2.1 d_M_remove_68 rfl (lv_at hl 1 rfl) ?_
  refine lv_iconst (v := nI 0) S.1 S.2.1 d_M_remove_69 (by decide) ?_
  refine m_calli (m_run S (m_pre hK hw.1 hw.2.1) k_M_made wi_M_made wv_M_M_made wL_M_32 (c_M_made l G b (xThr u 0) x x 0 hn6 hx0 hx0 (by omega) hM0.b2) (rm_ok (by omega) (by omega)) rfl hl.1 rfl (Nat.le_of_ble_eq_true rfl) d_M_remove_70 ⟨Nat.le_refl _, Nat.le_refl _⟩) hw (fun r u1 H locs hp hw _ _ => ?_)
  have hR := MR.made (u := xThr u 0) hM0 hn6 hx0 hx0 hp
  obtain ⟨rfl, p2, p3, -, -⟩ := hp
  have p2 : uVer u1 = uVer u + 1 := p2
  refine lv_istore_n S.1 S.2.1 d_M_remove_73 rfl hl (by decide) rfl (fun ls hl => ?_)
  refine lv_aload_n S.1 S.2.1 d_M_remove_74 rfl (lv_at hl 1 rfl) ?_
  refine m_gV S hK hw.1 d_M_remove_75 ?_
  refine lv_sipush (v := nI 256) S.1 S.2.1 d_M_remove_78 (by decide) ?_
  refine lv_iload_n S.1 S.2.1 d_M_remove_81 rfl (lv_at hl 0 rfl) ?_
  refine n_imul S d_M_remove_82 ?_
  refine lv_iload_n S.1 S.2.1 d_M_remove_83 rfl (lv_at hl 3 rfl) ?_
  refine n_iadd S d_M_remove_84 ?_
  refine lv_iconst (v := nI 0) S.1 S.2.1 d_M_remove_85 (by decide) ?_
  refine m_sV S hK hw (by omega) d_M_remove_86 (fun H locs hw => ?_)
  refine lv_aload_n S.1 S.2.1 d_M_remove_87 rfl (lv_at hl 1 rfl) ?_
  refine m_gH S hK hw.1 d_M_remove_88 ?_
  refine lv_sipush (v := nI 256) S.1 S.2.1 d_M_remove_91 (by decide) ?_
  refine lv_iload_n S.1 S.2.1 d_M_remove_94 rfl (lv_at hl 0 rfl) ?_
  refine n_imul S d_M_remove_95 ?_
  refine lv_iload_n S.1 S.2.1 d_M_remove_96 rfl (lv_at hl 3 rfl) ?_
  refine n_iadd S d_M_remove_97 ?_
  refine lv_iconst (v := nI 0) S.1 S.2.1 d_M_remove_98 (by decide) ?_
  refine m_sH S hK hw (by omega) (by omega) d_M_remove_99 (fun H locs hw => ?_)
  refine lv_iload_n S.1 S.2.1 d_M_remove_100 rfl (lv_at hl 0 rfl) ?_
  refine m_iret S hw ⟨rfl, p3, ?_⟩ hr hlk d_M_remove_101
  have hR2 := hR.set (x := uVer u) (k := k) (y := nI 0) (o := none) (Nat.lt_succ_self _) hk (fun z hz => by cases hz)
  refine MR.congr hR2 (fun x' hx' j => ?_)
  by_cases hxx : x' = uVer u
  · subst hxx
    rw [up_s, up_s]
    by_cases hj : j = k
    · subst hj; rw [up_s, up_s]
    · rw [up_n hj, up_n hj]
      show mp x j = up mp (uVer u) (fun j => if j < 0 then mp x j else mp x j) (uVer u) j
      rw [up_s]
      show mp x j = if j < 0 then mp x j else mp x j
      rw [if_neg (Nat.not_lt_zero j)]
  · rw [up_n hxx, up_n hxx]
    show mp x' j = up mp (uVer u) _ x' j
    rw [up_n hxx]
set_option maxHeartbeats 4000000 in
set_option maxRecDepth 100000 in
theorem c_M_get_n (l : Launch) (G : gG) (b : mA) (u : mV) (mp : Nat → nMap) (n : Nat) (x k : Nat) (hz : mp x k = none) (hM : MR u mp n) (hx0 : x < n) (hk : k < 256) : Met l y_M_get (mw y_M_get b_M_get 3 (some .int)) (rmS 5 100) (mPc G b u [.int (nI x), .int (nI k)]) (va_Qi (fun _ u' => u' = xThr u 2) (fun u' t => mP G b u' t.heap) (inB b)) 0 0 (inB b) := by
  obtain ⟨rfl, hn1, h6, hrow, hnone⟩ := hM
  obtain ⟨hH, hV⟩ := hrow x hx0 k hk
  rw [hz] at hH
  refine m_ofW (own := R_M) rfl rfl (fun p e s m args below meth c S hr hlk hx hnm hv => ?_)
  obtain ⟨rfl, hP, hD, hK⟩ := hv
  have hw := mS.start hP hD
  refine m_entry [.ref (eH b), .int (nI x), .int (nI k)] (Nat.le_of_ble_eq_true rfl) (fun ls hl => ?_)
  have hl : lv_has ls 3 [(0, .ref (eH b)), (1, .int (nI x)), (2, .int (nI k))] := hl
  refine lv_aload_n S.1 S.2.1 d_M_get_0 rfl (lv_at hl 0 rfl) ?_
  refine lv_aload_n S.1 S.2.1 d_M_get_1 rfl (lv_at hl 0 rfl) ?_
  refine lv_iload_n S.1 S.2.1 d_M_get_2 rfl (lv_at hl 1 rfl) ?_
  refine r_calli (mr_run S (m_pre hK hw.1 hw.2.1) k_M_isOne wi_M_isOne wv_M_M_isOne wL_M_25 (c_M_isOne_t l G b u x hx0 h6) (rm_ok (by omega) (by omega)) rfl hl.1 rfl (Nat.le_of_ble_eq_true rfl) d_M_get_3 ⟨Nat.le_refl _, Nat.le_refl _⟩) (fun r hp => ?_)
  subst hp
  refine nz_eq S (by decide) d_M_get_6 rfl (fun h => absurd h (by decide)) (fun _ => ?_)
  refine lv_iload_n S.1 S.2.1 d_M_get_9 rfl (lv_at hl 2 rfl) ?_
  refine r_calli (r_runS S preEq k_M_isKey ws_M_isKey wL_M_29 (c_M_isKey_t l k hk) (rm_ok (by omega) (by omega)) rfl hl.1 rfl (Nat.le_of_ble_eq_true rfl) d_M_get_10 ⟨Nat.le_refl _, Nat.le_refl _⟩) (fun r hp => ?_)
  subst hp
  refine nz_ne S (by decide) d_M_get_13 rfl (fun _ => ?_) (fun h => absurd h (by decide))
  refine lv_aload_n S.1 S.2.1 d_M_get_20 rfl (lv_at hl 0 rfl) ?_
  refine m_gH S hK hw.1 d_M_get_21 ?_
  refine lv_sipush (v := nI 256) S.1 S.2.1 d_M_get_24 (by decide) ?_
  refine lv_iload_n S.1 S.2.1 d_M_get_27 rfl (lv_at hl 1 rfl) ?_
  refine n_imul S d_M_get_28 ?_
  refine lv_iload_n S.1 S.2.1 d_M_get_29 rfl (lv_at hl 2 rfl) ?_
  refine n_iadd S d_M_get_30 ?_
  refine m_iH S hK hw.1 (by omega) d_M_get_31 ?_
  rw [hH]
  refine nz_ne S (by decide) d_M_get_32 rfl (fun h => absurd rfl h) (fun _ => ?_)
  refine lv_iconst (v := nI 2) S.1 S.2.1 d_M_get_35 (by decide) ?_
  refine lv_goto S.1 S.2.1 d_M_get_36 rfl ?_
  refine m_pThr S hK hw d_M_get_40 (fun H locs hw => ?_)
  refine lv_aload_n S.1 S.2.1 d_M_get_43 rfl (lv_at hl 0 rfl) ?_
  refine m_gThr S hK hw.1 d_M_get_44 ?_
  refine nz_le S (x := 2) (by decide) d_M_get_47 rfl (fun h => absurd h (by decide)) (fun _ => ?_)
  refine lv_iconst (v := nI 0) S.1 S.2.1 d_M_get_50 (by decide) ?_
  refine lv_goto S.1 S.2.1 d_M_get_51 rfl ?_
  exact m_iret S hw rfl hr hlk d_M_get_66
set_option maxHeartbeats 4000000 in
set_option maxRecDepth 100000 in
theorem c_M_get (l : Launch) (G : gG) (b : mA) (u : mV) (mp : Nat → nMap) (n : Nat) (x k : Nat) (z : Int32) (hz : mp x k = some z) (hM : MR u mp n) (hx0 : x < n) (hk : k < 256) : Met l y_M_get (mw y_M_get b_M_get 3 (some .int)) (rmS 5 100) (mPc G b u [.int (nI x), .int (nI k)]) (va_Qi (fun r u' => r = z ∧ u' = xThr u 0) (fun u' t => mP G b u' t.heap) (inB b)) 0 0 (inB b) := by
  obtain ⟨rfl, hn1, h6, hrow, hnone⟩ := hM
  obtain ⟨hH, hV⟩ := hrow x hx0 k hk
  rw [hz] at hH
  refine m_ofW (own := R_M) rfl rfl (fun p e s m args below meth c S hr hlk hx hnm hv => ?_)
  obtain ⟨rfl, hP, hD, hK⟩ := hv
  have hw := mS.start hP hD
  refine m_entry [.ref (eH b), .int (nI x), .int (nI k)] (Nat.le_of_ble_eq_true rfl) (fun ls hl => ?_)
  have hl : lv_has ls 3 [(0, .ref (eH b)), (1, .int (nI x)), (2, .int (nI k))] := hl
  refine lv_aload_n S.1 S.2.1 d_M_get_0 rfl (lv_at hl 0 rfl) ?_
  refine lv_aload_n S.1 S.2.1 d_M_get_1 rfl (lv_at hl 0 rfl) ?_
  refine lv_iload_n S.1 S.2.1 d_M_get_2 rfl (lv_at hl 1 rfl) ?_
  refine r_calli (mr_run S (m_pre hK hw.1 hw.2.1) k_M_isOne wi_M_isOne wv_M_M_isOne wL_M_25 (c_M_isOne_t l G b u x hx0 h6) (rm_ok (by omega) (by omega)) rfl hl.1 rfl (Nat.le_of_ble_eq_true rfl) d_M_get_3 ⟨Nat.le_refl _, Nat.le_refl _⟩) (fun r hp => ?_)
  subst hp
  refine nz_eq S (by decide) d_M_get_6 rfl (fun h => absurd h (by decide)) (fun _ => ?_)
  refine lv_iload_n S.1 S.2.1 d_M_get_9 rfl (lv_at hl 2 rfl) ?_
  refine r_calli (r_runS S preEq k_M_isKey ws_M_isKey wL_M_29 (c_M_isKey_t l k hk) (rm_ok (by omega) (by omega)) rfl hl.1 rfl (Nat.le_of_ble_eq_true rfl) d_M_get_10 ⟨Nat.le_refl _, Nat.le_refl _⟩) (fun r hp => ?_)
  subst hp
  refine nz_ne S (by decide) d_M_get_13 rfl (fun _ => ?_) (fun h => absurd h (by decide))
  refine lv_aload_n S.1 S.2.1 d_M_get_20 rfl (lv_at hl 0 rfl) ?_
  refine m_gH S hK hw.1 d_M_get_21 ?_
  refine lv_sipush (v := nI 256) S.1 S.2.1 d_M_get_24 (by decide) ?_
  refine lv_iload_n S.1 S.2.1 d_M_get_27 rfl (lv_at hl 1 rfl) ?_
  refine n_imul S d_M_get_28 ?_
  refine lv_iload_n S.1 S.2.1 d_M_get_29 rfl (lv_at hl 2 rfl) ?_
  refine n_iadd S d_M_get_30 ?_
  refine m_iH S hK hw.1 (by omega) d_M_get_31 ?_
  rw [hH]
  refine nz_ne S (x := 1) (by decide) d_M_get_32 rfl (fun _ => ?_) (fun h => absurd h (by decide))
  refine lv_iconst (v := nI 0) S.1 S.2.1 d_M_get_39 (by decide) ?_
  refine m_pThr S hK hw d_M_get_40 (fun H locs hw => ?_)
  refine lv_aload_n S.1 S.2.1 d_M_get_43 rfl (lv_at hl 0 rfl) ?_
  refine m_gThr S hK hw.1 d_M_get_44 ?_
  refine nz_le S (x := 0) (by decide) d_M_get_47 rfl (fun _ => ?_) (fun h => absurd rfl h)
  refine lv_aload_n S.1 S.2.1 d_M_get_54 rfl (lv_at hl 0 rfl) ?_
  refine m_gV S hK hw.1 d_M_get_55 ?_
  refine lv_sipush (v := nI 256) S.1 S.2.1 d_M_get_58 (by decide) ?_
  refine lv_iload_n S.1 S.2.1 d_M_get_61 rfl (lv_at hl 1 rfl) ?_
  refine n_imul S d_M_get_62 ?_
  refine lv_iload_n S.1 S.2.1 d_M_get_63 rfl (lv_at hl 2 rfl) ?_
  refine n_iadd S d_M_get_64 ?_
  refine m_iV S hK hw.1 (by omega) d_M_get_65 ?_
  exact m_iret S hw ⟨hV z hz, rfl⟩ hr hlk d_M_get_66
set_option maxHeartbeats 4000000 in
set_option maxRecDepth 100000 in
theorem c_M_join_v (l : Launch) (G : gG) (b : mA) (u : mV) (y0 y1 y2 : Int32) (hb : bad y0 (uVer u)) : Met l y_M_join (mw y_M_join b_M_join 4 (some .int)) (rmS 5 100) (mPc G b u [.int y0, .int y1, .int y2]) (va_Qi (fun _ u' => u' = xThr u 1) (fun u' t => mP G b u' t.heap) (inB b)) 0 0 (inB b) := by
  refine m_ofW (own := R_M) rfl rfl (fun p e s m args below meth c S hr hlk hx hnm hv => ?_)
  obtain ⟨rfl, hP, hD, hK⟩ := hv
  have hw := mS.start hP hD
  refine m_entry [.ref (eH b), .int y0, .int y1, .int y2] (Nat.le_of_ble_eq_true rfl) (fun ls hl => ?_)
  have hl : lv_has ls 4 [(0, .ref (eH b)), (1, .int y0), (2, .int y1), (3, .int y2)] := hl
  refine lv_aload_n S.1 S.2.1 d_M_join_0 rfl (lv_at hl 0 rfl) ?_
  refine lv_aload_n S.1 S.2.1 d_M_join_1 rfl (lv_at hl 0 rfl) ?_
  refine lv_iload_n S.1 S.2.1 d_M_join_2 rfl (lv_at hl 1 rfl) ?_
  refine r_calli (mr_run S (m_pre hK hw.1 hw.2.1) k_M_isOne wi_M_isOne wv_M_M_isOne wL_M_25 (c_M_isOne_f l G b u y0 hb) (rm_ok (by omega) (by omega)) rfl hl.1 rfl (Nat.le_of_ble_eq_true rfl) d_M_join_3 ⟨Nat.le_refl _, Nat.le_refl _⟩) (fun r hp => ?_)
  subst hp
  refine nz_eq S (by decide) d_M_join_6 rfl (fun _ => ?_) (fun h => absurd rfl h)
  refine lv_iconst (v := nI 1) S.1 S.2.1 d_M_join_28 (by decide) ?_
  refine lv_goto S.1 S.2.1 d_M_join_29 rfl ?_
  refine m_pThr S hK hw d_M_join_47 (fun H locs hw => ?_)
  refine lv_aload_n S.1 S.2.1 d_M_join_50 rfl (lv_at hl 0 rfl) ?_
  refine m_gThr S hK hw.1 d_M_join_51 ?_
  refine nz_le S (x := 1) (by decide) d_M_join_54 rfl (fun h => absurd h (by decide)) (fun _ => ?_)
  refine lv_iconst (v := nI 0) S.1 S.2.1 d_M_join_57 (by decide) ?_
  refine lv_goto S.1 S.2.1 d_M_join_58 rfl ?_
  exact m_iret S hw rfl hr hlk d_M_join_68
set_option maxHeartbeats 4000000 in
set_option maxRecDepth 100000 in
theorem c_M_join_w (l : Launch) (G : gG) (b : mA) (u : mV) (x : Nat) (y1 y2 : Int32) (hx0 : x < uVer u) (h6 : uVer u ≤ 600) (hb : bad y1 (uVer u)) : Met l y_M_join (mw y_M_join b_M_join 4 (some .int)) (rmS 5 100) (mPc G b u [.int (nI x), .int y1, .int y2]) (va_Qi (fun _ u' => u' = xThr u 1) (fun u' t => mP G b u' t.heap) (inB b)) 0 0 (inB b) := by
  refine m_ofW (own := R_M) rfl rfl (fun p e s m args below meth c S hr hlk hx hnm hv => ?_)
  obtain ⟨rfl, hP, hD, hK⟩ := hv
  have hw := mS.start hP hD
  refine m_entry [.ref (eH b), .int (nI x), .int y1, .int y2] (Nat.le_of_ble_eq_true rfl) (fun ls hl => ?_)
  have hl : lv_has ls 4 [(0, .ref (eH b)), (1, .int (nI x)), (2, .int y1), (3, .int y2)] := hl
  refine lv_aload_n S.1 S.2.1 d_M_join_0 rfl (lv_at hl 0 rfl) ?_
  refine lv_aload_n S.1 S.2.1 d_M_join_1 rfl (lv_at hl 0 rfl) ?_
  refine lv_iload_n S.1 S.2.1 d_M_join_2 rfl (lv_at hl 1 rfl) ?_
  refine r_calli (mr_run S (m_pre hK hw.1 hw.2.1) k_M_isOne wi_M_isOne wv_M_M_isOne wL_M_25 (c_M_isOne_t l G b u x hx0 h6) (rm_ok (by omega) (by omega)) rfl hl.1 rfl (Nat.le_of_ble_eq_true rfl) d_M_join_3 ⟨Nat.le_refl _, Nat.le_refl _⟩) (fun r hp => ?_)
  subst hp
  refine nz_eq S (by decide) d_M_join_6 rfl (fun h => absurd h (by decide)) (fun _ => ?_)
  refine lv_aload_n S.1 S.2.1 d_M_join_9 rfl (lv_at hl 0 rfl) ?_
  refine lv_iload_n S.1 S.2.1 d_M_join_10 rfl (lv_at hl 2 rfl) ?_
  refine r_calli (mr_run S (m_pre hK hw.1 hw.2.1) k_M_isOne wi_M_isOne wv_M_M_isOne wL_M_25 (c_M_isOne_f l G b u y1 hb) (rm_ok (by omega) (by omega)) rfl hl.1 rfl (Nat.le_of_ble_eq_true rfl) d_M_join_11 ⟨Nat.le_refl _, Nat.le_refl _⟩) (fun r hp => ?_)
  subst hp
  refine nz_eq S (by decide) d_M_join_14 rfl (fun _ => ?_) (fun h => absurd rfl h)
  refine lv_iconst (v := nI 1) S.1 S.2.1 d_M_join_28 (by decide) ?_
  refine lv_goto S.1 S.2.1 d_M_join_29 rfl ?_
  refine m_pThr S hK hw d_M_join_47 (fun H locs hw => ?_)
  refine lv_aload_n S.1 S.2.1 d_M_join_50 rfl (lv_at hl 0 rfl) ?_
  refine m_gThr S hK hw.1 d_M_join_51 ?_
  refine nz_le S (x := 1) (by decide) d_M_join_54 rfl (fun h => absurd h (by decide)) (fun _ => ?_)
  refine lv_iconst (v := nI 0) S.1 S.2.1 d_M_join_57 (by decide) ?_
  refine lv_goto S.1 S.2.1 d_M_join_58 rfl ?_
  exact m_iret S hw rfl hr hlk d_M_join_68
set_option maxHeartbeats 4000000 in
set_option maxRecDepth 100000 in
theorem c_M_join_k (l : Launch) (G : gG) (b : mA) (u : mV) (x w : Nat) (y2 : Int32) (hx0 : x < uVer u) (hw0 : w < uVer u) (h6 : uVer u ≤ 600) (hb : bad y2 257) : Met l y_M_join (mw y_M_join b_M_join 4 (some .int)) (rmS 5 100) (mPc G b u [.int (nI x), .int (nI w), .int y2]) (va_Qi (fun _ u' => u' = xThr u 1) (fun u' t => mP G b u' t.heap) (inB b)) 0 0 (inB b) := by
  refine m_ofW (own := R_M) rfl rfl (fun p e s m args below meth c S hr hlk hx hnm hv => ?_)
  obtain ⟨rfl, hP, hD, hK⟩ := hv
  have hw := mS.start hP hD
  refine m_entry [.ref (eH b), .int (nI x), .int (nI w), .int y2] (Nat.le_of_ble_eq_true rfl) (fun ls hl => ?_)
  have hl : lv_has ls 4 [(0, .ref (eH b)), (1, .int (nI x)), (2, .int (nI w)), (3, .int y2)] := hl
  have k28 : W p l e (rmS 5 100) s m #[Value.ref (eH b), .int (nI x), .int (nI w), .int y2] below meth c s.heap [] 0 0 (MQ below (va_Qi (fun _ u' => u' = xThr u 1) (fun u' t => mP G b u' t.heap) (inB b)) #[Value.ref (eH b), .int (nI x), .int (nI w), .int y2] s 0 0 (inB b)) (F0 m 28 ls [.ref (eH b)]) := by
    refine lv_iconst (v := nI 1) S.1 S.2.1 d_M_join_28 (by decide) ?_
    refine lv_goto S.1 S.2.1 d_M_join_29 rfl ?_
    refine m_pThr S hK hw d_M_join_47 (fun H locs hw => ?_)
    refine lv_aload_n S.1 S.2.1 d_M_join_50 rfl (lv_at hl 0 rfl) ?_
    refine m_gThr S hK hw.1 d_M_join_51 ?_
    refine nz_le S (x := 1) (by decide) d_M_join_54 rfl (fun h => absurd h (by decide)) (fun _ => ?_)
    refine lv_iconst (v := nI 0) S.1 S.2.1 d_M_join_57 (by decide) ?_
    refine lv_goto S.1 S.2.1 d_M_join_58 rfl ?_
    exact m_iret S hw rfl hr hlk d_M_join_68
  refine lv_aload_n S.1 S.2.1 d_M_join_0 rfl (lv_at hl 0 rfl) ?_
  refine lv_aload_n S.1 S.2.1 d_M_join_1 rfl (lv_at hl 0 rfl) ?_
  refine lv_iload_n S.1 S.2.1 d_M_join_2 rfl (lv_at hl 1 rfl) ?_
  refine r_calli (mr_run S (m_pre hK hw.1 hw.2.1) k_M_isOne wi_M_isOne wv_M_M_isOne wL_M_25 (c_M_isOne_t l G b u x hx0 h6) (rm_ok (by omega) (by omega)) rfl hl.1 rfl (Nat.le_of_ble_eq_true rfl) d_M_join_3 ⟨Nat.le_refl _, Nat.le_refl _⟩) (fun r hp => ?_)
  subst hp
  refine nz_eq S (by decide) d_M_join_6 rfl (fun h => absurd h (by decide)) (fun _ => ?_)
  refine lv_aload_n S.1 S.2.1 d_M_join_9 rfl (lv_at hl 0 rfl) ?_
  refine lv_iload_n S.1 S.2.1 d_M_join_10 rfl (lv_at hl 2 rfl) ?_
  refine r_calli (mr_run S (m_pre hK hw.1 hw.2.1) k_M_isOne wi_M_isOne wv_M_M_isOne wL_M_25 (c_M_isOne_t l G b u w hw0 h6) (rm_ok (by omega) (by omega)) rfl hl.1 rfl (Nat.le_of_ble_eq_true rfl) d_M_join_11 ⟨Nat.le_refl _, Nat.le_refl _⟩) (fun r hp => ?_)
  subst hp
  refine nz_eq S (by decide) d_M_join_14 rfl (fun h => absurd h (by decide)) (fun _ => ?_)
  refine lv_iload_n S.1 S.2.1 d_M_join_17 rfl (lv_at hl 3 rfl) ?_
  refine lv_if_lt S.1 S.2.1 d_M_join_18 rfl (fun _ => k28) (fun h0 => ?_)
  refine lv_iload_n S.1 S.2.1 d_M_join_21 rfl (lv_at hl 3 rfl) ?_
  refine lv_sipush (v := nI 256) S.1 S.2.1 d_M_join_22 (by decide) ?_
  refine lv_icmp_le S.1 S.2.1 d_M_join_25 rfl (fun h1 => hb.elim (fun h => absurd h h0) (fun h => absurd h1 ?_)) (fun _ => k28)
  rw [Int32.le_iff_toInt_le, nI_toInt (by decide)] at h
  intro h2
  rw [Int32.le_iff_toInt_le, nI_toInt (by decide)] at h2
  omega
set_option maxHeartbeats 4000000 in
set_option maxRecDepth 100000 in
theorem c_M_join (l : Launch) (G : gG) (b : mA) (u : mV) (mp : Nat → nMap) (n : Nat) (x w k : Nat) (hM : MR u mp n) (hx0 : x < n) (hw0 : w < n) (hk : k ≤ 256) (hn6 : n < 600) : Met l y_M_join (mw y_M_join b_M_join 4 (some .int)) (rmS 5 100) (mPc G b u [.int (nI x), .int (nI w), .int (nI k)]) (va_Qi (fun r u' => r = nI n ∧ uThr u' = 0 ∧ MR u' (up mp n (fun j => if j < k then mp x j else mp w j)) (n + 1)) (fun u' t => mP G b u' t.heap) (inB b)) 0 0 (inB b) := by
  have hM0 := hM
  obtain ⟨rfl, hn1, h6, hrow, hnone⟩ := hM
  refine m_ofW (own := R_M) rfl rfl (fun p e s m args below meth c S hr hlk hx hnm hv => ?_)
  obtain ⟨rfl, hP, hD, hK⟩ := hv
  have hw := mS.start hP hD
  refine m_entry [.ref (eH b), .int (nI x), .int (nI w), .int (nI k)] (Nat.le_of_ble_eq_true rfl) (fun ls hl => ?_)
  have hl : lv_has ls 4 [(0, .ref (eH b)), (1, .int (nI x)), (2, .int (nI w)), (3, .int (nI k))] := hl
  refine lv_aload_n S.1 S.2.1 d_M_join_0 rfl (lv_at hl 0 rfl) ?_
  refine lv_aload_n S.1 S.2.1 d_M_join_1 rfl (lv_at hl 0 rfl) ?_
  refine lv_iload_n S.1 S.2.1 d_M_join_2 rfl (lv_at hl 1 rfl) ?_
  refine r_calli (mr_run S (m_pre hK hw.1 hw.2.1) k_M_isOne wi_M_isOne wv_M_M_isOne wL_M_25 (c_M_isOne_t l G b u x hx0 h6) (rm_ok (by omega) (by omega)) rfl hl.1 rfl (Nat.le_of_ble_eq_true rfl) d_M_join_3 ⟨Nat.le_refl _, Nat.le_refl _⟩) (fun r hp => ?_)
  subst hp
  refine nz_eq S (by decide) d_M_join_6 rfl (fun h => absurd h (by decide)) (fun _ => ?_)
  refine lv_aload_n S.1 S.2.1 d_M_join_9 rfl (lv_at hl 0 rfl) ?_
  refine lv_iload_n S.1 S.2.1 d_M_join_10 rfl (lv_at hl 2 rfl) ?_
  refine r_calli (mr_run S (m_pre hK hw.1 hw.2.1) k_M_isOne wi_M_isOne wv_M_M_isOne wL_M_25 (c_M_isOne_t l G b u w hw0 h6) (rm_ok (by omega) (by omega)) rfl hl.1 rfl (Nat.le_of_ble_eq_true rfl) d_M_join_11 ⟨Nat.le_refl _, Nat.le_refl _⟩) (fun r hp => ?_)
  subst hp
  refine nz_eq S (by decide) d_M_join_14 rfl (fun h => absurd h (by decide)) (fun _ => ?_)
  refine lv_iload_n S.1 S.2.1 d_M_join_17 rfl (lv_at hl 3 rfl) ?_
  refine n_iflt S (by omega) d_M_join_18 rfl ?_
  refine lv_iload_n S.1 S.2.1 d_M_join_21 rfl (lv_at hl 3 rfl) ?_
  refine lv_sipush (v := nI 256) S.1 S.2.1 d_M_join_22 (by decide) ?_
  refine nb_le S (by omega) (by omega) d_M_join_25 rfl (fun _ => ?_) (fun h => absurd h (by omega))
  refine lv_aload_n S.1 S.2.1 d_M_join_32 rfl (lv_at hl 0 rfl) ?_
  refine m_gVer S hK hw.1 d_M_join_33 ?_
  refine lv_sipush (v := nI 600) S.1 S.2.1 d_M_join_36 (by decide) ?_
  refine nb_ne S (by omega) (by omega) d_M_join_39 rfl (fun _ => ?_) (fun h => absurd h (by omega))
  refine lv_iconst (v := nI 0) S.1 S.2.1 d_M_join_46 (by decide) ?_
  refine m_pThr S hK hw d_M_join_47 (fun H locs hw => ?_)
  refine lv_aload_n S.1 S.2.1 d_M_join_50 rfl (lv_at hl 0 rfl) ?_
  refine m_gThr S hK hw.1 d_M_join_51 ?_
  refine nz_le S (x := 0) (by decide) d_M_join_54 rfl (fun _ => ?_) (fun h => absurd rfl h)
  refine lv_aload_n S.1 S.2.1 d_M_join_61 rfl (lv_at hl 0 rfl) ?_
  refine lv_iload_n S.1 S.2.1 d_M_join_62 rfl (lv_at hl 1 rfl) ?_
  refine lv_iload_n S.1 S.2.1 d_M_join_63 rfl (lv_at hl 2 rfl) ?_
  refine lv_iload_n S.1 S.2.1 d_M_join_64 rfl (lv_at hl 3 rfl) ?_
  refine m_calli (m_run S (m_pre hK hw.1 hw.2.1) k_M_made wi_M_made wv_M_M_made wL_M_32 (c_M_made l G b (xThr u 0) x w k hn6 hx0 hw0 hk hM0.b2) (rm_ok (by omega) (by omega)) rfl hl.1 rfl (Nat.le_of_ble_eq_true rfl) d_M_join_65 ⟨Nat.le_refl _, Nat.le_refl _⟩) hw (fun r u1 H locs hp hw _ _ => ?_)
  have hR := MR.made (u := xThr u 0) hM0 hn6 hx0 hw0 hp
  obtain ⟨rfl, p2, p3, -, -⟩ := hp
  exact m_iret S hw ⟨rfl, p3, hR⟩ hr hlk d_M_join_68
end
section
set_option maxHeartbeats 4000000 in
set_option maxRecDepth 100000 in
theorem c_M_select_v (l : Launch) (G : gG) (b : mA) (u : mV) (y0 y1 : Int32) (hb : bad y0 (uVer u)) : Met l y_M_select (mw y_M_select b_M_select 5 (some .int)) (rmS 5 100) (mPc G b u [.int y0, .int y1]) (va_Qi (fun _ u' => u' = xThr u 1) (fun u' t => mP G b u' t.heap) (inB b)) 0 0 (inB b) := by
  refine m_ofW (own := R_M) rfl rfl (fun p e s m args below meth c S hr hlk hx hnm hv => ?_)
  obtain ⟨rfl, hP, hD, hK⟩ := hv
  have hw := mS.start hP hD
  refine m_entry [.ref (eH b), .int y0, .int y1] (Nat.le_of_ble_eq_true rfl) (fun ls hl => ?_)
  have hl : lv_has ls 5 [(0, .ref (eH b)), (1, .int y0), (2, .int y1)] := hl
  refine lv_aload_n S.1 S.2.1 d_M_select_0 rfl (lv_at hl 0 rfl) ?_
  refine lv_iconst (v := nI 1) S.1 S.2.1 d_M_select_1 (by decide) ?_
  refine m_pThr S hK hw d_M_select_2 (fun H locs hw => ?_)
  refine lv_aload_n S.1 S.2.1 d_M_select_5 rfl (lv_at hl 0 rfl) ?_
  refine lv_iload_n S.1 S.2.1 d_M_select_6 rfl (lv_at hl 1 rfl) ?_
  refine r_calli (mr_run S (m_pre hK hw.1 hw.2.1) k_M_isOne wi_M_isOne wv_M_M_isOne wL_M_25 (c_M_isOne_f l G b (xThr u 1) y0 hb) (rm_ok (by omega) (by omega)) rfl hl.1 rfl (Nat.le_of_ble_eq_true rfl) d_M_select_7 ⟨Nat.le_refl _, Nat.le_refl _⟩) (fun r hp => ?_)
  subst hp
  refine nz_eq S (by decide) d_M_select_10 rfl (fun _ => ?_) (fun h => absurd rfl h)
  refine lv_iconst (v := nI 0) S.1 S.2.1 d_M_select_17 (by decide) ?_
  exact m_iret S hw rfl hr hlk d_M_select_18
set_option maxHeartbeats 4000000 in
set_option maxRecDepth 100000 in
theorem c_M_select_g (l : Launch) (G : gG) (b : mA) (u : mV) (x : Nat) (y1 : Int32) (hx0 : x < uVer u) (h6 : uVer u ≤ 600) (hb : y1 < 0) : Met l y_M_select (mw y_M_select b_M_select 5 (some .int)) (rmS 5 100) (mPc G b u [.int (nI x), .int y1]) (va_Qi (fun _ u' => u' = xThr u 1) (fun u' t => mP G b u' t.heap) (inB b)) 0 0 (inB b) := by
  refine m_ofW (own := R_M) rfl rfl (fun p e s m args below meth c S hr hlk hx hnm hv => ?_)
  obtain ⟨rfl, hP, hD, hK⟩ := hv
  have hw := mS.start hP hD
  refine m_entry [.ref (eH b), .int (nI x), .int y1] (Nat.le_of_ble_eq_true rfl) (fun ls hl => ?_)
  have hl : lv_has ls 5 [(0, .ref (eH b)), (1, .int (nI x)), (2, .int y1)] := hl
  refine lv_aload_n S.1 S.2.1 d_M_select_0 rfl (lv_at hl 0 rfl) ?_
  refine lv_iconst (v := nI 1) S.1 S.2.1 d_M_select_1 (by decide) ?_
  refine m_pThr S hK hw d_M_select_2 (fun H locs hw => ?_)
  refine lv_aload_n S.1 S.2.1 d_M_select_5 rfl (lv_at hl 0 rfl) ?_
  refine lv_iload_n S.1 S.2.1 d_M_select_6 rfl (lv_at hl 1 rfl) ?_
  refine r_calli (mr_run S (m_pre hK hw.1 hw.2.1) k_M_isOne wi_M_isOne wv_M_M_isOne wL_M_25 (c_M_isOne_t l G b (xThr u 1) x hx0 h6) (rm_ok (by omega) (by omega)) rfl hl.1 rfl (Nat.le_of_ble_eq_true rfl) d_M_select_7 ⟨Nat.le_refl _, Nat.le_refl _⟩) (fun r hp => ?_)
  subst hp
  refine nz_eq S (by decide) d_M_select_10 rfl (fun h => absurd h (by decide)) (fun _ => ?_)
  refine lv_iload_n S.1 S.2.1 d_M_select_13 rfl (lv_at hl 2 rfl) ?_
  refine lv_if_ge S.1 S.2.1 d_M_select_14 rfl (fun h => absurd hb (k2_nlt h)) (fun _ => ?_)
  refine lv_iconst (v := nI 0) S.1 S.2.1 d_M_select_17 (by decide) ?_
  exact m_iret S hw rfl hr hlk d_M_select_18
set_option maxHeartbeats 4000000 in
set_option maxRecDepth 100000 in
theorem c_M_select (l : Launch) (G : gG) (b : mA) (u : mV) (mp : Nat → nMap) (n : Nat) (x i : Nat) (hM : MR u mp n) (hx0 : x < n) (hi : i < 2 ^ 31) : Met l y_M_select (mw y_M_select b_M_select 5 (some .int)) (rmS 5 100) (mPc G b u [.int (nI x), .int (nI i)]) (va_Qi (fun r u' => (i < cnt (mp x) 256 ∧ sel (mp x) i r ∧ u' = xThr u 0) ∨ (cnt (mp x) 256 ≤ i ∧ u' = xThr u 1)) (fun u' t => mP G b u' t.heap) (inB b)) 0 0 (inB b) := by
  obtain ⟨rfl, hn1, h6, hrow, hnone⟩ := hM
  refine m_ofW (own := R_M) rfl rfl (fun p e s m args below meth c S hr hlk hx hnm hv => ?_)
  obtain ⟨hargs, hP, hD, hK⟩ := hv
  have hw := mS.start hP hD
  refine m_entryA [.ref (eH b), .int (nI x), .int (nI i)] hargs (Nat.le_of_ble_eq_true rfl) (fun ls hl => ?_)
  have hl : lv_has ls 5 [(0, .ref (eH b)), (1, .int (nI x)), (2, .int (nI i))] := hl
  have loop : ∀ d κ lf, 256 - κ = d → κ ≤ 256 → lf + cnt (mp x) κ = i → ∀ ls H locs, mS G b (inB b) s.heap (xThr u 1) H locs → lv_has ls 5 [(4, .int (nI κ)), (3, .int (nI lf)), (0, .ref (eH b)), (1, .int (nI x)), (2, .int (nI i))] → W p l e (rmS 5 100) s m args below meth c H locs 0 0 (MQ below (va_Qi (fun r u' => (i < cnt (mp x) 256 ∧ sel (mp x) i r ∧ u' = xThr u 0) ∨ (cnt (mp x) 256 ≤ i ∧ u' = xThr u 1)) (fun u' t => mP G b u' t.heap) (inB b)) args s 0 0 (inB b)) (F0 m 24 ls []) := by
    intro d
    induction d with
    | zero =>
      intro κ lf hd hκ hlf ls H locs hw hl
      have hκ2 : κ = 256 := by omega
      subst hκ2
      refine lv_iload S.1 S.2.1 d_M_select_24 (lv_at hl 0 rfl) ?_
      refine lv_sipush (v := nI 256) S.1 S.2.1 d_M_select_26 (by decide) ?_
      refine nb_ge S (by omega) (by omega) d_M_select_29 rfl (fun _ => ?_) (fun h => absurd h (by omega))
      refine lv_iconst (v := nI 0) S.1 S.2.1 d_M_select_72 (by decide) ?_
      exact m_iret S hw (Or.inr ⟨by omega, rfl⟩) hr hlk d_M_select_73
    | succ d ih =>
      intro κ lf hd hκ hlf ls H locs hw hl
      have hH := (hrow x hx0 κ (by omega)).1
      have hH2 := is1_lt (mp x κ)
      have hc1 : cnt (mp x) (κ + 1) = cnt (mp x) κ + is1 (mp x κ) := rfl
      have hc9 := cnt_le (mp x) κ
      refine lv_iload S.1 S.2.1 d_M_select_24 (lv_at hl 0 rfl) ?_
      refine lv_sipush (v := nI 256) S.1 S.2.1 d_M_select_26 (by decide) ?_
      refine nb_ge S (by omega) (by omega) d_M_select_29 rfl (fun h => absurd h (by omega)) (fun _ => ?_)
      refine lv_aload_n S.1 S.2.1 d_M_select_32 rfl (lv_at hl 2 rfl) ?_
      refine m_gH S hK hw.1 d_M_select_33 ?_
      refine lv_sipush (v := nI 256) S.1 S.2.1 d_M_select_36 (by decide) ?_
      refine lv_iload_n S.1 S.2.1 d_M_select_39 rfl (lv_at hl 3 rfl) ?_
      refine n_imul S d_M_select_40 ?_
      refine lv_iload S.1 S.2.1 d_M_select_41 (lv_at hl 0 rfl) ?_
      refine n_iadd S d_M_select_43 ?_
      refine m_iH S hK hw.1 (by omega) d_M_select_44 ?_
      rw [show uH (xThr u 1) (256 * x + κ) = is1 (mp x κ) from hH]
      refine nz_ne S (by omega) d_M_select_45 rfl (fun hq => ?_) (fun hq => ?_)
      rotate_left
      · refine lv_goto S.1 S.2.1 d_M_select_48 rfl ?_
        refine lv_iinc (k := 0) (v := nI (κ + 1)) S.1 S.2.1 d_M_select_66 hl rfl (by rw [lit1]; exact nI_1 κ) (by decide) rfl (fun ls hl => ?_)
        refine lv_goto S.1 S.2.1 d_M_select_69 rfl ?_
        exact ih (κ + 1) lf (by omega) (by omega) (by omega) ls H locs hw hl
      refine lv_iload_n S.1 S.2.1 d_M_select_51 rfl (lv_at hl 1 rfl) ?_
      refine nz_ne S (by omega) d_M_select_52 rfl (fun hl0 => ?_) (fun hl0 => ?_)
      rotate_left
      · refine lv_aload_n S.1 S.2.1 d_M_select_55 rfl (lv_at hl 2 rfl) ?_
        refine lv_iconst (v := nI 0) S.1 S.2.1 d_M_select_56 (by decide) ?_
        refine m_pThr S hK hw d_M_select_57 (fun H locs hw => ?_)
        refine lv_iload S.1 S.2.1 d_M_select_60 (lv_at hl 0 rfl) ?_
        have hsome : ∃ z, mp x κ = some z := by
          cases hz : mp x κ with
          | none => rw [hz] at hq; exact absurd rfl hq
          | some z => exact ⟨z, rfl⟩
        have hm := cnt_mono (mp x) (show κ + 1 ≤ 256 by omega)
        exact m_iret S hw (Or.inl ⟨by omega, ⟨κ, rfl, by omega, hsome, by omega⟩, rfl⟩) hr hlk d_M_select_62
      obtain ⟨lf, rfl⟩ : ∃ q, lf = q + 1 := ⟨lf - 1, by omega⟩
      refine lv_iinc (k := 1) (v := nI lf) S.1 S.2.1 d_M_select_63 hl rfl (by rw [show Int32.ofInt (-1) = -1 from by decide]; exact pk_m1 lf) (by decide) rfl (fun ls hl => ?_)
      refine lv_iinc (k := 1) (v := nI (κ + 1)) S.1 S.2.1 d_M_select_66 hl rfl (by rw [lit1]; exact nI_1 κ) (by decide) rfl (fun ls hl => ?_)
      refine lv_goto S.1 S.2.1 d_M_select_69 rfl ?_
      exact ih (κ + 1) lf (by omega) (by omega) (by omega) ls H locs hw hl
  refine lv_aload_n S.1 S.2.1 d_M_select_0 rfl (lv_at hl 0 rfl) ?_
  refine lv_iconst (v := nI 1) S.1 S.2.1 d_M_select_1 (by decide) ?_
  refine m_pThr S hK hw d_M_select_2 (fun H locs hw => ?_)
  refine lv_aload_n S.1 S.2.1 d_M_select_5 rfl (lv_at hl 0 rfl) ?_
  refine lv_iload_n S.1 S.2.1 d_M_select_6 rfl (lv_at hl 1 rfl) ?_
  refine r_calli (mr_run S (m_pre hK hw.1 hw.2.1) k_M_isOne wi_M_isOne wv_M_M_isOne wL_M_25 (c_M_isOne_t l G b (xThr u 1) x hx0 h6) (rm_ok (by omega) (by omega)) rfl hl.1 rfl (Nat.le_of_ble_eq_true rfl) d_M_select_7 ⟨Nat.le_refl _, Nat.le_refl _⟩) (fun r hp => ?_)
  subst hp
  refine nz_eq S (by decide) d_M_select_10 rfl (fun h => absurd h (by decide)) (fun _ => ?_)
  refine lv_iload_n S.1 S.2.1 d_M_select_13 rfl (lv_at hl 2 rfl) ?_
  refine lv_if_ge S.1 S.2.1 d_M_select_14 rfl (fun _ => ?_) (fun h => absurd (nI_pos' hi) h)
  refine lv_iload_n S.1 S.2.1 d_M_select_19 rfl (lv_at hl 2 rfl) ?_
  refine lv_istore_n S.1 S.2.1 d_M_select_20 rfl hl (by decide) rfl (fun ls hl => ?_)
  refine lv_iconst (v := nI 0) S.1 S.2.1 d_M_select_21 (by decide) ?_
  refine lv_istore S.1 S.2.1 d_M_select_22 hl (by decide) rfl (fun ls hl => ?_)
  exact loop _ 0 i rfl (by omega) rfl ls _ _ hw hl
set_option maxHeartbeats 4000000 in
set_option maxRecDepth 100000 in
theorem c_M_many_v (l : Launch) (G : gG) (b : mA) (u : mV) (y0 y1 y2 : Int32) (hb : bad y0 (uVer u)) : Met l y_M_many (mw y_M_many b_M_many 6 (some .int)) (rmS 5 100) (mPc G b u [.int y0, .int y1, .int y2]) (va_Qi (fun _ u' => u' = xThr u 1) (fun u' t => mP G b u' t.heap) (inB b)) 0 0 (inB b) := by
  refine m_ofW (own := R_M) rfl rfl (fun p e s m args below meth c S hr hlk hx hnm hv => ?_)
  obtain ⟨rfl, hP, hD, hK⟩ := hv
  have hw := mS.start hP hD
  refine m_entry [.ref (eH b), .int y0, .int y1, .int y2] (Nat.le_of_ble_eq_true rfl) (fun ls hl => ?_)
  have hl : lv_has ls 6 [(0, .ref (eH b)), (1, .int y0), (2, .int y1), (3, .int y2)] := hl
  refine lv_aload_n S.1 S.2.1 d_M_many_0 rfl (lv_at hl 0 rfl) ?_
  refine lv_aload_n S.1 S.2.1 d_M_many_1 rfl (lv_at hl 0 rfl) ?_
  refine lv_iload_n S.1 S.2.1 d_M_many_2 rfl (lv_at hl 1 rfl) ?_
  refine r_calli (mr_run S (m_pre hK hw.1 hw.2.1) k_M_isOne wi_M_isOne wv_M_M_isOne wL_M_25 (c_M_isOne_f l G b u y0 hb) (rm_ok (by omega) (by omega)) rfl hl.1 rfl (Nat.le_of_ble_eq_true rfl) d_M_many_3 ⟨Nat.le_refl _, Nat.le_refl _⟩) (fun r hp => ?_)
  subst hp
  refine nz_eq S (by decide) d_M_many_6 rfl (fun _ => ?_) (fun h => absurd rfl h)
  refine lv_iconst (v := nI 1) S.1 S.2.1 d_M_many_13 (by decide) ?_
  refine m_pThr S hK hw d_M_many_14 (fun H locs hw => ?_)
  refine lv_iconst (v := nI 0) S.1 S.2.1 d_M_many_17 (by decide) ?_
  refine lv_istore S.1 S.2.1 d_M_many_18 hl (by decide) rfl (fun ls hl => ?_)
  refine lv_iconst (v := nI 0) S.1 S.2.1 d_M_many_20 (by decide) ?_
  refine lv_istore S.1 S.2.1 d_M_many_21 hl (by decide) rfl (fun ls hl => ?_)
  refine lv_iload S.1 S.2.1 d_M_many_23 (lv_at hl 0 rfl) ?_
  refine lv_sipush (v := nI 256) S.1 S.2.1 d_M_many_25 (by decide) ?_
  refine nb_ge S (by decide) (by decide) d_M_many_28 rfl (fun h => absurd h (by decide)) (fun _ => ?_)
  refine lv_aload_n S.1 S.2.1 d_M_many_31 rfl (lv_at hl 2 rfl) ?_
  refine m_gThr S hK hw.1 d_M_many_32 ?_
  refine nz_ne S (x := 1) (by decide) d_M_many_35 rfl (fun _ => ?_) (fun h => absurd h (by decide))
  refine lv_iload S.1 S.2.1 d_M_many_75 (lv_at hl 1 rfl) ?_
  exact m_iret S hw rfl hr hlk d_M_many_77
set_option maxHeartbeats 4000000 in
set_option maxRecDepth 100000 in
theorem c_M_many (l : Launch) (G : gG) (b : mA) (u : mV) (mp : Nat → nMap) (n : Nat) (x : Nat) (y z : Int32) (hM : MR u mp n) (hx0 : x < n) : Met l y_M_many (mw y_M_many b_M_many 6 (some .int)) (rmS 5 100) (mPc G b u [.int (nI x), .int y, .int z]) (va_Qi (fun r u' => r = mny (mp x) y z ∧ u' = xThr u 0) (fun u' t => mP G b u' t.heap) (inB b)) 0 0 (inB b) := by
  obtain ⟨rfl, hn1, h6, hrow, hnone⟩ := hM
  refine m_ofW (own := R_M) rfl rfl (fun p e s m args below meth c S hr hlk hx hnm hv => ?_)
  obtain ⟨hargs, hP, hD, hK⟩ := hv
  have hw := mS.start hP hD
  refine m_entryA [.ref (eH b), .int (nI x), .int y, .int z] hargs (Nat.le_of_ble_eq_true rfl) (fun ls hl => ?_)
  have hl : lv_has ls 6 [(0, .ref (eH b)), (1, .int (nI x)), (2, .int y), (3, .int z)] := hl
  have loop : ∀ d κ, 256 - κ = d → κ ≤ 256 → ∀ ls H locs, mS G b (inB b) s.heap (xThr u 0) H locs → lv_has ls 6 [(5, .int (nI κ)), (4, .int (nI (c2 (mp x) y.toNatClampNeg z.toNatClampNeg κ))), (0, .ref (eH b)), (1, .int (nI x)), (2, .int y), (3, .int z)] → W p l e (rmS 5 100) s m args below meth c H locs 0 0 (MQ below (va_Qi (fun r u' => r = mny (mp x) y z ∧ u' = xThr u 0) (fun u' t => mP G b u' t.heap) (inB b)) args s 0 0 (inB b)) (F0 m 23 ls []) := by
    intro d
    induction d with
    | zero =>
      intro κ hd hκ ls H locs hw hl
      have hκ2 : κ = 256 := by omega
      subst hκ2
      refine lv_iload S.1 S.2.1 d_M_many_23 (lv_at hl 0 rfl) ?_
      refine lv_sipush (v := nI 256) S.1 S.2.1 d_M_many_25 (by decide) ?_
      refine nb_ge S (by omega) (by omega) d_M_many_28 rfl (fun _ => ?_) (fun h => absurd h (by omega))
      refine lv_iload S.1 S.2.1 d_M_many_75 (lv_at hl 1 rfl) ?_
      exact m_iret S hw ⟨c2_mny (hnone x hx0) y z, rfl⟩ hr hlk d_M_many_77
    | succ d ih =>
      intro κ hd hκ ls H locs hw hl
      obtain ⟨hH, hV⟩ := hrow x hx0 κ (by omega)
      have hH2 := is1_lt (mp x κ)
      have y1 := clamp_lt (show κ < 256 by omega) y
      have z1 := clamp_lt (show κ < 256 by omega) z
      have k9 : ∀ ls, lv_has ls 6 [(5, .int (nI κ)), (4, .int (nI (c2 (mp x) y.toNatClampNeg z.toNatClampNeg (κ + 1)))), (0, .ref (eH b)), (1, .int (nI x)), (2, .int y), (3, .int z)] → W p l e (rmS 5 100) s m args below meth c H locs 0 0 (MQ below (va_Qi (fun r u' => r = mny (mp x) y z ∧ u' = xThr u 0) (fun u' t => mP G b u' t.heap) (inB b)) args s 0 0 (inB b)) (F0 m 69 ls []) := by
        intro ls hl
        refine lv_iinc (k := 0) (v := nI (κ + 1)) S.1 S.2.1 d_M_many_69 hl rfl (by rw [lit1]; exact nI_1 κ) (by decide) rfl (fun ls hl => ?_)
        refine lv_goto S.1 S.2.1 d_M_many_72 rfl ?_
        exact ih (κ + 1) (by omega) (by omega) ls H locs hw hl
      have skip : c2 (mp x) y.toNatClampNeg z.toNatClampNeg (κ + 1) = c2 (mp x) y.toNatClampNeg z.toNatClampNeg κ → W p l e (rmS 5 100) s m args below meth c H locs 0 0 (MQ below (va_Qi (fun r u' => r = mny (mp x) y z ∧ u' = xThr u 0) (fun u' t => mP G b u' t.heap) (inB b)) args s 0 0 (inB b)) (F0 m 69 ls []) := by
        intro he
        rw [← he] at hl
        exact k9 ls hl
      have hstep : c2 (mp x) y.toNatClampNeg z.toNatClampNeg (κ + 1) = c2 (mp x) y.toNatClampNeg z.toNatClampNeg κ + (if y.toNatClampNeg ≤ κ ∧ κ < z.toNatClampNeg then is1 (mp x κ) else 0) := rfl
      refine lv_iload S.1 S.2.1 d_M_many_23 (lv_at hl 0 rfl) ?_
      refine lv_sipush (v := nI 256) S.1 S.2.1 d_M_many_25 (by decide) ?_
      refine nb_ge S (by omega) (by omega) d_M_many_28 rfl (fun h => absurd h (by omega)) (fun _ => ?_)
      refine lv_aload_n S.1 S.2.1 d_M_many_31 rfl (lv_at hl 2 rfl) ?_
      refine m_gThr S hK hw.1 d_M_many_32 ?_
      refine nz_ne S (x := 0) (by decide) d_M_many_35 rfl (fun h => absurd rfl h) (fun _ => ?_)
      refine lv_iload S.1 S.2.1 d_M_many_38 (lv_at hl 0 rfl) ?_
      refine lv_iload_n S.1 S.2.1 d_M_many_40 rfl (lv_at hl 4 rfl) ?_
      refine lv_icmp_lt S.1 S.2.1 d_M_many_41 rfl (fun h => skip (by rw [hstep, if_neg (fun q => absurd (y1.mp h) (by omega)), Nat.add_zero])) (fun h => ?_)
      refine lv_iload S.1 S.2.1 d_M_many_44 (lv_at hl 0 rfl) ?_
      refine lv_iload_n S.1 S.2.1 d_M_many_46 rfl (lv_at hl 5 rfl) ?_
      refine lv_icmp_ge S.1 S.2.1 d_M_many_47 rfl (fun h2 => skip (by rw [hstep, if_neg (fun q => absurd (z1.mpr q.2) (k2_nlt h2)), Nat.add_zero])) (fun h2 => ?_)
      have hin : y.toNatClampNeg ≤ κ ∧ κ < z.toNatClampNeg := ⟨Nat.le_of_not_lt (fun q => h (y1.mpr q)), z1.mp (k2_lt h2)⟩
      rw [if_pos hin] at hstep
      refine lv_aload_n S.1 S.2.1 d_M_many_50 rfl (lv_at hl 2 rfl) ?_
      refine m_gH S hK hw.1 d_M_many_51 ?_
      refine lv_sipush (v := nI 256) S.1 S.2.1 d_M_many_54 (by decide) ?_
      refine lv_iload_n S.1 S.2.1 d_M_many_57 rfl (lv_at hl 3 rfl) ?_
      refine n_imul S d_M_many_58 ?_
      refine lv_iload S.1 S.2.1 d_M_many_59 (lv_at hl 0 rfl) ?_
      refine n_iadd S d_M_many_61 ?_
      refine m_iH S hK hw.1 (by omega) d_M_many_62 ?_
      rw [show uH (xThr u 0) (256 * x + κ) = is1 (mp x κ) from hH]
      refine nz_eq S (by omega) d_M_many_63 rfl (fun hq => skip (by rw [hstep, hq, Nat.add_zero])) (fun hq => ?_)
      refine lv_iinc (k := 1) (v := nI (c2 (mp x) y.toNatClampNeg z.toNatClampNeg κ + 1)) S.1 S.2.1 d_M_many_66 hl rfl (by rw [lit1]; exact nI_1 _) (by decide) rfl (fun ls hl => ?_)
      rw [show c2 (mp x) y.toNatClampNeg z.toNatClampNeg κ + 1 = c2 (mp x) y.toNatClampNeg z.toNatClampNeg (κ + 1) by omega] at hl
      exact k9 ls (lv_sub hl [1, 0, 2, 3, 4, 5] rfl)
  refine lv_aload_n S.1 S.2.1 d_M_many_0 rfl (lv_at hl 0 rfl) ?_
  refine lv_aload_n S.1 S.2.1 d_M_many_1 rfl (lv_at hl 0 rfl) ?_
  refine lv_iload_n S.1 S.2.1 d_M_many_2 rfl (lv_at hl 1 rfl) ?_
  refine r_calli (mr_run S (m_pre hK hw.1 hw.2.1) k_M_isOne wi_M_isOne wv_M_M_isOne wL_M_25 (c_M_isOne_t l G b u x hx0 h6) (rm_ok (by omega) (by omega)) rfl hl.1 rfl (Nat.le_of_ble_eq_true rfl) d_M_many_3 ⟨Nat.le_refl _, Nat.le_refl _⟩) (fun r hp => ?_)
  subst hp
  refine nz_eq S (by decide) d_M_many_6 rfl (fun h => absurd h (by decide)) (fun _ => ?_)
  refine lv_iconst (v := nI 0) S.1 S.2.1 d_M_many_9 (by decide) ?_
  refine lv_goto S.1 S.2.1 d_M_many_10 rfl ?_
  refine m_pThr S hK hw d_M_many_14 (fun H locs hw => ?_)
  refine lv_iconst (v := nI 0) S.1 S.2.1 d_M_many_17 (by decide) ?_
  refine lv_istore S.1 S.2.1 d_M_many_18 hl (by decide) rfl (fun ls hl => ?_)
  refine lv_iconst (v := nI 0) S.1 S.2.1 d_M_many_20 (by decide) ?_
  refine lv_istore S.1 S.2.1 d_M_many_21 hl (by decide) rfl (fun ls hl => ?_)
  exact loop _ 0 rfl (by omega) ls _ _ hw hl
set_option maxHeartbeats 4000000 in
set_option maxRecDepth 100000 in
theorem c_M_sum_v (l : Launch) (G : gG) (b : mA) (u : mV) (y0 y1 y2 : Int32) (hb : bad y0 (uVer u)) : Met l y_M_sum (mw y_M_sum b_M_sum 7 (some .long)) (rmS 5 100) (mPc G b u [.int y0, .int y1, .int y2]) (va_Ql (fun _ u' => u' = xThr u 1) (fun u' t => mP G b u' t.heap) (inB b)) 0 0 (inB b) := by
  refine m_ofW (own := R_M) rfl rfl (fun p e s m args below meth c S hr hlk hx hnm hv => ?_)
  obtain ⟨rfl, hP, hD, hK⟩ := hv
  have hw := mS.start hP hD
  refine m_entry [.ref (eH b), .int y0, .int y1, .int y2] (Nat.le_of_ble_eq_true rfl) (fun ls hl => ?_)
  have hl : lv_has ls 7 [(0, .ref (eH b)), (1, .int y0), (2, .int y1), (3, .int y2)] := hl
  refine lv_aload_n S.1 S.2.1 d_M_sum_0 rfl (lv_at hl 0 rfl) ?_
  refine lv_aload_n S.1 S.2.1 d_M_sum_1 rfl (lv_at hl 0 rfl) ?_
  refine lv_iload_n S.1 S.2.1 d_M_sum_2 rfl (lv_at hl 1 rfl) ?_
  refine r_calli (mr_run S (m_pre hK hw.1 hw.2.1) k_M_isOne wi_M_isOne wv_M_M_isOne wL_M_25 (c_M_isOne_f l G b u y0 hb) (rm_ok (by omega) (by omega)) rfl hl.1 rfl (Nat.le_of_ble_eq_true rfl) d_M_sum_3 ⟨Nat.le_refl _, Nat.le_refl _⟩) (fun r hp => ?_)
  subst hp
  refine nz_eq S (by decide) d_M_sum_6 rfl (fun _ => ?_) (fun h => absurd rfl h)
  refine lv_iconst (v := nI 1) S.1 S.2.1 d_M_sum_13 (by decide) ?_
  refine m_pThr S hK hw d_M_sum_14 (fun H locs hw => ?_)
  refine lv_lconst (v := 0) S.1 S.2.1 d_M_sum_17 (by decide) ?_
  refine lv_lstore S.1 S.2.1 d_M_sum_18 hl (by decide) rfl (fun ls hl => ?_)
  refine lv_iconst (v := nI 0) S.1 S.2.1 d_M_sum_20 (by decide) ?_
  refine lv_istore S.1 S.2.1 d_M_sum_21 hl (by decide) rfl (fun ls hl => ?_)
  refine lv_iload S.1 S.2.1 d_M_sum_23 (lv_at hl 0 rfl) ?_
  refine lv_sipush (v := nI 256) S.1 S.2.1 d_M_sum_25 (by decide) ?_
  refine nb_ge S (by decide) (by decide) d_M_sum_28 rfl (fun h => absurd h (by decide)) (fun _ => ?_)
  refine lv_aload_n S.1 S.2.1 d_M_sum_31 rfl (lv_at hl 2 rfl) ?_
  refine m_gThr S hK hw.1 d_M_sum_32 ?_
  refine nz_ne S (x := 1) (by decide) d_M_sum_35 rfl (fun _ => ?_) (fun h => absurd h (by decide))
  refine lv_lload S.1 S.2.1 d_M_sum_91 (lv_at hl 1 rfl) ?_
  exact m_lret S hw rfl hr hlk d_M_sum_93
set_option maxHeartbeats 4000000 in
set_option maxRecDepth 100000 in
theorem c_M_sum (l : Launch) (G : gG) (b : mA) (u : mV) (mp : Nat → nMap) (n : Nat) (x : Nat) (y z : Int32) (hM : MR u mp n) (hx0 : x < n) : Met l y_M_sum (mw y_M_sum b_M_sum 7 (some .long)) (rmS 5 100) (mPc G b u [.int (nI x), .int y, .int z]) (va_Ql (fun r u' => r = smy (mp x) y z ∧ u' = xThr u 0) (fun u' t => mP G b u' t.heap) (inB b)) 0 0 (inB b) := by
  obtain ⟨rfl, hn1, h6, hrow, hnone⟩ := hM
  refine m_ofW (own := R_M) rfl rfl (fun p e s m args below meth c S hr hlk hx hnm hv => ?_)
  obtain ⟨hargs, hP, hD, hK⟩ := hv
  have hw := mS.start hP hD
  refine m_entryA [.ref (eH b), .int (nI x), .int y, .int z] hargs (Nat.le_of_ble_eq_true rfl) (fun ls hl => ?_)
  have hl : lv_has ls 7 [(0, .ref (eH b)), (1, .int (nI x)), (2, .int y), (3, .int z)] := hl
  have loop : ∀ d κ, 256 - κ = d → κ ≤ 256 → ∀ ls H locs, mS G b (inB b) s.heap (xThr u 0) H locs → lv_has ls 7 [(6, .int (nI κ)), (4, .long (s2 (mp x) y.toNatClampNeg z.toNatClampNeg κ)), (0, .ref (eH b)), (1, .int (nI x)), (2, .int y), (3, .int z)] → W p l e (rmS 5 100) s m args below meth c H locs 0 0 (MQ below (va_Ql (fun r u' => r = smy (mp x) y z ∧ u' = xThr u 0) (fun u' t => mP G b u' t.heap) (inB b)) args s 0 0 (inB b)) (F0 m 23 ls []) := by
    intro d
    induction d with
    | zero =>
      intro κ hd hκ ls H locs hw hl
      have hκ2 : κ = 256 := by omega
      subst hκ2
      refine lv_iload S.1 S.2.1 d_M_sum_23 (lv_at hl 0 rfl) ?_
      refine lv_sipush (v := nI 256) S.1 S.2.1 d_M_sum_25 (by decide) ?_
      refine nb_ge S (by omega) (by omega) d_M_sum_28 rfl (fun _ => ?_) (fun h => absurd h (by omega))
      refine lv_lload S.1 S.2.1 d_M_sum_91 (lv_at hl 1 rfl) ?_
      exact m_lret S hw ⟨s2_smy (hnone x hx0) y z, rfl⟩ hr hlk d_M_sum_93
    | succ d ih =>
      intro κ hd hκ ls H locs hw hl
      obtain ⟨hH, hV⟩ := hrow x hx0 κ (by omega)
      have hH2 := is1_lt (mp x κ)
      have y1 := clamp_lt (show κ < 256 by omega) y
      have z1 := clamp_lt (show κ < 256 by omega) z
      have k9 : ∀ ls, lv_has ls 7 [(6, .int (nI κ)), (4, .long (s2 (mp x) y.toNatClampNeg z.toNatClampNeg (κ + 1))), (0, .ref (eH b)), (1, .int (nI x)), (2, .int y), (3, .int z)] → W p l e (rmS 5 100) s m args below meth c H locs 0 0 (MQ below (va_Ql (fun r u' => r = smy (mp x) y z ∧ u' = xThr u 0) (fun u' t => mP G b u' t.heap) (inB b)) args s 0 0 (inB b)) (F0 m 85 ls []) := by
        intro ls hl
        refine lv_iinc (k := 0) (v := nI (κ + 1)) S.1 S.2.1 d_M_sum_85 hl rfl (by rw [lit1]; exact nI_1 κ) (by decide) rfl (fun ls hl => ?_)
        refine lv_goto S.1 S.2.1 d_M_sum_88 rfl ?_
        exact ih (κ + 1) (by omega) (by omega) ls H locs hw hl
      have skip : s2 (mp x) y.toNatClampNeg z.toNatClampNeg (κ + 1) = s2 (mp x) y.toNatClampNeg z.toNatClampNeg κ → W p l e (rmS 5 100) s m args below meth c H locs 0 0 (MQ below (va_Ql (fun r u' => r = smy (mp x) y z ∧ u' = xThr u 0) (fun u' t => mP G b u' t.heap) (inB b)) args s 0 0 (inB b)) (F0 m 85 ls []) := by
        intro he
        rw [← he] at hl
        exact k9 ls hl
      have hstep : s2 (mp x) y.toNatClampNeg z.toNatClampNeg (κ + 1) = s2 (mp x) y.toNatClampNeg z.toNatClampNeg κ + (if y.toNatClampNeg ≤ κ ∧ κ < z.toNatClampNeg then vl (mp x κ) else 0) := rfl
      refine lv_iload S.1 S.2.1 d_M_sum_23 (lv_at hl 0 rfl) ?_
      refine lv_sipush (v := nI 256) S.1 S.2.1 d_M_sum_25 (by decide) ?_
      refine nb_ge S (by omega) (by omega) d_M_sum_28 rfl (fun h => absurd h (by omega)) (fun _ => ?_)
      refine lv_aload_n S.1 S.2.1 d_M_sum_31 rfl (lv_at hl 2 rfl) ?_
      refine m_gThr S hK hw.1 d_M_sum_32 ?_
      refine nz_ne S (x := 0) (by decide) d_M_sum_35 rfl (fun h => absurd rfl h) (fun _ => ?_)
      refine lv_iload S.1 S.2.1 d_M_sum_38 (lv_at hl 0 rfl) ?_
      refine lv_iload_n S.1 S.2.1 d_M_sum_40 rfl (lv_at hl 4 rfl) ?_
      refine lv_icmp_lt S.1 S.2.1 d_M_sum_41 rfl (fun h => skip (by rw [hstep, if_neg (fun q => absurd (y1.mp h) (by omega)), Int64.add_zero])) (fun h => ?_)
      refine lv_iload S.1 S.2.1 d_M_sum_44 (lv_at hl 0 rfl) ?_
      refine lv_iload_n S.1 S.2.1 d_M_sum_46 rfl (lv_at hl 5 rfl) ?_
      refine lv_icmp_ge S.1 S.2.1 d_M_sum_47 rfl (fun h2 => skip (by rw [hstep, if_neg (fun q => absurd (z1.mpr q.2) (k2_nlt h2)), Int64.add_zero])) (fun h2 => ?_)
      have hin : y.toNatClampNeg ≤ κ ∧ κ < z.toNatClampNeg := ⟨Nat.le_of_not_lt (fun q => h (y1.mpr q)), z1.mp (k2_lt h2)⟩
      rw [if_pos hin] at hstep
      refine lv_aload_n S.1 S.2.1 d_M_sum_50 rfl (lv_at hl 2 rfl) ?_
      refine m_gH S hK hw.1 d_M_sum_51 ?_
      refine lv_sipush (v := nI 256) S.1 S.2.1 d_M_sum_54 (by decide) ?_
      refine lv_iload_n S.1 S.2.1 d_M_sum_57 rfl (lv_at hl 3 rfl) ?_
      refine n_imul S d_M_sum_58 ?_
      refine lv_iload S.1 S.2.1 d_M_sum_59 (lv_at hl 0 rfl) ?_
      refine n_iadd S d_M_sum_61 ?_
      refine m_iH S hK hw.1 (by omega) d_M_sum_62 ?_
      rw [show uH (xThr u 0) (256 * x + κ) = is1 (mp x κ) from hH]
      refine nz_eq S (by omega) d_M_sum_63 rfl (fun hq => skip (by rw [hstep, is1_0.mp hq]; exact Int64.add_zero _)) (fun hq => ?_)
      obtain ⟨zz, hzz⟩ : ∃ zz, mp x κ = some zz := by
        cases hz : mp x κ with
        | none => rw [hz] at hq; exact absurd rfl hq
        | some z => exact ⟨z, rfl⟩
      have hv := hV zz hzz
      have hstep : s2 (mp x) y.toNatClampNeg z.toNatClampNeg κ + (uV (xThr u 0) (256 * x + κ)).toInt64 = s2 (mp x) y.toNatClampNeg z.toNatClampNeg (κ + 1) := by
        rw [hstep, hzz]
        show _ + (uV u (256 * x + κ)).toInt64 = _
        rw [hv]; rfl
      refine lv_lload S.1 S.2.1 d_M_sum_66 (lv_at hl 1 rfl) ?_
      refine lv_aload_n S.1 S.2.1 d_M_sum_68 rfl (lv_at hl 2 rfl) ?_
      refine m_gV S hK hw.1 d_M_sum_69 ?_
      refine lv_sipush (v := nI 256) S.1 S.2.1 d_M_sum_72 (by decide) ?_
      refine lv_iload_n S.1 S.2.1 d_M_sum_75 rfl (lv_at hl 3 rfl) ?_
      refine n_imul S d_M_sum_76 ?_
      refine lv_iload S.1 S.2.1 d_M_sum_77 (lv_at hl 0 rfl) ?_
      refine n_iadd S d_M_sum_79 ?_
      refine m_iV S hK hw.1 (by omega) d_M_sum_80 ?_
      refine lv_i2l S.1 S.2.1 d_M_sum_81 rfl ?_
      refine lv_ladd S.1 S.2.1 d_M_sum_82 ?_
      rw [hstep]
      refine lv_lstore S.1 S.2.1 d_M_sum_83 hl (by decide) rfl (fun ls hl => ?_)
      exact k9 ls (lv_sub hl [1, 0, 2, 3, 4, 5] rfl)
  refine lv_aload_n S.1 S.2.1 d_M_sum_0 rfl (lv_at hl 0 rfl) ?_
  refine lv_aload_n S.1 S.2.1 d_M_sum_1 rfl (lv_at hl 0 rfl) ?_
  refine lv_iload_n S.1 S.2.1 d_M_sum_2 rfl (lv_at hl 1 rfl) ?_
  refine r_calli (mr_run S (m_pre hK hw.1 hw.2.1) k_M_isOne wi_M_isOne wv_M_M_isOne wL_M_25 (c_M_isOne_t l G b u x hx0 h6) (rm_ok (by omega) (by omega)) rfl hl.1 rfl (Nat.le_of_ble_eq_true rfl) d_M_sum_3 ⟨Nat.le_refl _, Nat.le_refl _⟩) (fun r hp => ?_)
  subst hp
  refine nz_eq S (by decide) d_M_sum_6 rfl (fun h => absurd h (by decide)) (fun _ => ?_)
  refine lv_iconst (v := nI 0) S.1 S.2.1 d_M_sum_9 (by decide) ?_
  refine lv_goto S.1 S.2.1 d_M_sum_10 rfl ?_
  refine m_pThr S hK hw d_M_sum_14 (fun H locs hw => ?_)
  refine lv_lconst (v := 0) S.1 S.2.1 d_M_sum_17 (by decide) ?_
  refine lv_lstore S.1 S.2.1 d_M_sum_18 hl (by decide) rfl (fun ls hl => ?_)
  refine lv_iconst (v := nI 0) S.1 S.2.1 d_M_sum_20 (by decide) ?_
  refine lv_istore S.1 S.2.1 d_M_sum_21 hl (by decide) rfl (fun ls hl => ?_)
  exact loop _ 0 rfl (by omega) ls _ _ hw hl
end
section
set_option maxHeartbeats 4000000 in
set_option maxRecDepth 100000 in
theorem c_M_digest_v (l : Launch) (G : gG) (b : mA) (u : mV) (y0 : Int32) (hb : bad y0 (uVer u)) : Met l y_M_digest (mw y_M_digest b_M_digest 5 (some .long)) (rmS 5 100) (mPc G b u [.int y0]) (va_Ql (fun _ u' => u' = xThr u 1) (fun u' t => mP G b u' t.heap) (inB b)) 0 0 (inB b) := by
  refine m_ofW (own := R_M) rfl rfl (fun p e s m args below meth c S hr hlk hx hnm hv => ?_)
  obtain ⟨rfl, hP, hD, hK⟩ := hv
  have hw := mS.start hP hD
  refine m_entry [.ref (eH b), .int y0] (Nat.le_of_ble_eq_true rfl) (fun ls hl => ?_)
  have hl : lv_has ls 5 [(0, .ref (eH b)), (1, .int y0)] := hl
  refine lv_aload_n S.1 S.2.1 d_M_digest_0 rfl (lv_at hl 0 rfl) ?_
  refine lv_aload_n S.1 S.2.1 d_M_digest_1 rfl (lv_at hl 0 rfl) ?_
  refine lv_iload_n S.1 S.2.1 d_M_digest_2 rfl (lv_at hl 1 rfl) ?_
  refine r_calli (mr_run S (m_pre hK hw.1 hw.2.1) k_M_isOne wi_M_isOne wv_M_M_isOne wL_M_25 (c_M_isOne_f l G b u y0 hb) (rm_ok (by omega) (by omega)) rfl hl.1 rfl (Nat.le_of_ble_eq_true rfl) d_M_digest_3 ⟨Nat.le_refl _, Nat.le_refl _⟩) (fun r hp => ?_)
  subst hp
  refine nz_eq S (by decide) d_M_digest_6 rfl (fun _ => ?_) (fun h => absurd rfl h)
  refine lv_iconst (v := nI 1) S.1 S.2.1 d_M_digest_13 (by decide) ?_
  refine m_pThr S hK hw d_M_digest_14 (fun H locs hw => ?_)
  refine lv_ldc2 S.1 S.2.1 S.2.2.2.1 (S.2.2.2.2 _ wq_M_36) d_M_digest_17 ?_
  refine lv_lstore_n S.1 S.2.1 d_M_digest_20 rfl hl (by decide) rfl (fun ls hl => ?_)
  refine lv_iconst (v := nI 0) S.1 S.2.1 d_M_digest_21 (by decide) ?_
  refine lv_istore S.1 S.2.1 d_M_digest_22 hl (by decide) rfl (fun ls hl => ?_)
  refine lv_iload S.1 S.2.1 d_M_digest_24 (lv_at hl 0 rfl) ?_
  refine lv_sipush (v := nI 256) S.1 S.2.1 d_M_digest_26 (by decide) ?_
  refine nb_ge S (by decide) (by decide) d_M_digest_29 rfl (fun h => absurd h (by decide)) (fun _ => ?_)
  refine lv_aload_n S.1 S.2.1 d_M_digest_32 rfl (lv_at hl 2 rfl) ?_
  refine m_gThr S hK hw.1 d_M_digest_33 ?_
  refine nz_ne S (x := 1) (by decide) d_M_digest_36 rfl (fun _ => ?_) (fun h => absurd h (by decide))
  refine lv_aload_n S.1 S.2.1 d_M_digest_90 rfl (lv_at hl 2 rfl) ?_
  refine m_gThr S hK hw.1 d_M_digest_91 ?_
  refine nz_le S (x := 1) (by decide) d_M_digest_94 rfl (fun h => absurd h (by decide)) (fun _ => ?_)
  refine lv_lconst (v := 0) S.1 S.2.1 d_M_digest_97 (by decide) ?_
  refine lv_goto S.1 S.2.1 d_M_digest_98 rfl ?_
  exact m_lret S hw rfl hr hlk d_M_digest_102
set_option maxHeartbeats 4000000 in
set_option maxRecDepth 100000 in
theorem c_M_digest (l : Launch) (G : gG) (b : mA) (u : mV) (mp : Nat → nMap) (n : Nat) (x : Nat) (hM : MR u mp n) (hx0 : x < n) : Met l y_M_digest (mw y_M_digest b_M_digest 5 (some .long)) (rmS 5 100) (mPc G b u [.int (nI x)]) (va_Ql (fun r u' => r = dg (mp x) 7 256 ∧ u' = xThr u 0) (fun u' t => mP G b u' t.heap) (inB b)) 0 0 (inB b) := by
  obtain ⟨rfl, hn1, h6, hrow, hnone⟩ := hM
  refine m_ofW (own := R_M) rfl rfl (fun p e s m args below meth c S hr hlk hx hnm hv => ?_)
  obtain ⟨hargs, hP, hD, hK⟩ := hv
  have hw := mS.start hP hD
  refine m_entryA [.ref (eH b), .int (nI x)] hargs (Nat.le_of_ble_eq_true rfl) (fun ls hl => ?_)
  have hl : lv_has ls 5 [(0, .ref (eH b)), (1, .int (nI x))] := hl
  have loop : ∀ d κ, 256 - κ = d → κ ≤ 256 → ∀ ls H locs, mS G b (inB b) s.heap (xThr u 0) H locs → lv_has ls 5 [(4, .int (nI κ)), (2, .long (dg (mp x) 7 κ)), (0, .ref (eH b)), (1, .int (nI x))] → W p l e (rmS 5 100) s m args below meth c H locs 0 0 (MQ below (va_Ql (fun r u' => r = dg (mp x) 7 256 ∧ u' = xThr u 0) (fun u' t => mP G b u' t.heap) (inB b)) args s 0 0 (inB b)) (F0 m 24 ls []) := by
    intro d
    induction d with
    | zero =>
      intro κ hd hκ ls H locs hw hl
      have hκ2 : κ = 256 := by omega
      subst hκ2
      refine lv_iload S.1 S.2.1 d_M_digest_24 (lv_at hl 0 rfl) ?_
      refine lv_sipush (v := nI 256) S.1 S.2.1 d_M_digest_26 (by decide) ?_
      refine nb_ge S (by omega) (by omega) d_M_digest_29 rfl (fun _ => ?_) (fun h => absurd h (by omega))
      refine lv_aload_n S.1 S.2.1 d_M_digest_90 rfl (lv_at hl 2 rfl) ?_
      refine m_gThr S hK hw.1 d_M_digest_91 ?_
      refine nz_le S (x := 0) (by decide) d_M_digest_94 rfl (fun _ => ?_) (fun h => absurd rfl h)
      refine lv_lload_n S.1 S.2.1 d_M_digest_101 rfl (lv_at hl 1 rfl) ?_
      exact m_lret S hw ⟨rfl, rfl⟩ hr hlk d_M_digest_102
    | succ d ih =>
      intro κ hd hκ ls H locs hw hl
      obtain ⟨hH, hV⟩ := hrow x hx0 κ (by omega)
      have hH2 := is1_lt (mp x κ)
      have k9 : ∀ ls, lv_has ls 5 [(4, .int (nI κ)), (2, .long (dg (mp x) 7 (κ + 1))), (0, .ref (eH b)), (1, .int (nI x))] → W p l e (rmS 5 100) s m args below meth c H locs 0 0 (MQ below (va_Ql (fun r u' => r = dg (mp x) 7 256 ∧ u' = xThr u 0) (fun u' t => mP G b u' t.heap) (inB b)) args s 0 0 (inB b)) (F0 m 84 ls []) := by
        intro ls hl
        refine lv_iinc (k := 0) (v := nI (κ + 1)) S.1 S.2.1 d_M_digest_84 hl rfl (by rw [lit1]; exact nI_1 κ) (by decide) rfl (fun ls hl => ?_)
        refine lv_goto S.1 S.2.1 d_M_digest_87 rfl ?_
        exact ih (κ + 1) (by omega) (by omega) ls H locs hw hl
      have hstep : dg (mp x) 7 (κ + 1) = ds κ (mp x κ) (dg (mp x) 7 κ) := rfl
      refine lv_iload S.1 S.2.1 d_M_digest_24 (lv_at hl 0 rfl) ?_
      refine lv_sipush (v := nI 256) S.1 S.2.1 d_M_digest_26 (by decide) ?_
      refine nb_ge S (by omega) (by omega) d_M_digest_29 rfl (fun h => absurd h (by omega)) (fun _ => ?_)
      refine lv_aload_n S.1 S.2.1 d_M_digest_32 rfl (lv_at hl 2 rfl) ?_
      refine m_gThr S hK hw.1 d_M_digest_33 ?_
      refine nz_ne S (x := 0) (by decide) d_M_digest_36 rfl (fun h => absurd rfl h) (fun _ => ?_)
      refine lv_aload_n S.1 S.2.1 d_M_digest_39 rfl (lv_at hl 2 rfl) ?_
      refine m_gH S hK hw.1 d_M_digest_40 ?_
      refine lv_sipush (v := nI 256) S.1 S.2.1 d_M_digest_43 (by decide) ?_
      refine lv_iload_n S.1 S.2.1 d_M_digest_46 rfl (lv_at hl 3 rfl) ?_
      refine n_imul S d_M_digest_47 ?_
      refine lv_iload S.1 S.2.1 d_M_digest_48 (lv_at hl 0 rfl) ?_
      refine n_iadd S d_M_digest_50 ?_
      refine m_iH S hK hw.1 (by omega) d_M_digest_51 ?_
      rw [show uH (xThr u 0) (256 * x + κ) = is1 (mp x κ) from hH]
      refine nz_eq S (by omega) d_M_digest_52 rfl (fun hq => ?_) (fun hq => ?_)
      · rw [is1_0.mp hq] at hstep
        have hstep : dg (mp x) 7 κ = dg (mp x) 7 (κ + 1) := hstep.symm
        rw [hstep] at hl
        exact k9 ls hl
      obtain ⟨zz, hzz⟩ : ∃ zz, mp x κ = some zz := by
        cases hz : mp x κ with
        | none => rw [hz] at hq; exact absurd rfl hq
        | some z => exact ⟨z, rfl⟩
      have hv := hV zz hzz
      have hstep : 31 * (31 * dg (mp x) 7 κ + (nI κ).toInt64) + (uV (xThr u 0) (256 * x + κ)).toInt64 = dg (mp x) 7 (κ + 1) := by
        rw [hstep, hzz]
        show _ + (uV u (256 * x + κ)).toInt64 = _
        rw [hv]; rfl
      refine lv_ldc2 S.1 S.2.1 S.2.2.2.1 (S.2.2.2.2 _ wq_M_38) d_M_digest_55 ?_
      refine lv_ldc2 S.1 S.2.1 S.2.2.2.1 (S.2.2.2.2 _ wq_M_38) d_M_digest_58 ?_
      refine lv_lload_n S.1 S.2.1 d_M_digest_61 rfl (lv_at hl 1 rfl) ?_
      refine lv_lmul S.1 S.2.1 d_M_digest_62 ?_
      refine lv_iload S.1 S.2.1 d_M_digest_63 (lv_at hl 0 rfl) ?_
      refine lv_i2l S.1 S.2.1 d_M_digest_65 rfl ?_
      refine lv_ladd S.1 S.2.1 d_M_digest_66 ?_
      refine lv_lmul S.1 S.2.1 d_M_digest_67 ?_
      refine lv_aload_n S.1 S.2.1 d_M_digest_68 rfl (lv_at hl 2 rfl) ?_
      refine m_gV S hK hw.1 d_M_digest_69 ?_
      refine lv_sipush (v := nI 256) S.1 S.2.1 d_M_digest_72 (by decide) ?_
      refine lv_iload_n S.1 S.2.1 d_M_digest_75 rfl (lv_at hl 3 rfl) ?_
      refine n_imul S d_M_digest_76 ?_
      refine lv_iload S.1 S.2.1 d_M_digest_77 (lv_at hl 0 rfl) ?_
      refine n_iadd S d_M_digest_79 ?_
      refine m_iV S hK hw.1 (by omega) d_M_digest_80 ?_
      refine lv_i2l S.1 S.2.1 d_M_digest_81 rfl ?_
      refine lv_ladd S.1 S.2.1 d_M_digest_82 ?_
      rw [hstep]
      refine lv_lstore_n S.1 S.2.1 d_M_digest_83 rfl hl (by decide) rfl (fun ls hl => ?_)
      exact k9 ls (lv_sub hl [1, 0, 2, 3] rfl)
  refine lv_aload_n S.1 S.2.1 d_M_digest_0 rfl (lv_at hl 0 rfl) ?_
  refine lv_aload_n S.1 S.2.1 d_M_digest_1 rfl (lv_at hl 0 rfl) ?_
  refine lv_iload_n S.1 S.2.1 d_M_digest_2 rfl (lv_at hl 1 rfl) ?_
  refine r_calli (mr_run S (m_pre hK hw.1 hw.2.1) k_M_isOne wi_M_isOne wv_M_M_isOne wL_M_25 (c_M_isOne_t l G b u x hx0 h6) (rm_ok (by omega) (by omega)) rfl hl.1 rfl (Nat.le_of_ble_eq_true rfl) d_M_digest_3 ⟨Nat.le_refl _, Nat.le_refl _⟩) (fun r hp => ?_)
  subst hp
  refine nz_eq S (by decide) d_M_digest_6 rfl (fun h => absurd h (by decide)) (fun _ => ?_)
  refine lv_iconst (v := nI 0) S.1 S.2.1 d_M_digest_9 (by decide) ?_
  refine lv_goto S.1 S.2.1 d_M_digest_10 rfl ?_
  refine m_pThr S hK hw d_M_digest_14 (fun H locs hw => ?_)
  refine lv_ldc2 S.1 S.2.1 S.2.2.2.1 (S.2.2.2.2 _ wq_M_36) d_M_digest_17 ?_
  refine lv_lstore_n S.1 S.2.1 d_M_digest_20 rfl hl (by decide) rfl (fun ls hl => ?_)
  refine lv_iconst (v := nI 0) S.1 S.2.1 d_M_digest_21 (by decide) ?_
  refine lv_istore S.1 S.2.1 d_M_digest_22 hl (by decide) rfl (fun ls hl => ?_)
  exact loop _ 0 rfl (by omega) ls _ _ hw hl
set_option maxHeartbeats 4000000 in
set_option maxRecDepth 100000 in
theorem c_M_differ_v (l : Launch) (G : gG) (b : mA) (u : mV) (y0 y1 : Int32) (hb : bad y0 (uVer u)) : Met l y_M_differ (mw y_M_differ b_M_differ 7 (some .int)) (rmS 5 100) (mPc G b u [.int y0, .int y1]) (va_Qi (fun _ u' => u' = xThr u 1) (fun u' t => mP G b u' t.heap) (inB b)) 0 0 (inB b) := by
  refine m_ofW (own := R_M) rfl rfl (fun p e s m args below meth c S hr hlk hx hnm hv => ?_)
  obtain ⟨rfl, hP, hD, hK⟩ := hv
  have hw := mS.start hP hD
  refine m_entry [.ref (eH b), .int y0, .int y1] (Nat.le_of_ble_eq_true rfl) (fun ls hl => ?_)
  have hl : lv_has ls 7 [(0, .ref (eH b)), (1, .int y0), (2, .int y1)] := hl
  refine lv_aload_n S.1 S.2.1 d_M_differ_0 rfl (lv_at hl 0 rfl) ?_
  refine lv_aload_n S.1 S.2.1 d_M_differ_1 rfl (lv_at hl 0 rfl) ?_
  refine lv_iload_n S.1 S.2.1 d_M_differ_2 rfl (lv_at hl 1 rfl) ?_
  refine r_calli (mr_run S (m_pre hK hw.1 hw.2.1) k_M_isOne wi_M_isOne wv_M_M_isOne wL_M_25 (c_M_isOne_f l G b u y0 hb) (rm_ok (by omega) (by omega)) rfl hl.1 rfl (Nat.le_of_ble_eq_true rfl) d_M_differ_3 ⟨Nat.le_refl _, Nat.le_refl _⟩) (fun r hp => ?_)
  subst hp
  refine nz_eq S (by decide) d_M_differ_6 rfl (fun _ => ?_) (fun h => absurd rfl h)
  refine lv_iconst (v := nI 1) S.1 S.2.1 d_M_differ_21 (by decide) ?_
  refine m_pThr S hK hw d_M_differ_22 (fun H locs hw => ?_)
  refine lv_iconst (v := nI 0) S.1 S.2.1 d_M_differ_25 (by decide) ?_
  refine lv_istore_n S.1 S.2.1 d_M_differ_26 rfl hl (by decide) rfl (fun ls hl => ?_)
  refine lv_iconst (v := nI 0) S.1 S.2.1 d_M_differ_27 (by decide) ?_
  refine lv_istore S.1 S.2.1 d_M_differ_28 hl (by decide) rfl (fun ls hl => ?_)
  refine lv_iload S.1 S.2.1 d_M_differ_30 (lv_at hl 0 rfl) ?_
  refine lv_sipush (v := nI 256) S.1 S.2.1 d_M_differ_32 (by decide) ?_
  refine nb_ge S (by decide) (by decide) d_M_differ_35 rfl (fun h => absurd h (by decide)) (fun _ => ?_)
  refine lv_aload_n S.1 S.2.1 d_M_differ_38 rfl (lv_at hl 2 rfl) ?_
  refine m_gThr S hK hw.1 d_M_differ_39 ?_
  refine nz_ne S (x := 1) (by decide) d_M_differ_42 rfl (fun _ => ?_) (fun h => absurd h (by decide))
  refine lv_iload_n S.1 S.2.1 d_M_differ_118 rfl (lv_at hl 1 rfl) ?_
  exact m_iret S hw rfl hr hlk d_M_differ_119
set_option maxHeartbeats 4000000 in
set_option maxRecDepth 100000 in
theorem c_M_differ_w (l : Launch) (G : gG) (b : mA) (u : mV) (x : Nat) (y1 : Int32) (hx0 : x < uVer u) (h6 : uVer u ≤ 600) (hb : bad y1 (uVer u)) : Met l y_M_differ (mw y_M_differ b_M_differ 7 (some .int)) (rmS 5 100) (mPc G b u [.int (nI x), .int y1]) (va_Qi (fun _ u' => u' = xThr u 1) (fun u' t => mP G b u' t.heap) (inB b)) 0 0 (inB b) := by
  refine m_ofW (own := R_M) rfl rfl (fun p e s m args below meth c S hr hlk hx hnm hv => ?_)
  obtain ⟨rfl, hP, hD, hK⟩ := hv
  have hw := mS.start hP hD
  refine m_entry [.ref (eH b), .int (nI x), .int y1] (Nat.le_of_ble_eq_true rfl) (fun ls hl => ?_)
  have hl : lv_has ls 7 [(0, .ref (eH b)), (1, .int (nI x)), (2, .int y1)] := hl
  refine lv_aload_n S.1 S.2.1 d_M_differ_0 rfl (lv_at hl 0 rfl) ?_
  refine lv_aload_n S.1 S.2.1 d_M_differ_1 rfl (lv_at hl 0 rfl) ?_
  refine lv_iload_n S.1 S.2.1 d_M_differ_2 rfl (lv_at hl 1 rfl) ?_
  refine r_calli (mr_run S (m_pre hK hw.1 hw.2.1) k_M_isOne wi_M_isOne wv_M_M_isOne wL_M_25 (c_M_isOne_t l G b u x hx0 h6) (rm_ok (by omega) (by omega)) rfl hl.1 rfl (Nat.le_of_ble_eq_true rfl) d_M_differ_3 ⟨Nat.le_refl _, Nat.le_refl _⟩) (fun r hp => ?_)
  subst hp
  refine nz_eq S (by decide) d_M_differ_6 rfl (fun h => absurd h (by decide)) (fun _ => ?_)
  refine lv_aload_n S.1 S.2.1 d_M_differ_9 rfl (lv_at hl 0 rfl) ?_
  refine lv_iload_n S.1 S.2.1 d_M_differ_10 rfl (lv_at hl 2 rfl) ?_
  refine r_calli (mr_run S (m_pre hK hw.1 hw.2.1) k_M_isOne wi_M_isOne wv_M_M_isOne wL_M_25 (c_M_isOne_f l G b u y1 hb) (rm_ok (by omega) (by omega)) rfl hl.1 rfl (Nat.le_of_ble_eq_true rfl) d_M_differ_11 ⟨Nat.le_refl _, Nat.le_refl _⟩) (fun r hp => ?_)
  subst hp
  refine nz_eq S (by decide) d_M_differ_14 rfl (fun _ => ?_) (fun h => absurd rfl h)
  refine lv_iconst (v := nI 1) S.1 S.2.1 d_M_differ_21 (by decide) ?_
  refine m_pThr S hK hw d_M_differ_22 (fun H locs hw => ?_)
  refine lv_iconst (v := nI 0) S.1 S.2.1 d_M_differ_25 (by decide) ?_
  refine lv_istore_n S.1 S.2.1 d_M_differ_26 rfl hl (by decide) rfl (fun ls hl => ?_)
  refine lv_iconst (v := nI 0) S.1 S.2.1 d_M_differ_27 (by decide) ?_
  refine lv_istore S.1 S.2.1 d_M_differ_28 hl (by decide) rfl (fun ls hl => ?_)
  refine lv_iload S.1 S.2.1 d_M_differ_30 (lv_at hl 0 rfl) ?_
  refine lv_sipush (v := nI 256) S.1 S.2.1 d_M_differ_32 (by decide) ?_
  refine nb_ge S (by decide) (by decide) d_M_differ_35 rfl (fun h => absurd h (by decide)) (fun _ => ?_)
  refine lv_aload_n S.1 S.2.1 d_M_differ_38 rfl (lv_at hl 2 rfl) ?_
  refine m_gThr S hK hw.1 d_M_differ_39 ?_
  refine nz_ne S (x := 1) (by decide) d_M_differ_42 rfl (fun _ => ?_) (fun h => absurd h (by decide))
  refine lv_iload_n S.1 S.2.1 d_M_differ_118 rfl (lv_at hl 1 rfl) ?_
  exact m_iret S hw rfl hr hlk d_M_differ_119
set_option maxHeartbeats 4000000 in
set_option maxRecDepth 100000 in
theorem c_M_differ (l : Launch) (G : gG) (b : mA) (u : mV) (mp : Nat → nMap) (n : Nat) (x w : Nat) (hM : MR u mp n) (hx0 : x < n) (hw0 : w < n) : Met l y_M_differ (mw y_M_differ b_M_differ 7 (some .int)) (rmS 5 100) (mPc G b u [.int (nI x), .int (nI w)]) (va_Qi (fun r u' => r = nI (df (mp x) (mp w) 256) ∧ u' = xThr u 0) (fun u' t => mP G b u' t.heap) (inB b)) 0 0 (inB b) := by
  obtain ⟨rfl, hn1, h6, hrow, hnone⟩ := hM
  refine m_ofW (own := R_M) rfl rfl (fun p e s m args below meth c S hr hlk hx hnm hv => ?_)
  obtain ⟨hargs, hP, hD, hK⟩ := hv
  have hw := mS.start hP hD
  refine m_entryA [.ref (eH b), .int (nI x), .int (nI w)] hargs (Nat.le_of_ble_eq_true rfl) (fun ls hl => ?_)
  have hl : lv_has ls 7 [(0, .ref (eH b)), (1, .int (nI x)), (2, .int (nI w))] := hl
  have loop : ∀ d κ, 256 - κ = d → κ ≤ 256 → ∀ ls H locs, mS G b (inB b) s.heap (xThr u 0) H locs → lv_has ls 7 [(4, .int (nI κ)), (3, .int (nI (df (mp x) (mp w) κ))), (0, .ref (eH b)), (1, .int (nI x)), (2, .int (nI w))] → W p l e (rmS 5 100) s m args below meth c H locs 0 0 (MQ below (va_Qi (fun r u' => r = nI (df (mp x) (mp w) 256) ∧ u' = xThr u 0) (fun u' t => mP G b u' t.heap) (inB b)) args s 0 0 (inB b)) (F0 m 30 ls []) := by
    intro d
    induction d with
    | zero =>
      intro κ hd hκ ls H locs hw hl
      have hκ2 : κ = 256 := by omega
      subst hκ2
      refine lv_iload S.1 S.2.1 d_M_differ_30 (lv_at hl 0 rfl) ?_
      refine lv_sipush (v := nI 256) S.1 S.2.1 d_M_differ_32 (by decide) ?_
      refine nb_ge S (by omega) (by omega) d_M_differ_35 rfl (fun _ => ?_) (fun h => absurd h (by omega))
      refine lv_iload_n S.1 S.2.1 d_M_differ_118 rfl (lv_at hl 1 rfl) ?_
      exact m_iret S hw ⟨rfl, rfl⟩ hr hlk d_M_differ_119
    | succ d ih =>
      intro κ hd hκ ls H locs hw hl
      obtain ⟨hHx, hVx⟩ := hrow x hx0 κ (by omega)
      obtain ⟨hHw, hVw⟩ := hrow w hw0 κ (by omega)
      have hHx2 := is1_lt (mp x κ)
      have hHw2 := is1_lt (mp w κ)
      have hstep : df (mp x) (mp w) (κ + 1) = df (mp x) (mp w) κ + ne1 (mp x κ) (mp w κ) := rfl
      refine lv_iload S.1 S.2.1 d_M_differ_30 (lv_at hl 0 rfl) ?_
      refine lv_sipush (v := nI 256) S.1 S.2.1 d_M_differ_32 (by decide) ?_
      refine nb_ge S (by omega) (by omega) d_M_differ_35 rfl (fun h => absurd h (by omega)) (fun _ => ?_)
      refine lv_aload_n S.1 S.2.1 d_M_differ_38 rfl (lv_at hl 2 rfl) ?_
      refine m_gThr S hK hw.1 d_M_differ_39 ?_
      refine nz_ne S (x := 0) (by decide) d_M_differ_42 rfl (fun h => absurd rfl h) (fun _ => ?_)
      refine lv_sipush (v := nI 256) S.1 S.2.1 d_M_differ_45 (by decide) ?_
      refine lv_iload_n S.1 S.2.1 d_M_differ_48 rfl (lv_at hl 3 rfl) ?_
      refine n_imul S d_M_differ_49 ?_
      refine lv_iload S.1 S.2.1 d_M_differ_50 (lv_at hl 0 rfl) ?_
      refine n_iadd S d_M_differ_52 ?_
      refine lv_istore S.1 S.2.1 d_M_differ_53 hl (by decide) rfl (fun ls hl => ?_)
      refine lv_sipush (v := nI 256) S.1 S.2.1 d_M_differ_55 (by decide) ?_
      refine lv_iload_n S.1 S.2.1 d_M_differ_58 rfl (lv_at hl 5 rfl) ?_
      refine n_imul S d_M_differ_59 ?_
      refine lv_iload S.1 S.2.1 d_M_differ_60 (lv_at hl 1 rfl) ?_
      refine n_iadd S d_M_differ_62 ?_
      refine lv_istore S.1 S.2.1 d_M_differ_63 hl (by decide) rfl (fun ls hl => ?_)
      refine lv_aload_n S.1 S.2.1 d_M_differ_65 rfl (lv_at hl 4 rfl) ?_
      refine m_gH S hK hw.1 d_M_differ_66 ?_
      refine lv_iload S.1 S.2.1 d_M_differ_69 (lv_at hl 1 rfl) ?_
      refine m_iH S hK hw.1 (by omega) d_M_differ_71 ?_
      refine lv_aload_n S.1 S.2.1 d_M_differ_72 rfl (lv_at hl 4 rfl) ?_
      refine m_gH S hK hw.1 d_M_differ_73 ?_
      refine lv_iload S.1 S.2.1 d_M_differ_76 (lv_at hl 0 rfl) ?_
      refine m_iH S hK hw.1 (by omega) d_M_differ_78 ?_
      have same : mp x κ = mp w κ → W p l e (rmS 5 100) s m args below meth c H locs 0 0 (MQ below (va_Qi (fun r u' => r = nI (df (mp x) (mp w) 256) ∧ u' = xThr u 0) (fun u' t => mP G b u' t.heap) (inB b)) args s 0 0 (inB b)) (F0 m 112 ls []) := by
        intro he
        have hstep : df (mp x) (mp w) κ = df (mp x) (mp w) (κ + 1) := by rw [hstep, he, ne1_self]; rfl
        refine lv_iinc (k := 2) (v := nI (κ + 1)) S.1 S.2.1 d_M_differ_112 hl rfl (by rw [lit1]; exact nI_1 κ) (by decide) rfl (fun ls hl => ?_)
        refine lv_goto S.1 S.2.1 d_M_differ_115 rfl ?_
        rw [hstep] at hl
        exact ih (κ + 1) (by omega) (by omega) ls H locs hw (lv_sub hl [0, 3, 4, 5, 6] rfl)
      have other : mp x κ ≠ mp w κ → W p l e (rmS 5 100) s m args below meth c H locs 0 0 (MQ below (va_Qi (fun r u' => r = nI (df (mp x) (mp w) 256) ∧ u' = xThr u 0) (fun u' t => mP G b u' t.heap) (inB b)) args s 0 0 (inB b)) (F0 m 109 ls []) := by
        intro he
        rw [show ne1 (mp x κ) (mp w κ) = 1 from if_neg he] at hstep
        refine lv_iinc (k := 3) (v := nI (df (mp x) (mp w) κ + 1)) S.1 S.2.1 d_M_differ_109 hl rfl (by rw [lit1]; exact nI_1 _) (by decide) rfl (fun ls hl => ?_)
        rw [← hstep] at hl
        refine lv_iinc (k := 3) (v := nI (κ + 1)) S.1 S.2.1 d_M_differ_112 hl rfl (by rw [lit1]; exact nI_1 κ) (by decide) rfl (fun ls hl => ?_)
        refine lv_goto S.1 S.2.1 d_M_differ_115 rfl ?_
        exact ih (κ + 1) (by omega) (by omega) ls H locs hw (lv_sub hl [0, 1, 4, 5, 6] rfl)
      rw [show uH (xThr u 0) (256 * x + κ) = is1 (mp x κ) from hHx, show uH (xThr u 0) (256 * w + κ) = is1 (mp w κ) from hHw]
      refine nb_ne S (by omega) (by omega) d_M_differ_79 rfl (fun hq => other (fun z => hq (by rw [z]))) (fun hq => ?_)
      refine lv_aload_n S.1 S.2.1 d_M_differ_82 rfl (lv_at hl 4 rfl) ?_
      refine m_gH S hK hw.1 d_M_differ_83 ?_
      refine lv_iload S.1 S.2.1 d_M_differ_86 (lv_at hl 1 rfl) ?_
      refine m_iH S hK hw.1 (by omega) d_M_differ_88 ?_
      rw [show uH (xThr u 0) (256 * x + κ) = is1 (mp x κ) from hHx]
      refine nz_eq S (by omega) d_M_differ_89 rfl (fun h0 => same ?_) (fun h0 => ?_)
      · rw [is1_0.mp h0, is1_0.mp (hq.symm.trans h0)]
      obtain ⟨zx, hzx⟩ : ∃ zz, mp x κ = some zz := by
        cases hz : mp x κ with
        | none => rw [hz] at h0; exact absurd rfl h0
        | some z => exact ⟨z, rfl⟩
      obtain ⟨zw, hzw⟩ : ∃ zz, mp w κ = some zz := by
        cases hz : mp w κ with
        | none => rw [hq, hz] at h0; exact absurd rfl h0
        | some z => exact ⟨z, rfl⟩
      refine lv_aload_n S.1 S.2.1 d_M_differ_92 rfl (lv_at hl 4 rfl) ?_
      refine m_gV S hK hw.1 d_M_differ_93 ?_
      refine lv_iload S.1 S.2.1 d_M_differ_96 (lv_at hl 1 rfl) ?_
      refine m_iV S hK hw.1 (by omega) d_M_differ_98 ?_
      refine lv_aload_n S.1 S.2.1 d_M_differ_99 rfl (lv_at hl 4 rfl) ?_
      refine m_gV S hK hw.1 d_M_differ_100 ?_
      refine lv_iload S.1 S.2.1 d_M_differ_103 (lv_at hl 0 rfl) ?_
      refine m_iV S hK hw.1 (by omega) d_M_differ_105 ?_
      rw [show uV (xThr u 0) (256 * x + κ) = zx from hVx zx hzx, show uV (xThr u 0) (256 * w + κ) = zw from hVw zw hzw]
      refine lv_icmp_eq S.1 S.2.1 d_M_differ_106 rfl (fun h => same (by rw [hzx, hzw, h])) (fun h => other (fun z => h ?_))
      rw [hzx, hzw] at z
      exact Option.some.inj z
  refine lv_aload_n S.1 S.2.1 d_M_differ_0 rfl (lv_at hl 0 rfl) ?_
  refine lv_aload_n S.1 S.2.1 d_M_differ_1 rfl (lv_at hl 0 rfl) ?_
  refine lv_iload_n S.1 S.2.1 d_M_differ_2 rfl (lv_at hl 1 rfl) ?_
  refine r_calli (mr_run S (m_pre hK hw.1 hw.2.1) k_M_isOne wi_M_isOne wv_M_M_isOne wL_M_25 (c_M_isOne_t l G b u x hx0 h6) (rm_ok (by omega) (by omega)) rfl hl.1 rfl (Nat.le_of_ble_eq_true rfl) d_M_differ_3 ⟨Nat.le_refl _, Nat.le_refl _⟩) (fun r hp => ?_)
  subst hp
  refine nz_eq S (by decide) d_M_differ_6 rfl (fun h => absurd h (by decide)) (fun _ => ?_)
  refine lv_aload_n S.1 S.2.1 d_M_differ_9 rfl (lv_at hl 0 rfl) ?_
  refine lv_iload_n S.1 S.2.1 d_M_differ_10 rfl (lv_at hl 2 rfl) ?_
  refine r_calli (mr_run S (m_pre hK hw.1 hw.2.1) k_M_isOne wi_M_isOne wv_M_M_isOne wL_M_25 (c_M_isOne_t l G b u w hw0 h6) (rm_ok (by omega) (by omega)) rfl hl.1 rfl (Nat.le_of_ble_eq_true rfl) d_M_differ_11 ⟨Nat.le_refl _, Nat.le_refl _⟩) (fun r hp => ?_)
  subst hp
  refine nz_eq S (by decide) d_M_differ_14 rfl (fun h => absurd h (by decide)) (fun _ => ?_)
  refine lv_iconst (v := nI 0) S.1 S.2.1 d_M_differ_17 (by decide) ?_
  refine lv_goto S.1 S.2.1 d_M_differ_18 rfl ?_
  refine m_pThr S hK hw d_M_differ_22 (fun H locs hw => ?_)
  refine lv_iconst (v := nI 0) S.1 S.2.1 d_M_differ_25 (by decide) ?_
  refine lv_istore_n S.1 S.2.1 d_M_differ_26 rfl hl (by decide) rfl (fun ls hl => ?_)
  refine lv_iconst (v := nI 0) S.1 S.2.1 d_M_differ_27 (by decide) ?_
  refine lv_istore S.1 S.2.1 d_M_differ_28 hl (by decide) rfl (fun ls hl => ?_)
  exact loop _ 0 rfl (by omega) ls _ _ hw hl
end
section
theorem ra_inj {s : State} {c1 c2 : ClassId} {ty : FieldType} (hp : ∀ C, ty ≠ .object C) (h1 : va_RA s c1 ty) (h2 : va_RA s c2 ty) : c1 = c2 := by
  cases ty with
  | object C => exact absurd rfl (hp C)
  | _ => exact Option.some.inj (Eq.trans (Eq.symm h1) h2)
section GN
variable {p : Program} {l : Launch} {e : Env} {R : Room} {s : State} {m : MethodId} {args : Array Value} {below : List Frame} {meth : Method} {c : Code} {H : Heap} {locs : List Loc} {cells slots : Nat} {Q : State → Prop}
variable {cc : ByteArray} {nL : Nat} {pc : Nat} {ls : Array Slot} {rest : List Value} {own : String} {G : gG} {A : Nat → Prop} {H0 : Heap} {ws : va_W}
theorem g_newa (S : CallFix p m c cc nL s args lw_t own) (hK : gK G s) {atype : ArrayType} (hwd : Cond.arrayClass (newarray.typeOf atype) ∈ lw_t) {ty : FieldType} (hty : newarray.typeOf atype = ty) (hpr : ∀ C, ty ≠ .object C) {cA : ClassId} (t0 : Nat) (ht : (gTys G)[t0]? = some (cA, ty)) (hP : va_P G.1 cls2 ws H) (hD : va_D A ws) (hS : va_S A H0 H locs) (hA : ∀ q, H0.size ≤ q → A q)
    {n : Int32} {N' : Nat} {a0 : vp_A} (ha : ∀ cA : ClassId, vp_cell cA a0 = arrV cA N' (fun _ => defaultValue ty)) (hn : ¬ n < 0) (hN : n.toNatClampNeg = N') (hbytes : N' * componentBytes ty ≤ 536870912) (hcells : cells + 1 ≤ R.cells) (hslots : slots + N' ≤ R.slots) (hdg : decode cc pc = .ok (.newarray atype, 2))
    (kk : ∀ (q : Nat) (H1 : Heap), va_P G.1 cls2 (ws ++ [(q, .inl (cA, a0))]) H1 → va_D A (ws ++ [(q, .inl (cA, a0))]) → va_S A H0 H1 locs → W p l e R s m args below meth c H1 locs (cells + 1) (slots + N') Q (F0 m (pc + 2) ls (.ref q :: rest))) : W p l e R s m args below meth c H locs cells slots Q (F0 m pc ls (.int n :: rest)) := by
  refine va_newa S.1 S.2.1 (S.2.2.2.2 _ hwd) hty hK hP hD hS hA ha hn hN hbytes hcells hslots hdg (fun q cA' H1 hK' hP' hD' hS' => ?_)
  have h1 := (hK'.2 4 (cA', ty) rfl).2
  have h2 := (hK.2 t0 _ ht).2
  have he := ra_inj hpr h1 h2
  subst he
  exact kk q H1 hP' hD' hS'
end GN
def f0T : List Value := [.null, .int (nI 0), .null, .null, .null, .null, .null, .null, .int (nI 0), .int (nI 0), .long 0]
def f0M : List Value := [.null, .null, .int (nI 0), .int (nI 0)]
def v0T : tV := ((1, 1, 0, 0), fun _ => 0, fun _ => 0, fun _ => 0, fun _ => 0, fun _ => 0, fun _ => 0, fun _ => 0)
def u0M : mV := ((1, 0), fun _ => 0, fun _ => 0)
def iPc (G : gG) (h0 sz ci : Nat) (fs : List Value) : Array Value → State → Prop := fun u U => u = ([.ref h0] : List Value).toArray ∧ U.heap.size = sz ∧ va_P G.1 cls2 [(h0, .inr (ci, fs))] U.heap ∧ gK G U
theorem iPc.blind {G : gG} {h0 sz ci : Nat} {fs : List Value} : FrameBlind (iPc G h0 sz ci fs) := fun _ U g mk q => ⟨q.1, q.2.1, q.2.2.1, q.2.2.2.moved (u := U) (U := U.calling g mk _) (Vm.Alike.refl U.vm)⟩
theorem d1 {A : Nat → Prop} {q : Nat × va_E} (h : A q.1) : va_D A [q] := by
  refine ⟨fun i j x y hi hj _ => ?_, fun k x hk => ?_⟩
  · have h1 : i < 1 := (List.getElem?_eq_some_iff.mp hi).1
    have h2 : j < 1 := (List.getElem?_eq_some_iff.mp hj).1
    omega
  · have h1 : k < 1 := (List.getElem?_eq_some_iff.mp hk).1
    rw [show k = 0 by omega] at hk
    cases hk
    exact h
set_option maxHeartbeats 4000000 in
set_option maxRecDepth 100000 in
/-- MeldTree() -/
theorem c_T_init (l : Launch) (G : gG) (h0 sz : Nat) : Met l y_T_init (mw y_T_init b_T_init 1 none) ({ frames := 1, cells := 7, slots := 480600, locals := 12 }) (iPc G h0 sz 0 f0T) (va_Qv (fun a : tA => aH a = h0) (fun a t => tP G a v0T t.heap ∧ tD a (va_A [(h0, .inr (0, f0T))] sz)) (va_A [(h0, .inr (0, f0T))] sz)) 7 480600 (va_A [(h0, .inr (0, f0T))] sz) := by
  refine m_ofW (own := R_T) rfl rfl (fun p e s m args below meth c S hr hlk hx hnm hv => ?_)
  obtain ⟨rfl, hsz, hP, hK⟩ := hv
  subst hsz
  have hD : va_D (va_A [(h0, .inr (0, f0T))] s.heap.size) [(h0, .inr (0, f0T))] := d1 (Or.inl ⟨0, _, rfl⟩)
  generalize hAe : va_A [(h0, .inr (0, f0T))] s.heap.size = A at hD ⊢
  have hA : ∀ q : Nat, s.heap.size ≤ q → A q := fun q h => by rw [← hAe]; exact Or.inr h
  have hS : va_S A s.heap s.heap [] := va_S.rf
  have hP : va_P G.1 cls2 [(h0, .inr (0, [.null, .int (nI 0), .null, .null, .null, .null, .null, .null, .int (nI 0), .int (nI 0), .long 0]))] s.heap := hP
  have hD : va_D A [(h0, .inr (0, [.null, .int (nI 0), .null, .null, .null, .null, .null, .null, .int (nI 0), .int (nI 0), .long 0]))] := hD
  refine m_entry [.ref h0] (Nat.le_of_ble_eq_true rfl) (fun ls hl => ?_)
  have hl : lv_has ls 1 [(0, .ref h0)] := hl
  refine lv_aload_n S.1 S.2.1 d_T_init_0 rfl (lv_at hl 0 rfl) ?_
  refine W.objInit S.1 S.2.1 S.2.2.2.1 (S.2.2.2.2 _ wL_T_1) (S.2.2.2.2 _ wi_O_init) (S.2.2.2.2 _ wc_O_init) rfl (by rw [S.2.2.1]; exact hl.1) rfl d_T_init_1 (Nat.le_of_ble_eq_true rfl) (Nat.le_of_ble_eq_true rfl) ?_
  refine W.eq (g2 := F0 m 4 ls []) rfl ?_
  refine lv_aload_n S.1 S.2.1 d_T_init_4 rfl (lv_at hl 0 rfl) ?_
  refine lv_sipush (v := nI 600) S.1 S.2.1 d_T_init_5 (by decide) ?_
  refine g_newa (atype := .int) S hK wA_int (ty := .int) rfl (fun C h => by cases h) 0 (cA := G.2.1) rfl hP hD hS hA (a0 := (600, .inl (fun _ => nI 0))) (N' := 600) (fun cA => by rw [vp_cell_i, nI_0]; rfl) (nI_pos (by decide)) (nI_clamp (by decide)) (by decide) (Nat.le_of_ble_eq_true rfl) (Nat.le_of_ble_eq_true rfl) d_T_init_8 (fun q8 H hP hD hS => ?_)
  have hP : va_P G.1 cls2 [(h0, .inr (0, [.null, .int (nI 0), .null, .null, .null, .null, .null, .null, .int (nI 0), .int (nI 0), .long 0])), (q8, .inl (G.2.1, (600, .inl (fun _ => nI 0))))] H := hP
  have hD : va_D A [(h0, .inr (0, [.null, .int (nI 0), .null, .null, .null, .null, .null, .null, .int (nI 0), .int (nI 0), .long 0])), (q8, .inl (G.2.1, (600, .inl (fun _ => nI 0))))] := hD
  refine W.widen (k := 1) (n := 600) (Nat.le_of_ble_eq_true rfl) (Nat.le_of_ble_eq_true rfl) ?_
  refine va_putF (D := G.1) (ci := 0) (v := .ref q8) (ty := .array .int) (C := R_T) (T := F_T) (N := 11) S.1 S.2.1 S.2.2.2.2 u_T_in ty_T ty_T_ok n_T S.2.2.2.1 hK hP hD hS 0 rfl rfl 0 (by decide) (S.2.2.2.2 _ wF_T_7) (fun _ h9 => h9) rfl hnm rfl (by decide +kernel) rfl rfl (Nat.le_of_ble_eq_true rfl) d_T_init_10 (fun H locs hP hD hS => ?_)
  have hP : va_P G.1 cls2 [(h0, .inr (0, [.ref q8, .int (nI 0), .null, .null, .null, .null, .null, .null, .int (nI 0), .int (nI 0), .long 0])), (q8, .inl (G.2.1, (600, .inl (fun _ => nI 0))))] H := hP
  have hD : va_D A [(h0, .inr (0, [.ref q8, .int (nI 0), .null, .null, .null, .null, .null, .null, .int (nI 0), .int (nI 0), .long 0])), (q8, .inl (G.2.1, (600, .inl (fun _ => nI 0))))] := hD
  refine lv_aload_n S.1 S.2.1 d_T_init_13 rfl (lv_at hl 0 rfl) ?_
  refine lv_iconst (v := nI 1) S.1 S.2.1 d_T_init_14 (by decide) ?_
  refine va_put (D := G.1) (ci := 0) (v := .int (nI 1)) (ty := .int) (C := R_T) (T := F_T) (N := 11) S.1 S.2.1 S.2.2.2.2 u_T_in ty_T ty_T_ok n_T S.2.2.2.1 hK hP hD hS 0 rfl rfl 1 (by decide) (S.2.2.2.2 _ wF_T_13) (fun _ h9 => h9) rfl (by decide +kernel) rfl rfl (Nat.le_of_ble_eq_true rfl) d_T_init_15 (fun H locs hP hD hS => ?_)
  have hP : va_P G.1 cls2 [(h0, .inr (0, [.ref q8, .int (nI 1), .null, .null, .null, .null, .null, .null, .int (nI 0), .int (nI 0), .long 0])), (q8, .inl (G.2.1, (600, .inl (fun _ => nI 0))))] H := hP
  have hD : va_D A [(h0, .inr (0, [.ref q8, .int (nI 1), .null, .null, .null, .null, .null, .null, .int (nI 0), .int (nI 0), .long 0])), (q8, .inl (G.2.1, (600, .inl (fun _ => nI 0))))] := hD
  refine lv_aload_n S.1 S.2.1 d_T_init_18 rfl (lv_at hl 0 rfl) ?_
  refine lv_ldc S.1 S.2.1 S.2.2.2.1 (S.2.2.2.2 _ wq_T_17) d_T_init_19 ?_
  refine g_newa (atype := .int) S hK wA_int (ty := .int) rfl (fun C h => by cases h) 0 (cA := G.2.1) rfl hP hD hS hA (a0 := (80000, .inl (fun _ => nI 0))) (N' := 80000) (fun cA => by rw [vp_cell_i, nI_0]; rfl) (by decide) (by decide) (by decide) (Nat.le_of_ble_eq_true rfl) (Nat.le_of_ble_eq_true rfl) d_T_init_21 (fun q21 H hP hD hS => ?_)
  have hP : va_P G.1 cls2 [(h0, .inr (0, [.ref q8, .int (nI 1), .null, .null, .null, .null, .null, .null, .int (nI 0), .int (nI 0), .long 0])), (q8, .inl (G.2.1, (600, .inl (fun _ => nI 0)))), (q21, .inl (G.2.1, (80000, .inl (fun _ => nI 0))))] H := hP
  have hD : va_D A [(h0, .inr (0, [.ref q8, .int (nI 1), .null, .null, .null, .null, .null, .null, .int (nI 0), .int (nI 0), .long 0])), (q8, .inl (G.2.1, (600, .inl (fun _ => nI 0)))), (q21, .inl (G.2.1, (80000, .inl (fun _ => nI 0))))] := hD
  refine W.widen (k := 2) (n := 80600) (Nat.le_of_ble_eq_true rfl) (Nat.le_of_ble_eq_true rfl) ?_
  refine va_putF (D := G.1) (ci := 0) (v := .ref q21) (ty := .array .int) (C := R_T) (T := F_T) (N := 11) S.1 S.2.1 S.2.2.2.2 u_T_in ty_T ty_T_ok n_T S.2.2.2.1 hK hP hD hS 0 rfl rfl 2 (by decide) (S.2.2.2.2 _ wF_T_18) (fun _ h9 => h9) rfl hnm rfl (by decide +kernel) rfl rfl (Nat.le_of_ble_eq_true rfl) d_T_init_23 (fun H locs hP hD hS => ?_)
  have hP : va_P G.1 cls2 [(h0, .inr (0, [.ref q8, .int (nI 1), .ref q21, .null, .null, .null, .null, .null, .int (nI 0), .int (nI 0), .long 0])), (q8, .inl (G.2.1, (600, .inl (fun _ => nI 0)))), (q21, .inl (G.2.1, (80000, .inl (fun _ => nI 0))))] H := hP
  have hD : va_D A [(h0, .inr (0, [.ref q8, .int (nI 1), .ref q21, .null, .null, .null, .null, .null, .int (nI 0), .int (nI 0), .long 0])), (q8, .inl (G.2.1, (600, .inl (fun _ => nI 0)))), (q21, .inl (G.2.1, (80000, .inl (fun _ => nI 0))))] := hD
  refine lv_aload_n S.1 S.2.1 d_T_init_26 rfl (lv_at hl 0 rfl) ?_
  refine lv_ldc S.1 S.2.1 S.2.2.2.1 (S.2.2.2.2 _ wq_T_17) d_T_init_27 ?_
  refine g_newa (atype := .int) S hK wA_int (ty := .int) rfl (fun C h => by cases h) 0 (cA := G.2.1) rfl hP hD hS hA (a0 := (80000, .inl (fun _ => nI 0))) (N' := 80000) (fun cA => by rw [vp_cell_i, nI_0]; rfl) (by decide) (by decide) (by decide) (Nat.le_of_ble_eq_true rfl) (Nat.le_of_ble_eq_true rfl) d_T_init_29 (fun q29 H hP hD hS => ?_)
  have hP : va_P G.1 cls2 [(h0, .inr (0, [.ref q8, .int (nI 1), .ref q21, .null, .null, .null, .null, .null, .int (nI 0), .int (nI 0), .long 0])), (q8, .inl (G.2.1, (600, .inl (fun _ => nI 0)))), (q21, .inl (G.2.1, (80000, .inl (fun _ => nI 0)))), (q29, .inl (G.2.1, (80000, .inl (fun _ => nI 0))))] H := hP
  have hD : va_D A [(h0, .inr (0, [.ref q8, .int (nI 1), .ref q21, .null, .null, .null, .null, .null, .int (nI 0), .int (nI 0), .long 0])), (q8, .inl (G.2.1, (600, .inl (fun _ => nI 0)))), (q21, .inl (G.2.1, (80000, .inl (fun _ => nI 0)))), (q29, .inl (G.2.1, (80000, .inl (fun _ => nI 0))))] := hD
  refine W.widen (k := 3) (n := 160600) (Nat.le_of_ble_eq_true rfl) (Nat.le_of_ble_eq_true rfl) ?_
  refine va_putF (D := G.1) (ci := 0) (v := .ref q29) (ty := .array .int) (C := R_T) (T := F_T) (N := 11) S.1 S.2.1 S.2.2.2.2 u_T_in ty_T ty_T_ok n_T S.2.2.2.1 hK hP hD hS 0 rfl rfl 3 (by decide) (S.2.2.2.2 _ wF_T_21) (fun _ h9 => h9) rfl hnm rfl (by decide +kernel) rfl rfl (Nat.le_of_ble_eq_true rfl) d_T_init_31 (fun H locs hP hD hS => ?_)
  have hP : va_P G.1 cls2 [(h0, .inr (0, [.ref q8, .int (nI 1), .ref q21, .ref q29, .null, .null, .null, .null, .int (nI 0), .int (nI 0), .long 0])), (q8, .inl (G.2.1, (600, .inl (fun _ => nI 0)))), (q21, .inl (G.2.1, (80000, .inl (fun _ => nI 0)))), (q29, .inl (G.2.1, (80000, .inl (fun _ => nI 0))))] H := hP
  have hD : va_D A [(h0, .inr (0, [.ref q8, .int (nI 1), .ref q21, .ref q29, .null, .null, .null, .null, .int (nI 0), .int (nI 0), .long 0])), (q8, .inl (G.2.1, (600, .inl (fun _ => nI 0)))), (q21, .inl (G.2.1, (80000, .inl (fun _ => nI 0)))), (q29, .inl (G.2.1, (80000, .inl (fun _ => nI 0))))] := hD
  refine lv_aload_n S.1 S.2.1 d_T_init_34 rfl (lv_at hl 0 rfl) ?_
  refine lv_ldc S.1 S.2.1 S.2.2.2.1 (S.2.2.2.2 _ wq_T_17) d_T_init_35 ?_
  refine g_newa (atype := .short) S hK wA_short (ty := .short) rfl (fun C h => by cases h) 1 (cA := G.2.2.1) rfl hP hD hS hA (a0 := (80000, .inl (fun _ => nI 0))) (N' := 80000) (fun cA => by rw [vp_cell_i, nI_0]; rfl) (by decide) (by decide) (by decide) (Nat.le_of_ble_eq_true rfl) (Nat.le_of_ble_eq_true rfl) d_T_init_37 (fun q37 H hP hD hS => ?_)
  have hP : va_P G.1 cls2 [(h0, .inr (0, [.ref q8, .int (nI 1), .ref q21, .ref q29, .null, .null, .null, .null, .int (nI 0), .int (nI 0), .long 0])), (q8, .inl (G.2.1, (600, .inl (fun _ => nI 0)))), (q21, .inl (G.2.1, (80000, .inl (fun _ => nI 0)))), (q29, .inl (G.2.1, (80000, .inl (fun _ => nI 0)))), (q37, .inl (G.2.2.1, (80000, .inl (fun _ => nI 0))))] H := hP
  have hD : va_D A [(h0, .inr (0, [.ref q8, .int (nI 1), .ref q21, .ref q29, .null, .null, .null, .null, .int (nI 0), .int (nI 0), .long 0])), (q8, .inl (G.2.1, (600, .inl (fun _ => nI 0)))), (q21, .inl (G.2.1, (80000, .inl (fun _ => nI 0)))), (q29, .inl (G.2.1, (80000, .inl (fun _ => nI 0)))), (q37, .inl (G.2.2.1, (80000, .inl (fun _ => nI 0))))] := hD
  refine W.widen (k := 4) (n := 240600) (Nat.le_of_ble_eq_true rfl) (Nat.le_of_ble_eq_true rfl) ?_
  refine va_putF (D := G.1) (ci := 0) (v := .ref q37) (ty := .array .short) (C := R_T) (T := F_T) (N := 11) S.1 S.2.1 S.2.2.2.2 u_T_in ty_T ty_T_ok n_T S.2.2.2.1 hK hP hD hS 0 rfl rfl 4 (by decide) (S.2.2.2.2 _ wF_T_24) (fun _ h9 => h9) rfl hnm rfl (by decide +kernel) rfl rfl (Nat.le_of_ble_eq_true rfl) d_T_init_39 (fun H locs hP hD hS => ?_)
  have hP : va_P G.1 cls2 [(h0, .inr (0, [.ref q8, .int (nI 1), .ref q21, .ref q29, .ref q37, .null, .null, .null, .int (nI 0), .int (nI 0), .long 0])), (q8, .inl (G.2.1, (600, .inl (fun _ => nI 0)))), (q21, .inl (G.2.1, (80000, .inl (fun _ => nI 0)))), (q29, .inl (G.2.1, (80000, .inl (fun _ => nI 0)))), (q37, .inl (G.2.2.1, (80000, .inl (fun _ => nI 0))))] H := hP
  have hD : va_D A [(h0, .inr (0, [.ref q8, .int (nI 1), .ref q21, .ref q29, .ref q37, .null, .null, .null, .int (nI 0), .int (nI 0), .long 0])), (q8, .inl (G.2.1, (600, .inl (fun _ => nI 0)))), (q21, .inl (G.2.1, (80000, .inl (fun _ => nI 0)))), (q29, .inl (G.2.1, (80000, .inl (fun _ => nI 0)))), (q37, .inl (G.2.2.1, (80000, .inl (fun _ => nI 0))))] := hD
  refine lv_aload_n S.1 S.2.1 d_T_init_42 rfl (lv_at hl 0 rfl) ?_
  refine lv_ldc S.1 S.2.1 S.2.2.2.1 (S.2.2.2.2 _ wq_T_17) d_T_init_43 ?_
  refine g_newa (atype := .int) S hK wA_int (ty := .int) rfl (fun C h => by cases h) 0 (cA := G.2.1) rfl hP hD hS hA (a0 := (80000, .inl (fun _ => 0))) (N' := 80000) (fun cA => rfl) (by decide) (by decide) (by decide) (Nat.le_of_ble_eq_true rfl) (Nat.le_of_ble_eq_true rfl) d_T_init_45 (fun q45 H hP hD hS => ?_)
  have hP : va_P G.1 cls2 [(h0, .inr (0, [.ref q8, .int (nI 1), .ref q21, .ref q29, .ref q37, .null, .null, .null, .int (nI 0), .int (nI 0), .long 0])), (q8, .inl (G.2.1, (600, .inl (fun _ => nI 0)))), (q21, .inl (G.2.1, (80000, .inl (fun _ => nI 0)))), (q29, .inl (G.2.1, (80000, .inl (fun _ => nI 0)))), (q37, .inl (G.2.2.1, (80000, .inl (fun _ => nI 0)))), (q45, .inl (G.2.1, (80000, .inl (fun _ => 0))))] H := hP
  have hD : va_D A [(h0, .inr (0, [.ref q8, .int (nI 1), .ref q21, .ref q29, .ref q37, .null, .null, .null, .int (nI 0), .int (nI 0), .long 0])), (q8, .inl (G.2.1, (600, .inl (fun _ => nI 0)))), (q21, .inl (G.2.1, (80000, .inl (fun _ => nI 0)))), (q29, .inl (G.2.1, (80000, .inl (fun _ => nI 0)))), (q37, .inl (G.2.2.1, (80000, .inl (fun _ => nI 0)))), (q45, .inl (G.2.1, (80000, .inl (fun _ => 0))))] := hD
  refine W.widen (k := 5) (n := 320600) (Nat.le_of_ble_eq_true rfl) (Nat.le_of_ble_eq_true rfl) ?_
  refine va_putF (D := G.1) (ci := 0) (v := .ref q45) (ty := .array .int) (C := R_T) (T := F_T) (N := 11) S.1 S.2.1 S.2.2.2.2 u_T_in ty_T ty_T_ok n_T S.2.2.2.1 hK hP hD hS 0 rfl rfl 5 (by decide) (S.2.2.2.2 _ wF_T_28) (fun _ h9 => h9) rfl hnm rfl (by decide +kernel) rfl rfl (Nat.le_of_ble_eq_true rfl) d_T_init_47 (fun H locs hP hD hS => ?_)
  have hP : va_P G.1 cls2 [(h0, .inr (0, [.ref q8, .int (nI 1), .ref q21, .ref q29, .ref q37, .ref q45, .null, .null, .int (nI 0), .int (nI 0), .long 0])), (q8, .inl (G.2.1, (600, .inl (fun _ => nI 0)))), (q21, .inl (G.2.1, (80000, .inl (fun _ => nI 0)))), (q29, .inl (G.2.1, (80000, .inl (fun _ => nI 0)))), (q37, .inl (G.2.2.1, (80000, .inl (fun _ => nI 0)))), (q45, .inl (G.2.1, (80000, .inl (fun _ => 0))))] H := hP
  have hD : va_D A [(h0, .inr (0, [.ref q8, .int (nI 1), .ref q21, .ref q29, .ref q37, .ref q45, .null, .null, .int (nI 0), .int (nI 0), .long 0])), (q8, .inl (G.2.1, (600, .inl (fun _ => nI 0)))), (q21, .inl (G.2.1, (80000, .inl (fun _ => nI 0)))), (q29, .inl (G.2.1, (80000, .inl (fun _ => nI 0)))), (q37, .inl (G.2.2.1, (80000, .inl (fun _ => nI 0)))), (q45, .inl (G.2.1, (80000, .inl (fun _ => 0))))] := hD
  refine lv_aload_n S.1 S.2.1 d_T_init_50 rfl (lv_at hl 0 rfl) ?_
  refine lv_ldc S.1 S.2.1 S.2.2.2.1 (S.2.2.2.2 _ wq_T_17) d_T_init_51 ?_
  refine g_newa (atype := .short) S hK wA_short (ty := .short) rfl (fun C h => by cases h) 1 (cA := G.2.2.1) rfl hP hD hS hA (a0 := (80000, .inl (fun _ => nI 0))) (N' := 80000) (fun cA => by rw [vp_cell_i, nI_0]; rfl) (by decide) (by decide) (by decide) (Nat.le_of_ble_eq_true rfl) (Nat.le_of_ble_eq_true rfl) d_T_init_53 (fun q53 H hP hD hS => ?_)
  have hP : va_P G.1 cls2 [(h0, .inr (0, [.ref q8, .int (nI 1), .ref q21, .ref q29, .ref q37, .ref q45, .null, .null, .int (nI 0), .int (nI 0), .long 0])), (q8, .inl (G.2.1, (600, .inl (fun _ => nI 0)))), (q21, .inl (G.2.1, (80000, .inl (fun _ => nI 0)))), (q29, .inl (G.2.1, (80000, .inl (fun _ => nI 0)))), (q37, .inl (G.2.2.1, (80000, .inl (fun _ => nI 0)))), (q45, .inl (G.2.1, (80000, .inl (fun _ => 0)))), (q53, .inl (G.2.2.1, (80000, .inl (fun _ => nI 0))))] H := hP
  have hD : va_D A [(h0, .inr (0, [.ref q8, .int (nI 1), .ref q21, .ref q29, .ref q37, .ref q45, .null, .null, .int (nI 0), .int (nI 0), .long 0])), (q8, .inl (G.2.1, (600, .inl (fun _ => nI 0)))), (q21, .inl (G.2.1, (80000, .inl (fun _ => nI 0)))), (q29, .inl (G.2.1, (80000, .inl (fun _ => nI 0)))), (q37, .inl (G.2.2.1, (80000, .inl (fun _ => nI 0)))), (q45, .inl (G.2.1, (80000, .inl (fun _ => 0)))), (q53, .inl (G.2.2.1, (80000, .inl (fun _ => nI 0))))] := hD
  refine W.widen (k := 6) (n := 400600) (Nat.le_of_ble_eq_true rfl) (Nat.le_of_ble_eq_true rfl) ?_
  refine va_putF (D := G.1) (ci := 0) (v := .ref q53) (ty := .array .short) (C := R_T) (T := F_T) (N := 11) S.1 S.2.1 S.2.2.2.2 u_T_in ty_T ty_T_ok n_T S.2.2.2.1 hK hP hD hS 0 rfl rfl 6 (by decide) (S.2.2.2.2 _ wF_T_31) (fun _ h9 => h9) rfl hnm rfl (by decide +kernel) rfl rfl (Nat.le_of_ble_eq_true rfl) d_T_init_55 (fun H locs hP hD hS => ?_)
  have hP : va_P G.1 cls2 [(h0, .inr (0, [.ref q8, .int (nI 1), .ref q21, .ref q29, .ref q37, .ref q45, .ref q53, .null, .int (nI 0), .int (nI 0), .long 0])), (q8, .inl (G.2.1, (600, .inl (fun _ => nI 0)))), (q21, .inl (G.2.1, (80000, .inl (fun _ => nI 0)))), (q29, .inl (G.2.1, (80000, .inl (fun _ => nI 0)))), (q37, .inl (G.2.2.1, (80000, .inl (fun _ => nI 0)))), (q45, .inl (G.2.1, (80000, .inl (fun _ => 0)))), (q53, .inl (G.2.2.1, (80000, .inl (fun _ => nI 0))))] H := hP
  have hD : va_D A [(h0, .inr (0, [.ref q8, .int (nI 1), .ref q21, .ref q29, .ref q37, .ref q45, .ref q53, .null, .int (nI 0), .int (nI 0), .long 0])), (q8, .inl (G.2.1, (600, .inl (fun _ => nI 0)))), (q21, .inl (G.2.1, (80000, .inl (fun _ => nI 0)))), (q29, .inl (G.2.1, (80000, .inl (fun _ => nI 0)))), (q37, .inl (G.2.2.1, (80000, .inl (fun _ => nI 0)))), (q45, .inl (G.2.1, (80000, .inl (fun _ => 0)))), (q53, .inl (G.2.2.1, (80000, .inl (fun _ => nI 0))))] := hD
  refine lv_aload_n S.1 S.2.1 d_T_init_58 rfl (lv_at hl 0 rfl) ?_
  refine lv_ldc S.1 S.2.1 S.2.2.2.1 (S.2.2.2.2 _ wq_T_17) d_T_init_59 ?_
  refine g_newa (atype := .long) S hK wA_long (ty := .long) rfl (fun C h => by cases h) 2 (cA := G.2.2.2.1) rfl hP hD hS hA (a0 := (80000, .inr (.inl (fun _ => 0)))) (N' := 80000) (fun cA => rfl) (by decide) (by decide) (by decide) (Nat.le_of_ble_eq_true rfl) (Nat.le_of_ble_eq_true rfl) d_T_init_61 (fun q61 H hP hD hS => ?_)
  have hP : va_P G.1 cls2 [(h0, .inr (0, [.ref q8, .int (nI 1), .ref q21, .ref q29, .ref q37, .ref q45, .ref q53, .null, .int (nI 0), .int (nI 0), .long 0])), (q8, .inl (G.2.1, (600, .inl (fun _ => nI 0)))), (q21, .inl (G.2.1, (80000, .inl (fun _ => nI 0)))), (q29, .inl (G.2.1, (80000, .inl (fun _ => nI 0)))), (q37, .inl (G.2.2.1, (80000, .inl (fun _ => nI 0)))), (q45, .inl (G.2.1, (80000, .inl (fun _ => 0)))), (q53, .inl (G.2.2.1, (80000, .inl (fun _ => nI 0)))), (q61, .inl (G.2.2.2.1, (80000, .inr (.inl (fun _ => 0)))))] H := hP
  have hD : va_D A [(h0, .inr (0, [.ref q8, .int (nI 1), .ref q21, .ref q29, .ref q37, .ref q45, .ref q53, .null, .int (nI 0), .int (nI 0), .long 0])), (q8, .inl (G.2.1, (600, .inl (fun _ => nI 0)))), (q21, .inl (G.2.1, (80000, .inl (fun _ => nI 0)))), (q29, .inl (G.2.1, (80000, .inl (fun _ => nI 0)))), (q37, .inl (G.2.2.1, (80000, .inl (fun _ => nI 0)))), (q45, .inl (G.2.1, (80000, .inl (fun _ => 0)))), (q53, .inl (G.2.2.1, (80000, .inl (fun _ => nI 0)))), (q61, .inl (G.2.2.2.1, (80000, .inr (.inl (fun _ => 0)))))] := hD
  refine W.widen (k := 7) (n := 480600) (Nat.le_of_ble_eq_true rfl) (Nat.le_of_ble_eq_true rfl) ?_
  refine va_putF (D := G.1) (ci := 0) (v := .ref q61) (ty := .array .long) (C := R_T) (T := F_T) (N := 11) S.1 S.2.1 S.2.2.2.2 u_T_in ty_T ty_T_ok n_T S.2.2.2.1 hK hP hD hS 0 rfl rfl 7 (by decide) (S.2.2.2.2 _ wF_T_34) (fun _ h9 => h9) rfl hnm rfl (by decide +kernel) rfl rfl (Nat.le_of_ble_eq_true rfl) d_T_init_63 (fun H locs hP hD hS => ?_)
  have hP : va_P G.1 cls2 [(h0, .inr (0, [.ref q8, .int (nI 1), .ref q21, .ref q29, .ref q37, .ref q45, .ref q53, .ref q61, .int (nI 0), .int (nI 0), .long 0])), (q8, .inl (G.2.1, (600, .inl (fun _ => nI 0)))), (q21, .inl (G.2.1, (80000, .inl (fun _ => nI 0)))), (q29, .inl (G.2.1, (80000, .inl (fun _ => nI 0)))), (q37, .inl (G.2.2.1, (80000, .inl (fun _ => nI 0)))), (q45, .inl (G.2.1, (80000, .inl (fun _ => 0)))), (q53, .inl (G.2.2.1, (80000, .inl (fun _ => nI 0)))), (q61, .inl (G.2.2.2.1, (80000, .inr (.inl (fun _ => 0)))))] H := hP
  have hD : va_D A [(h0, .inr (0, [.ref q8, .int (nI 1), .ref q21, .ref q29, .ref q37, .ref q45, .ref q53, .ref q61, .int (nI 0), .int (nI 0), .long 0])), (q8, .inl (G.2.1, (600, .inl (fun _ => nI 0)))), (q21, .inl (G.2.1, (80000, .inl (fun _ => nI 0)))), (q29, .inl (G.2.1, (80000, .inl (fun _ => nI 0)))), (q37, .inl (G.2.2.1, (80000, .inl (fun _ => nI 0)))), (q45, .inl (G.2.1, (80000, .inl (fun _ => 0)))), (q53, .inl (G.2.2.1, (80000, .inl (fun _ => nI 0)))), (q61, .inl (G.2.2.2.1, (80000, .inr (.inl (fun _ => 0)))))] := hD
  refine lv_aload_n S.1 S.2.1 d_T_init_66 rfl (lv_at hl 0 rfl) ?_
  refine lv_iconst (v := nI 1) S.1 S.2.1 d_T_init_67 (by decide) ?_
  refine va_put (D := G.1) (ci := 0) (v := .int (nI 1)) (ty := .int) (C := R_T) (T := F_T) (N := 11) S.1 S.2.1 S.2.2.2.2 u_T_in ty_T ty_T_ok n_T S.2.2.2.1 hK hP hD hS 0 rfl rfl 8 (by decide) (S.2.2.2.2 _ wF_T_38) (fun _ h9 => h9) rfl (by decide +kernel) rfl rfl (Nat.le_of_ble_eq_true rfl) d_T_init_68 (fun H locs hP hD hS => ?_)
  have hP : va_P G.1 cls2 [(h0, .inr (0, [.ref q8, .int (nI 1), .ref q21, .ref q29, .ref q37, .ref q45, .ref q53, .ref q61, .int (nI 1), .int (nI 0), .long 0])), (q8, .inl (G.2.1, (600, .inl (fun _ => nI 0)))), (q21, .inl (G.2.1, (80000, .inl (fun _ => nI 0)))), (q29, .inl (G.2.1, (80000, .inl (fun _ => nI 0)))), (q37, .inl (G.2.2.1, (80000, .inl (fun _ => nI 0)))), (q45, .inl (G.2.1, (80000, .inl (fun _ => 0)))), (q53, .inl (G.2.2.1, (80000, .inl (fun _ => nI 0)))), (q61, .inl (G.2.2.2.1, (80000, .inr (.inl (fun _ => 0)))))] H := hP
  have hD : va_D A [(h0, .inr (0, [.ref q8, .int (nI 1), .ref q21, .ref q29, .ref q37, .ref q45, .ref q53, .ref q61, .int (nI 1), .int (nI 0), .long 0])), (q8, .inl (G.2.1, (600, .inl (fun _ => nI 0)))), (q21, .inl (G.2.1, (80000, .inl (fun _ => nI 0)))), (q29, .inl (G.2.1, (80000, .inl (fun _ => nI 0)))), (q37, .inl (G.2.2.1, (80000, .inl (fun _ => nI 0)))), (q45, .inl (G.2.1, (80000, .inl (fun _ => 0)))), (q53, .inl (G.2.2.1, (80000, .inl (fun _ => nI 0)))), (q61, .inl (G.2.2.2.1, (80000, .inr (.inl (fun _ => 0)))))] := hD
  have hT : tP G (h0, q8, q21, q29, q37, q45, q53, q61) v0T H := hP
  have hTD : tD (h0, q8, q21, q29, q37, q45, q53, q61) A := tD.of (G := G) (v := v0T) hD
  exact W.vret S.1 S.2.1 hr (fun t ht hW => ⟨⟨(h0, q8, q21, q29, q37, q45, q53, q61), rfl, rfl, (show tP G _ v0T t.heap by rw [ht]; exact hT), hTD⟩, hS.F ht⟩) hS.2.2 d_T_init_71 hlk
set_option maxHeartbeats 4000000 in
set_option maxRecDepth 100000 in
/-- MeldTreeModel() -/
theorem c_M_init (l : Launch) (G : gG) (h0 sz : Nat) : Met l y_M_init (mw y_M_init b_M_init 1 none) ({ frames := 1, cells := 2, slots := 307200, locals := 12 }) (iPc G h0 sz 1 f0M) (va_Qv (fun b : mA => eH b = h0) (fun b t => mP G b u0M t.heap ∧ mD b (va_A [(h0, .inr (1, f0M))] sz)) (va_A [(h0, .inr (1, f0M))] sz)) 2 307200 (va_A [(h0, .inr (1, f0M))] sz) := by
  refine m_ofW (own := R_M) rfl rfl (fun p e s m args below meth c S hr hlk hx hnm hv => ?_)
  obtain ⟨rfl, hsz, hP, hK⟩ := hv
  subst hsz
  have hD : va_D (va_A [(h0, .inr (1, f0M))] s.heap.size) [(h0, .inr (1, f0M))] := d1 (Or.inl ⟨0, _, rfl⟩)
  generalize hAe : va_A [(h0, .inr (1, f0M))] s.heap.size = A at hD ⊢
  have hA : ∀ q : Nat, s.heap.size ≤ q → A q := fun q h => by rw [← hAe]; exact Or.inr h
  have hS : va_S A s.heap s.heap [] := va_S.rf
  have hP : va_P G.1 cls2 [(h0, .inr (1, [.null, .null, .int (nI 0), .int (nI 0)]))] s.heap := hP
  have hD : va_D A [(h0, .inr (1, [.null, .null, .int (nI 0), .int (nI 0)]))] := hD
  refine m_entry [.ref h0] (Nat.le_of_ble_eq_true rfl) (fun ls hl => ?_)
  have hl : lv_has ls 1 [(0, .ref h0)] := hl
  refine lv_aload_n S.1 S.2.1 d_M_init_0 rfl (lv_at hl 0 rfl) ?_
  refine W.objInit S.1 S.2.1 S.2.2.2.1 (S.2.2.2.2 _ wL_M_1) (S.2.2.2.2 _ wi_O_init) (S.2.2.2.2 _ wc_O_init) rfl (by rw [S.2.2.1]; exact hl.1) rfl d_M_init_1 (Nat.le_of_ble_eq_true rfl) (Nat.le_of_ble_eq_true rfl) ?_
  refine W.eq (g2 := F0 m 4 ls []) rfl ?_
  refine lv_aload_n S.1 S.2.1 d_M_init_4 rfl (lv_at hl 0 rfl) ?_
  refine lv_ldc S.1 S.2.1 S.2.2.2.1 (S.2.2.2.2 _ wq_M_9) d_M_init_5 ?_
  refine g_newa (atype := .int) S hK wA_int (ty := .int) rfl (fun C h => by cases h) 0 (cA := G.2.1) rfl hP hD hS hA (a0 := (153600, .inl (fun _ => 0))) (N' := 153600) (fun cA => rfl) (by decide) (by decide) (by decide) (Nat.le_of_ble_eq_true rfl) (Nat.le_of_ble_eq_true rfl) d_M_init_7 (fun q7 H hP hD hS => ?_)
  have hP : va_P G.1 cls2 [(h0, .inr (1, [.null, .null, .int (nI 0), .int (nI 0)])), (q7, .inl (G.2.1, (153600, .inl (fun _ => 0))))] H := hP
  have hD : va_D A [(h0, .inr (1, [.null, .null, .int (nI 0), .int (nI 0)])), (q7, .inl (G.2.1, (153600, .inl (fun _ => 0))))] := hD
  refine W.widen (k := 1) (n := 153600) (Nat.le_of_ble_eq_true rfl) (Nat.le_of_ble_eq_true rfl) ?_
  refine va_putF (D := G.1) (ci := 1) (v := .ref q7) (ty := .array .int) (C := R_M) (T := F_M) (N := 4) S.1 S.2.1 S.2.2.2.2 u_M_in ty_M ty_M_ok n_M S.2.2.2.1 hK hP hD hS 0 rfl rfl 0 (by decide) (S.2.2.2.2 _ wF_M_10) (fun _ h9 => h9) rfl hnm rfl (by decide +kernel) rfl rfl (Nat.le_of_ble_eq_true rfl) d_M_init_9 (fun H locs hP hD hS => ?_)
  have hP : va_P G.1 cls2 [(h0, .inr (1, [.ref q7, .null, .int (nI 0), .int (nI 0)])), (q7, .inl (G.2.1, (153600, .inl (fun _ => 0))))] H := hP
  have hD : va_D A [(h0, .inr (1, [.ref q7, .null, .int (nI 0), .int (nI 0)])), (q7, .inl (G.2.1, (153600, .inl (fun _ => 0))))] := hD
  refine lv_aload_n S.1 S.2.1 d_M_init_12 rfl (lv_at hl 0 rfl) ?_
  refine lv_ldc S.1 S.2.1 S.2.2.2.1 (S.2.2.2.2 _ wq_M_9) d_M_init_13 ?_
  refine g_newa (atype := .boolean) S hK wA_boolean (ty := .boolean) rfl (fun C h => by cases h) 3 (cA := G.2.2.2.2) rfl hP hD hS hA (a0 := (153600, .inl (fun _ => nI 0))) (N' := 153600) (fun cA => by rw [vp_cell_i, nI_0]; rfl) (by decide) (by decide) (by decide) (Nat.le_of_ble_eq_true rfl) (Nat.le_of_ble_eq_true rfl) d_M_init_15 (fun q15 H hP hD hS => ?_)
  have hP : va_P G.1 cls2 [(h0, .inr (1, [.ref q7, .null, .int (nI 0), .int (nI 0)])), (q7, .inl (G.2.1, (153600, .inl (fun _ => 0)))), (q15, .inl (G.2.2.2.2, (153600, .inl (fun _ => nI 0))))] H := hP
  have hD : va_D A [(h0, .inr (1, [.ref q7, .null, .int (nI 0), .int (nI 0)])), (q7, .inl (G.2.1, (153600, .inl (fun _ => 0)))), (q15, .inl (G.2.2.2.2, (153600, .inl (fun _ => nI 0))))] := hD
  refine W.widen (k := 2) (n := 307200) (Nat.le_of_ble_eq_true rfl) (Nat.le_of_ble_eq_true rfl) ?_
  refine va_putF (D := G.1) (ci := 1) (v := .ref q15) (ty := .array .boolean) (C := R_M) (T := F_M) (N := 4) S.1 S.2.1 S.2.2.2.2 u_M_in ty_M ty_M_ok n_M S.2.2.2.1 hK hP hD hS 0 rfl rfl 1 (by decide) (S.2.2.2.2 _ wF_M_14) (fun _ h9 => h9) rfl hnm rfl (by decide +kernel) rfl rfl (Nat.le_of_ble_eq_true rfl) d_M_init_17 (fun H locs hP hD hS => ?_)
  have hP : va_P G.1 cls2 [(h0, .inr (1, [.ref q7, .ref q15, .int (nI 0), .int (nI 0)])), (q7, .inl (G.2.1, (153600, .inl (fun _ => 0)))), (q15, .inl (G.2.2.2.2, (153600, .inl (fun _ => nI 0))))] H := hP
  have hD : va_D A [(h0, .inr (1, [.ref q7, .ref q15, .int (nI 0), .int (nI 0)])), (q7, .inl (G.2.1, (153600, .inl (fun _ => 0)))), (q15, .inl (G.2.2.2.2, (153600, .inl (fun _ => nI 0))))] := hD
  refine lv_aload_n S.1 S.2.1 d_M_init_20 rfl (lv_at hl 0 rfl) ?_
  refine lv_iconst (v := nI 1) S.1 S.2.1 d_M_init_21 (by decide) ?_
  refine va_put (D := G.1) (ci := 1) (v := .int (nI 1)) (ty := .int) (C := R_M) (T := F_M) (N := 4) S.1 S.2.1 S.2.2.2.2 u_M_in ty_M ty_M_ok n_M S.2.2.2.1 hK hP hD hS 0 rfl rfl 2 (by decide) (S.2.2.2.2 _ wF_M_18) (fun _ h9 => h9) rfl (by decide +kernel) rfl rfl (Nat.le_of_ble_eq_true rfl) d_M_init_22 (fun H locs hP hD hS => ?_)
  have hP : va_P G.1 cls2 [(h0, .inr (1, [.ref q7, .ref q15, .int (nI 1), .int (nI 0)])), (q7, .inl (G.2.1, (153600, .inl (fun _ => 0)))), (q15, .inl (G.2.2.2.2, (153600, .inl (fun _ => nI 0))))] H := hP
  have hD : va_D A [(h0, .inr (1, [.ref q7, .ref q15, .int (nI 1), .int (nI 0)])), (q7, .inl (G.2.1, (153600, .inl (fun _ => 0)))), (q15, .inl (G.2.2.2.2, (153600, .inl (fun _ => nI 0))))] := hD
  have hT : mP G (h0, q7, q15) u0M H := hP
  have hTD : mD (h0, q7, q15) A := mD.of (G := G) (u := u0M) hD
  exact W.vret S.1 S.2.1 hr (fun t ht hW => ⟨⟨(h0, q7, q15), rfl, rfl, (show mP G _ u0M t.heap by rw [ht]; exact hT), hTD⟩, hS.F ht⟩) hS.2.2 d_M_init_25 hlk
/-- at the start both hold one empty version -/
theorem TI_0 : TI v0T (fun _ _ => none) 1 0 := by
  refine ⟨fun _ _ => none, ⟨Nat.le_refl _, by decide, fun _ => rfl, fun n hn => ?_⟩, rfl, Nat.le_refl _, fun x _ => ⟨(show (0 : Nat) < 1 by decide), fun _ => rfl⟩, by decide⟩
  have hn : n < 1 := hn
  refine ⟨fun h => by omega, fun _ _ => rfl, ?_, ?_⟩
  · exact (cnt_none (a := 256) (fun _ _ => rfl) 256 (Nat.le_refl _)).symm
  · exact (smm_none (a := 256) (fun _ _ => rfl) 256 (Nat.le_refl _)).symm
theorem MR_0 : MR u0M (fun _ _ => none) 1 := ⟨rfl, Nat.le_refl _, by decide, fun _ _ _ _ => ⟨rfl, fun _ h => by cases h⟩, fun _ _ _ _ => rfl⟩
end
section
/-! the law's own static methods: a call, its answer laid into out, or the exception's number -/
abbrev mwh (y : MethodName) (cc : ByteArray) (maxL : Nat) (ret : Option FieldType) (hh : List (Nat × Nat × Nat × Nat)) : List Cond := .codeWith y cc maxL ret hh :: lw_t
theorem mwh_good {y : MethodName} {cc : ByteArray} {maxL : Nat} {ret : Option FieldType} {hh : List (Nat × Nat × Nat × Nat)} (h : Cond.codeWith y cc maxL ret hh ∈ lw_t) : GoodIn lw_t (mwh y cc maxL ret hh) := by
  intro w hw
  rcases List.mem_cons.mp hw with rfl | hw
  · exact ⟨h, lw_good _ h⟩
  · exact ⟨hw, lw_good _ hw⟩
theorem m_ofWW {l : Launch} {y : MethodName} {own : String} {rm : Room} {Pc : Array Value → State → Prop} {Qc : Array Value → State → Outcome → State → Prop} {mc ms : Nat} {free : Addr → Prop} {cc : ByteArray} {maxL : Nat} {ret : Option FieldType} {hh : List (Nat × Nat × Nat × Nat)}
    (hy : plainName y.cls = true) (ho : y.cls = own)
    (body : ∀ p e s m args below meth c, CallFix p m c cc maxL s args lw_t own → meth.sig.returnType = ret → meth.locks = false → c.exceptionTable.toList.map (fun h => (h.startPc, h.endPc, h.handlerPc, h.catchType)) = hh → Pc args s →
      W p l e rm s m args below meth c s.heap [] 0 0 (MQ below Qc args s mc ms free) (entryFrame m args maxL)) : Met l y (mwh y cc maxL ret hh) rm Pc Qc mc ms free := by
  refine va_MetW (cc := cc) (maxL := maxL) (ret := ret) (hh := hh) hy rfl ?_
  intro p e s m args below meth c s₁ B hml hv
  have hts := atoms_spec (ws := mwh y cc maxL ret hh) B.pre
  obtain ⟨m9, meth9, c9, hn9, hm9, hc9, -, -, htab, -⟩ := Cond.codeWith_spec (hts _ List.mem_cons_self)
  cases B.named.symm.trans hn9
  cases B.method.symm.trans hm9
  cases (Stand.of_body B).code.symm.trans hc9
  exact body p e s m args below meth c ⟨B.exec, B.bytes, hml, by rw [← ho]; exact findClass_of_methodNamed B.named, fun w h => hts w (List.mem_cons_of_mem _ h)⟩ B.returns B.notSynchronized htab hv
theorem Met.imp {l : Launch} {y : MethodName} {ws : List Cond} {rm : Room} {Pc : Array Value → State → Prop} {Qc Qc' : Array Value → State → Outcome → State → Prop} {mc ms : Nat} {free : Addr → Prop} (h : Met l y ws rm Pc Qc mc ms free) (hq : ∀ a st o t, Qc a st o t → Qc' a st o t) : Met l y ws rm Pc Qc' mc ms free := by
  intro p e ha hc hk s m args below hf happ hP hK
  obtain ⟨n, o, h1, h2, h3, h4, h5⟩ := h p e ha hc hk s m args below hf happ hP hK
  exact ⟨n, o, h1, h2, h3, hq _ _ _ _ h4, h5⟩
abbrev oc (G : gG) (oo : Nat) (f : Nat → Int64) : Nat × va_E := (oo, .inl (G.2.2.2.1, 1, .inr (.inl f)))
def oP (G : gG) (oo : Nat) (f : Nat → Int64) (H : Heap) : Prop := va_P G.1 cls2 [oc G oo f] H
theorem oP.kept {G : gG} {oo : Nat} {f : Nat → Int64} {H H1 : Heap} (h : oP G oo f H) (hq : H1[oo]? = H[oo]?) : oP G oo f H1 := va_P.kept h (fun k x hx => by
  have h1 : k < 1 := (List.getElem?_eq_some_iff.mp hx).1
  rw [show k = 0 by omega] at hx
  cases hx
  exact hq)
theorem oP.lt {G : gG} {oo : Nat} {f : Nat → Int64} {H : Heap} (h : oP G oo f H) : oo < H.size := (h 0 _ rfl).lt
def lA (a : tA) (oo sz : Nat) : Nat → Prop := fun q => inA a q ∨ q = oo ∨ sz ≤ q
def lPc (z : Nat) (G : gG) (a : tA) (v : tV) (oo : Nat) (f : Nat → Int64) (sz : Nat) (As : List Value) : Array Value → State → Prop := fun u U => u = (Value.ref (aH a) :: (As ++ [.ref oo])).toArray ∧ U.heap.size = sz ∧ tP G a v U.heap ∧ tD a (fun _ => True) ∧ gK G U ∧ oP G oo f U.heap ∧ ¬ inA a oo ∧ thK z U
theorem lPc.blind {z : Nat} {G : gG} {a : tA} {v : tV} {oo : Nat} {f : Nat → Int64} {sz : Nat} {As : List Value} : FrameBlind (lPc z G a v oo f sz As) := fun _ U g mk q => ⟨q.1, q.2.1, q.2.2.1, q.2.2.2.1, q.2.2.2.2.1.moved (u := U) (U := U.calling g mk _) (Vm.Alike.refl U.vm), q.2.2.2.2.2.1, q.2.2.2.2.2.2.1, q.2.2.2.2.2.2.2.blind⟩
def lQ (G : gG) (a : tA) (oo sz : Nat) (post : Int32 → tV × (Nat → Int64) → Prop) : Array Value → State → Outcome → State → Prop := va_Qi post (fun w t => tP G a w.1 t.heap ∧ oP G oo w.2 t.heap) (lA a oo sz)
abbrev rmL : Room := { frames := 530, cells := 1, slots := 6, locals := 27000 }
theorem rm_okL {f n mx : Nat} (h1 : f + 1 ≤ 530) (h2 : 8 + (mx + 11) + n ≤ 27000) : roomOk (rmS f n) rmL mx 0 0 := ⟨rfl, rfl, h1, h2⟩
theorem rm_XL {f n mx : Nat} (h1 : f + 1 ≤ 530) (h2 : 8 + (mx + 11) + n ≤ 27000) : roomX (rmX f n) rmL mx := ⟨rfl, rfl, h1, h2⟩
theorem asg_Io {z : Nat} {s : State} (h : thK z s) : asg nIo nIo true s := Cond.castable_spec (h.1 _ (List.mem_of_getElem? (i := 3) rfl))
theorem asg_Ns {z : Nat} {s : State} (h : thK z s) : asg nNs nNs true s := Cond.castable_spec (h.1 _ (List.mem_of_getElem? (i := 4) rfl))
theorem asg_NI {z : Nat} {s : State} (h : thK z s) : asg nNs nIo false s := h.2.2.2.1
theorem asg_NS {z : Nat} {s : State} (h : thK z s) : asg nNs nIs false s := h.2.2.2.2
section LO
variable {p : Program} {l : Launch} {e : Env} {R : Room} {s : State} {m : MethodId} {args : Array Value} {below : List Frame} {meth : Method} {c : Code} {H : Heap} {locs : List Loc} {cells slots : Nat} {Q : State → Prop}
variable {cc : ByteArray} {nL : Nat} {pc : Nat} {ls : Array Slot} {rest : List Value} {own : String} {G : gG} {a : tA} {v : tV} {A : Nat → Prop} {H0 : Heap} {oo : Nat} {f : Nat → Int64}
theorem o_D (hD : tD a A) (hoA : A oo) (hno : ¬ inA a oo) : va_D A (tw G a v ++ [oc G oo f]) := by
  refine va_D.app (hD G v) (d1 hoA) (fun i j x y hi hj hxy => ?_)
  have h1 : j < 1 := (List.getElem?_eq_some_iff.mp hj).1
  rw [show j = 0 by omega] at hj
  cases hj
  have h2 := tw_inA hi
  rw [hxy] at h2
  exact hno h2
/-- out[0] = x -/
theorem o_st (S : CallFix p m c cc nL s args lw_t own) (hK : gK G s) (hw : tS G a A H0 v H locs) (ho : oP G oo f H) (hoA : A oo) (hno : ¬ inA a oo) {x : Int64} (hdg : decode cc pc = .ok (.lastore, 1)) (kk : ∀ H1 locs1, tS G a A H0 v H1 locs1 → oP G oo (up f 0 x) H1 → W p l e R s m args below meth c H1 locs1 cells slots Q (F0 m (pc + 1) ls rest)) : W p l e R s m args below meth c H locs cells slots Q (F0 m pc ls (.long x :: .int (nI 0) :: .ref oo :: rest)) := by
  refine va_last (D := G.1) (cl := cls2) S.1 S.2.1 hK (ws := tw G a v ++ [oc G oo f]) (va_P.app hw.1 ho) (o_D hw.2.1 hoA hno) hw.2.2 8 2 rfl rfl (vp_in_nI (n := 0) (N := 1) (by decide) (by decide)) hdg (fun H1 locs1 h1 h2 h3 => ?_)
  rw [nI_clamp (by decide)] at h1
  have h1 : va_P G.1 cls2 (tw G a v ++ [oc G oo (up f 0 x)]) H1 := h1
  exact kk H1 locs1 ⟨h1.sub [0, 1, 2, 3, 4, 5, 6, 7] rfl, hw.2.1, h3⟩ (h1.sub [8] rfl)
/-- out[0] read -/
theorem o_ld (S : CallFix p m c cc nL s args lw_t own) (hK : gK G s) (ho : oP G oo f H) (hdg : decode cc pc = .ok (.laload, 1)) (kk : W p l e R s m args below meth c H locs cells slots Q (F0 m (pc + 1) ls (.long (f 0) :: rest))) : W p l e R s m args below meth c H locs cells slots Q (F0 m pc ls (.int (nI 0) :: .ref oo :: rest)) :=
  va_lald (D := G.1) (cl := cls2) S.1 S.2.1 hK ho 0 2 rfl rfl (vp_in_nI (n := 0) (N := 1) (by decide) (by decide)) hdg (by rw [nI_clamp (by decide)]; exact kk)
theorem l_iret {post : Int32 → tV × (Nat → Int64) → Prop} {r : Int32} (S : CallFix p m c cc nL s args lw_t own) (hw : tS G a (lA a oo s.heap.size) s.heap v H locs) (ho : oP G oo f H) (hp : post r (v, f)) (hr : meth.sig.returnType = some .int) (hlk : meth.locks = false) (hdg : decode cc pc = .ok (.ireturn, 1)) (h1 : cells ≤ 1) (h2 : slots ≤ 6) : W p l e R s m args below meth c H locs cells slots (MQ below (lQ G a oo s.heap.size post) args s 1 6 (lA a oo s.heap.size)) (F0 m pc ls [.int r]) :=
  W.widen h1 h2 (W.iret S.1 S.2.1 hr (fun t ht _ => ⟨⟨r, (v, f), rfl, hp, (show tP G a v t.heap by rw [ht]; exact hw.1), (show oP G oo f t.heap by rw [ht]; exact ho)⟩, hw.2.2.F ht⟩) hw.2.2.2.2 hdg hlk)
end LO
set_option maxHeartbeats 4000000 in
set_option maxRecDepth 100000 in
theorem c_L_put (l : Launch) (z : Nat) (G : gG) (a : tA) (v : tV) (oo : Nat) (f : Nat → Int64) (sz : Nat) (mp : Nat → nMap) (n cn : Nat) (x k : Nat) (y : Int32) (hT : TI v mp n cn) (hx0 : x < n) (hk : k < 256) (hn6 : n < 600) (hc : cn < 512) : Met l y_L_put (mwh y_L_put b_L_put 6 (some .int) h_L_put) rmL (lPc z G a v oo f sz [.int (nI x), .int (nI k), .int y]) (lQ G a oo sz (fun r w => r = nI 0 ∧ TI w.1 (up mp n (up (mp x) k (some y))) (n + 1) (cn + 1) ∧ w.2 0 = (nI n).toInt64)) 1 6 (lA a oo sz) := by
  refine m_ofWW (own := R_L) rfl rfl (fun p e s m args below meth c S hr hlk htab hv => ?_)
  obtain ⟨rfl, hsz, hP, hD, hK, ho, hno, hth⟩ := hv
  subst hsz
  have hDA : tD a (lA a oo s.heap.size) := hD.weaken (fun q h => Or.inl h)
  have hoA : lA a oo s.heap.size oo := Or.inr (Or.inl rfl)
  have hw : tS G a (lA a oo s.heap.size) s.heap v s.heap [] := ⟨hP, hDA, va_S.rf⟩
  refine m_entry [.ref (aH a), .int (nI x), .int (nI k), .int y, .ref oo] (Nat.le_of_ble_eq_true rfl) (fun ls hl => ?_)
  have hl : lv_has ls 6 [(0, .ref (aH a)), (1, .int (nI x)), (2, .int (nI k)), (3, .int y), (4, .ref oo)] := hl
  refine lv_aload S.1 S.2.1 d_L_put_0 (lv_at hl 4 rfl) ?_
  refine lv_iconst (v := nI 0) S.1 S.2.1 d_L_put_2 (by decide) ?_
  refine lv_aload_n S.1 S.2.1 d_L_put_3 rfl (lv_at hl 0 rfl) ?_
  refine lv_iload_n S.1 S.2.1 d_L_put_4 rfl (lv_at hl 1 rfl) ?_
  refine lv_iload_n S.1 S.2.1 d_L_put_5 rfl (lv_at hl 2 rfl) ?_
  refine lv_iload_n S.1 S.2.1 d_L_put_6 rfl (lv_at hl 3 rfl) ?_
  refine t_calli (t_run S (t_pre hK hw.1 hw.2.1) k_T_put wi_T_put wv_T_T_put wL_L_7 (c_T_put l G a v mp n cn x k y hT hx0 hk hn6 hc) (rm_okL (by omega) (by omega)) rfl hl.1 rfl (Nat.le_of_ble_eq_true rfl) d_L_put_7 ⟨Nat.zero_le _, Nat.zero_le _⟩) hw (fun r v1 H locs hp hw hz hk => ?_)
  have ho : oP G oo f H := ho.kept (hk oo ho.lt hno)
  refine lv_i2l S.1 S.2.1 d_L_put_10 rfl ?_
  refine o_st S hK hw ho hoA hno d_L_put_11 (fun H locs hw ho => ?_)
  refine lv_goto S.1 S.2.1 d_L_put_12 rfl ?_
  refine lv_iconst (v := nI 0) S.1 S.2.1 d_L_put_23 (by decide) ?_
  exact l_iret S hw ho ⟨rfl, hp.2, by rw [hp.1]; rfl⟩ hr hlk d_L_put_24 (Nat.zero_le _) (Nat.zero_le _)
set_option maxHeartbeats 4000000 in
set_option maxRecDepth 100000 in
theorem c_L_remove (l : Launch) (z : Nat) (G : gG) (a : tA) (v : tV) (oo : Nat) (f : Nat → Int64) (sz : Nat) (mp : Nat → nMap) (n cn : Nat) (x k : Nat) (zz : Int32) (hT : TI v mp n cn) (hx0 : x < n) (hk : k < 256) (hn6 : n < 600) (hc : cn < 512) (hz : mp x k = some zz) : Met l y_L_remove (mwh y_L_remove b_L_remove 5 (some .int) h_L_remove) rmL (lPc z G a v oo f sz [.int (nI x), .int (nI k)]) (lQ G a oo sz (fun r w => r = nI 0 ∧ TI w.1 (up mp n (up (mp x) k none)) (n + 1) (cn + 1) ∧ w.2 0 = (nI n).toInt64)) 1 6 (lA a oo sz) := by
  refine m_ofWW (own := R_L) rfl rfl (fun p e s m args below meth c S hr hlk htab hv => ?_)
  obtain ⟨rfl, hsz, hP, hD, hK, ho, hno, hth⟩ := hv
  subst hsz
  have hDA : tD a (lA a oo s.heap.size) := hD.weaken (fun q h => Or.inl h)
  have hoA : lA a oo s.heap.size oo := Or.inr (Or.inl rfl)
  have hw : tS G a (lA a oo s.heap.size) s.heap v s.heap [] := ⟨hP, hDA, va_S.rf⟩
  refine m_entry [.ref (aH a), .int (nI x), .int (nI k), .ref oo] (Nat.le_of_ble_eq_true rfl) (fun ls hl => ?_)
  have hl : lv_has ls 5 [(0, .ref (aH a)), (1, .int (nI x)), (2, .int (nI k)), (3, .ref oo)] := hl
  refine lv_aload_n S.1 S.2.1 d_L_remove_0 rfl (lv_at hl 3 rfl) ?_
  refine lv_iconst (v := nI 0) S.1 S.2.1 d_L_remove_1 (by decide) ?_
  refine lv_aload_n S.1 S.2.1 d_L_remove_2 rfl (lv_at hl 0 rfl) ?_
  refine lv_iload_n S.1 S.2.1 d_L_remove_3 rfl (lv_at hl 1 rfl) ?_
  refine lv_iload_n S.1 S.2.1 d_L_remove_4 rfl (lv_at hl 2 rfl) ?_
  refine t_calli (t_run S (t_pre hK hw.1 hw.2.1) k_T_remove wi_T_remove wv_T_T_remove wL_L_17 (c_T_remove l G a v mp n cn x k zz hT hx0 hk hn6 hc hz) (rm_okL (by omega) (by omega)) rfl hl.1 rfl (Nat.le_of_ble_eq_true rfl) d_L_remove_5 ⟨Nat.zero_le _, Nat.zero_le _⟩) hw (fun r v1 H locs hp hw hz hk => ?_)
  have ho : oP G oo f H := ho.kept (hk oo ho.lt hno)
  refine lv_i2l S.1 S.2.1 d_L_remove_8 rfl ?_
  refine o_st S hK hw ho hoA hno d_L_remove_9 (fun H locs hw ho => ?_)
  refine lv_goto S.1 S.2.1 d_L_remove_10 rfl ?_
  refine lv_iconst (v := nI 0) S.1 S.2.1 d_L_remove_25 (by decide) ?_
  exact l_iret S hw ho ⟨rfl, hp.2, by rw [hp.1]; rfl⟩ hr hlk d_L_remove_26 (Nat.zero_le _) (Nat.zero_le _)
set_option maxHeartbeats 4000000 in
set_option maxRecDepth 100000 in
theorem c_L_join (l : Launch) (z : Nat) (G : gG) (a : tA) (v : tV) (oo : Nat) (f : Nat → Int64) (sz : Nat) (mp : Nat → nMap) (n cn : Nat) (x w k : Nat) (hT : TI v mp n cn) (hx0 : x < n) (hw0 : w < n) (hk : k ≤ 256) (hn6 : n < 600) (hc : cn < 512) : Met l y_L_join (mwh y_L_join b_L_join 6 (some .int) h_L_join) rmL (lPc z G a v oo f sz [.int (nI x), .int (nI w), .int (nI k)]) (lQ G a oo sz (fun r q => r = nI 0 ∧ TI q.1 (up mp n (fun j => if j < k then mp x j else mp w j)) (n + 1) (cn + 1) ∧ q.2 0 = (nI n).toInt64)) 1 6 (lA a oo sz) := by
  refine m_ofWW (own := R_L) rfl rfl (fun p e s m args below meth c S hr hlk htab hv => ?_)
  obtain ⟨rfl, hsz, hP, hD, hK, ho, hno, hth⟩ := hv
  subst hsz
  have hDA : tD a (lA a oo s.heap.size) := hD.weaken (fun q h => Or.inl h)
  have hoA : lA a oo s.heap.size oo := Or.inr (Or.inl rfl)
  have hw : tS G a (lA a oo s.heap.size) s.heap v s.heap [] := ⟨hP, hDA, va_S.rf⟩
  refine m_entry [.ref (aH a), .int (nI x), .int (nI w), .int (nI k), .ref oo] (Nat.le_of_ble_eq_true rfl) (fun ls hl => ?_)
  have hl : lv_has ls 6 [(0, .ref (aH a)), (1, .int (nI x)), (2, .int (nI w)), (3, .int (nI k)), (4, .ref oo)] := hl
  refine lv_aload S.1 S.2.1 d_L_join_0 (lv_at hl 4 rfl) ?_
  refine lv_iconst (v := nI 0) S.1 S.2.1 d_L_join_2 (by decide) ?_
  refine lv_aload_n S.1 S.2.1 d_L_join_3 rfl (lv_at hl 0 rfl) ?_
  refine lv_iload_n S.1 S.2.1 d_L_join_4 rfl (lv_at hl 1 rfl) ?_
  refine lv_iload_n S.1 S.2.1 d_L_join_5 rfl (lv_at hl 2 rfl) ?_
  refine lv_iload_n S.1 S.2.1 d_L_join_6 rfl (lv_at hl 3 rfl) ?_
  refine t_calli (t_run S (t_pre hK hw.1 hw.2.1) k_T_join wi_T_join wv_T_T_join wL_L_23 (c_T_join l G a v mp n cn x w k hT hx0 hw0 hk hn6 hc) (rm_okL (by omega) (by omega)) rfl hl.1 rfl (Nat.le_of_ble_eq_true rfl) d_L_join_7 ⟨Nat.zero_le _, Nat.zero_le _⟩) hw (fun r v1 H locs hp hw hz hk => ?_)
  have ho : oP G oo f H := ho.kept (hk oo ho.lt hno)
  refine lv_i2l S.1 S.2.1 d_L_join_10 rfl ?_
  refine o_st S hK hw ho hoA hno d_L_join_11 (fun H locs hw ho => ?_)
  refine lv_goto S.1 S.2.1 d_L_join_12 rfl ?_
  refine lv_iconst (v := nI 0) S.1 S.2.1 d_L_join_23 (by decide) ?_
  exact l_iret S hw ho ⟨rfl, hp.2, by rw [hp.1]; rfl⟩ hr hlk d_L_join_24 (Nat.zero_le _) (Nat.zero_le _)
set_option maxHeartbeats 4000000 in
set_option maxRecDepth 100000 in
theorem c_L_get (l : Launch) (z : Nat) (G : gG) (a : tA) (v : tV) (oo : Nat) (f : Nat → Int64) (sz : Nat) (mp : Nat → nMap) (n cn : Nat) (x k : Nat) (zz : Int32) (hT : TI v mp n cn) (hx0 : x < n) (hk : k < 256) (hn6 : n ≤ 600) (hz : mp x k = some zz) : Met l y_L_get (mwh y_L_get b_L_get 5 (some .int) h_L_get) rmL (lPc z G a v oo f sz [.int (nI x), .int (nI k)]) (lQ G a oo sz (fun r w => r = nI 0 ∧ w.1 = v ∧ w.2 0 = zz.toInt64)) 1 6 (lA a oo sz) := by
  refine m_ofWW (own := R_L) rfl rfl (fun p e s m args below meth c S hr hlk htab hv => ?_)
  obtain ⟨rfl, hsz, hP, hD, hK, ho, hno, hth⟩ := hv
  subst hsz
  have hDA : tD a (lA a oo s.heap.size) := hD.weaken (fun q h => Or.inl h)
  have hoA : lA a oo s.heap.size oo := Or.inr (Or.inl rfl)
  have hw : tS G a (lA a oo s.heap.size) s.heap v s.heap [] := ⟨hP, hDA, va_S.rf⟩
  refine m_entry [.ref (aH a), .int (nI x), .int (nI k), .ref oo] (Nat.le_of_ble_eq_true rfl) (fun ls hl => ?_)
  have hl : lv_has ls 5 [(0, .ref (aH a)), (1, .int (nI x)), (2, .int (nI k)), (3, .ref oo)] := hl
  refine lv_aload_n S.1 S.2.1 d_L_get_0 rfl (lv_at hl 3 rfl) ?_
  refine lv_iconst (v := nI 0) S.1 S.2.1 d_L_get_1 (by decide) ?_
  refine lv_aload_n S.1 S.2.1 d_L_get_2 rfl (lv_at hl 0 rfl) ?_
  refine lv_iload_n S.1 S.2.1 d_L_get_3 rfl (lv_at hl 1 rfl) ?_
  refine lv_iload_n S.1 S.2.1 d_L_get_4 rfl (lv_at hl 2 rfl) ?_
  refine r_calli (r_run S (t_pre hK hw.1 hw.2.1) k_T_get wi_T_get wv_T_T_get wL_L_26 (c_T_get l G a v mp n cn x k zz hT hx0 hk hn6 hz) (rm_okL (by omega) (by omega)) rfl hl.1 rfl (Nat.le_of_ble_eq_true rfl) d_L_get_5 ⟨Nat.zero_le _, Nat.zero_le _⟩) (fun r hp => ?_)
  refine lv_i2l S.1 S.2.1 d_L_get_8 rfl ?_
  refine o_st S hK hw ho hoA hno d_L_get_9 (fun H locs hw ho => ?_)
  refine lv_goto S.1 S.2.1 d_L_get_10 rfl ?_
  refine lv_iconst (v := nI 0) S.1 S.2.1 d_L_get_21 (by decide) ?_
  exact l_iret S hw ho ⟨rfl, rfl, by rw [hp]; rfl⟩ hr hlk d_L_get_22 (Nat.zero_le _) (Nat.zero_le _)
set_option maxHeartbeats 4000000 in
set_option maxRecDepth 100000 in
theorem c_L_select (l : Launch) (z : Nat) (G : gG) (a : tA) (v : tV) (oo : Nat) (f : Nat → Int64) (sz : Nat) (mp : Nat → nMap) (n cn : Nat) (x i : Nat) (hT : TI v mp n cn) (hx0 : x < n) (hn6 : n ≤ 600) (hi : i < cnt (mp x) 256) : Met l y_L_select (mwh y_L_select b_L_select 5 (some .int) h_L_select) rmL (lPc z G a v oo f sz [.int (nI x), .int (nI i)]) (lQ G a oo sz (fun r w => r = nI 0 ∧ w.1 = v ∧ ∃ q, sel (mp x) i q ∧ w.2 0 = q.toInt64)) 1 6 (lA a oo sz) := by
  refine m_ofWW (own := R_L) rfl rfl (fun p e s m args below meth c S hr hlk htab hv => ?_)
  obtain ⟨rfl, hsz, hP, hD, hK, ho, hno, hth⟩ := hv
  subst hsz
  have hDA : tD a (lA a oo s.heap.size) := hD.weaken (fun q h => Or.inl h)
  have hoA : lA a oo s.heap.size oo := Or.inr (Or.inl rfl)
  have hw : tS G a (lA a oo s.heap.size) s.heap v s.heap [] := ⟨hP, hDA, va_S.rf⟩
  refine m_entry [.ref (aH a), .int (nI x), .int (nI i), .ref oo] (Nat.le_of_ble_eq_true rfl) (fun ls hl => ?_)
  have hl : lv_has ls 5 [(0, .ref (aH a)), (1, .int (nI x)), (2, .int (nI i)), (3, .ref oo)] := hl
  refine lv_aload_n S.1 S.2.1 d_L_select_0 rfl (lv_at hl 3 rfl) ?_
  refine lv_iconst (v := nI 0) S.1 S.2.1 d_L_select_1 (by decide) ?_
  refine lv_aload_n S.1 S.2.1 d_L_select_2 rfl (lv_at hl 0 rfl) ?_
  refine lv_iload_n S.1 S.2.1 d_L_select_3 rfl (lv_at hl 1 rfl) ?_
  refine lv_iload_n S.1 S.2.1 d_L_select_4 rfl (lv_at hl 2 rfl) ?_
  refine r_calli (r_run S (t_pre hK hw.1 hw.2.1) k_T_select wi_T_select wv_T_T_select wL_L_29 (c_T_select l G a v mp n cn x i hT hx0 hn6 hi) (rm_okL (by omega) (by omega)) rfl hl.1 rfl (Nat.le_of_ble_eq_true rfl) d_L_select_5 ⟨Nat.zero_le _, Nat.zero_le _⟩) (fun r hp => ?_)
  refine lv_i2l S.1 S.2.1 d_L_select_8 rfl ?_
  refine o_st S hK hw ho hoA hno d_L_select_9 (fun H locs hw ho => ?_)
  refine lv_goto S.1 S.2.1 d_L_select_10 rfl ?_
  refine lv_iconst (v := nI 0) S.1 S.2.1 d_L_select_17 (by decide) ?_
  exact l_iret S hw ho ⟨rfl, rfl, r, hp, rfl⟩ hr hlk d_L_select_18 (Nat.zero_le _) (Nat.zero_le _)
set_option maxHeartbeats 4000000 in
set_option maxRecDepth 100000 in
theorem c_L_many (l : Launch) (z : Nat) (G : gG) (a : tA) (v : tV) (oo : Nat) (f : Nat → Int64) (sz : Nat) (mp : Nat → nMap) (n cn : Nat) (x : Nat) (y z2 : Int32) (hT : TI v mp n cn) (hx0 : x < n) (hn6 : n ≤ 600) : Met l y_L_many (mwh y_L_many b_L_many 6 (some .int) h_L_many) rmL (lPc z G a v oo f sz [.int (nI x), .int y, .int z2]) (lQ G a oo sz (fun r w => r = nI 0 ∧ TI w.1 mp n cn ∧ w.2 0 = (mny (mp x) y z2).toInt64)) 1 6 (lA a oo sz) := by
  refine m_ofWW (own := R_L) rfl rfl (fun p e s m args below meth c S hr hlk htab hv => ?_)
  obtain ⟨rfl, hsz, hP, hD, hK, ho, hno, hth⟩ := hv
  subst hsz
  have hDA : tD a (lA a oo s.heap.size) := hD.weaken (fun q h => Or.inl h)
  have hoA : lA a oo s.heap.size oo := Or.inr (Or.inl rfl)
  have hw : tS G a (lA a oo s.heap.size) s.heap v s.heap [] := ⟨hP, hDA, va_S.rf⟩
  refine m_entry [.ref (aH a), .int (nI x), .int y, .int z2, .ref oo] (Nat.le_of_ble_eq_true rfl) (fun ls hl => ?_)
  have hl : lv_has ls 6 [(0, .ref (aH a)), (1, .int (nI x)), (2, .int y), (3, .int z2), (4, .ref oo)] := hl
  refine lv_aload S.1 S.2.1 d_L_many_0 (lv_at hl 4 rfl) ?_
  refine lv_iconst (v := nI 0) S.1 S.2.1 d_L_many_2 (by decide) ?_
  refine lv_aload_n S.1 S.2.1 d_L_many_3 rfl (lv_at hl 0 rfl) ?_
  refine lv_iload_n S.1 S.2.1 d_L_many_4 rfl (lv_at hl 1 rfl) ?_
  refine lv_iload_n S.1 S.2.1 d_L_many_5 rfl (lv_at hl 2 rfl) ?_
  refine lv_iload_n S.1 S.2.1 d_L_many_6 rfl (lv_at hl 3 rfl) ?_
  refine t_calli (t_run S (t_pre hK hw.1 hw.2.1) k_T_many wi_T_many wv_T_T_many wL_L_32 (c_T_many l G a v mp n cn x y z2 hT hx0 hn6) (rm_okL (by omega) (by omega)) rfl hl.1 rfl (Nat.le_of_ble_eq_true rfl) d_L_many_7 ⟨Nat.zero_le _, Nat.zero_le _⟩) hw (fun r v1 H locs hp hw hz hk => ?_)
  have ho : oP G oo f H := ho.kept (hk oo ho.lt hno)
  refine lv_i2l S.1 S.2.1 d_L_many_10 rfl ?_
  refine o_st S hK hw ho hoA hno d_L_many_11 (fun H locs hw ho => ?_)
  refine lv_goto S.1 S.2.1 d_L_many_12 rfl ?_
  refine lv_iconst (v := nI 0) S.1 S.2.1 d_L_many_19 (by decide) ?_
  exact l_iret S hw ho ⟨rfl, hp.2, by rw [hp.1]; rfl⟩ hr hlk d_L_many_20 (Nat.zero_le _) (Nat.zero_le _)
set_option maxHeartbeats 4000000 in
set_option maxRecDepth 100000 in
theorem c_L_sum (l : Launch) (z : Nat) (G : gG) (a : tA) (v : tV) (oo : Nat) (f : Nat → Int64) (sz : Nat) (mp : Nat → nMap) (n cn : Nat) (x : Nat) (y z2 : Int32) (hT : TI v mp n cn) (hx0 : x < n) (hn6 : n ≤ 600) : Met l y_L_sum (mwh y_L_sum b_L_sum 6 (some .int) h_L_sum) rmL (lPc z G a v oo f sz [.int (nI x), .int y, .int z2]) (lQ G a oo sz (fun r w => r = nI 0 ∧ TI w.1 mp n cn ∧ w.2 0 = smy (mp x) y z2)) 1 6 (lA a oo sz) := by
  refine m_ofWW (own := R_L) rfl rfl (fun p e s m args below meth c S hr hlk htab hv => ?_)
  obtain ⟨rfl, hsz, hP, hD, hK, ho, hno, hth⟩ := hv
  subst hsz
  have hDA : tD a (lA a oo s.heap.size) := hD.weaken (fun q h => Or.inl h)
  have hoA : lA a oo s.heap.size oo := Or.inr (Or.inl rfl)
  have hw : tS G a (lA a oo s.heap.size) s.heap v s.heap [] := ⟨hP, hDA, va_S.rf⟩
  refine m_entry [.ref (aH a), .int (nI x), .int y, .int z2, .ref oo] (Nat.le_of_ble_eq_true rfl) (fun ls hl => ?_)
  have hl : lv_has ls 6 [(0, .ref (aH a)), (1, .int (nI x)), (2, .int y), (3, .int z2), (4, .ref oo)] := hl
  refine lv_aload S.1 S.2.1 d_L_sum_0 (lv_at hl 4 rfl) ?_
  refine lv_iconst (v := nI 0) S.1 S.2.1 d_L_sum_2 (by decide) ?_
  refine lv_aload_n S.1 S.2.1 d_L_sum_3 rfl (lv_at hl 0 rfl) ?_
  refine lv_iload_n S.1 S.2.1 d_L_sum_4 rfl (lv_at hl 1 rfl) ?_
  refine lv_iload_n S.1 S.2.1 d_L_sum_5 rfl (lv_at hl 2 rfl) ?_
  refine lv_iload_n S.1 S.2.1 d_L_sum_6 rfl (lv_at hl 3 rfl) ?_
  refine t_calll (t_run S (t_pre hK hw.1 hw.2.1) k_T_sum wi_T_sum wv_T_T_sum wL_L_35 (c_T_sum l G a v mp n cn x y z2 hT hx0 hn6) (rm_okL (by omega) (by omega)) rfl hl.1 rfl (Nat.le_of_ble_eq_true rfl) d_L_sum_7 ⟨Nat.zero_le _, Nat.zero_le _⟩) hw (fun r v1 H locs hp hw hz hk => ?_)
  have ho : oP G oo f H := ho.kept (hk oo ho.lt hno)
  refine o_st S hK hw ho hoA hno d_L_sum_10 (fun H locs hw ho => ?_)
  refine lv_goto S.1 S.2.1 d_L_sum_11 rfl ?_
  refine lv_iconst (v := nI 0) S.1 S.2.1 d_L_sum_18 (by decide) ?_
  exact l_iret S hw ho ⟨rfl, hp.2, by rw [hp.1]; rfl⟩ hr hlk d_L_sum_19 (Nat.zero_le _) (Nat.zero_le _)
set_option maxHeartbeats 4000000 in
set_option maxRecDepth 100000 in
theorem c_L_differ (l : Launch) (z : Nat) (G : gG) (a : tA) (v : tV) (oo : Nat) (f : Nat → Int64) (sz : Nat) (mp : Nat → nMap) (n cn : Nat) (x w : Nat) (hT : TI v mp n cn) (hx0 : x < n) (hw0 : w < n) (hn6 : n ≤ 600) (hc : cn ≤ 512) : Met l y_L_differ (mwh y_L_differ b_L_differ 5 (some .int) h_L_differ) rmL (lPc z G a v oo f sz [.int (nI x), .int (nI w)]) (lQ G a oo sz (fun r q => r = nI 0 ∧ TI q.1 mp n cn ∧ q.2 0 = (nI (df (mp x) (mp w) 256)).toInt64)) 1 6 (lA a oo sz) := by
  refine m_ofWW (own := R_L) rfl rfl (fun p e s m args below meth c S hr hlk htab hv => ?_)
  obtain ⟨rfl, hsz, hP, hD, hK, ho, hno, hth⟩ := hv
  subst hsz
  have hDA : tD a (lA a oo s.heap.size) := hD.weaken (fun q h => Or.inl h)
  have hoA : lA a oo s.heap.size oo := Or.inr (Or.inl rfl)
  have hw : tS G a (lA a oo s.heap.size) s.heap v s.heap [] := ⟨hP, hDA, va_S.rf⟩
  refine m_entry [.ref (aH a), .int (nI x), .int (nI w), .ref oo] (Nat.le_of_ble_eq_true rfl) (fun ls hl => ?_)
  have hl : lv_has ls 5 [(0, .ref (aH a)), (1, .int (nI x)), (2, .int (nI w)), (3, .ref oo)] := hl
  refine lv_aload_n S.1 S.2.1 d_L_differ_0 rfl (lv_at hl 3 rfl) ?_
  refine lv_iconst (v := nI 0) S.1 S.2.1 d_L_differ_1 (by decide) ?_
  refine lv_aload_n S.1 S.2.1 d_L_differ_2 rfl (lv_at hl 0 rfl) ?_
  refine lv_iload_n S.1 S.2.1 d_L_differ_3 rfl (lv_at hl 1 rfl) ?_
  refine lv_iload_n S.1 S.2.1 d_L_differ_4 rfl (lv_at hl 2 rfl) ?_
  refine t_calli (t_run S (t_pre hK hw.1 hw.2.1) k_T_differ wi_T_differ wv_T_T_differ wL_L_39 (c_T_differ l G a v mp n cn x w hT hx0 hw0 hn6 hc) (rm_okL (by omega) (by omega)) rfl hl.1 rfl (Nat.le_of_ble_eq_true rfl) d_L_differ_5 ⟨Nat.zero_le _, Nat.zero_le _⟩) hw (fun r v1 H locs hp hw hz hk => ?_)
  have ho : oP G oo f H := ho.kept (hk oo ho.lt hno)
  refine lv_i2l S.1 S.2.1 d_L_differ_8 rfl ?_
  refine o_st S hK hw ho hoA hno d_L_differ_9 (fun H locs hw ho => ?_)
  refine lv_goto S.1 S.2.1 d_L_differ_10 rfl ?_
  refine lv_iconst (v := nI 0) S.1 S.2.1 d_L_differ_17 (by decide) ?_
  exact l_iret S hw ho ⟨rfl, hp.2, by rw [hp.1]; rfl⟩ hr hlk d_L_differ_18 (Nat.zero_le _) (Nat.zero_le _)
set_option maxHeartbeats 4000000 in
set_option maxRecDepth 100000 in
theorem c_L_digest (l : Launch) (z : Nat) (G : gG) (a : tA) (v : tV) (oo : Nat) (f : Nat → Int64) (sz : Nat) (mp : Nat → nMap) (n cn : Nat) (x : Nat) (hT : TI v mp n cn) (hx0 : x < n) (hn6 : n ≤ 600) : Met l y_L_digest (mwh y_L_digest b_L_digest 4 (some .int) h_L_digest) rmL (lPc z G a v oo f sz [.int (nI x)]) (lQ G a oo sz (fun r w => r = nI 0 ∧ w.1 = v ∧ w.2 0 = dg (mp x) 7 256)) 1 6 (lA a oo sz) := by
  refine m_ofWW (own := R_L) rfl rfl (fun p e s m args below meth c S hr hlk htab hv => ?_)
  obtain ⟨rfl, hsz, hP, hD, hK, ho, hno, hth⟩ := hv
  subst hsz
  have hDA : tD a (lA a oo s.heap.size) := hD.weaken (fun q h => Or.inl h)
  have hoA : lA a oo s.heap.size oo := Or.inr (Or.inl rfl)
  have hw : tS G a (lA a oo s.heap.size) s.heap v s.heap [] := ⟨hP, hDA, va_S.rf⟩
  refine m_entry [.ref (aH a), .int (nI x), .ref oo] (Nat.le_of_ble_eq_true rfl) (fun ls hl => ?_)
  have hl : lv_has ls 4 [(0, .ref (aH a)), (1, .int (nI x)), (2, .ref oo)] := hl
  refine lv_aload_n S.1 S.2.1 d_L_digest_0 rfl (lv_at hl 2 rfl) ?_
  refine lv_iconst (v := nI 0) S.1 S.2.1 d_L_digest_1 (by decide) ?_
  refine lv_aload_n S.1 S.2.1 d_L_digest_2 rfl (lv_at hl 0 rfl) ?_
  refine lv_iload_n S.1 S.2.1 d_L_digest_3 rfl (lv_at hl 1 rfl) ?_
  refine r_callj (r_run S (t_pre hK hw.1 hw.2.1) k_T_digest wi_T_digest wv_T_T_digest wL_L_42 (c_T_digest l G a v mp n cn x hT hx0 hn6) (rm_okL (by omega) (by omega)) rfl hl.1 rfl (Nat.le_of_ble_eq_true rfl) d_L_digest_4 ⟨Nat.zero_le _, Nat.zero_le _⟩) (fun r hp => ?_)
  refine o_st S hK hw ho hoA hno d_L_digest_7 (fun H locs hw ho => ?_)
  refine lv_goto S.1 S.2.1 d_L_digest_8 rfl ?_
  refine lv_iconst (v := nI 0) S.1 S.2.1 d_L_digest_14 (by decide) ?_
  exact l_iret S hw ho ⟨rfl, rfl, by rw [hp]; rfl⟩ hr hlk d_L_digest_15 (Nat.zero_le _) (Nat.zero_le _)
set_option maxHeartbeats 4000000 in
set_option maxRecDepth 100000 in
theorem c_L_put_v (l : Launch) (hfl : l.flags = pinnedFlags ++ [noTraceFlag]) (z : Nat) (G : gG) (a : tA) (v : tV) (oo : Nat) (f : Nat → Int64) (sz : Nat) (y0 y1 y2 : Int32) (hb : bad y0 (vVer v)) : Met l y_L_put (mwh y_L_put b_L_put 6 (some .int) h_L_put) rmL (lPc z G a v oo f sz [.int y0, .int y1, .int y2]) (lQ G a oo sz (fun r w => r = nI 1 ∧ w = (v, f))) 1 6 (lA a oo sz) := by
  refine m_ofWW (own := R_L) rfl rfl (fun p e s m args below meth c S hr hlk htab hv => ?_)
  obtain ⟨rfl, hsz, hP, hD, hK, ho, hno, hth⟩ := hv
  subst hsz
  have hDA : tD a (lA a oo s.heap.size) := hD.weaken (fun q h => Or.inl h)
  have hoA : lA a oo s.heap.size oo := Or.inr (Or.inl rfl)
  have hw : tS G a (lA a oo s.heap.size) s.heap v s.heap [] := ⟨hP, hDA, va_S.rf⟩
  refine m_entry [.ref (aH a), .int y0, .int y1, .int y2, .ref oo] (Nat.le_of_ble_eq_true rfl) (fun ls hl => ?_)
  have hl : lv_has ls 6 [(0, .ref (aH a)), (1, .int y0), (2, .int y1), (3, .int y2), (4, .ref oo)] := hl
  refine lv_aload S.1 S.2.1 d_L_put_0 (lv_at hl 4 rfl) ?_
  refine lv_iconst (v := nI 0) S.1 S.2.1 d_L_put_2 (by decide) ?_
  refine lv_aload_n S.1 S.2.1 d_L_put_3 rfl (lv_at hl 0 rfl) ?_
  refine lv_iload_n S.1 S.2.1 d_L_put_4 rfl (lv_at hl 1 rfl) ?_
  refine lv_iload_n S.1 S.2.1 d_L_put_5 rfl (lv_at hl 2 rfl) ?_
  refine lv_iload_n S.1 S.2.1 d_L_put_6 rfl (lv_at hl 3 rfl) ?_
  refine x_catch S htab (q := 15) ⟨by decide, by decide, by decide, nIo, wK_L_13, Or.inl ⟨rfl, asg_Io hth⟩⟩ (x_runV S (x_preV hK hw.1 hw.2.1 hth rfl) k_T_put wi_T_put wv_T_T_put wL_L_7 (x_T_put_v l hfl z G a v y0 y1 y2 hb) (rm_XL (by omega) (by omega)) rfl hl.1 rfl (Nat.le_of_ble_eq_true rfl) d_L_put_7 ⟨Nat.le_of_ble_eq_true rfl, Nat.le_of_ble_eq_true rfl⟩) (fun b H hz hk => ?_)
  have hw : tS G a (lA a oo s.heap.size) s.heap v H [] := ⟨hw.1.kept (fun q hq => hk q (hw.1.lt q hq)), hDA, hz, fun q h1 _ => hk q h1, fun q h => by cases h⟩
  have ho : oP G oo f H := ho.kept (hk oo ho.lt)
  refine lv_astore S.1 S.2.1 d_L_put_15 hl (by decide) rfl (fun ls hl => ?_)
  refine lv_iconst (v := nI 1) S.1 S.2.1 d_L_put_17 (by decide) ?_
  exact l_iret S hw ho ⟨rfl, rfl⟩ hr hlk d_L_put_18 (Nat.le_of_ble_eq_true rfl) (Nat.le_of_ble_eq_true rfl)
set_option maxHeartbeats 4000000 in
set_option maxRecDepth 100000 in
theorem c_L_remove_v (l : Launch) (hfl : l.flags = pinnedFlags ++ [noTraceFlag]) (z : Nat) (G : gG) (a : tA) (v : tV) (oo : Nat) (f : Nat → Int64) (sz : Nat) (y0 y1 : Int32) (hb : bad y0 (vVer v)) : Met l y_L_remove (mwh y_L_remove b_L_remove 5 (some .int) h_L_remove) rmL (lPc z G a v oo f sz [.int y0, .int y1]) (lQ G a oo sz (fun r w => r = nI 1 ∧ w = (v, f))) 1 6 (lA a oo sz) := by
  refine m_ofWW (own := R_L) rfl rfl (fun p e s m args below meth c S hr hlk htab hv => ?_)
  obtain ⟨rfl, hsz, hP, hD, hK, ho, hno, hth⟩ := hv
  subst hsz
  have hDA : tD a (lA a oo s.heap.size) := hD.weaken (fun q h => Or.inl h)
  have hoA : lA a oo s.heap.size oo := Or.inr (Or.inl rfl)
  have hw : tS G a (lA a oo s.heap.size) s.heap v s.heap [] := ⟨hP, hDA, va_S.rf⟩
  refine m_entry [.ref (aH a), .int y0, .int y1, .ref oo] (Nat.le_of_ble_eq_true rfl) (fun ls hl => ?_)
  have hl : lv_has ls 5 [(0, .ref (aH a)), (1, .int y0), (2, .int y1), (3, .ref oo)] := hl
  refine lv_aload_n S.1 S.2.1 d_L_remove_0 rfl (lv_at hl 3 rfl) ?_
  refine lv_iconst (v := nI 0) S.1 S.2.1 d_L_remove_1 (by decide) ?_
  refine lv_aload_n S.1 S.2.1 d_L_remove_2 rfl (lv_at hl 0 rfl) ?_
  refine lv_iload_n S.1 S.2.1 d_L_remove_3 rfl (lv_at hl 1 rfl) ?_
  refine lv_iload_n S.1 S.2.1 d_L_remove_4 rfl (lv_at hl 2 rfl) ?_
  refine x_catch S htab (q := 13) ⟨by decide, by decide, by decide, nIo, wK_L_13, Or.inl ⟨rfl, asg_Io hth⟩⟩ (x_runV S (x_preV hK hw.1 hw.2.1 hth rfl) k_T_remove wi_T_remove wv_T_T_remove wL_L_17 (x_T_remove_v l hfl z G a v y0 y1 hb) (rm_XL (by omega) (by omega)) rfl hl.1 rfl (Nat.le_of_ble_eq_true rfl) d_L_remove_5 ⟨Nat.le_of_ble_eq_true rfl, Nat.le_of_ble_eq_true rfl⟩) (fun b H hz hk => ?_)
  have hw : tS G a (lA a oo s.heap.size) s.heap v H [] := ⟨hw.1.kept (fun q hq => hk q (hw.1.lt q hq)), hDA, hz, fun q h1 _ => hk q h1, fun q h => by cases h⟩
  have ho : oP G oo f H := ho.kept (hk oo ho.lt)
  refine lv_astore S.1 S.2.1 d_L_remove_13 hl (by decide) rfl (fun ls hl => ?_)
  refine lv_iconst (v := nI 1) S.1 S.2.1 d_L_remove_15 (by decide) ?_
  exact l_iret S hw ho ⟨rfl, rfl⟩ hr hlk d_L_remove_16 (Nat.le_of_ble_eq_true rfl) (Nat.le_of_ble_eq_true rfl)
set_option maxHeartbeats 4000000 in
set_option maxRecDepth 100000 in
theorem c_L_join_v (l : Launch) (hfl : l.flags = pinnedFlags ++ [noTraceFlag]) (z : Nat) (G : gG) (a : tA) (v : tV) (oo : Nat) (f : Nat → Int64) (sz : Nat) (y0 y1 y2 : Int32) (hb : bad y0 (vVer v)) : Met l y_L_join (mwh y_L_join b_L_join 6 (some .int) h_L_join) rmL (lPc z G a v oo f sz [.int y0, .int y1, .int y2]) (lQ G a oo sz (fun r w => r = nI 1 ∧ w = (v, f))) 1 6 (lA a oo sz) := by
  refine m_ofWW (own := R_L) rfl rfl (fun p e s m args below meth c S hr hlk htab hv => ?_)
  obtain ⟨rfl, hsz, hP, hD, hK, ho, hno, hth⟩ := hv
  subst hsz
  have hDA : tD a (lA a oo s.heap.size) := hD.weaken (fun q h => Or.inl h)
  have hoA : lA a oo s.heap.size oo := Or.inr (Or.inl rfl)
  have hw : tS G a (lA a oo s.heap.size) s.heap v s.heap [] := ⟨hP, hDA, va_S.rf⟩
  refine m_entry [.ref (aH a), .int y0, .int y1, .int y2, .ref oo] (Nat.le_of_ble_eq_true rfl) (fun ls hl => ?_)
  have hl : lv_has ls 6 [(0, .ref (aH a)), (1, .int y0), (2, .int y1), (3, .int y2), (4, .ref oo)] := hl
  refine lv_aload S.1 S.2.1 d_L_join_0 (lv_at hl 4 rfl) ?_
  refine lv_iconst (v := nI 0) S.1 S.2.1 d_L_join_2 (by decide) ?_
  refine lv_aload_n S.1 S.2.1 d_L_join_3 rfl (lv_at hl 0 rfl) ?_
  refine lv_iload_n S.1 S.2.1 d_L_join_4 rfl (lv_at hl 1 rfl) ?_
  refine lv_iload_n S.1 S.2.1 d_L_join_5 rfl (lv_at hl 2 rfl) ?_
  refine lv_iload_n S.1 S.2.1 d_L_join_6 rfl (lv_at hl 3 rfl) ?_
  refine x_catch S htab (q := 15) ⟨by decide, by decide, by decide, nIo, wK_L_13, Or.inl ⟨rfl, asg_Io hth⟩⟩ (x_runV S (x_preV hK hw.1 hw.2.1 hth rfl) k_T_join wi_T_join wv_T_T_join wL_L_23 (x_T_join_v l hfl z G a v y0 y1 y2 hb) (rm_XL (by omega) (by omega)) rfl hl.1 rfl (Nat.le_of_ble_eq_true rfl) d_L_join_7 ⟨Nat.le_of_ble_eq_true rfl, Nat.le_of_ble_eq_true rfl⟩) (fun b H hz hk => ?_)
  have hw : tS G a (lA a oo s.heap.size) s.heap v H [] := ⟨hw.1.kept (fun q hq => hk q (hw.1.lt q hq)), hDA, hz, fun q h1 _ => hk q h1, fun q h => by cases h⟩
  have ho : oP G oo f H := ho.kept (hk oo ho.lt)
  refine lv_astore S.1 S.2.1 d_L_join_15 hl (by decide) rfl (fun ls hl => ?_)
  refine lv_iconst (v := nI 1) S.1 S.2.1 d_L_join_17 (by decide) ?_
  exact l_iret S hw ho ⟨rfl, rfl⟩ hr hlk d_L_join_18 (Nat.le_of_ble_eq_true rfl) (Nat.le_of_ble_eq_true rfl)
set_option maxHeartbeats 4000000 in
set_option maxRecDepth 100000 in
theorem c_L_get_v (l : Launch) (hfl : l.flags = pinnedFlags ++ [noTraceFlag]) (z : Nat) (G : gG) (a : tA) (v : tV) (oo : Nat) (f : Nat → Int64) (sz : Nat) (y0 y1 : Int32) (hb : bad y0 (vVer v)) : Met l y_L_get (mwh y_L_get b_L_get 5 (some .int) h_L_get) rmL (lPc z G a v oo f sz [.int y0, .int y1]) (lQ G a oo sz (fun r w => r = nI 1 ∧ w = (v, f))) 1 6 (lA a oo sz) := by
  refine m_ofWW (own := R_L) rfl rfl (fun p e s m args below meth c S hr hlk htab hv => ?_)
  obtain ⟨rfl, hsz, hP, hD, hK, ho, hno, hth⟩ := hv
  subst hsz
  have hDA : tD a (lA a oo s.heap.size) := hD.weaken (fun q h => Or.inl h)
  have hoA : lA a oo s.heap.size oo := Or.inr (Or.inl rfl)
  have hw : tS G a (lA a oo s.heap.size) s.heap v s.heap [] := ⟨hP, hDA, va_S.rf⟩
  refine m_entry [.ref (aH a), .int y0, .int y1, .ref oo] (Nat.le_of_ble_eq_true rfl) (fun ls hl => ?_)
  have hl : lv_has ls 5 [(0, .ref (aH a)), (1, .int y0), (2, .int y1), (3, .ref oo)] := hl
  refine lv_aload_n S.1 S.2.1 d_L_get_0 rfl (lv_at hl 3 rfl) ?_
  refine lv_iconst (v := nI 0) S.1 S.2.1 d_L_get_1 (by decide) ?_
  refine lv_aload_n S.1 S.2.1 d_L_get_2 rfl (lv_at hl 0 rfl) ?_
  refine lv_iload_n S.1 S.2.1 d_L_get_3 rfl (lv_at hl 1 rfl) ?_
  refine lv_iload_n S.1 S.2.1 d_L_get_4 rfl (lv_at hl 2 rfl) ?_
  refine x_catch S htab (q := 13) ⟨by decide, by decide, by decide, nIo, wK_L_13, Or.inl ⟨rfl, asg_Io hth⟩⟩ (x_runV S (x_preV hK hw.1 hw.2.1 hth rfl) k_T_get wi_T_get wv_T_T_get wL_L_26 (x_T_get_v l hfl z G a v y0 y1 hb) (rm_XL (by omega) (by omega)) rfl hl.1 rfl (Nat.le_of_ble_eq_true rfl) d_L_get_5 ⟨Nat.le_of_ble_eq_true rfl, Nat.le_of_ble_eq_true rfl⟩) (fun b H hz hk => ?_)
  have hw : tS G a (lA a oo s.heap.size) s.heap v H [] := ⟨hw.1.kept (fun q hq => hk q (hw.1.lt q hq)), hDA, hz, fun q h1 _ => hk q h1, fun q h => by cases h⟩
  have ho : oP G oo f H := ho.kept (hk oo ho.lt)
  refine lv_astore S.1 S.2.1 d_L_get_13 hl (by decide) rfl (fun ls hl => ?_)
  refine lv_iconst (v := nI 1) S.1 S.2.1 d_L_get_15 (by decide) ?_
  exact l_iret S hw ho ⟨rfl, rfl⟩ hr hlk d_L_get_16 (Nat.le_of_ble_eq_true rfl) (Nat.le_of_ble_eq_true rfl)
set_option maxHeartbeats 4000000 in
set_option maxRecDepth 100000 in
theorem c_L_select_v (l : Launch) (hfl : l.flags = pinnedFlags ++ [noTraceFlag]) (z : Nat) (G : gG) (a : tA) (v : tV) (oo : Nat) (f : Nat → Int64) (sz : Nat) (y0 y1 : Int32) (hb : bad y0 (vVer v)) : Met l y_L_select (mwh y_L_select b_L_select 5 (some .int) h_L_select) rmL (lPc z G a v oo f sz [.int y0, .int y1]) (lQ G a oo sz (fun r w => r = nI 1 ∧ w = (v, f))) 1 6 (lA a oo sz) := by
  refine m_ofWW (own := R_L) rfl rfl (fun p e s m args below meth c S hr hlk htab hv => ?_)
  obtain ⟨rfl, hsz, hP, hD, hK, ho, hno, hth⟩ := hv
  subst hsz
  have hDA : tD a (lA a oo s.heap.size) := hD.weaken (fun q h => Or.inl h)
  have hoA : lA a oo s.heap.size oo := Or.inr (Or.inl rfl)
  have hw : tS G a (lA a oo s.heap.size) s.heap v s.heap [] := ⟨hP, hDA, va_S.rf⟩
  refine m_entry [.ref (aH a), .int y0, .int y1, .ref oo] (Nat.le_of_ble_eq_true rfl) (fun ls hl => ?_)
  have hl : lv_has ls 5 [(0, .ref (aH a)), (1, .int y0), (2, .int y1), (3, .ref oo)] := hl
  refine lv_aload_n S.1 S.2.1 d_L_select_0 rfl (lv_at hl 3 rfl) ?_
  refine lv_iconst (v := nI 0) S.1 S.2.1 d_L_select_1 (by decide) ?_
  refine lv_aload_n S.1 S.2.1 d_L_select_2 rfl (lv_at hl 0 rfl) ?_
  refine lv_iload_n S.1 S.2.1 d_L_select_3 rfl (lv_at hl 1 rfl) ?_
  refine lv_iload_n S.1 S.2.1 d_L_select_4 rfl (lv_at hl 2 rfl) ?_
  refine x_catch S htab (q := 13) ⟨by decide, by decide, by decide, nIo, wK_L_13, Or.inl ⟨rfl, asg_Io hth⟩⟩ (x_runV S (x_preV hK hw.1 hw.2.1 hth rfl) k_T_select wi_T_select wv_T_T_select wL_L_29 (x_T_select_v l hfl z G a v y0 y1 hb) (rm_XL (by omega) (by omega)) rfl hl.1 rfl (Nat.le_of_ble_eq_true rfl) d_L_select_5 ⟨Nat.le_of_ble_eq_true rfl, Nat.le_of_ble_eq_true rfl⟩) (fun b H hz hk => ?_)
  have hw : tS G a (lA a oo s.heap.size) s.heap v H [] := ⟨hw.1.kept (fun q hq => hk q (hw.1.lt q hq)), hDA, hz, fun q h1 _ => hk q h1, fun q h => by cases h⟩
  have ho : oP G oo f H := ho.kept (hk oo ho.lt)
  refine lv_astore S.1 S.2.1 d_L_select_13 hl (by decide) rfl (fun ls hl => ?_)
  refine lv_iconst (v := nI 1) S.1 S.2.1 d_L_select_15 (by decide) ?_
  exact l_iret S hw ho ⟨rfl, rfl⟩ hr hlk d_L_select_16 (Nat.le_of_ble_eq_true rfl) (Nat.le_of_ble_eq_true rfl)
set_option maxHeartbeats 4000000 in
set_option maxRecDepth 100000 in
theorem c_L_many_v (l : Launch) (hfl : l.flags = pinnedFlags ++ [noTraceFlag]) (z : Nat) (G : gG) (a : tA) (v : tV) (oo : Nat) (f : Nat → Int64) (sz : Nat) (y0 y1 y2 : Int32) (hb : bad y0 (vVer v)) : Met l y_L_many (mwh y_L_many b_L_many 6 (some .int) h_L_many) rmL (lPc z G a v oo f sz [.int y0, .int y1, .int y2]) (lQ G a oo sz (fun r w => r = nI 1 ∧ w = (v, f))) 1 6 (lA a oo sz) := by
  refine m_ofWW (own := R_L) rfl rfl (fun p e s m args below meth c S hr hlk htab hv => ?_)
  obtain ⟨rfl, hsz, hP, hD, hK, ho, hno, hth⟩ := hv
  subst hsz
  have hDA : tD a (lA a oo s.heap.size) := hD.weaken (fun q h => Or.inl h)
  have hoA : lA a oo s.heap.size oo := Or.inr (Or.inl rfl)
  have hw : tS G a (lA a oo s.heap.size) s.heap v s.heap [] := ⟨hP, hDA, va_S.rf⟩
  refine m_entry [.ref (aH a), .int y0, .int y1, .int y2, .ref oo] (Nat.le_of_ble_eq_true rfl) (fun ls hl => ?_)
  have hl : lv_has ls 6 [(0, .ref (aH a)), (1, .int y0), (2, .int y1), (3, .int y2), (4, .ref oo)] := hl
  refine lv_aload S.1 S.2.1 d_L_many_0 (lv_at hl 4 rfl) ?_
  refine lv_iconst (v := nI 0) S.1 S.2.1 d_L_many_2 (by decide) ?_
  refine lv_aload_n S.1 S.2.1 d_L_many_3 rfl (lv_at hl 0 rfl) ?_
  refine lv_iload_n S.1 S.2.1 d_L_many_4 rfl (lv_at hl 1 rfl) ?_
  refine lv_iload_n S.1 S.2.1 d_L_many_5 rfl (lv_at hl 2 rfl) ?_
  refine lv_iload_n S.1 S.2.1 d_L_many_6 rfl (lv_at hl 3 rfl) ?_
  refine x_catch S htab (q := 15) ⟨by decide, by decide, by decide, nIo, wK_L_13, Or.inl ⟨rfl, asg_Io hth⟩⟩ (x_runV S (x_preV hK hw.1 hw.2.1 hth rfl) k_T_many wi_T_many wv_T_T_many wL_L_32 (x_T_many_v l hfl z G a v y0 y1 y2 hb) (rm_XL (by omega) (by omega)) rfl hl.1 rfl (Nat.le_of_ble_eq_true rfl) d_L_many_7 ⟨Nat.le_of_ble_eq_true rfl, Nat.le_of_ble_eq_true rfl⟩) (fun b H hz hk => ?_)
  have hw : tS G a (lA a oo s.heap.size) s.heap v H [] := ⟨hw.1.kept (fun q hq => hk q (hw.1.lt q hq)), hDA, hz, fun q h1 _ => hk q h1, fun q h => by cases h⟩
  have ho : oP G oo f H := ho.kept (hk oo ho.lt)
  refine lv_astore S.1 S.2.1 d_L_many_15 hl (by decide) rfl (fun ls hl => ?_)
  refine lv_iconst (v := nI 1) S.1 S.2.1 d_L_many_17 (by decide) ?_
  exact l_iret S hw ho ⟨rfl, rfl⟩ hr hlk d_L_many_18 (Nat.le_of_ble_eq_true rfl) (Nat.le_of_ble_eq_true rfl)
set_option maxHeartbeats 4000000 in
set_option maxRecDepth 100000 in
theorem c_L_sum_v (l : Launch) (hfl : l.flags = pinnedFlags ++ [noTraceFlag]) (z : Nat) (G : gG) (a : tA) (v : tV) (oo : Nat) (f : Nat → Int64) (sz : Nat) (y0 y1 y2 : Int32) (hb : bad y0 (vVer v)) : Met l y_L_sum (mwh y_L_sum b_L_sum 6 (some .int) h_L_sum) rmL (lPc z G a v oo f sz [.int y0, .int y1, .int y2]) (lQ G a oo sz (fun r w => r = nI 1 ∧ w = (v, f))) 1 6 (lA a oo sz) := by
  refine m_ofWW (own := R_L) rfl rfl (fun p e s m args below meth c S hr hlk htab hv => ?_)
  obtain ⟨rfl, hsz, hP, hD, hK, ho, hno, hth⟩ := hv
  subst hsz
  have hDA : tD a (lA a oo s.heap.size) := hD.weaken (fun q h => Or.inl h)
  have hoA : lA a oo s.heap.size oo := Or.inr (Or.inl rfl)
  have hw : tS G a (lA a oo s.heap.size) s.heap v s.heap [] := ⟨hP, hDA, va_S.rf⟩
  refine m_entry [.ref (aH a), .int y0, .int y1, .int y2, .ref oo] (Nat.le_of_ble_eq_true rfl) (fun ls hl => ?_)
  have hl : lv_has ls 6 [(0, .ref (aH a)), (1, .int y0), (2, .int y1), (3, .int y2), (4, .ref oo)] := hl
  refine lv_aload S.1 S.2.1 d_L_sum_0 (lv_at hl 4 rfl) ?_
  refine lv_iconst (v := nI 0) S.1 S.2.1 d_L_sum_2 (by decide) ?_
  refine lv_aload_n S.1 S.2.1 d_L_sum_3 rfl (lv_at hl 0 rfl) ?_
  refine lv_iload_n S.1 S.2.1 d_L_sum_4 rfl (lv_at hl 1 rfl) ?_
  refine lv_iload_n S.1 S.2.1 d_L_sum_5 rfl (lv_at hl 2 rfl) ?_
  refine lv_iload_n S.1 S.2.1 d_L_sum_6 rfl (lv_at hl 3 rfl) ?_
  refine x_catch S htab (q := 14) ⟨by decide, by decide, by decide, nIo, wK_L_13, Or.inl ⟨rfl, asg_Io hth⟩⟩ (x_runV S (x_preV hK hw.1 hw.2.1 hth rfl) k_T_sum wi_T_sum wv_T_T_sum wL_L_35 (x_T_sum_v l hfl z G a v y0 y1 y2 hb) (rm_XL (by omega) (by omega)) rfl hl.1 rfl (Nat.le_of_ble_eq_true rfl) d_L_sum_7 ⟨Nat.le_of_ble_eq_true rfl, Nat.le_of_ble_eq_true rfl⟩) (fun b H hz hk => ?_)
  have hw : tS G a (lA a oo s.heap.size) s.heap v H [] := ⟨hw.1.kept (fun q hq => hk q (hw.1.lt q hq)), hDA, hz, fun q h1 _ => hk q h1, fun q h => by cases h⟩
  have ho : oP G oo f H := ho.kept (hk oo ho.lt)
  refine lv_astore S.1 S.2.1 d_L_sum_14 hl (by decide) rfl (fun ls hl => ?_)
  refine lv_iconst (v := nI 1) S.1 S.2.1 d_L_sum_16 (by decide) ?_
  exact l_iret S hw ho ⟨rfl, rfl⟩ hr hlk d_L_sum_17 (Nat.le_of_ble_eq_true rfl) (Nat.le_of_ble_eq_true rfl)
set_option maxHeartbeats 4000000 in
set_option maxRecDepth 100000 in
theorem c_L_differ_v (l : Launch) (hfl : l.flags = pinnedFlags ++ [noTraceFlag]) (z : Nat) (G : gG) (a : tA) (v : tV) (oo : Nat) (f : Nat → Int64) (sz : Nat) (y0 y1 : Int32) (hb : bad y0 (vVer v)) : Met l y_L_differ (mwh y_L_differ b_L_differ 5 (some .int) h_L_differ) rmL (lPc z G a v oo f sz [.int y0, .int y1]) (lQ G a oo sz (fun r w => r = nI 1 ∧ w = (v, f))) 1 6 (lA a oo sz) := by
  refine m_ofWW (own := R_L) rfl rfl (fun p e s m args below meth c S hr hlk htab hv => ?_)
  obtain ⟨rfl, hsz, hP, hD, hK, ho, hno, hth⟩ := hv
  subst hsz
  have hDA : tD a (lA a oo s.heap.size) := hD.weaken (fun q h => Or.inl h)
  have hoA : lA a oo s.heap.size oo := Or.inr (Or.inl rfl)
  have hw : tS G a (lA a oo s.heap.size) s.heap v s.heap [] := ⟨hP, hDA, va_S.rf⟩
  refine m_entry [.ref (aH a), .int y0, .int y1, .ref oo] (Nat.le_of_ble_eq_true rfl) (fun ls hl => ?_)
  have hl : lv_has ls 5 [(0, .ref (aH a)), (1, .int y0), (2, .int y1), (3, .ref oo)] := hl
  refine lv_aload_n S.1 S.2.1 d_L_differ_0 rfl (lv_at hl 3 rfl) ?_
  refine lv_iconst (v := nI 0) S.1 S.2.1 d_L_differ_1 (by decide) ?_
  refine lv_aload_n S.1 S.2.1 d_L_differ_2 rfl (lv_at hl 0 rfl) ?_
  refine lv_iload_n S.1 S.2.1 d_L_differ_3 rfl (lv_at hl 1 rfl) ?_
  refine lv_iload_n S.1 S.2.1 d_L_differ_4 rfl (lv_at hl 2 rfl) ?_
  refine x_catch S htab (q := 13) ⟨by decide, by decide, by decide, nIo, wK_L_13, Or.inl ⟨rfl, asg_Io hth⟩⟩ (x_runV S (x_preV hK hw.1 hw.2.1 hth rfl) k_T_differ wi_T_differ wv_T_T_differ wL_L_39 (x_T_differ_v l hfl z G a v y0 y1 hb) (rm_XL (by omega) (by omega)) rfl hl.1 rfl (Nat.le_of_ble_eq_true rfl) d_L_differ_5 ⟨Nat.le_of_ble_eq_true rfl, Nat.le_of_ble_eq_true rfl⟩) (fun b H hz hk => ?_)
  have hw : tS G a (lA a oo s.heap.size) s.heap v H [] := ⟨hw.1.kept (fun q hq => hk q (hw.1.lt q hq)), hDA, hz, fun q h1 _ => hk q h1, fun q h => by cases h⟩
  have ho : oP G oo f H := ho.kept (hk oo ho.lt)
  refine lv_astore S.1 S.2.1 d_L_differ_13 hl (by decide) rfl (fun ls hl => ?_)
  refine lv_iconst (v := nI 1) S.1 S.2.1 d_L_differ_15 (by decide) ?_
  exact l_iret S hw ho ⟨rfl, rfl⟩ hr hlk d_L_differ_16 (Nat.le_of_ble_eq_true rfl) (Nat.le_of_ble_eq_true rfl)
set_option maxHeartbeats 4000000 in
set_option maxRecDepth 100000 in
theorem c_L_digest_v (l : Launch) (hfl : l.flags = pinnedFlags ++ [noTraceFlag]) (z : Nat) (G : gG) (a : tA) (v : tV) (oo : Nat) (f : Nat → Int64) (sz : Nat) (y0 : Int32) (hb : bad y0 (vVer v)) : Met l y_L_digest (mwh y_L_digest b_L_digest 4 (some .int) h_L_digest) rmL (lPc z G a v oo f sz [.int y0]) (lQ G a oo sz (fun r w => r = nI 1 ∧ w = (v, f))) 1 6 (lA a oo sz) := by
  refine m_ofWW (own := R_L) rfl rfl (fun p e s m args below meth c S hr hlk htab hv => ?_)
  obtain ⟨rfl, hsz, hP, hD, hK, ho, hno, hth⟩ := hv
  subst hsz
  have hDA : tD a (lA a oo s.heap.size) := hD.weaken (fun q h => Or.inl h)
  have hoA : lA a oo s.heap.size oo := Or.inr (Or.inl rfl)
  have hw : tS G a (lA a oo s.heap.size) s.heap v s.heap [] := ⟨hP, hDA, va_S.rf⟩
  refine m_entry [.ref (aH a), .int y0, .ref oo] (Nat.le_of_ble_eq_true rfl) (fun ls hl => ?_)
  have hl : lv_has ls 4 [(0, .ref (aH a)), (1, .int y0), (2, .ref oo)] := hl
  refine lv_aload_n S.1 S.2.1 d_L_digest_0 rfl (lv_at hl 2 rfl) ?_
  refine lv_iconst (v := nI 0) S.1 S.2.1 d_L_digest_1 (by decide) ?_
  refine lv_aload_n S.1 S.2.1 d_L_digest_2 rfl (lv_at hl 0 rfl) ?_
  refine lv_iload_n S.1 S.2.1 d_L_digest_3 rfl (lv_at hl 1 rfl) ?_
  refine x_catch S htab (q := 11) ⟨by decide, by decide, by decide, nIo, wK_L_13, Or.inl ⟨rfl, asg_Io hth⟩⟩ (x_runV S (x_preV hK hw.1 hw.2.1 hth rfl) k_T_digest wi_T_digest wv_T_T_digest wL_L_42 (x_T_digest_v l hfl z G a v y0 hb) (rm_XL (by omega) (by omega)) rfl hl.1 rfl (Nat.le_of_ble_eq_true rfl) d_L_digest_4 ⟨Nat.le_of_ble_eq_true rfl, Nat.le_of_ble_eq_true rfl⟩) (fun b H hz hk => ?_)
  have hw : tS G a (lA a oo s.heap.size) s.heap v H [] := ⟨hw.1.kept (fun q hq => hk q (hw.1.lt q hq)), hDA, hz, fun q h1 _ => hk q h1, fun q h => by cases h⟩
  have ho : oP G oo f H := ho.kept (hk oo ho.lt)
  refine lv_astore_n S.1 S.2.1 d_L_digest_11 rfl hl (by decide) rfl (fun ls hl => ?_)
  refine lv_iconst (v := nI 1) S.1 S.2.1 d_L_digest_12 (by decide) ?_
  exact l_iret S hw ho ⟨rfl, rfl⟩ hr hlk d_L_digest_13 (Nat.le_of_ble_eq_true rfl) (Nat.le_of_ble_eq_true rfl)
set_option maxHeartbeats 4000000 in
set_option maxRecDepth 100000 in
theorem c_L_put_k (l : Launch) (hfl : l.flags = pinnedFlags ++ [noTraceFlag]) (z : Nat) (G : gG) (a : tA) (v : tV) (oo : Nat) (f : Nat → Int64) (sz : Nat) (x : Nat) (y1 y2 : Int32) (hx0 : x < vVer v) (hv6 : vVer v ≤ 600) (hb : bad y1 256) : Met l y_L_put (mwh y_L_put b_L_put 6 (some .int) h_L_put) rmL (lPc z G a v oo f sz [.int (nI x), .int y1, .int y2]) (lQ G a oo sz (fun r w => r = nI 1 ∧ w = (v, f))) 1 6 (lA a oo sz) := by
  refine m_ofWW (own := R_L) rfl rfl (fun p e s m args below meth c S hr hlk htab hv => ?_)
  obtain ⟨rfl, hsz, hP, hD, hK, ho, hno, hth⟩ := hv
  subst hsz
  have hDA : tD a (lA a oo s.heap.size) := hD.weaken (fun q h => Or.inl h)
  have hoA : lA a oo s.heap.size oo := Or.inr (Or.inl rfl)
  have hw : tS G a (lA a oo s.heap.size) s.heap v s.heap [] := ⟨hP, hDA, va_S.rf⟩
  refine m_entry [.ref (aH a), .int (nI x), .int y1, .int y2, .ref oo] (Nat.le_of_ble_eq_true rfl) (fun ls hl => ?_)
  have hl : lv_has ls 6 [(0, .ref (aH a)), (1, .int (nI x)), (2, .int y1), (3, .int y2), (4, .ref oo)] := hl
  refine lv_aload S.1 S.2.1 d_L_put_0 (lv_at hl 4 rfl) ?_
  refine lv_iconst (v := nI 0) S.1 S.2.1 d_L_put_2 (by decide) ?_
  refine lv_aload_n S.1 S.2.1 d_L_put_3 rfl (lv_at hl 0 rfl) ?_
  refine lv_iload_n S.1 S.2.1 d_L_put_4 rfl (lv_at hl 1 rfl) ?_
  refine lv_iload_n S.1 S.2.1 d_L_put_5 rfl (lv_at hl 2 rfl) ?_
  refine lv_iload_n S.1 S.2.1 d_L_put_6 rfl (lv_at hl 3 rfl) ?_
  refine x_catch S htab (q := 15) ⟨by decide, by decide, by decide, nIo, wK_L_13, Or.inl ⟨rfl, asg_Io hth⟩⟩ (x_runV S (x_preV hK hw.1 hw.2.1 hth rfl) k_T_put wi_T_put wv_T_T_put wL_L_7 (x_T_put_k l hfl z G a v x y1 y2 hx0 hv6 hb) (rm_XL (by omega) (by omega)) rfl hl.1 rfl (Nat.le_of_ble_eq_true rfl) d_L_put_7 ⟨Nat.le_of_ble_eq_true rfl, Nat.le_of_ble_eq_true rfl⟩) (fun b H hz hk => ?_)
  have hw : tS G a (lA a oo s.heap.size) s.heap v H [] := ⟨hw.1.kept (fun q hq => hk q (hw.1.lt q hq)), hDA, hz, fun q h1 _ => hk q h1, fun q h => by cases h⟩
  have ho : oP G oo f H := ho.kept (hk oo ho.lt)
  refine lv_astore S.1 S.2.1 d_L_put_15 hl (by decide) rfl (fun ls hl => ?_)
  refine lv_iconst (v := nI 1) S.1 S.2.1 d_L_put_17 (by decide) ?_
  exact l_iret S hw ho ⟨rfl, rfl⟩ hr hlk d_L_put_18 (Nat.le_of_ble_eq_true rfl) (Nat.le_of_ble_eq_true rfl)
set_option maxHeartbeats 4000000 in
set_option maxRecDepth 100000 in
theorem c_L_remove_k (l : Launch) (hfl : l.flags = pinnedFlags ++ [noTraceFlag]) (z : Nat) (G : gG) (a : tA) (v : tV) (oo : Nat) (f : Nat → Int64) (sz : Nat) (x : Nat) (y1 : Int32) (hx0 : x < vVer v) (hv6 : vVer v ≤ 600) (hb : bad y1 256) : Met l y_L_remove (mwh y_L_remove b_L_remove 5 (some .int) h_L_remove) rmL (lPc z G a v oo f sz [.int (nI x), .int y1]) (lQ G a oo sz (fun r w => r = nI 1 ∧ w = (v, f))) 1 6 (lA a oo sz) := by
  refine m_ofWW (own := R_L) rfl rfl (fun p e s m args below meth c S hr hlk htab hv => ?_)
  obtain ⟨rfl, hsz, hP, hD, hK, ho, hno, hth⟩ := hv
  subst hsz
  have hDA : tD a (lA a oo s.heap.size) := hD.weaken (fun q h => Or.inl h)
  have hoA : lA a oo s.heap.size oo := Or.inr (Or.inl rfl)
  have hw : tS G a (lA a oo s.heap.size) s.heap v s.heap [] := ⟨hP, hDA, va_S.rf⟩
  refine m_entry [.ref (aH a), .int (nI x), .int y1, .ref oo] (Nat.le_of_ble_eq_true rfl) (fun ls hl => ?_)
  have hl : lv_has ls 5 [(0, .ref (aH a)), (1, .int (nI x)), (2, .int y1), (3, .ref oo)] := hl
  refine lv_aload_n S.1 S.2.1 d_L_remove_0 rfl (lv_at hl 3 rfl) ?_
  refine lv_iconst (v := nI 0) S.1 S.2.1 d_L_remove_1 (by decide) ?_
  refine lv_aload_n S.1 S.2.1 d_L_remove_2 rfl (lv_at hl 0 rfl) ?_
  refine lv_iload_n S.1 S.2.1 d_L_remove_3 rfl (lv_at hl 1 rfl) ?_
  refine lv_iload_n S.1 S.2.1 d_L_remove_4 rfl (lv_at hl 2 rfl) ?_
  refine x_catch S htab (q := 13) ⟨by decide, by decide, by decide, nIo, wK_L_13, Or.inl ⟨rfl, asg_Io hth⟩⟩ (x_runV S (x_preV hK hw.1 hw.2.1 hth rfl) k_T_remove wi_T_remove wv_T_T_remove wL_L_17 (x_T_remove_k l hfl z G a v x y1 hx0 hv6 hb) (rm_XL (by omega) (by omega)) rfl hl.1 rfl (Nat.le_of_ble_eq_true rfl) d_L_remove_5 ⟨Nat.le_of_ble_eq_true rfl, Nat.le_of_ble_eq_true rfl⟩) (fun b H hz hk => ?_)
  have hw : tS G a (lA a oo s.heap.size) s.heap v H [] := ⟨hw.1.kept (fun q hq => hk q (hw.1.lt q hq)), hDA, hz, fun q h1 _ => hk q h1, fun q h => by cases h⟩
  have ho : oP G oo f H := ho.kept (hk oo ho.lt)
  refine lv_astore S.1 S.2.1 d_L_remove_13 hl (by decide) rfl (fun ls hl => ?_)
  refine lv_iconst (v := nI 1) S.1 S.2.1 d_L_remove_15 (by decide) ?_
  exact l_iret S hw ho ⟨rfl, rfl⟩ hr hlk d_L_remove_16 (Nat.le_of_ble_eq_true rfl) (Nat.le_of_ble_eq_true rfl)
set_option maxHeartbeats 4000000 in
set_option maxRecDepth 100000 in
theorem c_L_get_k (l : Launch) (hfl : l.flags = pinnedFlags ++ [noTraceFlag]) (z : Nat) (G : gG) (a : tA) (v : tV) (oo : Nat) (f : Nat → Int64) (sz : Nat) (x : Nat) (y1 : Int32) (hx0 : x < vVer v) (hv6 : vVer v ≤ 600) (hb : bad y1 256) : Met l y_L_get (mwh y_L_get b_L_get 5 (some .int) h_L_get) rmL (lPc z G a v oo f sz [.int (nI x), .int y1]) (lQ G a oo sz (fun r w => r = nI 1 ∧ w = (v, f))) 1 6 (lA a oo sz) := by
  refine m_ofWW (own := R_L) rfl rfl (fun p e s m args below meth c S hr hlk htab hv => ?_)
  obtain ⟨rfl, hsz, hP, hD, hK, ho, hno, hth⟩ := hv
  subst hsz
  have hDA : tD a (lA a oo s.heap.size) := hD.weaken (fun q h => Or.inl h)
  have hoA : lA a oo s.heap.size oo := Or.inr (Or.inl rfl)
  have hw : tS G a (lA a oo s.heap.size) s.heap v s.heap [] := ⟨hP, hDA, va_S.rf⟩
  refine m_entry [.ref (aH a), .int (nI x), .int y1, .ref oo] (Nat.le_of_ble_eq_true rfl) (fun ls hl => ?_)
  have hl : lv_has ls 5 [(0, .ref (aH a)), (1, .int (nI x)), (2, .int y1), (3, .ref oo)] := hl
  refine lv_aload_n S.1 S.2.1 d_L_get_0 rfl (lv_at hl 3 rfl) ?_
  refine lv_iconst (v := nI 0) S.1 S.2.1 d_L_get_1 (by decide) ?_
  refine lv_aload_n S.1 S.2.1 d_L_get_2 rfl (lv_at hl 0 rfl) ?_
  refine lv_iload_n S.1 S.2.1 d_L_get_3 rfl (lv_at hl 1 rfl) ?_
  refine lv_iload_n S.1 S.2.1 d_L_get_4 rfl (lv_at hl 2 rfl) ?_
  refine x_catch S htab (q := 13) ⟨by decide, by decide, by decide, nIo, wK_L_13, Or.inl ⟨rfl, asg_Io hth⟩⟩ (x_runV S (x_preV hK hw.1 hw.2.1 hth rfl) k_T_get wi_T_get wv_T_T_get wL_L_26 (x_T_get_k l hfl z G a v x y1 hx0 hv6 hb) (rm_XL (by omega) (by omega)) rfl hl.1 rfl (Nat.le_of_ble_eq_true rfl) d_L_get_5 ⟨Nat.le_of_ble_eq_true rfl, Nat.le_of_ble_eq_true rfl⟩) (fun b H hz hk => ?_)
  have hw : tS G a (lA a oo s.heap.size) s.heap v H [] := ⟨hw.1.kept (fun q hq => hk q (hw.1.lt q hq)), hDA, hz, fun q h1 _ => hk q h1, fun q h => by cases h⟩
  have ho : oP G oo f H := ho.kept (hk oo ho.lt)
  refine lv_astore S.1 S.2.1 d_L_get_13 hl (by decide) rfl (fun ls hl => ?_)
  refine lv_iconst (v := nI 1) S.1 S.2.1 d_L_get_15 (by decide) ?_
  exact l_iret S hw ho ⟨rfl, rfl⟩ hr hlk d_L_get_16 (Nat.le_of_ble_eq_true rfl) (Nat.le_of_ble_eq_true rfl)
set_option maxHeartbeats 4000000 in
set_option maxRecDepth 100000 in
theorem c_L_join_w (l : Launch) (hfl : l.flags = pinnedFlags ++ [noTraceFlag]) (z : Nat) (G : gG) (a : tA) (v : tV) (oo : Nat) (f : Nat → Int64) (sz : Nat) (x : Nat) (y1 y2 : Int32) (hx0 : x < vVer v) (hv6 : vVer v ≤ 600) (hb : bad y1 (vVer v)) : Met l y_L_join (mwh y_L_join b_L_join 6 (some .int) h_L_join) rmL (lPc z G a v oo f sz [.int (nI x), .int y1, .int y2]) (lQ G a oo sz (fun r w => r = nI 1 ∧ w = (v, f))) 1 6 (lA a oo sz) := by
  refine m_ofWW (own := R_L) rfl rfl (fun p e s m args below meth c S hr hlk htab hv => ?_)
  obtain ⟨rfl, hsz, hP, hD, hK, ho, hno, hth⟩ := hv
  subst hsz
  have hDA : tD a (lA a oo s.heap.size) := hD.weaken (fun q h => Or.inl h)
  have hoA : lA a oo s.heap.size oo := Or.inr (Or.inl rfl)
  have hw : tS G a (lA a oo s.heap.size) s.heap v s.heap [] := ⟨hP, hDA, va_S.rf⟩
  refine m_entry [.ref (aH a), .int (nI x), .int y1, .int y2, .ref oo] (Nat.le_of_ble_eq_true rfl) (fun ls hl => ?_)
  have hl : lv_has ls 6 [(0, .ref (aH a)), (1, .int (nI x)), (2, .int y1), (3, .int y2), (4, .ref oo)] := hl
  refine lv_aload S.1 S.2.1 d_L_join_0 (lv_at hl 4 rfl) ?_
  refine lv_iconst (v := nI 0) S.1 S.2.1 d_L_join_2 (by decide) ?_
  refine lv_aload_n S.1 S.2.1 d_L_join_3 rfl (lv_at hl 0 rfl) ?_
  refine lv_iload_n S.1 S.2.1 d_L_join_4 rfl (lv_at hl 1 rfl) ?_
  refine lv_iload_n S.1 S.2.1 d_L_join_5 rfl (lv_at hl 2 rfl) ?_
  refine lv_iload_n S.1 S.2.1 d_L_join_6 rfl (lv_at hl 3 rfl) ?_
  refine x_catch S htab (q := 15) ⟨by decide, by decide, by decide, nIo, wK_L_13, Or.inl ⟨rfl, asg_Io hth⟩⟩ (x_runV S (x_preV hK hw.1 hw.2.1 hth rfl) k_T_join wi_T_join wv_T_T_join wL_L_23 (x_T_join_w l hfl z G a v x y1 y2 hx0 hv6 hb) (rm_XL (by omega) (by omega)) rfl hl.1 rfl (Nat.le_of_ble_eq_true rfl) d_L_join_7 ⟨Nat.le_of_ble_eq_true rfl, Nat.le_of_ble_eq_true rfl⟩) (fun b H hz hk => ?_)
  have hw : tS G a (lA a oo s.heap.size) s.heap v H [] := ⟨hw.1.kept (fun q hq => hk q (hw.1.lt q hq)), hDA, hz, fun q h1 _ => hk q h1, fun q h => by cases h⟩
  have ho : oP G oo f H := ho.kept (hk oo ho.lt)
  refine lv_astore S.1 S.2.1 d_L_join_15 hl (by decide) rfl (fun ls hl => ?_)
  refine lv_iconst (v := nI 1) S.1 S.2.1 d_L_join_17 (by decide) ?_
  exact l_iret S hw ho ⟨rfl, rfl⟩ hr hlk d_L_join_18 (Nat.le_of_ble_eq_true rfl) (Nat.le_of_ble_eq_true rfl)
set_option maxHeartbeats 4000000 in
set_option maxRecDepth 100000 in
theorem c_L_differ_w (l : Launch) (hfl : l.flags = pinnedFlags ++ [noTraceFlag]) (z : Nat) (G : gG) (a : tA) (v : tV) (oo : Nat) (f : Nat → Int64) (sz : Nat) (x : Nat) (y1 : Int32) (hx0 : x < vVer v) (hv6 : vVer v ≤ 600) (hb : bad y1 (vVer v)) : Met l y_L_differ (mwh y_L_differ b_L_differ 5 (some .int) h_L_differ) rmL (lPc z G a v oo f sz [.int (nI x), .int y1]) (lQ G a oo sz (fun r w => r = nI 1 ∧ w = (v, f))) 1 6 (lA a oo sz) := by
  refine m_ofWW (own := R_L) rfl rfl (fun p e s m args below meth c S hr hlk htab hv => ?_)
  obtain ⟨rfl, hsz, hP, hD, hK, ho, hno, hth⟩ := hv
  subst hsz
  have hDA : tD a (lA a oo s.heap.size) := hD.weaken (fun q h => Or.inl h)
  have hoA : lA a oo s.heap.size oo := Or.inr (Or.inl rfl)
  have hw : tS G a (lA a oo s.heap.size) s.heap v s.heap [] := ⟨hP, hDA, va_S.rf⟩
  refine m_entry [.ref (aH a), .int (nI x), .int y1, .ref oo] (Nat.le_of_ble_eq_true rfl) (fun ls hl => ?_)
  have hl : lv_has ls 5 [(0, .ref (aH a)), (1, .int (nI x)), (2, .int y1), (3, .ref oo)] := hl
  refine lv_aload_n S.1 S.2.1 d_L_differ_0 rfl (lv_at hl 3 rfl) ?_
  refine lv_iconst (v := nI 0) S.1 S.2.1 d_L_differ_1 (by decide) ?_
  refine lv_aload_n S.1 S.2.1 d_L_differ_2 rfl (lv_at hl 0 rfl) ?_
  refine lv_iload_n S.1 S.2.1 d_L_differ_3 rfl (lv_at hl 1 rfl) ?_
  refine lv_iload_n S.1 S.2.1 d_L_differ_4 rfl (lv_at hl 2 rfl) ?_
  refine x_catch S htab (q := 13) ⟨by decide, by decide, by decide, nIo, wK_L_13, Or.inl ⟨rfl, asg_Io hth⟩⟩ (x_runV S (x_preV hK hw.1 hw.2.1 hth rfl) k_T_differ wi_T_differ wv_T_T_differ wL_L_39 (x_T_differ_w l hfl z G a v x y1 hx0 hv6 hb) (rm_XL (by omega) (by omega)) rfl hl.1 rfl (Nat.le_of_ble_eq_true rfl) d_L_differ_5 ⟨Nat.le_of_ble_eq_true rfl, Nat.le_of_ble_eq_true rfl⟩) (fun b H hz hk => ?_)
  have hw : tS G a (lA a oo s.heap.size) s.heap v H [] := ⟨hw.1.kept (fun q hq => hk q (hw.1.lt q hq)), hDA, hz, fun q h1 _ => hk q h1, fun q h => by cases h⟩
  have ho : oP G oo f H := ho.kept (hk oo ho.lt)
  refine lv_astore S.1 S.2.1 d_L_differ_13 hl (by decide) rfl (fun ls hl => ?_)
  refine lv_iconst (v := nI 1) S.1 S.2.1 d_L_differ_15 (by decide) ?_
  exact l_iret S hw ho ⟨rfl, rfl⟩ hr hlk d_L_differ_16 (Nat.le_of_ble_eq_true rfl) (Nat.le_of_ble_eq_true rfl)
set_option maxHeartbeats 4000000 in
set_option maxRecDepth 100000 in
theorem c_L_join_k (l : Launch) (hfl : l.flags = pinnedFlags ++ [noTraceFlag]) (z : Nat) (G : gG) (a : tA) (v : tV) (oo : Nat) (f : Nat → Int64) (sz : Nat) (x w : Nat) (y2 : Int32) (hx0 : x < vVer v) (hw0 : w < vVer v) (hv6 : vVer v ≤ 600) (hb : bad y2 257) : Met l y_L_join (mwh y_L_join b_L_join 6 (some .int) h_L_join) rmL (lPc z G a v oo f sz [.int (nI x), .int (nI w), .int y2]) (lQ G a oo sz (fun r w => r = nI 1 ∧ w = (v, f))) 1 6 (lA a oo sz) := by
  refine m_ofWW (own := R_L) rfl rfl (fun p e s m args below meth c S hr hlk htab hv => ?_)
  obtain ⟨rfl, hsz, hP, hD, hK, ho, hno, hth⟩ := hv
  subst hsz
  have hDA : tD a (lA a oo s.heap.size) := hD.weaken (fun q h => Or.inl h)
  have hoA : lA a oo s.heap.size oo := Or.inr (Or.inl rfl)
  have hw : tS G a (lA a oo s.heap.size) s.heap v s.heap [] := ⟨hP, hDA, va_S.rf⟩
  refine m_entry [.ref (aH a), .int (nI x), .int (nI w), .int y2, .ref oo] (Nat.le_of_ble_eq_true rfl) (fun ls hl => ?_)
  have hl : lv_has ls 6 [(0, .ref (aH a)), (1, .int (nI x)), (2, .int (nI w)), (3, .int y2), (4, .ref oo)] := hl
  refine lv_aload S.1 S.2.1 d_L_join_0 (lv_at hl 4 rfl) ?_
  refine lv_iconst (v := nI 0) S.1 S.2.1 d_L_join_2 (by decide) ?_
  refine lv_aload_n S.1 S.2.1 d_L_join_3 rfl (lv_at hl 0 rfl) ?_
  refine lv_iload_n S.1 S.2.1 d_L_join_4 rfl (lv_at hl 1 rfl) ?_
  refine lv_iload_n S.1 S.2.1 d_L_join_5 rfl (lv_at hl 2 rfl) ?_
  refine lv_iload_n S.1 S.2.1 d_L_join_6 rfl (lv_at hl 3 rfl) ?_
  refine x_catch S htab (q := 15) ⟨by decide, by decide, by decide, nIo, wK_L_13, Or.inl ⟨rfl, asg_Io hth⟩⟩ (x_runV S (x_preV hK hw.1 hw.2.1 hth rfl) k_T_join wi_T_join wv_T_T_join wL_L_23 (x_T_join_k l hfl z G a v x w y2 hx0 hw0 hv6 hb) (rm_XL (by omega) (by omega)) rfl hl.1 rfl (Nat.le_of_ble_eq_true rfl) d_L_join_7 ⟨Nat.le_of_ble_eq_true rfl, Nat.le_of_ble_eq_true rfl⟩) (fun b H hz hk => ?_)
  have hw : tS G a (lA a oo s.heap.size) s.heap v H [] := ⟨hw.1.kept (fun q hq => hk q (hw.1.lt q hq)), hDA, hz, fun q h1 _ => hk q h1, fun q h => by cases h⟩
  have ho : oP G oo f H := ho.kept (hk oo ho.lt)
  refine lv_astore S.1 S.2.1 d_L_join_15 hl (by decide) rfl (fun ls hl => ?_)
  refine lv_iconst (v := nI 1) S.1 S.2.1 d_L_join_17 (by decide) ?_
  exact l_iret S hw ho ⟨rfl, rfl⟩ hr hlk d_L_join_18 (Nat.le_of_ble_eq_true rfl) (Nat.le_of_ble_eq_true rfl)
set_option maxHeartbeats 4000000 in
set_option maxRecDepth 100000 in
theorem c_L_select_i (l : Launch) (hfl : l.flags = pinnedFlags ++ [noTraceFlag]) (z : Nat) (G : gG) (a : tA) (v : tV) (oo : Nat) (f : Nat → Int64) (sz : Nat) (mp : Nat → nMap) (n cn : Nat) (x : Nat) (y1 : Int32) (hT : TI v mp n cn) (hx0 : x < n) (hv6 : n ≤ 600) (hb : bad y1 (cnt (mp x) 256)) : Met l y_L_select (mwh y_L_select b_L_select 5 (some .int) h_L_select) rmL (lPc z G a v oo f sz [.int (nI x), .int y1]) (lQ G a oo sz (fun r w => r = nI 1 ∧ w = (v, f))) 1 6 (lA a oo sz) := by
  refine m_ofWW (own := R_L) rfl rfl (fun p e s m args below meth c S hr hlk htab hv => ?_)
  obtain ⟨rfl, hsz, hP, hD, hK, ho, hno, hth⟩ := hv
  subst hsz
  have hDA : tD a (lA a oo s.heap.size) := hD.weaken (fun q h => Or.inl h)
  have hoA : lA a oo s.heap.size oo := Or.inr (Or.inl rfl)
  have hw : tS G a (lA a oo s.heap.size) s.heap v s.heap [] := ⟨hP, hDA, va_S.rf⟩
  refine m_entry [.ref (aH a), .int (nI x), .int y1, .ref oo] (Nat.le_of_ble_eq_true rfl) (fun ls hl => ?_)
  have hl : lv_has ls 5 [(0, .ref (aH a)), (1, .int (nI x)), (2, .int y1), (3, .ref oo)] := hl
  refine lv_aload_n S.1 S.2.1 d_L_select_0 rfl (lv_at hl 3 rfl) ?_
  refine lv_iconst (v := nI 0) S.1 S.2.1 d_L_select_1 (by decide) ?_
  refine lv_aload_n S.1 S.2.1 d_L_select_2 rfl (lv_at hl 0 rfl) ?_
  refine lv_iload_n S.1 S.2.1 d_L_select_3 rfl (lv_at hl 1 rfl) ?_
  refine lv_iload_n S.1 S.2.1 d_L_select_4 rfl (lv_at hl 2 rfl) ?_
  refine x_catch S htab (q := 13) ⟨by decide, by decide, by decide, nIo, wK_L_13, Or.inl ⟨rfl, asg_Io hth⟩⟩ (x_runV S (x_preV hK hw.1 hw.2.1 hth rfl) k_T_select wi_T_select wv_T_T_select wL_L_29 (x_T_select_i l hfl z G a v mp n cn x y1 hT hx0 hv6 hb) (rm_XL (by omega) (by omega)) rfl hl.1 rfl (Nat.le_of_ble_eq_true rfl) d_L_select_5 ⟨Nat.le_of_ble_eq_true rfl, Nat.le_of_ble_eq_true rfl⟩) (fun b H hz hk => ?_)
  have hw : tS G a (lA a oo s.heap.size) s.heap v H [] := ⟨hw.1.kept (fun q hq => hk q (hw.1.lt q hq)), hDA, hz, fun q h1 _ => hk q h1, fun q h => by cases h⟩
  have ho : oP G oo f H := ho.kept (hk oo ho.lt)
  refine lv_astore S.1 S.2.1 d_L_select_13 hl (by decide) rfl (fun ls hl => ?_)
  refine lv_iconst (v := nI 1) S.1 S.2.1 d_L_select_15 (by decide) ?_
  exact l_iret S hw ho ⟨rfl, rfl⟩ hr hlk d_L_select_16 (Nat.le_of_ble_eq_true rfl) (Nat.le_of_ble_eq_true rfl)
set_option maxHeartbeats 4000000 in
set_option maxRecDepth 100000 in
theorem c_L_remove_n (l : Launch) (hfl : l.flags = pinnedFlags ++ [noTraceFlag]) (z : Nat) (G : gG) (a : tA) (v : tV) (oo : Nat) (f : Nat → Int64) (sz : Nat) (mp : Nat → nMap) (n cn : Nat) (x k : Nat) (hT : TI v mp n cn) (hx0 : x < n) (hk : k < 256) (hv6 : n < 600) (hz : mp x k = none) : Met l y_L_remove (mwh y_L_remove b_L_remove 5 (some .int) h_L_remove) rmL (lPc z G a v oo f sz [.int (nI x), .int (nI k)]) (lQ G a oo sz (fun r w => r = nI 3 ∧ w = (v, f))) 1 6 (lA a oo sz) := by
  refine m_ofWW (own := R_L) rfl rfl (fun p e s m args below meth c S hr hlk htab hv => ?_)
  obtain ⟨rfl, hsz, hP, hD, hK, ho, hno, hth⟩ := hv
  subst hsz
  have hDA : tD a (lA a oo s.heap.size) := hD.weaken (fun q h => Or.inl h)
  have hoA : lA a oo s.heap.size oo := Or.inr (Or.inl rfl)
  have hw : tS G a (lA a oo s.heap.size) s.heap v s.heap [] := ⟨hP, hDA, va_S.rf⟩
  refine m_entry [.ref (aH a), .int (nI x), .int (nI k), .ref oo] (Nat.le_of_ble_eq_true rfl) (fun ls hl => ?_)
  have hl : lv_has ls 5 [(0, .ref (aH a)), (1, .int (nI x)), (2, .int (nI k)), (3, .ref oo)] := hl
  refine lv_aload_n S.1 S.2.1 d_L_remove_0 rfl (lv_at hl 3 rfl) ?_
  refine lv_iconst (v := nI 0) S.1 S.2.1 d_L_remove_1 (by decide) ?_
  refine lv_aload_n S.1 S.2.1 d_L_remove_2 rfl (lv_at hl 0 rfl) ?_
  refine lv_iload_n S.1 S.2.1 d_L_remove_3 rfl (lv_at hl 1 rfl) ?_
  refine lv_iload_n S.1 S.2.1 d_L_remove_4 rfl (lv_at hl 2 rfl) ?_
  refine x_catch S htab (q := 21) ⟨by decide, by decide, by decide, nIo, wK_L_13, Or.inr ⟨asg_NI hth, ⟨by decide, by decide, by decide, nIs, wK_L_15, Or.inr ⟨asg_NS hth, ⟨by decide, by decide, by decide, nNs, wK_L_21, Or.inl ⟨rfl, asg_Ns hth⟩⟩⟩⟩⟩⟩ (x_runV S (x_preV hK hw.1 hw.2.1 hth rfl) k_T_remove wi_T_remove wv_T_T_remove wL_L_17 (x_T_remove_n l hfl z G a v mp n cn x k hT hx0 hk hv6 hz) (rm_XL (by omega) (by omega)) rfl hl.1 rfl (Nat.le_of_ble_eq_true rfl) d_L_remove_5 ⟨Nat.le_of_ble_eq_true rfl, Nat.le_of_ble_eq_true rfl⟩) (fun b H hz hk => ?_)
  have hw : tS G a (lA a oo s.heap.size) s.heap v H [] := ⟨hw.1.kept (fun q hq => hk q (hw.1.lt q hq)), hDA, hz, fun q h1 _ => hk q h1, fun q h => by cases h⟩
  have ho : oP G oo f H := ho.kept (hk oo ho.lt)
  refine lv_astore S.1 S.2.1 d_L_remove_21 hl (by decide) rfl (fun ls hl => ?_)
  refine lv_iconst (v := nI 3) S.1 S.2.1 d_L_remove_23 (by decide) ?_
  exact l_iret S hw ho ⟨rfl, rfl⟩ hr hlk d_L_remove_24 (Nat.le_of_ble_eq_true rfl) (Nat.le_of_ble_eq_true rfl)
set_option maxHeartbeats 4000000 in
set_option maxRecDepth 100000 in
theorem c_L_get_n (l : Launch) (hfl : l.flags = pinnedFlags ++ [noTraceFlag]) (z : Nat) (G : gG) (a : tA) (v : tV) (oo : Nat) (f : Nat → Int64) (sz : Nat) (mp : Nat → nMap) (n cn : Nat) (x k : Nat) (hT : TI v mp n cn) (hx0 : x < n) (hk : k < 256) (hv6 : n < 600) (hz : mp x k = none) : Met l y_L_get (mwh y_L_get b_L_get 5 (some .int) h_L_get) rmL (lPc z G a v oo f sz [.int (nI x), .int (nI k)]) (lQ G a oo sz (fun r w => r = nI 2 ∧ w = (v, f))) 1 6 (lA a oo sz) := by
  refine m_ofWW (own := R_L) rfl rfl (fun p e s m args below meth c S hr hlk htab hv => ?_)
  obtain ⟨rfl, hsz, hP, hD, hK, ho, hno, hth⟩ := hv
  subst hsz
  have hDA : tD a (lA a oo s.heap.size) := hD.weaken (fun q h => Or.inl h)
  have hoA : lA a oo s.heap.size oo := Or.inr (Or.inl rfl)
  have hw : tS G a (lA a oo s.heap.size) s.heap v s.heap [] := ⟨hP, hDA, va_S.rf⟩
  refine m_entry [.ref (aH a), .int (nI x), .int (nI k), .ref oo] (Nat.le_of_ble_eq_true rfl) (fun ls hl => ?_)
  have hl : lv_has ls 5 [(0, .ref (aH a)), (1, .int (nI x)), (2, .int (nI k)), (3, .ref oo)] := hl
  refine lv_aload_n S.1 S.2.1 d_L_get_0 rfl (lv_at hl 3 rfl) ?_
  refine lv_iconst (v := nI 0) S.1 S.2.1 d_L_get_1 (by decide) ?_
  refine lv_aload_n S.1 S.2.1 d_L_get_2 rfl (lv_at hl 0 rfl) ?_
  refine lv_iload_n S.1 S.2.1 d_L_get_3 rfl (lv_at hl 1 rfl) ?_
  refine lv_iload_n S.1 S.2.1 d_L_get_4 rfl (lv_at hl 2 rfl) ?_
  refine x_catch S htab (q := 17) ⟨by decide, by decide, by decide, nIo, wK_L_13, Or.inr ⟨asg_NI hth, ⟨by decide, by decide, by decide, nNs, wK_L_21, Or.inl ⟨rfl, asg_Ns hth⟩⟩⟩⟩ (x_runV S (x_preV hK hw.1 hw.2.1 hth rfl) k_T_get wi_T_get wv_T_T_get wL_L_26 (x_T_get_n l hfl z G a v mp n cn x k hT hx0 hk hv6 hz) (rm_XL (by omega) (by omega)) rfl hl.1 rfl (Nat.le_of_ble_eq_true rfl) d_L_get_5 ⟨Nat.le_of_ble_eq_true rfl, Nat.le_of_ble_eq_true rfl⟩) (fun b H hz hk => ?_)
  have hw : tS G a (lA a oo s.heap.size) s.heap v H [] := ⟨hw.1.kept (fun q hq => hk q (hw.1.lt q hq)), hDA, hz, fun q h1 _ => hk q h1, fun q h => by cases h⟩
  have ho : oP G oo f H := ho.kept (hk oo ho.lt)
  refine lv_astore S.1 S.2.1 d_L_get_17 hl (by decide) rfl (fun ls hl => ?_)
  refine lv_iconst (v := nI 2) S.1 S.2.1 d_L_get_19 (by decide) ?_
  exact l_iret S hw ho ⟨rfl, rfl⟩ hr hlk d_L_get_20 (Nat.le_of_ble_eq_true rfl) (Nat.le_of_ble_eq_true rfl)
end
section
/-! each call of the law, on both sides: the number kk of what is thrown, the versions' maps behind it, the answer ov -/
theorem qi_imp {S : Type} {post post' : Int32 → S → Prop} {B : S → State → Prop} {A : Nat → Prop} {a : Array Value} {st : State} {oc : Outcome} {t : State} (h : ∀ r u, post r u → post' r u) (hq : va_Qi post B A a st oc t) : va_Qi post' B A a st oc t := by
  obtain ⟨⟨r, u, h1, h2, h3⟩, h4⟩ := hq
  exact ⟨⟨r, u, h1, h r u h2, h3⟩, h4⟩
theorem ql_imp {S : Type} {post post' : Int64 → S → Prop} {B : S → State → Prop} {A : Nat → Prop} {a : Array Value} {st : State} {oc : Outcome} {t : State} (h : ∀ r u, post r u → post' r u) (hq : va_Ql post B A a st oc t) : va_Ql post' B A a st oc t := by
  obtain ⟨⟨r, u, h1, h2, h3⟩, h4⟩ := hq
  exact ⟨⟨r, u, h1, h r u h2, h3⟩, h4⟩
theorem TI.ver {v : tV} {mp : Nat → nMap} {n cn : Nat} (h : TI v mp n cn) : vVer v = n := by
  obtain ⟨M, -, h1, -⟩ := h
  exact h1
theorem TI.mono {v : tV} {mp : Nat → nMap} {n cn : Nat} (h : TI v mp n cn) : TI v mp n (cn + 1) := by
  obtain ⟨M, h1, h2, h3, h4, h5⟩ := h
  exact ⟨M, h1, h2, h3, h4, by omega⟩
theorem sel_ex {m : nMap} {i : Nat} : ∀ k, i < cnt m k → ∃ κ, κ < k ∧ (∃ x, m κ = some x) ∧ cnt m κ = i
  | 0, h => absurd h (Nat.not_lt_zero _)
  | k + 1, h => by
    by_cases h1 : i < cnt m k
    · obtain ⟨κ, a1, a2, a3⟩ := sel_ex k h1
      exact ⟨κ, by omega, a2, a3⟩
    · have h2 : i < cnt m k + is1 (m k) := h
      have h3 := is1_lt (m k)
      refine ⟨k, Nat.lt_succ_self k, ?_, by omega⟩
      cases hm : m k with
      | none => rw [hm] at h2; exact absurd h2 h1
      | some x => exact ⟨x, rfl⟩
theorem sel_un {m : nMap} {κ κ' : Nat} (h1 : ∃ x, m κ = some x) (h2 : ∃ x, m κ' = some x) (h : cnt m κ = cnt m κ') : κ = κ' := by
  have key : ∀ {a b : Nat}, (∃ x, m a = some x) → a < b → cnt m a < cnt m b := by
    intro a b ⟨x, hx⟩ hab
    have h3 : cnt m (a + 1) = cnt m a + is1 (m a) := rfl
    rw [hx] at h3
    have h4 := cnt_mono m (show a + 1 ≤ b by omega)
    have h5 : is1 (some x) = 1 := rfl
    omega
  rcases Nat.lt_trichotomy κ κ' with q | q | q
  · have := key h1 q; omega
  · exact q
  · have := key h2 q; omega
theorem sel_val {m : nMap} {i κ : Nat} (hx : ∃ x, m κ = some x) (hc : cnt m κ = i) {r : Int32} (h : sel m i r) : r = nI κ := by
  obtain ⟨κ', rfl, -, h2, h3⟩ := h
  rw [sel_un hx h2 (hc.trans h3.symm)]
theorem op_put (l : Launch) (hfl : l.flags = pinnedFlags ++ [noTraceFlag]) (z : Nat) (G : gG) (a : tA) (v : tV) (oo : Nat) (f : Nat → Int64) (sz : Nat) (b : mA) (u : mV) (mp : Nat → nMap) (n cn : Nat) (p0 p1 p2 : Int32) (hT : TI v mp n cn) (hM : MR u mp n) (hn6 : n < 600) (hc : cn < 512) : ∃ (kk : Nat) (mp' : Nat → nMap) (n' : Nat) (ov : Int64), kk < 4 ∧ n' ≤ n + 1 ∧
    Met l y_L_put (mwh y_L_put b_L_put 6 (some .int) h_L_put) rmL (lPc z G a v oo f sz [.int p0, .int p1, .int p2]) (lQ G a oo sz (fun r w => r = nI kk ∧ TI w.1 mp' n' (cn + 1) ∧ (kk = 0 → w.2 0 = ov))) 1 6 (lA a oo sz) ∧
    Met l y_M_put (mw y_M_put b_M_put 5 (some .int)) (rmS 5 100) (mPc G b u [.int p0, .int p1, .int p2]) (va_Qi (fun r u' => uThr u' = kk ∧ MR u' mp' n' ∧ (kk = 0 → r.toInt64 = ov)) (fun u' t => mP G b u' t.heap) (inB b)) 0 0 (inB b) := by
  have hv := hT.ver
  have hu := hM.1
  rcases bad_or (n := n) (by omega) p0 with hb | ⟨x, hx, rfl⟩
  · exact ⟨1, mp, n, 0, by decide, by omega, Met.imp (c_L_put_v l hfl z G a v oo f sz p0 p1 p2 (by rw [hv]; exact hb)) (fun _ _ _ _ hq => qi_imp (fun r w hw => ⟨hw.1, by rw [hw.2]; exact hT.mono, fun h => absurd h (by decide)⟩) hq), Met.imp (c_M_put_v l G b u p0 p1 p2 (by rw [hu]; exact hb)) (fun _ _ _ _ hq => qi_imp (fun r u' hu => ⟨by rw [hu], by rw [hu]; exact hM, fun h => absurd h (by decide)⟩) hq)⟩
  rcases bad_or (n := 256) (by decide) p1 with hb | ⟨k, hk, rfl⟩
  · exact ⟨1, mp, n, 0, by decide, by omega, Met.imp (c_L_put_k l hfl z G a v oo f sz x p1 p2 (by rw [hv]; exact hx) (by omega) hb) (fun _ _ _ _ hq => qi_imp (fun r w hw => ⟨hw.1, by rw [hw.2]; exact hT.mono, fun h => absurd h (by decide)⟩) hq), Met.imp (c_M_put_k l G b u x p1 p2 (by rw [hu]; exact hx) (by omega) hb) (fun _ _ _ _ hq => qi_imp (fun r u' hu => ⟨by rw [hu], by rw [hu]; exact hM, fun h => absurd h (by decide)⟩) hq)⟩
  refine ⟨0, up mp n (up (mp x) k (some p2)), n + 1, (nI n).toInt64, by decide, Nat.le_refl _, Met.imp (c_L_put l z G a v oo f sz mp n cn x k p2 hT hx hk hn6 hc) (fun _ _ _ _ hq => qi_imp (fun r w hw => ⟨hw.1, hw.2.1, fun _ => hw.2.2⟩) hq), Met.imp (c_M_put l G b u mp n x k p2 hM hx hk hn6) (fun _ _ _ _ hq => qi_imp (fun r u' h => ⟨h.2.1, h.2.2, fun _ => by rw [h.1]⟩) hq)⟩
theorem op_remove (l : Launch) (hfl : l.flags = pinnedFlags ++ [noTraceFlag]) (z : Nat) (G : gG) (a : tA) (v : tV) (oo : Nat) (f : Nat → Int64) (sz : Nat) (b : mA) (u : mV) (mp : Nat → nMap) (n cn : Nat) (p0 p1 : Int32) (hT : TI v mp n cn) (hM : MR u mp n) (hn6 : n < 600) (hc : cn < 512) : ∃ (kk : Nat) (mp' : Nat → nMap) (n' : Nat) (ov : Int64), kk < 4 ∧ n' ≤ n + 1 ∧
    Met l y_L_remove (mwh y_L_remove b_L_remove 5 (some .int) h_L_remove) rmL (lPc z G a v oo f sz [.int p0, .int p1]) (lQ G a oo sz (fun r w => r = nI kk ∧ TI w.1 mp' n' (cn + 1) ∧ (kk = 0 → w.2 0 = ov))) 1 6 (lA a oo sz) ∧
    Met l y_M_remove (mw y_M_remove b_M_remove 4 (some .int)) (rmS 5 100) (mPc G b u [.int p0, .int p1]) (va_Qi (fun r u' => uThr u' = kk ∧ MR u' mp' n' ∧ (kk = 0 → r.toInt64 = ov)) (fun u' t => mP G b u' t.heap) (inB b)) 0 0 (inB b) := by
  have hv := hT.ver
  have hu := hM.1
  rcases bad_or (n := n) (by omega) p0 with hb | ⟨x, hx, rfl⟩
  · exact ⟨1, mp, n, 0, by decide, by omega, Met.imp (c_L_remove_v l hfl z G a v oo f sz p0 p1 (by rw [hv]; exact hb)) (fun _ _ _ _ hq => qi_imp (fun r w hw => ⟨hw.1, by rw [hw.2]; exact hT.mono, fun h => absurd h (by decide)⟩) hq), Met.imp (c_M_remove_v l G b u p0 p1 (by rw [hu]; exact hb)) (fun _ _ _ _ hq => qi_imp (fun r u' hu => ⟨by rw [hu], by rw [hu]; exact hM, fun h => absurd h (by decide)⟩) hq)⟩
  rcases bad_or (n := 256) (by decide) p1 with hb | ⟨k, hk, rfl⟩
  · exact ⟨1, mp, n, 0, by decide, by omega, Met.imp (c_L_remove_k l hfl z G a v oo f sz x p1 (by rw [hv]; exact hx) (by omega) hb) (fun _ _ _ _ hq => qi_imp (fun r w hw => ⟨hw.1, by rw [hw.2]; exact hT.mono, fun h => absurd h (by decide)⟩) hq), Met.imp (c_M_remove_k l G b u x p1 (by rw [hu]; exact hx) (by omega) hb) (fun _ _ _ _ hq => qi_imp (fun r u' hu => ⟨by rw [hu], by rw [hu]; exact hM, fun h => absurd h (by decide)⟩) hq)⟩
  cases hz : mp x k with
  | none =>
    exact ⟨3, mp, n, 0, by decide, by omega, Met.imp (c_L_remove_n l hfl z G a v oo f sz mp n cn x k hT hx hk hn6 hz) (fun _ _ _ _ hq => qi_imp (fun r w hw => ⟨hw.1, by rw [hw.2]; exact hT.mono, fun h => absurd h (by decide)⟩) hq), Met.imp (c_M_remove_n l G b u mp n x k hz hM hx hk hn6) (fun _ _ _ _ hq => qi_imp (fun r u' hu => ⟨by rw [hu], by rw [hu]; exact hM, fun h => absurd h (by decide)⟩) hq)⟩
  | some zz =>
    exact ⟨0, up mp n (up (mp x) k none), n + 1, (nI n).toInt64, by decide, Nat.le_refl _, Met.imp (c_L_remove l z G a v oo f sz mp n cn x k zz hT hx hk hn6 hc hz) (fun _ _ _ _ hq => qi_imp (fun r w hw => ⟨hw.1, hw.2.1, fun _ => hw.2.2⟩) hq), Met.imp (c_M_remove l G b u mp n x k zz hz hM hx hk hn6) (fun _ _ _ _ hq => qi_imp (fun r u' h => ⟨h.2.1, h.2.2, fun _ => by rw [h.1]⟩) hq)⟩
theorem op_get (l : Launch) (hfl : l.flags = pinnedFlags ++ [noTraceFlag]) (z : Nat) (G : gG) (a : tA) (v : tV) (oo : Nat) (f : Nat → Int64) (sz : Nat) (b : mA) (u : mV) (mp : Nat → nMap) (n cn : Nat) (p0 p1 : Int32) (hT : TI v mp n cn) (hM : MR u mp n) (hn6 : n < 600) (hc : cn < 512) : ∃ (kk : Nat) (mp' : Nat → nMap) (n' : Nat) (ov : Int64), kk < 4 ∧ n' ≤ n + 1 ∧
    Met l y_L_get (mwh y_L_get b_L_get 5 (some .int) h_L_get) rmL (lPc z G a v oo f sz [.int p0, .int p1]) (lQ G a oo sz (fun r w => r = nI kk ∧ TI w.1 mp' n' (cn + 1) ∧ (kk = 0 → w.2 0 = ov))) 1 6 (lA a oo sz) ∧
    Met l y_M_get (mw y_M_get b_M_get 3 (some .int)) (rmS 5 100) (mPc G b u [.int p0, .int p1]) (va_Qi (fun r u' => uThr u' = kk ∧ MR u' mp' n' ∧ (kk = 0 → r.toInt64 = ov)) (fun u' t => mP G b u' t.heap) (inB b)) 0 0 (inB b) := by
  have hv := hT.ver
  have hu := hM.1
  rcases bad_or (n := n) (by omega) p0 with hb | ⟨x, hx, rfl⟩
  · exact ⟨1, mp, n, 0, by decide, by omega, Met.imp (c_L_get_v l hfl z G a v oo f sz p0 p1 (by rw [hv]; exact hb)) (fun _ _ _ _ hq => qi_imp (fun r w hw => ⟨hw.1, by rw [hw.2]; exact hT.mono, fun h => absurd h (by decide)⟩) hq), Met.imp (c_M_get_v l G b u p0 p1 (by rw [hu]; exact hb)) (fun _ _ _ _ hq => qi_imp (fun r u' hu => ⟨by rw [hu], by rw [hu]; exact hM, fun h => absurd h (by decide)⟩) hq)⟩
  rcases bad_or (n := 256) (by decide) p1 with hb | ⟨k, hk, rfl⟩
  · exact ⟨1, mp, n, 0, by decide, by omega, Met.imp (c_L_get_k l hfl z G a v oo f sz x p1 (by rw [hv]; exact hx) (by omega) hb) (fun _ _ _ _ hq => qi_imp (fun r w hw => ⟨hw.1, by rw [hw.2]; exact hT.mono, fun h => absurd h (by decide)⟩) hq), Met.imp (c_M_get_k l G b u x p1 (by rw [hu]; exact hx) (by omega) hb) (fun _ _ _ _ hq => qi_imp (fun r u' hu => ⟨by rw [hu], by rw [hu]; exact hM, fun h => absurd h (by decide)⟩) hq)⟩
  cases hz : mp x k with
  | none =>
    exact ⟨2, mp, n, 0, by decide, by omega, Met.imp (c_L_get_n l hfl z G a v oo f sz mp n cn x k hT hx hk hn6 hz) (fun _ _ _ _ hq => qi_imp (fun r w hw => ⟨hw.1, by rw [hw.2]; exact hT.mono, fun h => absurd h (by decide)⟩) hq), Met.imp (c_M_get_n l G b u mp n x k hz hM hx hk) (fun _ _ _ _ hq => qi_imp (fun r u' hu => ⟨by rw [hu], by rw [hu]; exact hM, fun h => absurd h (by decide)⟩) hq)⟩
  | some zz =>
    exact ⟨0, mp, n, zz.toInt64, by decide, by omega, Met.imp (c_L_get l z G a v oo f sz mp n cn x k zz hT hx hk (by omega) hz) (fun _ _ _ _ hq => qi_imp (fun r w hw => ⟨hw.1, by rw [hw.2.1]; exact hT.mono, fun _ => hw.2.2⟩) hq), Met.imp (c_M_get l G b u mp n x k zz hz hM hx hk) (fun _ _ _ _ hq => qi_imp (fun r u' h => ⟨by rw [h.2], by rw [h.2]; exact hM, fun _ => by rw [h.1]⟩) hq)⟩
theorem op_join (l : Launch) (hfl : l.flags = pinnedFlags ++ [noTraceFlag]) (z : Nat) (G : gG) (a : tA) (v : tV) (oo : Nat) (f : Nat → Int64) (sz : Nat) (b : mA) (u : mV) (mp : Nat → nMap) (n cn : Nat) (p0 p1 p2 : Int32) (hT : TI v mp n cn) (hM : MR u mp n) (hn6 : n < 600) (hc : cn < 512) : ∃ (kk : Nat) (mp' : Nat → nMap) (n' : Nat) (ov : Int64), kk < 4 ∧ n' ≤ n + 1 ∧
    Met l y_L_join (mwh y_L_join b_L_join 6 (some .int) h_L_join) rmL (lPc z G a v oo f sz [.int p0, .int p1, .int p2]) (lQ G a oo sz (fun r w => r = nI kk ∧ TI w.1 mp' n' (cn + 1) ∧ (kk = 0 → w.2 0 = ov))) 1 6 (lA a oo sz) ∧
    Met l y_M_join (mw y_M_join b_M_join 4 (some .int)) (rmS 5 100) (mPc G b u [.int p0, .int p1, .int p2]) (va_Qi (fun r u' => uThr u' = kk ∧ MR u' mp' n' ∧ (kk = 0 → r.toInt64 = ov)) (fun u' t => mP G b u' t.heap) (inB b)) 0 0 (inB b) := by
  have hv := hT.ver
  have hu := hM.1
  rcases bad_or (n := n) (by omega) p0 with hb | ⟨x, hx, rfl⟩
  · exact ⟨1, mp, n, 0, by decide, by omega, Met.imp (c_L_join_v l hfl z G a v oo f sz p0 p1 p2 (by rw [hv]; exact hb)) (fun _ _ _ _ hq => qi_imp (fun r w hw => ⟨hw.1, by rw [hw.2]; exact hT.mono, fun h => absurd h (by decide)⟩) hq), Met.imp (c_M_join_v l G b u p0 p1 p2 (by rw [hu]; exact hb)) (fun _ _ _ _ hq => qi_imp (fun r u' hu => ⟨by rw [hu], by rw [hu]; exact hM, fun h => absurd h (by decide)⟩) hq)⟩
  rcases bad_or (n := n) (by omega) p1 with hb | ⟨w, hw0, rfl⟩
  · exact ⟨1, mp, n, 0, by decide, by omega, Met.imp (c_L_join_w l hfl z G a v oo f sz x p1 p2 (by rw [hv]; exact hx) (by omega) (by rw [hv]; exact hb)) (fun _ _ _ _ hq => qi_imp (fun r w hw => ⟨hw.1, by rw [hw.2]; exact hT.mono, fun h => absurd h (by decide)⟩) hq), Met.imp (c_M_join_w l G b u x p1 p2 (by rw [hu]; exact hx) (by omega) (by rw [hu]; exact hb)) (fun _ _ _ _ hq => qi_imp (fun r u' hu => ⟨by rw [hu], by rw [hu]; exact hM, fun h => absurd h (by decide)⟩) hq)⟩
  rcases bad_or (n := 257) (by decide) p2 with hb | ⟨k, hk, rfl⟩
  · exact ⟨1, mp, n, 0, by decide, by omega, Met.imp (c_L_join_k l hfl z G a v oo f sz x w p2 (by rw [hv]; exact hx) (by rw [hv]; exact hw0) (by omega) hb) (fun _ _ _ _ hq => qi_imp (fun r w hw => ⟨hw.1, by rw [hw.2]; exact hT.mono, fun h => absurd h (by decide)⟩) hq), Met.imp (c_M_join_k l G b u x w p2 (by rw [hu]; exact hx) (by rw [hu]; exact hw0) (by omega) hb) (fun _ _ _ _ hq => qi_imp (fun r u' hu => ⟨by rw [hu], by rw [hu]; exact hM, fun h => absurd h (by decide)⟩) hq)⟩
  exact ⟨0, up mp n (fun j => if j < k then mp x j else mp w j), n + 1, (nI n).toInt64, by decide, Nat.le_refl _, Met.imp (c_L_join l z G a v oo f sz mp n cn x w k hT hx hw0 (by omega) hn6 hc) (fun _ _ _ _ hq => qi_imp (fun r w hw => ⟨hw.1, hw.2.1, fun _ => hw.2.2⟩) hq), Met.imp (c_M_join l G b u mp n x w k hM hx hw0 (by omega) hn6) (fun _ _ _ _ hq => qi_imp (fun r u' h => ⟨h.2.1, h.2.2, fun _ => by rw [h.1]⟩) hq)⟩
theorem op_select (l : Launch) (hfl : l.flags = pinnedFlags ++ [noTraceFlag]) (z : Nat) (G : gG) (a : tA) (v : tV) (oo : Nat) (f : Nat → Int64) (sz : Nat) (b : mA) (u : mV) (mp : Nat → nMap) (n cn : Nat) (p0 p1 : Int32) (hT : TI v mp n cn) (hM : MR u mp n) (hn6 : n < 600) (hc : cn < 512) : ∃ (kk : Nat) (mp' : Nat → nMap) (n' : Nat) (ov : Int64), kk < 4 ∧ n' ≤ n + 1 ∧
    Met l y_L_select (mwh y_L_select b_L_select 5 (some .int) h_L_select) rmL (lPc z G a v oo f sz [.int p0, .int p1]) (lQ G a oo sz (fun r w => r = nI kk ∧ TI w.1 mp' n' (cn + 1) ∧ (kk = 0 → w.2 0 = ov))) 1 6 (lA a oo sz) ∧
    Met l y_M_select (mw y_M_select b_M_select 5 (some .int)) (rmS 5 100) (mPc G b u [.int p0, .int p1]) (va_Qi (fun r u' => uThr u' = kk ∧ MR u' mp' n' ∧ (kk = 0 → r.toInt64 = ov)) (fun u' t => mP G b u' t.heap) (inB b)) 0 0 (inB b) := by
  have hv := hT.ver
  have hu := hM.1
  rcases bad_or (n := n) (by omega) p0 with hb | ⟨x, hx, rfl⟩
  · exact ⟨1, mp, n, 0, by decide, by omega, Met.imp (c_L_select_v l hfl z G a v oo f sz p0 p1 (by rw [hv]; exact hb)) (fun _ _ _ _ hq => qi_imp (fun r w hw => ⟨hw.1, by rw [hw.2]; exact hT.mono, fun h => absurd h (by decide)⟩) hq), Met.imp (c_M_select_v l G b u p0 p1 (by rw [hu]; exact hb)) (fun _ _ _ _ hq => qi_imp (fun r u' hu => ⟨by rw [hu], by rw [hu]; exact hM, fun h => absurd h (by decide)⟩) hq)⟩
  by_cases hneg : p1 < 0
  · exact ⟨1, mp, n, 0, by decide, by omega, Met.imp (c_L_select_i l hfl z G a v oo f sz mp n cn x p1 hT hx (by omega) (Or.inl hneg)) (fun _ _ _ _ hq => qi_imp (fun r w hw => ⟨hw.1, by rw [hw.2]; exact hT.mono, fun h => absurd h (by decide)⟩) hq), Met.imp (c_M_select_g l G b u x p1 (by rw [hu]; exact hx) (by omega) hneg) (fun _ _ _ _ hq => qi_imp (fun r u' hu => ⟨by rw [hu], by rw [hu]; exact hM, fun h => absurd h (by decide)⟩) hq)⟩
  obtain ⟨i, hi, rfl⟩ := nI_of hneg
  by_cases hin : i < cnt (mp x) 256
  · obtain ⟨κ, h1, h2, h3⟩ := sel_ex 256 hin
    refine ⟨0, mp, n, (nI κ).toInt64, by decide, by omega, Met.imp (c_L_select l z G a v oo f sz mp n cn x i hT hx (by omega) hin) (fun _ _ _ _ hq => qi_imp (fun r w hw => ⟨hw.1, by rw [hw.2.1]; exact hT.mono, fun _ => ?_⟩) hq), Met.imp (c_M_select l G b u mp n x i hM hx hi) (fun _ _ _ _ hq => qi_imp (fun r u' h => ?_) hq)⟩
    · obtain ⟨q, a1, a2⟩ := hw.2.2
      rw [a2, sel_val h2 h3 a1]
    · rcases h with ⟨-, a1, a2⟩ | ⟨a1, -⟩
      · exact ⟨by rw [a2], by rw [a2]; exact hM, fun _ => by rw [sel_val h2 h3 a1]⟩
      · omega
  have hcl := cnt_le (mp x) 256
  refine ⟨1, mp, n, 0, by decide, by omega, Met.imp (c_L_select_i l hfl z G a v oo f sz mp n cn x (nI i) hT hx (by omega) (Or.inr (nI_le (by omega) hi))) (fun _ _ _ _ hq => qi_imp (fun r w hw => ⟨hw.1, by rw [hw.2]; exact hT.mono, fun h => absurd h (by decide)⟩) hq), Met.imp (c_M_select l G b u mp n x i hM hx hi) (fun _ _ _ _ hq => qi_imp (fun r u' h => ?_) hq)⟩
  rcases h with ⟨a1, -⟩ | ⟨-, a2⟩
  · exact absurd a1 hin
  · exact ⟨by rw [a2], by rw [a2]; exact hM, fun h => absurd h (by decide)⟩
theorem op_many (l : Launch) (hfl : l.flags = pinnedFlags ++ [noTraceFlag]) (z : Nat) (G : gG) (a : tA) (v : tV) (oo : Nat) (f : Nat → Int64) (sz : Nat) (b : mA) (u : mV) (mp : Nat → nMap) (n cn : Nat) (p0 p1 p2 : Int32) (hT : TI v mp n cn) (hM : MR u mp n) (hn6 : n < 600) (hc : cn < 512) : ∃ (kk : Nat) (mp' : Nat → nMap) (n' : Nat) (ov : Int64), kk < 4 ∧ n' ≤ n + 1 ∧
    Met l y_L_many (mwh y_L_many b_L_many 6 (some .int) h_L_many) rmL (lPc z G a v oo f sz [.int p0, .int p1, .int p2]) (lQ G a oo sz (fun r w => r = nI kk ∧ TI w.1 mp' n' (cn + 1) ∧ (kk = 0 → w.2 0 = ov))) 1 6 (lA a oo sz) ∧
    Met l y_M_many (mw y_M_many b_M_many 6 (some .int)) (rmS 5 100) (mPc G b u [.int p0, .int p1, .int p2]) (va_Qi (fun r u' => uThr u' = kk ∧ MR u' mp' n' ∧ (kk = 0 → r.toInt64 = ov)) (fun u' t => mP G b u' t.heap) (inB b)) 0 0 (inB b) := by
  have hv := hT.ver
  have hu := hM.1
  rcases bad_or (n := n) (by omega) p0 with hb | ⟨x, hx, rfl⟩
  · exact ⟨1, mp, n, 0, by decide, by omega, Met.imp (c_L_many_v l hfl z G a v oo f sz p0 p1 p2 (by rw [hv]; exact hb)) (fun _ _ _ _ hq => qi_imp (fun r w hw => ⟨hw.1, by rw [hw.2]; exact hT.mono, fun h => absurd h (by decide)⟩) hq), Met.imp (c_M_many_v l G b u p0 p1 p2 (by rw [hu]; exact hb)) (fun _ _ _ _ hq => qi_imp (fun r u' hu => ⟨by rw [hu], by rw [hu]; exact hM, fun h => absurd h (by decide)⟩) hq)⟩
  exact ⟨0, mp, n, (mny (mp x) p1 p2).toInt64, by decide, by omega, Met.imp (c_L_many l z G a v oo f sz mp n cn x p1 p2 hT hx (by omega)) (fun _ _ _ _ hq => qi_imp (fun r w hw => ⟨hw.1, hw.2.1.mono, fun _ => hw.2.2⟩) hq), Met.imp (c_M_many l G b u mp n x p1 p2 hM hx) (fun _ _ _ _ hq => qi_imp (fun r u' h => ⟨by rw [h.2], by rw [h.2]; exact hM, fun _ => by rw [h.1]⟩) hq)⟩
theorem op_sum (l : Launch) (hfl : l.flags = pinnedFlags ++ [noTraceFlag]) (z : Nat) (G : gG) (a : tA) (v : tV) (oo : Nat) (f : Nat → Int64) (sz : Nat) (b : mA) (u : mV) (mp : Nat → nMap) (n cn : Nat) (p0 p1 p2 : Int32) (hT : TI v mp n cn) (hM : MR u mp n) (hn6 : n < 600) (hc : cn < 512) : ∃ (kk : Nat) (mp' : Nat → nMap) (n' : Nat) (ov : Int64), kk < 4 ∧ n' ≤ n + 1 ∧
    Met l y_L_sum (mwh y_L_sum b_L_sum 6 (some .int) h_L_sum) rmL (lPc z G a v oo f sz [.int p0, .int p1, .int p2]) (lQ G a oo sz (fun r w => r = nI kk ∧ TI w.1 mp' n' (cn + 1) ∧ (kk = 0 → w.2 0 = ov))) 1 6 (lA a oo sz) ∧
    Met l y_M_sum (mw y_M_sum b_M_sum 7 (some .long)) (rmS 5 100) (mPc G b u [.int p0, .int p1, .int p2]) (va_Ql (fun r u' => uThr u' = kk ∧ MR u' mp' n' ∧ (kk = 0 → r = ov)) (fun u' t => mP G b u' t.heap) (inB b)) 0 0 (inB b) := by
  have hv := hT.ver
  have hu := hM.1
  rcases bad_or (n := n) (by omega) p0 with hb | ⟨x, hx, rfl⟩
  · exact ⟨1, mp, n, 0, by decide, by omega, Met.imp (c_L_sum_v l hfl z G a v oo f sz p0 p1 p2 (by rw [hv]; exact hb)) (fun _ _ _ _ hq => qi_imp (fun r w hw => ⟨hw.1, by rw [hw.2]; exact hT.mono, fun h => absurd h (by decide)⟩) hq), Met.imp (c_M_sum_v l G b u p0 p1 p2 (by rw [hu]; exact hb)) (fun _ _ _ _ hq => ql_imp (fun r u' hu => ⟨by rw [hu], by rw [hu]; exact hM, fun h => absurd h (by decide)⟩) hq)⟩
  exact ⟨0, mp, n, smy (mp x) p1 p2, by decide, by omega, Met.imp (c_L_sum l z G a v oo f sz mp n cn x p1 p2 hT hx (by omega)) (fun _ _ _ _ hq => qi_imp (fun r w hw => ⟨hw.1, hw.2.1.mono, fun _ => hw.2.2⟩) hq), Met.imp (c_M_sum l G b u mp n x p1 p2 hM hx) (fun _ _ _ _ hq => ql_imp (fun r u' h => ⟨by rw [h.2], by rw [h.2]; exact hM, fun _ => h.1⟩) hq)⟩
theorem op_digest (l : Launch) (hfl : l.flags = pinnedFlags ++ [noTraceFlag]) (z : Nat) (G : gG) (a : tA) (v : tV) (oo : Nat) (f : Nat → Int64) (sz : Nat) (b : mA) (u : mV) (mp : Nat → nMap) (n cn : Nat) (p0 : Int32) (hT : TI v mp n cn) (hM : MR u mp n) (hn6 : n < 600) (hc : cn < 512) : ∃ (kk : Nat) (mp' : Nat → nMap) (n' : Nat) (ov : Int64), kk < 4 ∧ n' ≤ n + 1 ∧
    Met l y_L_digest (mwh y_L_digest b_L_digest 4 (some .int) h_L_digest) rmL (lPc z G a v oo f sz [.int p0]) (lQ G a oo sz (fun r w => r = nI kk ∧ TI w.1 mp' n' (cn + 1) ∧ (kk = 0 → w.2 0 = ov))) 1 6 (lA a oo sz) ∧
    Met l y_M_digest (mw y_M_digest b_M_digest 5 (some .long)) (rmS 5 100) (mPc G b u [.int p0]) (va_Ql (fun r u' => uThr u' = kk ∧ MR u' mp' n' ∧ (kk = 0 → r = ov)) (fun u' t => mP G b u' t.heap) (inB b)) 0 0 (inB b) := by
  have hv := hT.ver
  have hu := hM.1
  rcases bad_or (n := n) (by omega) p0 with hb | ⟨x, hx, rfl⟩
  · exact ⟨1, mp, n, 0, by decide, by omega, Met.imp (c_L_digest_v l hfl z G a v oo f sz p0 (by rw [hv]; exact hb)) (fun _ _ _ _ hq => qi_imp (fun r w hw => ⟨hw.1, by rw [hw.2]; exact hT.mono, fun h => absurd h (by decide)⟩) hq), Met.imp (c_M_digest_v l G b u p0 (by rw [hu]; exact hb)) (fun _ _ _ _ hq => ql_imp (fun r u' hu => ⟨by rw [hu], by rw [hu]; exact hM, fun h => absurd h (by decide)⟩) hq)⟩
  exact ⟨0, mp, n, dg (mp x) 7 256, by decide, by omega, Met.imp (c_L_digest l z G a v oo f sz mp n cn x hT hx (by omega)) (fun _ _ _ _ hq => qi_imp (fun r w hw => ⟨hw.1, by rw [hw.2.1]; exact hT.mono, fun _ => hw.2.2⟩) hq), Met.imp (c_M_digest l G b u mp n x hM hx) (fun _ _ _ _ hq => ql_imp (fun r u' h => ⟨by rw [h.2], by rw [h.2]; exact hM, fun _ => h.1⟩) hq)⟩
theorem op_differ (l : Launch) (hfl : l.flags = pinnedFlags ++ [noTraceFlag]) (z : Nat) (G : gG) (a : tA) (v : tV) (oo : Nat) (f : Nat → Int64) (sz : Nat) (b : mA) (u : mV) (mp : Nat → nMap) (n cn : Nat) (p0 p1 : Int32) (hT : TI v mp n cn) (hM : MR u mp n) (hn6 : n < 600) (hc : cn < 512) : ∃ (kk : Nat) (mp' : Nat → nMap) (n' : Nat) (ov : Int64), kk < 4 ∧ n' ≤ n + 1 ∧
    Met l y_L_differ (mwh y_L_differ b_L_differ 5 (some .int) h_L_differ) rmL (lPc z G a v oo f sz [.int p0, .int p1]) (lQ G a oo sz (fun r w => r = nI kk ∧ TI w.1 mp' n' (cn + 1) ∧ (kk = 0 → w.2 0 = ov))) 1 6 (lA a oo sz) ∧
    Met l y_M_differ (mw y_M_differ b_M_differ 7 (some .int)) (rmS 5 100) (mPc G b u [.int p0, .int p1]) (va_Qi (fun r u' => uThr u' = kk ∧ MR u' mp' n' ∧ (kk = 0 → r.toInt64 = ov)) (fun u' t => mP G b u' t.heap) (inB b)) 0 0 (inB b) := by
  have hv := hT.ver
  have hu := hM.1
  rcases bad_or (n := n) (by omega) p0 with hb | ⟨x, hx, rfl⟩
  · exact ⟨1, mp, n, 0, by decide, by omega, Met.imp (c_L_differ_v l hfl z G a v oo f sz p0 p1 (by rw [hv]; exact hb)) (fun _ _ _ _ hq => qi_imp (fun r w hw => ⟨hw.1, by rw [hw.2]; exact hT.mono, fun h => absurd h (by decide)⟩) hq), Met.imp (c_M_differ_v l G b u p0 p1 (by rw [hu]; exact hb)) (fun _ _ _ _ hq => qi_imp (fun r u' hu => ⟨by rw [hu], by rw [hu]; exact hM, fun h => absurd h (by decide)⟩) hq)⟩
  rcases bad_or (n := n) (by omega) p1 with hb | ⟨w, hw0, rfl⟩
  · exact ⟨1, mp, n, 0, by decide, by omega, Met.imp (c_L_differ_w l hfl z G a v oo f sz x p1 (by rw [hv]; exact hx) (by omega) (by rw [hv]; exact hb)) (fun _ _ _ _ hq => qi_imp (fun r w hw => ⟨hw.1, by rw [hw.2]; exact hT.mono, fun h => absurd h (by decide)⟩) hq), Met.imp (c_M_differ_w l G b u x p1 (by rw [hu]; exact hx) (by omega) (by rw [hu]; exact hb)) (fun _ _ _ _ hq => qi_imp (fun r u' hu => ⟨by rw [hu], by rw [hu]; exact hM, fun h => absurd h (by decide)⟩) hq)⟩
  exact ⟨0, mp, n, (nI (df (mp x) (mp w) 256)).toInt64, by decide, by omega, Met.imp (c_L_differ l z G a v oo f sz mp n cn x w hT hx hw0 (by omega) (by omega)) (fun _ _ _ _ hq => qi_imp (fun r w hw => ⟨hw.1, hw.2.1.mono, fun _ => hw.2.2⟩) hq), Met.imp (c_M_differ l G b u mp n x w hM hx hw0) (fun _ _ _ _ hq => qi_imp (fun r u' h => ⟨by rw [h.2], by rw [h.2]; exact hM, fun _ => by rw [h.1]⟩) hq)⟩
end
section
/-! the law's own bytes -/
abbrev b_L_law : ByteArray := code
theorem d_L_law_0 : decode b_L_law 0 = .ok (.new 8, 3) := by decide +kernel
theorem d_L_law_3 : decode b_L_law 3 = .ok (.dup, 1) := by decide +kernel
theorem d_L_law_4 : decode b_L_law 4 = .ok (.invokespecial 46, 3) := by decide +kernel
theorem d_L_law_7 : decode b_L_law 7 = .ok (.astore_n 1, 1) := by decide +kernel
theorem d_L_law_8 : decode b_L_law 8 = .ok (.new 47, 3) := by decide +kernel
theorem d_L_law_11 : decode b_L_law 11 = .ok (.dup, 1) := by decide +kernel
theorem d_L_law_12 : decode b_L_law 12 = .ok (.invokespecial 49, 3) := by decide +kernel
theorem d_L_law_15 : decode b_L_law 15 = .ok (.astore_n 2, 1) := by decide +kernel
theorem d_L_law_16 : decode b_L_law 16 = .ok (.iconst 1, 1) := by decide +kernel
theorem d_L_law_17 : decode b_L_law 17 = .ok (.newarray .long, 2) := by decide +kernel
theorem d_L_law_19 : decode b_L_law 19 = .ok (.astore_n 3, 1) := by decide +kernel
theorem d_L_law_20 : decode b_L_law 20 = .ok (.iconst 0, 1) := by decide +kernel
theorem d_L_law_21 : decode b_L_law 21 = .ok (.istore 4, 2) := by decide +kernel
theorem d_L_law_23 : decode b_L_law 23 = .ok (.iload 4, 2) := by decide +kernel
theorem d_L_law_25 : decode b_L_law 25 = .ok (.aload_n 0, 1) := by decide +kernel
theorem d_L_law_26 : decode b_L_law 26 = .ok (.arraylength, 1) := by decide +kernel
theorem d_L_law_27 : decode b_L_law 27 = .ok (.iconst 4, 1) := by decide +kernel
theorem d_L_law_28 : decode b_L_law 28 = .ok (.isub, 1) := by decide +kernel
theorem d_L_law_29 : decode b_L_law 29 = .ok (.if_icmp .gt 745, 3) := by decide +kernel
theorem d_L_law_32 : decode b_L_law 32 = .ok (.aload_n 0, 1) := by decide +kernel
theorem d_L_law_33 : decode b_L_law 33 = .ok (.iload 4, 2) := by decide +kernel
theorem d_L_law_35 : decode b_L_law 35 = .ok (.iaload, 1) := by decide +kernel
theorem d_L_law_36 : decode b_L_law 36 = .ok (.bipush 15, 2) := by decide +kernel
theorem d_L_law_38 : decode b_L_law 38 = .ok (.iand, 1) := by decide +kernel
theorem d_L_law_39 : decode b_L_law 39 = .ok (.tableswitch 729 0 10 #[57, 137, 205, 285, 353, 421, 501, 580, 648, 703, 716], 57) := by decide +kernel
theorem d_L_law_96 : decode b_L_law 96 = .ok (.aload_n 1, 1) := by decide +kernel
theorem d_L_law_97 : decode b_L_law 97 = .ok (.aload_n 0, 1) := by decide +kernel
theorem d_L_law_98 : decode b_L_law 98 = .ok (.iload 4, 2) := by decide +kernel
theorem d_L_law_100 : decode b_L_law 100 = .ok (.iconst 1, 1) := by decide +kernel
theorem d_L_law_101 : decode b_L_law 101 = .ok (.iadd, 1) := by decide +kernel
theorem d_L_law_102 : decode b_L_law 102 = .ok (.iaload, 1) := by decide +kernel
theorem d_L_law_103 : decode b_L_law 103 = .ok (.aload_n 0, 1) := by decide +kernel
theorem d_L_law_104 : decode b_L_law 104 = .ok (.iload 4, 2) := by decide +kernel
theorem d_L_law_106 : decode b_L_law 106 = .ok (.iconst 2, 1) := by decide +kernel
theorem d_L_law_107 : decode b_L_law 107 = .ok (.iadd, 1) := by decide +kernel
theorem d_L_law_108 : decode b_L_law 108 = .ok (.iaload, 1) := by decide +kernel
theorem d_L_law_109 : decode b_L_law 109 = .ok (.aload_n 0, 1) := by decide +kernel
theorem d_L_law_110 : decode b_L_law 110 = .ok (.iload 4, 2) := by decide +kernel
theorem d_L_law_112 : decode b_L_law 112 = .ok (.iconst 3, 1) := by decide +kernel
theorem d_L_law_113 : decode b_L_law 113 = .ok (.iadd, 1) := by decide +kernel
theorem d_L_law_114 : decode b_L_law 114 = .ok (.iaload, 1) := by decide +kernel
theorem d_L_law_115 : decode b_L_law 115 = .ok (.aload_n 3, 1) := by decide +kernel
theorem d_L_law_116 : decode b_L_law 116 = .ok (.invokestatic 50, 3) := by decide +kernel
theorem d_L_law_119 : decode b_L_law 119 = .ok (.istore 5, 2) := by decide +kernel
theorem d_L_law_121 : decode b_L_law 121 = .ok (.aload_n 2, 1) := by decide +kernel
theorem d_L_law_122 : decode b_L_law 122 = .ok (.aload_n 0, 1) := by decide +kernel
theorem d_L_law_123 : decode b_L_law 123 = .ok (.iload 4, 2) := by decide +kernel
theorem d_L_law_125 : decode b_L_law 125 = .ok (.iconst 1, 1) := by decide +kernel
theorem d_L_law_126 : decode b_L_law 126 = .ok (.iadd, 1) := by decide +kernel
theorem d_L_law_127 : decode b_L_law 127 = .ok (.iaload, 1) := by decide +kernel
theorem d_L_law_128 : decode b_L_law 128 = .ok (.aload_n 0, 1) := by decide +kernel
theorem d_L_law_129 : decode b_L_law 129 = .ok (.iload 4, 2) := by decide +kernel
theorem d_L_law_131 : decode b_L_law 131 = .ok (.iconst 2, 1) := by decide +kernel
theorem d_L_law_132 : decode b_L_law 132 = .ok (.iadd, 1) := by decide +kernel
theorem d_L_law_133 : decode b_L_law 133 = .ok (.iaload, 1) := by decide +kernel
theorem d_L_law_134 : decode b_L_law 134 = .ok (.aload_n 0, 1) := by decide +kernel
theorem d_L_law_135 : decode b_L_law 135 = .ok (.iload 4, 2) := by decide +kernel
theorem d_L_law_137 : decode b_L_law 137 = .ok (.iconst 3, 1) := by decide +kernel
theorem d_L_law_138 : decode b_L_law 138 = .ok (.iadd, 1) := by decide +kernel
theorem d_L_law_139 : decode b_L_law 139 = .ok (.iaload, 1) := by decide +kernel
theorem d_L_law_140 : decode b_L_law 140 = .ok (.invokevirtual 55, 3) := by decide +kernel
theorem d_L_law_143 : decode b_L_law 143 = .ok (.istore 6, 2) := by decide +kernel
theorem d_L_law_145 : decode b_L_law 145 = .ok (.aload_n 2, 1) := by decide +kernel
theorem d_L_law_146 : decode b_L_law 146 = .ok (.invokevirtual 56, 3) := by decide +kernel
theorem d_L_law_149 : decode b_L_law 149 = .ok (.iload 5, 2) := by decide +kernel
theorem d_L_law_151 : decode b_L_law 151 = .ok (.if_icmp .eq 5, 3) := by decide +kernel
theorem d_L_law_154 : decode b_L_law 154 = .ok (.iconst 0, 1) := by decide +kernel
theorem d_L_law_155 : decode b_L_law 155 = .ok (.ireturn, 1) := by decide +kernel
theorem d_L_law_156 : decode b_L_law 156 = .ok (.iload 5, 2) := by decide +kernel
theorem d_L_law_158 : decode b_L_law 158 = .ok (.ifCond .ne 15, 3) := by decide +kernel
theorem d_L_law_161 : decode b_L_law 161 = .ok (.aload_n 3, 1) := by decide +kernel
theorem d_L_law_162 : decode b_L_law 162 = .ok (.iconst 0, 1) := by decide +kernel
theorem d_L_law_163 : decode b_L_law 163 = .ok (.laload, 1) := by decide +kernel
theorem d_L_law_164 : decode b_L_law 164 = .ok (.iload 6, 2) := by decide +kernel
theorem d_L_law_166 : decode b_L_law 166 = .ok (.i2l, 1) := by decide +kernel
theorem d_L_law_167 : decode b_L_law 167 = .ok (.lcmp, 1) := by decide +kernel
theorem d_L_law_168 : decode b_L_law 168 = .ok (.ifCond .eq 5, 3) := by decide +kernel
theorem d_L_law_171 : decode b_L_law 171 = .ok (.iconst 0, 1) := by decide +kernel
theorem d_L_law_172 : decode b_L_law 172 = .ok (.ireturn, 1) := by decide +kernel
theorem d_L_law_173 : decode b_L_law 173 = .ok (.goto 595, 3) := by decide +kernel
theorem d_L_law_176 : decode b_L_law 176 = .ok (.aload_n 1, 1) := by decide +kernel
theorem d_L_law_177 : decode b_L_law 177 = .ok (.aload_n 0, 1) := by decide +kernel
theorem d_L_law_178 : decode b_L_law 178 = .ok (.iload 4, 2) := by decide +kernel
theorem d_L_law_180 : decode b_L_law 180 = .ok (.iconst 1, 1) := by decide +kernel
theorem d_L_law_181 : decode b_L_law 181 = .ok (.iadd, 1) := by decide +kernel
theorem d_L_law_182 : decode b_L_law 182 = .ok (.iaload, 1) := by decide +kernel
theorem d_L_law_183 : decode b_L_law 183 = .ok (.aload_n 0, 1) := by decide +kernel
theorem d_L_law_184 : decode b_L_law 184 = .ok (.iload 4, 2) := by decide +kernel
theorem d_L_law_186 : decode b_L_law 186 = .ok (.iconst 2, 1) := by decide +kernel
theorem d_L_law_187 : decode b_L_law 187 = .ok (.iadd, 1) := by decide +kernel
theorem d_L_law_188 : decode b_L_law 188 = .ok (.iaload, 1) := by decide +kernel
theorem d_L_law_189 : decode b_L_law 189 = .ok (.aload_n 3, 1) := by decide +kernel
theorem d_L_law_190 : decode b_L_law 190 = .ok (.invokestatic 60, 3) := by decide +kernel
theorem d_L_law_193 : decode b_L_law 193 = .ok (.istore 5, 2) := by decide +kernel
theorem d_L_law_195 : decode b_L_law 195 = .ok (.aload_n 2, 1) := by decide +kernel
theorem d_L_law_196 : decode b_L_law 196 = .ok (.aload_n 0, 1) := by decide +kernel
theorem d_L_law_197 : decode b_L_law 197 = .ok (.iload 4, 2) := by decide +kernel
theorem d_L_law_199 : decode b_L_law 199 = .ok (.iconst 1, 1) := by decide +kernel
theorem d_L_law_200 : decode b_L_law 200 = .ok (.iadd, 1) := by decide +kernel
theorem d_L_law_201 : decode b_L_law 201 = .ok (.iaload, 1) := by decide +kernel
theorem d_L_law_202 : decode b_L_law 202 = .ok (.aload_n 0, 1) := by decide +kernel
theorem d_L_law_203 : decode b_L_law 203 = .ok (.iload 4, 2) := by decide +kernel
theorem d_L_law_205 : decode b_L_law 205 = .ok (.iconst 2, 1) := by decide +kernel
theorem d_L_law_206 : decode b_L_law 206 = .ok (.iadd, 1) := by decide +kernel
theorem d_L_law_207 : decode b_L_law 207 = .ok (.iaload, 1) := by decide +kernel
theorem d_L_law_208 : decode b_L_law 208 = .ok (.invokevirtual 63, 3) := by decide +kernel
theorem d_L_law_211 : decode b_L_law 211 = .ok (.istore 6, 2) := by decide +kernel
theorem d_L_law_213 : decode b_L_law 213 = .ok (.aload_n 2, 1) := by decide +kernel
theorem d_L_law_214 : decode b_L_law 214 = .ok (.invokevirtual 56, 3) := by decide +kernel
theorem d_L_law_217 : decode b_L_law 217 = .ok (.iload 5, 2) := by decide +kernel
theorem d_L_law_219 : decode b_L_law 219 = .ok (.if_icmp .eq 5, 3) := by decide +kernel
theorem d_L_law_222 : decode b_L_law 222 = .ok (.iconst 0, 1) := by decide +kernel
theorem d_L_law_223 : decode b_L_law 223 = .ok (.ireturn, 1) := by decide +kernel
theorem d_L_law_224 : decode b_L_law 224 = .ok (.iload 5, 2) := by decide +kernel
theorem d_L_law_226 : decode b_L_law 226 = .ok (.ifCond .ne 15, 3) := by decide +kernel
theorem d_L_law_229 : decode b_L_law 229 = .ok (.aload_n 3, 1) := by decide +kernel
theorem d_L_law_230 : decode b_L_law 230 = .ok (.iconst 0, 1) := by decide +kernel
theorem d_L_law_231 : decode b_L_law 231 = .ok (.laload, 1) := by decide +kernel
theorem d_L_law_232 : decode b_L_law 232 = .ok (.iload 6, 2) := by decide +kernel
theorem d_L_law_234 : decode b_L_law 234 = .ok (.i2l, 1) := by decide +kernel
theorem d_L_law_235 : decode b_L_law 235 = .ok (.lcmp, 1) := by decide +kernel
theorem d_L_law_236 : decode b_L_law 236 = .ok (.ifCond .eq 5, 3) := by decide +kernel
theorem d_L_law_239 : decode b_L_law 239 = .ok (.iconst 0, 1) := by decide +kernel
theorem d_L_law_240 : decode b_L_law 240 = .ok (.ireturn, 1) := by decide +kernel
theorem d_L_law_241 : decode b_L_law 241 = .ok (.goto 527, 3) := by decide +kernel
theorem d_L_law_244 : decode b_L_law 244 = .ok (.aload_n 1, 1) := by decide +kernel
theorem d_L_law_245 : decode b_L_law 245 = .ok (.aload_n 0, 1) := by decide +kernel
theorem d_L_law_246 : decode b_L_law 246 = .ok (.iload 4, 2) := by decide +kernel
theorem d_L_law_248 : decode b_L_law 248 = .ok (.iconst 1, 1) := by decide +kernel
theorem d_L_law_249 : decode b_L_law 249 = .ok (.iadd, 1) := by decide +kernel
theorem d_L_law_250 : decode b_L_law 250 = .ok (.iaload, 1) := by decide +kernel
theorem d_L_law_251 : decode b_L_law 251 = .ok (.aload_n 0, 1) := by decide +kernel
theorem d_L_law_252 : decode b_L_law 252 = .ok (.iload 4, 2) := by decide +kernel
theorem d_L_law_254 : decode b_L_law 254 = .ok (.iconst 2, 1) := by decide +kernel
theorem d_L_law_255 : decode b_L_law 255 = .ok (.iadd, 1) := by decide +kernel
theorem d_L_law_256 : decode b_L_law 256 = .ok (.iaload, 1) := by decide +kernel
theorem d_L_law_257 : decode b_L_law 257 = .ok (.aload_n 0, 1) := by decide +kernel
theorem d_L_law_258 : decode b_L_law 258 = .ok (.iload 4, 2) := by decide +kernel
theorem d_L_law_260 : decode b_L_law 260 = .ok (.iconst 3, 1) := by decide +kernel
theorem d_L_law_261 : decode b_L_law 261 = .ok (.iadd, 1) := by decide +kernel
theorem d_L_law_262 : decode b_L_law 262 = .ok (.iaload, 1) := by decide +kernel
theorem d_L_law_263 : decode b_L_law 263 = .ok (.aload_n 3, 1) := by decide +kernel
theorem d_L_law_264 : decode b_L_law 264 = .ok (.invokestatic 64, 3) := by decide +kernel
theorem d_L_law_267 : decode b_L_law 267 = .ok (.istore 5, 2) := by decide +kernel
theorem d_L_law_269 : decode b_L_law 269 = .ok (.aload_n 2, 1) := by decide +kernel
theorem d_L_law_270 : decode b_L_law 270 = .ok (.aload_n 0, 1) := by decide +kernel
theorem d_L_law_271 : decode b_L_law 271 = .ok (.iload 4, 2) := by decide +kernel
theorem d_L_law_273 : decode b_L_law 273 = .ok (.iconst 1, 1) := by decide +kernel
theorem d_L_law_274 : decode b_L_law 274 = .ok (.iadd, 1) := by decide +kernel
theorem d_L_law_275 : decode b_L_law 275 = .ok (.iaload, 1) := by decide +kernel
theorem d_L_law_276 : decode b_L_law 276 = .ok (.aload_n 0, 1) := by decide +kernel
theorem d_L_law_277 : decode b_L_law 277 = .ok (.iload 4, 2) := by decide +kernel
theorem d_L_law_279 : decode b_L_law 279 = .ok (.iconst 2, 1) := by decide +kernel
theorem d_L_law_280 : decode b_L_law 280 = .ok (.iadd, 1) := by decide +kernel
theorem d_L_law_281 : decode b_L_law 281 = .ok (.iaload, 1) := by decide +kernel
theorem d_L_law_282 : decode b_L_law 282 = .ok (.aload_n 0, 1) := by decide +kernel
theorem d_L_law_283 : decode b_L_law 283 = .ok (.iload 4, 2) := by decide +kernel
theorem d_L_law_285 : decode b_L_law 285 = .ok (.iconst 3, 1) := by decide +kernel
theorem d_L_law_286 : decode b_L_law 286 = .ok (.iadd, 1) := by decide +kernel
theorem d_L_law_287 : decode b_L_law 287 = .ok (.iaload, 1) := by decide +kernel
theorem d_L_law_288 : decode b_L_law 288 = .ok (.invokevirtual 66, 3) := by decide +kernel
theorem d_L_law_291 : decode b_L_law 291 = .ok (.istore 6, 2) := by decide +kernel
theorem d_L_law_293 : decode b_L_law 293 = .ok (.aload_n 2, 1) := by decide +kernel
theorem d_L_law_294 : decode b_L_law 294 = .ok (.invokevirtual 56, 3) := by decide +kernel
theorem d_L_law_297 : decode b_L_law 297 = .ok (.iload 5, 2) := by decide +kernel
theorem d_L_law_299 : decode b_L_law 299 = .ok (.if_icmp .eq 5, 3) := by decide +kernel
theorem d_L_law_302 : decode b_L_law 302 = .ok (.iconst 0, 1) := by decide +kernel
theorem d_L_law_303 : decode b_L_law 303 = .ok (.ireturn, 1) := by decide +kernel
theorem d_L_law_304 : decode b_L_law 304 = .ok (.iload 5, 2) := by decide +kernel
theorem d_L_law_306 : decode b_L_law 306 = .ok (.ifCond .ne 15, 3) := by decide +kernel
theorem d_L_law_309 : decode b_L_law 309 = .ok (.aload_n 3, 1) := by decide +kernel
theorem d_L_law_310 : decode b_L_law 310 = .ok (.iconst 0, 1) := by decide +kernel
theorem d_L_law_311 : decode b_L_law 311 = .ok (.laload, 1) := by decide +kernel
theorem d_L_law_312 : decode b_L_law 312 = .ok (.iload 6, 2) := by decide +kernel
theorem d_L_law_314 : decode b_L_law 314 = .ok (.i2l, 1) := by decide +kernel
theorem d_L_law_315 : decode b_L_law 315 = .ok (.lcmp, 1) := by decide +kernel
theorem d_L_law_316 : decode b_L_law 316 = .ok (.ifCond .eq 5, 3) := by decide +kernel
theorem d_L_law_319 : decode b_L_law 319 = .ok (.iconst 0, 1) := by decide +kernel
theorem d_L_law_320 : decode b_L_law 320 = .ok (.ireturn, 1) := by decide +kernel
theorem d_L_law_321 : decode b_L_law 321 = .ok (.goto 447, 3) := by decide +kernel
theorem d_L_law_324 : decode b_L_law 324 = .ok (.aload_n 1, 1) := by decide +kernel
theorem d_L_law_325 : decode b_L_law 325 = .ok (.aload_n 0, 1) := by decide +kernel
theorem d_L_law_326 : decode b_L_law 326 = .ok (.iload 4, 2) := by decide +kernel
theorem d_L_law_328 : decode b_L_law 328 = .ok (.iconst 1, 1) := by decide +kernel
theorem d_L_law_329 : decode b_L_law 329 = .ok (.iadd, 1) := by decide +kernel
theorem d_L_law_330 : decode b_L_law 330 = .ok (.iaload, 1) := by decide +kernel
theorem d_L_law_331 : decode b_L_law 331 = .ok (.aload_n 0, 1) := by decide +kernel
theorem d_L_law_332 : decode b_L_law 332 = .ok (.iload 4, 2) := by decide +kernel
theorem d_L_law_334 : decode b_L_law 334 = .ok (.iconst 2, 1) := by decide +kernel
theorem d_L_law_335 : decode b_L_law 335 = .ok (.iadd, 1) := by decide +kernel
theorem d_L_law_336 : decode b_L_law 336 = .ok (.iaload, 1) := by decide +kernel
theorem d_L_law_337 : decode b_L_law 337 = .ok (.aload_n 3, 1) := by decide +kernel
theorem d_L_law_338 : decode b_L_law 338 = .ok (.invokestatic 67, 3) := by decide +kernel
theorem d_L_law_341 : decode b_L_law 341 = .ok (.istore 5, 2) := by decide +kernel
theorem d_L_law_343 : decode b_L_law 343 = .ok (.aload_n 2, 1) := by decide +kernel
theorem d_L_law_344 : decode b_L_law 344 = .ok (.aload_n 0, 1) := by decide +kernel
theorem d_L_law_345 : decode b_L_law 345 = .ok (.iload 4, 2) := by decide +kernel
theorem d_L_law_347 : decode b_L_law 347 = .ok (.iconst 1, 1) := by decide +kernel
theorem d_L_law_348 : decode b_L_law 348 = .ok (.iadd, 1) := by decide +kernel
theorem d_L_law_349 : decode b_L_law 349 = .ok (.iaload, 1) := by decide +kernel
theorem d_L_law_350 : decode b_L_law 350 = .ok (.aload_n 0, 1) := by decide +kernel
theorem d_L_law_351 : decode b_L_law 351 = .ok (.iload 4, 2) := by decide +kernel
theorem d_L_law_353 : decode b_L_law 353 = .ok (.iconst 2, 1) := by decide +kernel
theorem d_L_law_354 : decode b_L_law 354 = .ok (.iadd, 1) := by decide +kernel
theorem d_L_law_355 : decode b_L_law 355 = .ok (.iaload, 1) := by decide +kernel
theorem d_L_law_356 : decode b_L_law 356 = .ok (.invokevirtual 69, 3) := by decide +kernel
theorem d_L_law_359 : decode b_L_law 359 = .ok (.istore 6, 2) := by decide +kernel
theorem d_L_law_361 : decode b_L_law 361 = .ok (.aload_n 2, 1) := by decide +kernel
theorem d_L_law_362 : decode b_L_law 362 = .ok (.invokevirtual 56, 3) := by decide +kernel
theorem d_L_law_365 : decode b_L_law 365 = .ok (.iload 5, 2) := by decide +kernel
theorem d_L_law_367 : decode b_L_law 367 = .ok (.if_icmp .eq 5, 3) := by decide +kernel
theorem d_L_law_370 : decode b_L_law 370 = .ok (.iconst 0, 1) := by decide +kernel
theorem d_L_law_371 : decode b_L_law 371 = .ok (.ireturn, 1) := by decide +kernel
theorem d_L_law_372 : decode b_L_law 372 = .ok (.iload 5, 2) := by decide +kernel
theorem d_L_law_374 : decode b_L_law 374 = .ok (.ifCond .ne 15, 3) := by decide +kernel
theorem d_L_law_377 : decode b_L_law 377 = .ok (.aload_n 3, 1) := by decide +kernel
theorem d_L_law_378 : decode b_L_law 378 = .ok (.iconst 0, 1) := by decide +kernel
theorem d_L_law_379 : decode b_L_law 379 = .ok (.laload, 1) := by decide +kernel
theorem d_L_law_380 : decode b_L_law 380 = .ok (.iload 6, 2) := by decide +kernel
theorem d_L_law_382 : decode b_L_law 382 = .ok (.i2l, 1) := by decide +kernel
theorem d_L_law_383 : decode b_L_law 383 = .ok (.lcmp, 1) := by decide +kernel
theorem d_L_law_384 : decode b_L_law 384 = .ok (.ifCond .eq 5, 3) := by decide +kernel
theorem d_L_law_387 : decode b_L_law 387 = .ok (.iconst 0, 1) := by decide +kernel
theorem d_L_law_388 : decode b_L_law 388 = .ok (.ireturn, 1) := by decide +kernel
theorem d_L_law_389 : decode b_L_law 389 = .ok (.goto 379, 3) := by decide +kernel
theorem d_L_law_392 : decode b_L_law 392 = .ok (.aload_n 1, 1) := by decide +kernel
theorem d_L_law_393 : decode b_L_law 393 = .ok (.aload_n 0, 1) := by decide +kernel
theorem d_L_law_394 : decode b_L_law 394 = .ok (.iload 4, 2) := by decide +kernel
theorem d_L_law_396 : decode b_L_law 396 = .ok (.iconst 1, 1) := by decide +kernel
theorem d_L_law_397 : decode b_L_law 397 = .ok (.iadd, 1) := by decide +kernel
theorem d_L_law_398 : decode b_L_law 398 = .ok (.iaload, 1) := by decide +kernel
theorem d_L_law_399 : decode b_L_law 399 = .ok (.aload_n 0, 1) := by decide +kernel
theorem d_L_law_400 : decode b_L_law 400 = .ok (.iload 4, 2) := by decide +kernel
theorem d_L_law_402 : decode b_L_law 402 = .ok (.iconst 2, 1) := by decide +kernel
theorem d_L_law_403 : decode b_L_law 403 = .ok (.iadd, 1) := by decide +kernel
theorem d_L_law_404 : decode b_L_law 404 = .ok (.iaload, 1) := by decide +kernel
theorem d_L_law_405 : decode b_L_law 405 = .ok (.aload_n 3, 1) := by decide +kernel
theorem d_L_law_406 : decode b_L_law 406 = .ok (.invokestatic 70, 3) := by decide +kernel
theorem d_L_law_409 : decode b_L_law 409 = .ok (.istore 5, 2) := by decide +kernel
theorem d_L_law_411 : decode b_L_law 411 = .ok (.aload_n 2, 1) := by decide +kernel
theorem d_L_law_412 : decode b_L_law 412 = .ok (.aload_n 0, 1) := by decide +kernel
theorem d_L_law_413 : decode b_L_law 413 = .ok (.iload 4, 2) := by decide +kernel
theorem d_L_law_415 : decode b_L_law 415 = .ok (.iconst 1, 1) := by decide +kernel
theorem d_L_law_416 : decode b_L_law 416 = .ok (.iadd, 1) := by decide +kernel
theorem d_L_law_417 : decode b_L_law 417 = .ok (.iaload, 1) := by decide +kernel
theorem d_L_law_418 : decode b_L_law 418 = .ok (.aload_n 0, 1) := by decide +kernel
theorem d_L_law_419 : decode b_L_law 419 = .ok (.iload 4, 2) := by decide +kernel
theorem d_L_law_421 : decode b_L_law 421 = .ok (.iconst 2, 1) := by decide +kernel
theorem d_L_law_422 : decode b_L_law 422 = .ok (.iadd, 1) := by decide +kernel
theorem d_L_law_423 : decode b_L_law 423 = .ok (.iaload, 1) := by decide +kernel
theorem d_L_law_424 : decode b_L_law 424 = .ok (.invokevirtual 72, 3) := by decide +kernel
theorem d_L_law_427 : decode b_L_law 427 = .ok (.istore 6, 2) := by decide +kernel
theorem d_L_law_429 : decode b_L_law 429 = .ok (.aload_n 2, 1) := by decide +kernel
theorem d_L_law_430 : decode b_L_law 430 = .ok (.invokevirtual 56, 3) := by decide +kernel
theorem d_L_law_433 : decode b_L_law 433 = .ok (.iload 5, 2) := by decide +kernel
theorem d_L_law_435 : decode b_L_law 435 = .ok (.if_icmp .eq 5, 3) := by decide +kernel
theorem d_L_law_438 : decode b_L_law 438 = .ok (.iconst 0, 1) := by decide +kernel
theorem d_L_law_439 : decode b_L_law 439 = .ok (.ireturn, 1) := by decide +kernel
theorem d_L_law_440 : decode b_L_law 440 = .ok (.iload 5, 2) := by decide +kernel
theorem d_L_law_442 : decode b_L_law 442 = .ok (.ifCond .ne 15, 3) := by decide +kernel
theorem d_L_law_445 : decode b_L_law 445 = .ok (.aload_n 3, 1) := by decide +kernel
theorem d_L_law_446 : decode b_L_law 446 = .ok (.iconst 0, 1) := by decide +kernel
theorem d_L_law_447 : decode b_L_law 447 = .ok (.laload, 1) := by decide +kernel
theorem d_L_law_448 : decode b_L_law 448 = .ok (.iload 6, 2) := by decide +kernel
theorem d_L_law_450 : decode b_L_law 450 = .ok (.i2l, 1) := by decide +kernel
theorem d_L_law_451 : decode b_L_law 451 = .ok (.lcmp, 1) := by decide +kernel
theorem d_L_law_452 : decode b_L_law 452 = .ok (.ifCond .eq 5, 3) := by decide +kernel
theorem d_L_law_455 : decode b_L_law 455 = .ok (.iconst 0, 1) := by decide +kernel
theorem d_L_law_456 : decode b_L_law 456 = .ok (.ireturn, 1) := by decide +kernel
theorem d_L_law_457 : decode b_L_law 457 = .ok (.goto 311, 3) := by decide +kernel
theorem d_L_law_460 : decode b_L_law 460 = .ok (.aload_n 1, 1) := by decide +kernel
theorem d_L_law_461 : decode b_L_law 461 = .ok (.aload_n 0, 1) := by decide +kernel
theorem d_L_law_462 : decode b_L_law 462 = .ok (.iload 4, 2) := by decide +kernel
theorem d_L_law_464 : decode b_L_law 464 = .ok (.iconst 1, 1) := by decide +kernel
theorem d_L_law_465 : decode b_L_law 465 = .ok (.iadd, 1) := by decide +kernel
theorem d_L_law_466 : decode b_L_law 466 = .ok (.iaload, 1) := by decide +kernel
theorem d_L_law_467 : decode b_L_law 467 = .ok (.aload_n 0, 1) := by decide +kernel
theorem d_L_law_468 : decode b_L_law 468 = .ok (.iload 4, 2) := by decide +kernel
theorem d_L_law_470 : decode b_L_law 470 = .ok (.iconst 2, 1) := by decide +kernel
theorem d_L_law_471 : decode b_L_law 471 = .ok (.iadd, 1) := by decide +kernel
theorem d_L_law_472 : decode b_L_law 472 = .ok (.iaload, 1) := by decide +kernel
theorem d_L_law_473 : decode b_L_law 473 = .ok (.aload_n 0, 1) := by decide +kernel
theorem d_L_law_474 : decode b_L_law 474 = .ok (.iload 4, 2) := by decide +kernel
theorem d_L_law_476 : decode b_L_law 476 = .ok (.iconst 3, 1) := by decide +kernel
theorem d_L_law_477 : decode b_L_law 477 = .ok (.iadd, 1) := by decide +kernel
theorem d_L_law_478 : decode b_L_law 478 = .ok (.iaload, 1) := by decide +kernel
theorem d_L_law_479 : decode b_L_law 479 = .ok (.aload_n 3, 1) := by decide +kernel
theorem d_L_law_480 : decode b_L_law 480 = .ok (.invokestatic 73, 3) := by decide +kernel
theorem d_L_law_483 : decode b_L_law 483 = .ok (.istore 5, 2) := by decide +kernel
theorem d_L_law_485 : decode b_L_law 485 = .ok (.aload_n 2, 1) := by decide +kernel
theorem d_L_law_486 : decode b_L_law 486 = .ok (.aload_n 0, 1) := by decide +kernel
theorem d_L_law_487 : decode b_L_law 487 = .ok (.iload 4, 2) := by decide +kernel
theorem d_L_law_489 : decode b_L_law 489 = .ok (.iconst 1, 1) := by decide +kernel
theorem d_L_law_490 : decode b_L_law 490 = .ok (.iadd, 1) := by decide +kernel
theorem d_L_law_491 : decode b_L_law 491 = .ok (.iaload, 1) := by decide +kernel
theorem d_L_law_492 : decode b_L_law 492 = .ok (.aload_n 0, 1) := by decide +kernel
theorem d_L_law_493 : decode b_L_law 493 = .ok (.iload 4, 2) := by decide +kernel
theorem d_L_law_495 : decode b_L_law 495 = .ok (.iconst 2, 1) := by decide +kernel
theorem d_L_law_496 : decode b_L_law 496 = .ok (.iadd, 1) := by decide +kernel
theorem d_L_law_497 : decode b_L_law 497 = .ok (.iaload, 1) := by decide +kernel
theorem d_L_law_498 : decode b_L_law 498 = .ok (.aload_n 0, 1) := by decide +kernel
theorem d_L_law_499 : decode b_L_law 499 = .ok (.iload 4, 2) := by decide +kernel
theorem d_L_law_501 : decode b_L_law 501 = .ok (.iconst 3, 1) := by decide +kernel
theorem d_L_law_502 : decode b_L_law 502 = .ok (.iadd, 1) := by decide +kernel
theorem d_L_law_503 : decode b_L_law 503 = .ok (.iaload, 1) := by decide +kernel
theorem d_L_law_504 : decode b_L_law 504 = .ok (.invokevirtual 75, 3) := by decide +kernel
theorem d_L_law_507 : decode b_L_law 507 = .ok (.istore 6, 2) := by decide +kernel
theorem d_L_law_509 : decode b_L_law 509 = .ok (.aload_n 2, 1) := by decide +kernel
theorem d_L_law_510 : decode b_L_law 510 = .ok (.invokevirtual 56, 3) := by decide +kernel
theorem d_L_law_513 : decode b_L_law 513 = .ok (.iload 5, 2) := by decide +kernel
theorem d_L_law_515 : decode b_L_law 515 = .ok (.if_icmp .eq 5, 3) := by decide +kernel
theorem d_L_law_518 : decode b_L_law 518 = .ok (.iconst 0, 1) := by decide +kernel
theorem d_L_law_519 : decode b_L_law 519 = .ok (.ireturn, 1) := by decide +kernel
theorem d_L_law_520 : decode b_L_law 520 = .ok (.iload 5, 2) := by decide +kernel
theorem d_L_law_522 : decode b_L_law 522 = .ok (.ifCond .ne 15, 3) := by decide +kernel
theorem d_L_law_525 : decode b_L_law 525 = .ok (.aload_n 3, 1) := by decide +kernel
theorem d_L_law_526 : decode b_L_law 526 = .ok (.iconst 0, 1) := by decide +kernel
theorem d_L_law_527 : decode b_L_law 527 = .ok (.laload, 1) := by decide +kernel
theorem d_L_law_528 : decode b_L_law 528 = .ok (.iload 6, 2) := by decide +kernel
theorem d_L_law_530 : decode b_L_law 530 = .ok (.i2l, 1) := by decide +kernel
theorem d_L_law_531 : decode b_L_law 531 = .ok (.lcmp, 1) := by decide +kernel
theorem d_L_law_532 : decode b_L_law 532 = .ok (.ifCond .eq 5, 3) := by decide +kernel
theorem d_L_law_535 : decode b_L_law 535 = .ok (.iconst 0, 1) := by decide +kernel
theorem d_L_law_536 : decode b_L_law 536 = .ok (.ireturn, 1) := by decide +kernel
theorem d_L_law_537 : decode b_L_law 537 = .ok (.goto 231, 3) := by decide +kernel
theorem d_L_law_540 : decode b_L_law 540 = .ok (.aload_n 1, 1) := by decide +kernel
theorem d_L_law_541 : decode b_L_law 541 = .ok (.aload_n 0, 1) := by decide +kernel
theorem d_L_law_542 : decode b_L_law 542 = .ok (.iload 4, 2) := by decide +kernel
theorem d_L_law_544 : decode b_L_law 544 = .ok (.iconst 1, 1) := by decide +kernel
theorem d_L_law_545 : decode b_L_law 545 = .ok (.iadd, 1) := by decide +kernel
theorem d_L_law_546 : decode b_L_law 546 = .ok (.iaload, 1) := by decide +kernel
theorem d_L_law_547 : decode b_L_law 547 = .ok (.aload_n 0, 1) := by decide +kernel
theorem d_L_law_548 : decode b_L_law 548 = .ok (.iload 4, 2) := by decide +kernel
theorem d_L_law_550 : decode b_L_law 550 = .ok (.iconst 2, 1) := by decide +kernel
theorem d_L_law_551 : decode b_L_law 551 = .ok (.iadd, 1) := by decide +kernel
theorem d_L_law_552 : decode b_L_law 552 = .ok (.iaload, 1) := by decide +kernel
theorem d_L_law_553 : decode b_L_law 553 = .ok (.aload_n 0, 1) := by decide +kernel
theorem d_L_law_554 : decode b_L_law 554 = .ok (.iload 4, 2) := by decide +kernel
theorem d_L_law_556 : decode b_L_law 556 = .ok (.iconst 3, 1) := by decide +kernel
theorem d_L_law_557 : decode b_L_law 557 = .ok (.iadd, 1) := by decide +kernel
theorem d_L_law_558 : decode b_L_law 558 = .ok (.iaload, 1) := by decide +kernel
theorem d_L_law_559 : decode b_L_law 559 = .ok (.aload_n 3, 1) := by decide +kernel
theorem d_L_law_560 : decode b_L_law 560 = .ok (.invokestatic 76, 3) := by decide +kernel
theorem d_L_law_563 : decode b_L_law 563 = .ok (.istore 5, 2) := by decide +kernel
theorem d_L_law_565 : decode b_L_law 565 = .ok (.aload_n 2, 1) := by decide +kernel
theorem d_L_law_566 : decode b_L_law 566 = .ok (.aload_n 0, 1) := by decide +kernel
theorem d_L_law_567 : decode b_L_law 567 = .ok (.iload 4, 2) := by decide +kernel
theorem d_L_law_569 : decode b_L_law 569 = .ok (.iconst 1, 1) := by decide +kernel
theorem d_L_law_570 : decode b_L_law 570 = .ok (.iadd, 1) := by decide +kernel
theorem d_L_law_571 : decode b_L_law 571 = .ok (.iaload, 1) := by decide +kernel
theorem d_L_law_572 : decode b_L_law 572 = .ok (.aload_n 0, 1) := by decide +kernel
theorem d_L_law_573 : decode b_L_law 573 = .ok (.iload 4, 2) := by decide +kernel
theorem d_L_law_575 : decode b_L_law 575 = .ok (.iconst 2, 1) := by decide +kernel
theorem d_L_law_576 : decode b_L_law 576 = .ok (.iadd, 1) := by decide +kernel
theorem d_L_law_577 : decode b_L_law 577 = .ok (.iaload, 1) := by decide +kernel
theorem d_L_law_578 : decode b_L_law 578 = .ok (.aload_n 0, 1) := by decide +kernel
theorem d_L_law_579 : decode b_L_law 579 = .ok (.iload 4, 2) := by decide +kernel
theorem d_L_law_581 : decode b_L_law 581 = .ok (.iconst 3, 1) := by decide +kernel
theorem d_L_law_582 : decode b_L_law 582 = .ok (.iadd, 1) := by decide +kernel
theorem d_L_law_583 : decode b_L_law 583 = .ok (.iaload, 1) := by decide +kernel
theorem d_L_law_584 : decode b_L_law 584 = .ok (.invokevirtual 78, 3) := by decide +kernel
theorem d_L_law_587 : decode b_L_law 587 = .ok (.lstore 6, 2) := by decide +kernel
theorem d_L_law_589 : decode b_L_law 589 = .ok (.aload_n 2, 1) := by decide +kernel
theorem d_L_law_590 : decode b_L_law 590 = .ok (.invokevirtual 56, 3) := by decide +kernel
theorem d_L_law_593 : decode b_L_law 593 = .ok (.iload 5, 2) := by decide +kernel
theorem d_L_law_595 : decode b_L_law 595 = .ok (.if_icmp .eq 5, 3) := by decide +kernel
theorem d_L_law_598 : decode b_L_law 598 = .ok (.iconst 0, 1) := by decide +kernel
theorem d_L_law_599 : decode b_L_law 599 = .ok (.ireturn, 1) := by decide +kernel
theorem d_L_law_600 : decode b_L_law 600 = .ok (.iload 5, 2) := by decide +kernel
theorem d_L_law_602 : decode b_L_law 602 = .ok (.ifCond .ne 14, 3) := by decide +kernel
theorem d_L_law_605 : decode b_L_law 605 = .ok (.aload_n 3, 1) := by decide +kernel
theorem d_L_law_606 : decode b_L_law 606 = .ok (.iconst 0, 1) := by decide +kernel
theorem d_L_law_607 : decode b_L_law 607 = .ok (.laload, 1) := by decide +kernel
theorem d_L_law_608 : decode b_L_law 608 = .ok (.lload 6, 2) := by decide +kernel
theorem d_L_law_610 : decode b_L_law 610 = .ok (.lcmp, 1) := by decide +kernel
theorem d_L_law_611 : decode b_L_law 611 = .ok (.ifCond .eq 5, 3) := by decide +kernel
theorem d_L_law_614 : decode b_L_law 614 = .ok (.iconst 0, 1) := by decide +kernel
theorem d_L_law_615 : decode b_L_law 615 = .ok (.ireturn, 1) := by decide +kernel
theorem d_L_law_616 : decode b_L_law 616 = .ok (.goto 152, 3) := by decide +kernel
theorem d_L_law_619 : decode b_L_law 619 = .ok (.aload_n 1, 1) := by decide +kernel
theorem d_L_law_620 : decode b_L_law 620 = .ok (.aload_n 0, 1) := by decide +kernel
theorem d_L_law_621 : decode b_L_law 621 = .ok (.iload 4, 2) := by decide +kernel
theorem d_L_law_623 : decode b_L_law 623 = .ok (.iconst 1, 1) := by decide +kernel
theorem d_L_law_624 : decode b_L_law 624 = .ok (.iadd, 1) := by decide +kernel
theorem d_L_law_625 : decode b_L_law 625 = .ok (.iaload, 1) := by decide +kernel
theorem d_L_law_626 : decode b_L_law 626 = .ok (.aload_n 0, 1) := by decide +kernel
theorem d_L_law_627 : decode b_L_law 627 = .ok (.iload 4, 2) := by decide +kernel
theorem d_L_law_629 : decode b_L_law 629 = .ok (.iconst 2, 1) := by decide +kernel
theorem d_L_law_630 : decode b_L_law 630 = .ok (.iadd, 1) := by decide +kernel
theorem d_L_law_631 : decode b_L_law 631 = .ok (.iaload, 1) := by decide +kernel
theorem d_L_law_632 : decode b_L_law 632 = .ok (.aload_n 3, 1) := by decide +kernel
theorem d_L_law_633 : decode b_L_law 633 = .ok (.invokestatic 79, 3) := by decide +kernel
theorem d_L_law_636 : decode b_L_law 636 = .ok (.istore 5, 2) := by decide +kernel
theorem d_L_law_638 : decode b_L_law 638 = .ok (.aload_n 2, 1) := by decide +kernel
theorem d_L_law_639 : decode b_L_law 639 = .ok (.aload_n 0, 1) := by decide +kernel
theorem d_L_law_640 : decode b_L_law 640 = .ok (.iload 4, 2) := by decide +kernel
theorem d_L_law_642 : decode b_L_law 642 = .ok (.iconst 1, 1) := by decide +kernel
theorem d_L_law_643 : decode b_L_law 643 = .ok (.iadd, 1) := by decide +kernel
theorem d_L_law_644 : decode b_L_law 644 = .ok (.iaload, 1) := by decide +kernel
theorem d_L_law_645 : decode b_L_law 645 = .ok (.aload_n 0, 1) := by decide +kernel
theorem d_L_law_646 : decode b_L_law 646 = .ok (.iload 4, 2) := by decide +kernel
theorem d_L_law_648 : decode b_L_law 648 = .ok (.iconst 2, 1) := by decide +kernel
theorem d_L_law_649 : decode b_L_law 649 = .ok (.iadd, 1) := by decide +kernel
theorem d_L_law_650 : decode b_L_law 650 = .ok (.iaload, 1) := by decide +kernel
theorem d_L_law_651 : decode b_L_law 651 = .ok (.invokevirtual 81, 3) := by decide +kernel
theorem d_L_law_654 : decode b_L_law 654 = .ok (.istore 6, 2) := by decide +kernel
theorem d_L_law_656 : decode b_L_law 656 = .ok (.aload_n 2, 1) := by decide +kernel
theorem d_L_law_657 : decode b_L_law 657 = .ok (.invokevirtual 56, 3) := by decide +kernel
theorem d_L_law_660 : decode b_L_law 660 = .ok (.iload 5, 2) := by decide +kernel
theorem d_L_law_662 : decode b_L_law 662 = .ok (.if_icmp .eq 5, 3) := by decide +kernel
theorem d_L_law_665 : decode b_L_law 665 = .ok (.iconst 0, 1) := by decide +kernel
theorem d_L_law_666 : decode b_L_law 666 = .ok (.ireturn, 1) := by decide +kernel
theorem d_L_law_667 : decode b_L_law 667 = .ok (.iload 5, 2) := by decide +kernel
theorem d_L_law_669 : decode b_L_law 669 = .ok (.ifCond .ne 15, 3) := by decide +kernel
theorem d_L_law_672 : decode b_L_law 672 = .ok (.aload_n 3, 1) := by decide +kernel
theorem d_L_law_673 : decode b_L_law 673 = .ok (.iconst 0, 1) := by decide +kernel
theorem d_L_law_674 : decode b_L_law 674 = .ok (.laload, 1) := by decide +kernel
theorem d_L_law_675 : decode b_L_law 675 = .ok (.iload 6, 2) := by decide +kernel
theorem d_L_law_677 : decode b_L_law 677 = .ok (.i2l, 1) := by decide +kernel
theorem d_L_law_678 : decode b_L_law 678 = .ok (.lcmp, 1) := by decide +kernel
theorem d_L_law_679 : decode b_L_law 679 = .ok (.ifCond .eq 5, 3) := by decide +kernel
theorem d_L_law_682 : decode b_L_law 682 = .ok (.iconst 0, 1) := by decide +kernel
theorem d_L_law_683 : decode b_L_law 683 = .ok (.ireturn, 1) := by decide +kernel
theorem d_L_law_684 : decode b_L_law 684 = .ok (.goto 84, 3) := by decide +kernel
theorem d_L_law_687 : decode b_L_law 687 = .ok (.aload_n 1, 1) := by decide +kernel
theorem d_L_law_688 : decode b_L_law 688 = .ok (.aload_n 0, 1) := by decide +kernel
theorem d_L_law_689 : decode b_L_law 689 = .ok (.iload 4, 2) := by decide +kernel
theorem d_L_law_691 : decode b_L_law 691 = .ok (.iconst 1, 1) := by decide +kernel
theorem d_L_law_692 : decode b_L_law 692 = .ok (.iadd, 1) := by decide +kernel
theorem d_L_law_693 : decode b_L_law 693 = .ok (.iaload, 1) := by decide +kernel
theorem d_L_law_694 : decode b_L_law 694 = .ok (.aload_n 3, 1) := by decide +kernel
theorem d_L_law_695 : decode b_L_law 695 = .ok (.invokestatic 82, 3) := by decide +kernel
theorem d_L_law_698 : decode b_L_law 698 = .ok (.istore 5, 2) := by decide +kernel
theorem d_L_law_700 : decode b_L_law 700 = .ok (.aload_n 2, 1) := by decide +kernel
theorem d_L_law_701 : decode b_L_law 701 = .ok (.aload_n 0, 1) := by decide +kernel
theorem d_L_law_702 : decode b_L_law 702 = .ok (.iload 4, 2) := by decide +kernel
theorem d_L_law_704 : decode b_L_law 704 = .ok (.iconst 1, 1) := by decide +kernel
theorem d_L_law_705 : decode b_L_law 705 = .ok (.iadd, 1) := by decide +kernel
theorem d_L_law_706 : decode b_L_law 706 = .ok (.iaload, 1) := by decide +kernel
theorem d_L_law_707 : decode b_L_law 707 = .ok (.invokevirtual 85, 3) := by decide +kernel
theorem d_L_law_710 : decode b_L_law 710 = .ok (.lstore 6, 2) := by decide +kernel
theorem d_L_law_712 : decode b_L_law 712 = .ok (.aload_n 2, 1) := by decide +kernel
theorem d_L_law_713 : decode b_L_law 713 = .ok (.invokevirtual 56, 3) := by decide +kernel
theorem d_L_law_716 : decode b_L_law 716 = .ok (.iload 5, 2) := by decide +kernel
theorem d_L_law_718 : decode b_L_law 718 = .ok (.if_icmp .eq 5, 3) := by decide +kernel
theorem d_L_law_721 : decode b_L_law 721 = .ok (.iconst 0, 1) := by decide +kernel
theorem d_L_law_722 : decode b_L_law 722 = .ok (.ireturn, 1) := by decide +kernel
theorem d_L_law_723 : decode b_L_law 723 = .ok (.iload 5, 2) := by decide +kernel
theorem d_L_law_725 : decode b_L_law 725 = .ok (.ifCond .ne 14, 3) := by decide +kernel
theorem d_L_law_728 : decode b_L_law 728 = .ok (.aload_n 3, 1) := by decide +kernel
theorem d_L_law_729 : decode b_L_law 729 = .ok (.iconst 0, 1) := by decide +kernel
theorem d_L_law_730 : decode b_L_law 730 = .ok (.laload, 1) := by decide +kernel
theorem d_L_law_731 : decode b_L_law 731 = .ok (.lload 6, 2) := by decide +kernel
theorem d_L_law_733 : decode b_L_law 733 = .ok (.lcmp, 1) := by decide +kernel
theorem d_L_law_734 : decode b_L_law 734 = .ok (.ifCond .eq 5, 3) := by decide +kernel
theorem d_L_law_737 : decode b_L_law 737 = .ok (.iconst 0, 1) := by decide +kernel
theorem d_L_law_738 : decode b_L_law 738 = .ok (.ireturn, 1) := by decide +kernel
theorem d_L_law_739 : decode b_L_law 739 = .ok (.goto 29, 3) := by decide +kernel
theorem d_L_law_742 : decode b_L_law 742 = .ok (.aload_n 1, 1) := by decide +kernel
theorem d_L_law_743 : decode b_L_law 743 = .ok (.invokevirtual 86, 3) := by decide +kernel
theorem d_L_law_746 : decode b_L_law 746 = .ok (.aload_n 2, 1) := by decide +kernel
theorem d_L_law_747 : decode b_L_law 747 = .ok (.invokevirtual 89, 3) := by decide +kernel
theorem d_L_law_750 : decode b_L_law 750 = .ok (.if_icmp .eq 18, 3) := by decide +kernel
theorem d_L_law_753 : decode b_L_law 753 = .ok (.iconst 0, 1) := by decide +kernel
theorem d_L_law_754 : decode b_L_law 754 = .ok (.ireturn, 1) := by decide +kernel
theorem d_L_law_755 : decode b_L_law 755 = .ok (.aload_n 1, 1) := by decide +kernel
theorem d_L_law_756 : decode b_L_law 756 = .ok (.invokevirtual 90, 3) := by decide +kernel
theorem d_L_law_759 : decode b_L_law 759 = .ok (.aload_n 2, 1) := by decide +kernel
theorem d_L_law_760 : decode b_L_law 760 = .ok (.invokevirtual 93, 3) := by decide +kernel
theorem d_L_law_763 : decode b_L_law 763 = .ok (.if_icmp .eq 5, 3) := by decide +kernel
theorem d_L_law_766 : decode b_L_law 766 = .ok (.iconst 0, 1) := by decide +kernel
theorem d_L_law_767 : decode b_L_law 767 = .ok (.ireturn, 1) := by decide +kernel
theorem d_L_law_768 : decode b_L_law 768 = .ok (.iinc 4 4, 3) := by decide +kernel
theorem d_L_law_771 : decode b_L_law 771 = .ok (.goto (-748), 3) := by decide +kernel
theorem d_L_law_774 : decode b_L_law 774 = .ok (.iconst 1, 1) := by decide +kernel
theorem d_L_law_775 : decode b_L_law 775 = .ok (.ireturn, 1) := by decide +kernel
end
section
def R_law : String := "MeldTreeLaw"
def lw_P (b : Addr) (xs : List Int32) (args : Array Value) (s : State) : Prop := args = #[.ref b] ∧ s.IntsAt b xs ∧ xs.length ≤ 2048 ∧ (Jvm.Cond.and given_1 narrow_1).before args s = true
def lw_Q (_ : Array Value) (s : State) (o : Outcome) (t : State) : Prop := o = .returned (some (.int 1)) ∧ Framed s o t [] 601024 7293034
def lw_Z (below : List Frame) (a : Array Value) (s : State) : State → Prop := fun t => ∃ o, t.status = .running ∧ Ended t below o ∧ lw_Q a s o t
/-- the law's own end, with 1 on the stack, nothing written that was there before, its room as the claim has it -/
theorem lw_ret {p : Program} {l : Launch} {e : Env} {s : State} {m : MethodId} {below : List Frame} {meth : Method} {c : Code} {b : Nat} (hx : p.tables.exec = Jvm.exec) (hb : c.code = code) (hr : meth.sig.returnType = ret) (hlocks : meth.locks = false) {pc : Nat} {H : Heap} {ls : Array Slot} (hdg : decode code pc = .ok (.ireturn, 1)) : W p l e room_1 s m #[Value.ref b] below meth c H [] 601024 7293034 (lw_Z below #[Value.ref b] s) (F0 m pc ls [.int 1]) := by
  intro T hT X
  obtain ⟨fs, hret, hrun, hended, hW, hframe⟩ := X.leave (v := some (.int 1)) (hlocks := hlocks) (fun h => by rw [hr] at h; cases h)
  have hmeth' : T.vm.method? m = some meth := X.method'
  refine ⟨T.setFrames fs, ?_, .returned (some (.int 1)), hrun, hended, rfl, ⟨_, rfl⟩, hW, hframe⟩
  jvm_step X.here [X.here.top, hx, hb, hdg, hmeth', hr, ret, narrow_b1]
  (try refine ⟨rfl, ?_⟩); (try refine ⟨rfl, ?_⟩)
  first | (intro acts; rw [hret _ acts rfl rfl rfl]) | rw [hret _ _ rfl rfl rfl]
  exact Steps.refl _
/-- what holds at the law's entry: the machine, the code, the tables' words (any of lw_tbl by 'hts w (by decide +kernel)'), the script of L ints xs at the cell b, what the Statement gives of the start (any of its parts by flat_of_before) -/
def lw_At (p : Program) (s : State) (m : MethodId) (meth : Method) (c : Code) (b L : Nat) (xs : Nat → Int32) : Prop :=
  p.tables.exec = Jvm.exec ∧ c.code = code ∧ meth.sig.returnType = ret ∧ c.maxLocals = 8 ∧ s.vm.findClass R_law = some m.cls ∧ (∀ w ∈ lw_tbl, w.before #[Value.ref b] s = true) ∧ va_X b L xs s s.heap ∧ b < s.heap.size ∧ meth.locks = false ∧ (Jvm.Cond.and given_1 narrow_1).before #[Value.ref b] s = true
/-- what the law makes lies above what was there -/
def lwA (s : State) : Nat → Prop := fun q => s.heap.size ≤ q
/-- the law's three things lie apart -/
def lF (s : State) (z : Nat) (G : gG) (a : tA) (b : mA) (oo : Nat) : Prop := gK G s ∧ thK z s ∧ tD a (lwA s) ∧ mD b (lwA s) ∧ s.heap.size ≤ oo ∧ (∀ q, inA a q → ¬ inB b q) ∧ ¬ inA a oo ∧ ¬ inB b oo
def lwS (s : State) (G : gG) (a : tA) (b : mA) (oo : Nat) (v : tV) (f : Nat → Int64) (u : mV) (H : Heap) (locs : List Loc) : Prop := tP G a v H ∧ oP G oo f H ∧ mP G b u H ∧ va_S (lwA s) s.heap H locs
abbrev lwl (i : Nat) (a : tA) (b : mA) (oo b0 : Nat) : List (Nat × Value) := [(4, .int (nI i)), (3, .ref oo), (2, .ref (eH b)), (1, .ref (aH a)), (0, .ref b0)]
theorem lv_drop2 {ls : Array Slot} {n : Nat} {x y : Nat × Value} {r : List (Nat × Value)} (h : lv_has ls n (x :: y :: r)) : lv_has ls n r := ⟨h.1, h.2.1, fun q hq => h.2.2 q (List.mem_cons_of_mem _ (List.mem_cons_of_mem _ hq))⟩
theorem va_P.left {D : va_G} {cl : List vw_C} {w1 w2 : va_W} {H : Heap} (h : va_P D cl (w1 ++ w2) H) : va_P D cl w1 H := fun k q hk => h k q (by rw [List.getElem?_append_left (List.getElem?_eq_some_iff.mp hk).1]; exact hk)
theorem va_P.right {D : va_G} {cl : List vw_C} {w1 w2 : va_W} {H : Heap} (h : va_P D cl (w1 ++ w2) H) : va_P D cl w2 H := fun k q hk => h (w1.length + k) q (by rw [List.getElem?_append_right (Nat.le_add_right _ _), Nat.add_sub_cancel_left]; exact hk)
theorem va_D.apart {A : Nat → Prop} {w1 w2 : va_W} (h : va_D A (w1 ++ w2)) {i j : Nat} {x y : Nat × va_E} (hx : w1[i]? = some x) (hy : w2[j]? = some y) : x.1 ≠ y.1 := by
  intro he
  have hi := (List.getElem?_eq_some_iff.mp hx).1
  have h1 := h.1 i (w1.length + j) x y (by rw [List.getElem?_append_left hi]; exact hx) (by rw [List.getElem?_append_right (Nat.le_add_right _ _), Nat.add_sub_cancel_left]; exact hy) he
  omega
theorem inA_tw {G : gG} {a : tA} {v : tV} {q : Nat} (h : inA a q) : ∃ (i : Nat) (x : Nat × va_E), (tw G a v)[i]? = some x ∧ x.1 = q := by
  rcases h with rfl | rfl | rfl | rfl | rfl | rfl | rfl | rfl
  · exact ⟨0, _, rfl, rfl⟩
  · exact ⟨1, _, rfl, rfl⟩
  · exact ⟨2, _, rfl, rfl⟩
  · exact ⟨3, _, rfl, rfl⟩
  · exact ⟨4, _, rfl, rfl⟩
  · exact ⟨5, _, rfl, rfl⟩
  · exact ⟨6, _, rfl, rfl⟩
  · exact ⟨7, _, rfl, rfl⟩
theorem inB_md {G : gG} {b : mA} {u : mV} {q : Nat} (h : inB b q) : ∃ (i : Nat) (x : Nat × va_E), (md G b u)[i]? = some x ∧ x.1 = q := by
  rcases h with rfl | rfl | rfl
  · exact ⟨0, _, rfl, rfl⟩
  · exact ⟨1, _, rfl, rfl⟩
  · exact ⟨2, _, rfl, rfl⟩
/-- the loop's end: i + 4 is not behind the script's end -/
theorem l_cmp {L i : Nat} (hL : L ≤ 2048) (hi : i ≤ 2048) (h : ¬ nI L - nI 4 < nI i) : i + 4 ≤ L := by
  by_cases h4 : 4 ≤ L
  · rw [pk_sub h4, nI_ltI (by omega) (by omega)] at h
    omega
  · exfalso
    apply h
    rw [Int32.lt_iff_toInt_lt, nI_toInt (n := i) (by omega)]
    have h5 : (nI L - nI 4).toInt < 0 := by
      rcases (show L = 0 ∨ L = 1 ∨ L = 2 ∨ L = 3 by omega) with rfl | rfl | rfl | rfl <;> decide
    omega
section LW
variable {p : Program} {l : Launch} {e : Env} {R : Room} {s : State} {m : MethodId} {args : Array Value} {below : List Frame} {meth : Method} {c : Code} {H : Heap} {locs : List Loc} {cells slots : Nat} {Q : State → Prop}
variable {cc : ByteArray} {nL : Nat} {pc : Nat} {ls : Array Slot} {rest : List Value} {own : String} {G : gG} {a : tA} {v : tV} {b : mA} {u : mV} {oo z : Nat} {f : Nat → Int64}
variable {y : MethodName} {bytes : ByteArray} {maxL n index mc ms : Nat} {ret : Option FieldType} {hh : List (Nat × Nat × Nat × Nat)} {rm : Room} {Pc : Array Value → State → Prop} {Qc : Array Value → State → Outcome → State → Prop} {free : Addr → Prop} {As st0 : List Value}
set_option maxHeartbeats 1000000 in
/-- a static call of a method with handlers -/
theorem l_runS (S : CallFix p m c cc nL s args lw_t own) (hp : PreS s H Pc As) (hc : Cond.codeWith y bytes maxL ret hh ∈ lw_t) (hini : Cond.initialized y.cls ∈ lw_t) (hy : y.cls ≠ "java/lang/invoke/MethodHandle" ∧ y.cls ≠ "java/lang/invoke/VarHandle") (hnp : (parseMethodDescriptor y.desc).map (fun d => d.parameters.length) = some n) (hs : Cond.static y ∈ lw_t) (hl : Cond.methodLink own index y ∈ lw_t) (hM : Met l y (mwh y bytes maxL ret hh) rm Pc Qc mc ms free) (hr : roomOk rm R maxL mc ms) (hn : As.length = n) (hsz : ls.size = nL) (hst : st0 = As.reverse ++ rest) (hW : (rest.map fun v => v.category).sum ≤ 8) (hdg : decode cc pc = .ok (.invokestatic index, 3)) (hf : cells + mc ≤ R.cells ∧ slots + ms ≤ R.slots) :
    va_Run p l e R s m args below meth c H locs cells slots mc ms (F0 m pc ls st0) rest (Qc As.toArray) free := by
  have hK : Back l R p e below s args y 3 8 (PreOf R mc ms Pc) (PostOf Qc mc ms free) := va_backW (hh := hh) hM hp.1 hr.1 hr.2.1 hr.2.2.1 hr.2.2.2 (pay_in S.2.2.2.2 (mwh_good hc)) List.mem_cons_self (fun a' U hW => word_at hW (lw_good _ hini) (S.2.2.2.2 _ hini))
  intro T hT X
  obtain ⟨mk, methM, cM, hnamed, hmethM, -, -, -, -, -, -, hsigM⟩ := Cond.codeWith_spec (S.2.2.2.2 _ hc)
  have hstatic : methM.isStatic = true := Cond.static_spec hnamed hmethM (S.2.2.2.2 _ hs)
  obtain ⟨kP, hkP, -⟩ := className_of_methodNamed hnamed
  have hinitP : kP.init = .initialized := Cond.initialized_spec (findClass_of_methodNamed hnamed) hkP (S.2.2.2.2 _ hini)
  have hlen : As.length = methM.sig.parameters.length := by
    rw [hsigM] at hnp
    rw [hn]
    exact (Option.some.inj hnp).symm
  obtain ⟨vm₁, X₁, hstep₁⟩ := X.invokestatic S.1 S.2.2.2.1 (S.2.2.2.2 _ hl) hnamed hmethM hstatic hkP hinitP hy (g := F0 m pc ls st0) rfl (argsL := As) (rest := rest) hlen hst (by rw [S.2.1]; exact hdg)
  obtain ⟨v, ⟨U', l2, c2, s2⟩, X', ⟨g', mk', t, L, e1, e2, hq, h1, hL, h2, h3⟩, hsteps⟩ := hK m meth c ⟨T.setVm vm₁, locs, cells, slots⟩ (F0 m pc ls rest) (.invokestatic index) mk As.toArray X₁ rfl (hsz.trans S.2.2.1.symm) (by rw [S.2.1]; exact hdg) (lv_room hW) (X₁.named hnamed) ⟨hf.1, hf.2, hp.2 (T.setVm vm₁) hT X₁.warmed⟩
  dsimp only [Pt.U, Pt.locs, Pt.cells, Pt.slots] at X' e1 e2 h1 h2 h3 hsteps
  subst h1; subst h2; subst h3
  exact ⟨v, (T.setVm vm₁).calling g' mk' As.toArray, t, U', L, hT, X', hL, e1, e2, hq, fun target h => hstep₁ _ fun acts => by rw [doInvoke_state]; exact hsteps.trans h⟩
theorem l_pre (F : lF s z G a b oo) (hw : lwS s G a b oo v f u H locs) : PreS s H (lPc z G a v oo f H.size As) (.ref (aH a) :: (As ++ [.ref oo])) :=
  ⟨lPc.blind, fun U hU hW => ⟨rfl, by rw [hU], by rw [hU]; exact hw.1, F.2.2.1.weaken (fun _ _ => trivial), F.1.moved hW.alike, by rw [hU]; exact hw.2.1, F.2.2.2.2.2.2.1, F.2.1.moved hW.alike (by rw [hU]; exact hw.2.2.2.2.1 z F.2.1.2.2.1 (Nat.not_le.mpr F.2.1.2.2.1))⟩⟩
theorem l_calli {post : Int32 → tV × (Nat → Int64) → Prop} {w : Array Value} (F : lF s z G a b oo) (hw : lwS s G a b oo v f u H locs) (hr : va_Run p l e R s m args below meth c H locs cells slots 1 6 (F0 m pc ls st0) rest (lQ G a oo H.size post w) (lA a oo H.size))
    (kk : ∀ (r : Int32) (v' : tV) (f' : Nat → Int64) (H1 : Heap) (locs1 : List Loc), post r (v', f') → lwS s G a b oo v' f' u H1 locs1 → W p l e R s m args below meth c H1 locs1 (cells + 1) (slots + 6) Q (F0 m (pc + 3) ls (.int r :: rest))) : W p l e R s m args below meth c H locs cells slots Q (F0 m pc ls st0) := by
  have hA : ∀ q, lA a oo H.size q → lwA s q := by
    intro q h
    rcases h with h | rfl | h
    · exact F.2.2.1.sub q h
    · exact F.2.2.2.2.1
    · exact Nat.le_trans hw.2.2.2.1 h
  refine va_calli hr hw.2.2.2 (fun q _ h => hA q h) hA (fun r w t H1 locs1 ht _ hp hb hz hk hS => kk r w.1 w.2 H1 locs1 hp ⟨(by rw [← ht]; exact hb.1), (by rw [← ht]; exact hb.2), hw.2.2.1.kept (fun q hq => hk q (hw.2.2.1.lt q hq) (fun h => ?_)), hS⟩)
  rcases h with h | rfl | h
  · exact F.2.2.2.2.2.1 q h hq
  · exact F.2.2.2.2.2.2.2 hq
  · exact absurd (hw.2.2.1.lt q hq) (Nat.not_lt.mpr h)
theorem l_mpre (F : lF s z G a b oo) (hw : lwS s G a b oo v f u H locs) : PreV s H R_M (eH b) (mPc G b u As) As := m_pre F.1 hw.2.2.1 F.2.2.2.1
theorem l_mcalli {post : Int32 → mV → Prop} {w : Array Value} (F : lF s z G a b oo) (hw : lwS s G a b oo v f u H locs) (hr : va_Run p l e R s m args below meth c H locs cells slots 0 0 (F0 m pc ls st0) rest (va_Qi post (fun u' t => mP G b u' t.heap) (inB b) w) (inB b))
    (kk : ∀ (r : Int32) (u' : mV) (H1 : Heap) (locs1 : List Loc), post r u' → lwS s G a b oo v f u' H1 locs1 → W p l e R s m args below meth c H1 locs1 cells slots Q (F0 m (pc + 3) ls (.int r :: rest))) : W p l e R s m args below meth c H locs cells slots Q (F0 m pc ls st0) :=
  m_calli hr ⟨hw.2.2.1, F.2.2.2.1, hw.2.2.2⟩ (fun r u' H1 locs1 hp h hz hk => kk r u' H1 locs1 hp ⟨hw.1.kept (fun q hq => hk q (hw.1.lt q hq) (F.2.2.2.2.2.1 q hq)), hw.2.1.kept (hk oo hw.2.1.lt F.2.2.2.2.2.2.2), h.1, h.2.2⟩)
theorem l_mcalll {post : Int64 → mV → Prop} {w : Array Value} (F : lF s z G a b oo) (hw : lwS s G a b oo v f u H locs) (hr : va_Run p l e R s m args below meth c H locs cells slots 0 0 (F0 m pc ls st0) rest (va_Ql post (fun u' t => mP G b u' t.heap) (inB b) w) (inB b))
    (kk : ∀ (r : Int64) (u' : mV) (H1 : Heap) (locs1 : List Loc), post r u' → lwS s G a b oo v f u' H1 locs1 → W p l e R s m args below meth c H1 locs1 cells slots Q (F0 m (pc + 3) ls (.long r :: rest))) : W p l e R s m args below meth c H locs cells slots Q (F0 m pc ls st0) :=
  m_calll hr ⟨hw.2.2.1, F.2.2.2.1, hw.2.2.2⟩ (fun r u' H1 locs1 hp h hz hk => kk r u' H1 locs1 hp ⟨hw.1.kept (fun q hq => hk q (hw.1.lt q hq) (F.2.2.2.2.2.1 q hq)), hw.2.1.kept (hk oo hw.2.1.lt F.2.2.2.2.2.2.2), h.1, h.2.2⟩)
theorem l_sld (S : CallFix p m c cc nL s args lw_t own) {b0 L : Nat} {xs : Nat → Int32} (hX : va_X b0 L xs s s.heap) (hbl : b0 < s.heap.size) (hL : L ≤ 2048) (hS : va_S (lwA s) s.heap H locs) {j : Nat} (hj : j < L) (hdg : decode cc pc = .ok (.iaload, 1)) (kk : W p l e R s m args below meth c H locs cells slots Q (F0 m (pc + 1) ls (.int (xs j) :: rest))) : W p l e R s m args below meth c H locs cells slots Q (F0 m pc ls (.int (nI j) :: .ref b0 :: rest)) :=
  va_sld S.1 S.2.1 hX hbl (fun h => absurd hbl (Nat.not_lt.mpr h)) hS (vp_in_nI hj (by omega)) hdg (by rw [nI_clamp (by omega)]; exact kk)
end LW
end
section
/-! the law's switch, a theorem a case -/
set_option maxHeartbeats 4000000 in
set_option maxRecDepth 100000 in
theorem k_put {p : Program} {l : Launch} {e : Env} {s : State} {m : MethodId} {b0 : Nat} {below : List Frame} {meth : Method} {c : Code} {H : Heap} {locs : List Loc} {cells slots : Nat} {Q : State → Prop} {ls : Array Slot} {z : Nat} {G : gG} {a : tA} {b : mA} {oo : Nat} {v : tV} {f : Nat → Int64} {u : mV} {mp : Nat → nMap} {n cn L : Nat} {xs : Nat → Int32} (hfl : l.flags = pinnedFlags ++ [noTraceFlag]) (S : CallFix p m c code 8 s #[Value.ref b0] lw_t R_L) (F : lF s z G a b oo) (hX : va_X b0 L xs s s.heap) (hbl : b0 < s.heap.size) (hL : L ≤ 2048) (hi : 4 * cn + 4 ≤ L) (hw : lwS s G a b oo v f u H locs) (hT : TI v mp n cn) (hM : MR u mp n) (hn : n ≤ 1 + cn) (hl : lv_has ls 8 (lwl (4 * cn) a b oo b0)) (hf : cells + 1 ≤ room_1.cells ∧ slots + 6 ≤ room_1.slots)
    (kk : ∀ (v' : tV) (f' : Nat → Int64) (u' : mV) (mp' : Nat → nMap) (n' : Nat) (H1 : Heap) (locs1 : List Loc) (ls1 : Array Slot), lwS s G a b oo v' f' u' H1 locs1 → TI v' mp' n' (cn + 1) → MR u' mp' n' → n' ≤ 1 + (cn + 1) → lv_has ls1 8 (lwl (4 * cn) a b oo b0) → W p l e room_1 s m #[Value.ref b0] below meth c H1 locs1 (cells + 1) (slots + 6) Q (F0 m 768 ls1 [])) : W p l e room_1 s m #[Value.ref b0] below meth c H locs cells slots Q (F0 m 96 ls []) := by
  obtain ⟨κ, mp', n', ov, hκ, hn', cL, cM⟩ := op_put l hfl z G a v oo f H.size b u mp n cn (xs (4 * cn + 1)) (xs (4 * cn + 2)) (xs (4 * cn + 3)) hT hM (by omega) (by omega)
  refine lv_aload_n S.1 S.2.1 d_L_law_96 rfl (lv_at hl 3 rfl) ?_
  refine lv_aload_n S.1 S.2.1 d_L_law_97 rfl (lv_at hl 4 rfl) ?_
  refine lv_iload S.1 S.2.1 d_L_law_98 (lv_at hl 0 rfl) ?_
  refine lv_iconst (v := nI 1) S.1 S.2.1 d_L_law_100 (by decide) ?_
  refine n_iadd S d_L_law_101 ?_
  refine l_sld S hX hbl hL hw.2.2.2 (by omega) d_L_law_102 ?_
  refine lv_aload_n S.1 S.2.1 d_L_law_103 rfl (lv_at hl 4 rfl) ?_
  refine lv_iload S.1 S.2.1 d_L_law_104 (lv_at hl 0 rfl) ?_
  refine lv_iconst (v := nI 2) S.1 S.2.1 d_L_law_106 (by decide) ?_
  refine n_iadd S d_L_law_107 ?_
  refine l_sld S hX hbl hL hw.2.2.2 (by omega) d_L_law_108 ?_
  refine lv_aload_n S.1 S.2.1 d_L_law_109 rfl (lv_at hl 4 rfl) ?_
  refine lv_iload S.1 S.2.1 d_L_law_110 (lv_at hl 0 rfl) ?_
  refine lv_iconst (v := nI 3) S.1 S.2.1 d_L_law_112 (by decide) ?_
  refine n_iadd S d_L_law_113 ?_
  refine l_sld S hX hbl hL hw.2.2.2 (by omega) d_L_law_114 ?_
  refine lv_aload_n S.1 S.2.1 d_L_law_115 rfl (lv_at hl 1 rfl) ?_
  refine l_calli F hw (l_runS S (l_pre (As := [.int (xs (4 * cn + 1)), .int (xs (4 * cn + 2)), .int (xs (4 * cn + 3))]) F hw) wc_L_put wI_L ⟨by decide, by decide⟩ (n := 5) (by decide +kernel) ws_L_put wL_L_50 cL ⟨rfl, rfl, Nat.le_of_ble_eq_true rfl, Nat.le_of_ble_eq_true rfl⟩ rfl hl.1 rfl (Nat.le_of_ble_eq_true rfl) d_L_law_116 hf) (fun r v' f' H locs hp hw => ?_)
  obtain ⟨rfl, hT', hov⟩ := hp
  refine lv_istore S.1 S.2.1 d_L_law_119 hl (by decide) rfl (fun ls hl => ?_)
  refine lv_aload_n S.1 S.2.1 d_L_law_121 rfl (lv_at hl 3 rfl) ?_
  refine lv_aload_n S.1 S.2.1 d_L_law_122 rfl (lv_at hl 5 rfl) ?_
  refine lv_iload S.1 S.2.1 d_L_law_123 (lv_at hl 1 rfl) ?_
  refine lv_iconst (v := nI 1) S.1 S.2.1 d_L_law_125 (by decide) ?_
  refine n_iadd S d_L_law_126 ?_
  refine l_sld S hX hbl hL hw.2.2.2 (by omega) d_L_law_127 ?_
  refine lv_aload_n S.1 S.2.1 d_L_law_128 rfl (lv_at hl 5 rfl) ?_
  refine lv_iload S.1 S.2.1 d_L_law_129 (lv_at hl 1 rfl) ?_
  refine lv_iconst (v := nI 2) S.1 S.2.1 d_L_law_131 (by decide) ?_
  refine n_iadd S d_L_law_132 ?_
  refine l_sld S hX hbl hL hw.2.2.2 (by omega) d_L_law_133 ?_
  refine lv_aload_n S.1 S.2.1 d_L_law_134 rfl (lv_at hl 5 rfl) ?_
  refine lv_iload S.1 S.2.1 d_L_law_135 (lv_at hl 1 rfl) ?_
  refine lv_iconst (v := nI 3) S.1 S.2.1 d_L_law_137 (by decide) ?_
  refine n_iadd S d_L_law_138 ?_
  refine l_sld S hX hbl hL hw.2.2.2 (by omega) d_L_law_139 ?_
  refine l_mcalli F hw (m_run S (l_mpre (As := [.int (xs (4 * cn + 1)), .int (xs (4 * cn + 2)), .int (xs (4 * cn + 3))]) F hw) k_M_put wi_M_put wv_M_M_put wL_L_55 cM ⟨rfl, rfl, Nat.le_of_ble_eq_true rfl, Nat.le_of_ble_eq_true rfl⟩ rfl hl.1 rfl (Nat.le_of_ble_eq_true rfl) d_L_law_140 hf) (fun r u' H locs hp hw => ?_)
  obtain ⟨hthr, hM', hmv⟩ := hp
  have hth2 : uThr u' < 2 ^ 31 := by rw [hthr]; omega
  refine lv_istore S.1 S.2.1 d_L_law_143 hl (by decide) rfl (fun ls hl => ?_)
  refine lv_aload_n S.1 S.2.1 d_L_law_145 rfl (lv_at hl 4 rfl) ?_
  refine r_calli (mr_run S (l_mpre F hw) k_M_thrown wi_M_thrown wv_M_M_thrown wL_L_56 (c_M_thrown l G b u') ⟨rfl, rfl, Nat.le_of_ble_eq_true rfl, Nat.le_of_ble_eq_true rfl⟩ rfl hl.1 rfl (Nat.le_of_ble_eq_true rfl) d_L_law_146 hf) (fun r2 hp2 => ?_)
  subst hp2
  refine lv_iload S.1 S.2.1 d_L_law_149 (lv_at hl 1 rfl) ?_
  refine nb_eq S hth2 (by omega) d_L_law_151 rfl (fun _ => ?_) (fun h => absurd hthr h)
  refine lv_iload S.1 S.2.1 d_L_law_156 (lv_at hl 1 rfl) ?_
  have k768 : W p l e room_1 s m #[Value.ref b0] below meth c H locs (cells + 1) (slots + 6) Q (F0 m 173 ls []) := by
    refine lv_goto S.1 S.2.1 d_L_law_173 rfl ?_
    exact kk _ _ _ _ _ _ _ _ hw hT' hM' (by omega) (lv_drop2 hl)
  refine nz_ne S (by omega) d_L_law_158 rfl (fun _ => k768) (fun h0 => ?_)
  refine lv_aload_n S.1 S.2.1 d_L_law_161 rfl (lv_at hl 3 rfl) ?_
  refine lv_iconst (v := nI 0) S.1 S.2.1 d_L_law_162 (by decide) ?_
  refine o_ld S F.1 hw.2.1 d_L_law_163 ?_
  refine lv_iload S.1 S.2.1 d_L_law_164 (lv_at hl 0 rfl) ?_
  refine lv_i2l S.1 S.2.1 d_L_law_166 rfl ?_
  refine W.lcmp S.1 S.2.1 d_L_law_167 ?_
  exact lv_if_eq S.1 S.2.1 d_L_law_168 rfl (fun _ => k768) (fun hc => absurd ((lg_cmp_eq _ _).mpr ((hov h0).trans (hmv h0).symm)) hc)
set_option maxHeartbeats 4000000 in
set_option maxRecDepth 100000 in
theorem k_remove {p : Program} {l : Launch} {e : Env} {s : State} {m : MethodId} {b0 : Nat} {below : List Frame} {meth : Method} {c : Code} {H : Heap} {locs : List Loc} {cells slots : Nat} {Q : State → Prop} {ls : Array Slot} {z : Nat} {G : gG} {a : tA} {b : mA} {oo : Nat} {v : tV} {f : Nat → Int64} {u : mV} {mp : Nat → nMap} {n cn L : Nat} {xs : Nat → Int32} (hfl : l.flags = pinnedFlags ++ [noTraceFlag]) (S : CallFix p m c code 8 s #[Value.ref b0] lw_t R_L) (F : lF s z G a b oo) (hX : va_X b0 L xs s s.heap) (hbl : b0 < s.heap.size) (hL : L ≤ 2048) (hi : 4 * cn + 4 ≤ L) (hw : lwS s G a b oo v f u H locs) (hT : TI v mp n cn) (hM : MR u mp n) (hn : n ≤ 1 + cn) (hl : lv_has ls 8 (lwl (4 * cn) a b oo b0)) (hf : cells + 1 ≤ room_1.cells ∧ slots + 6 ≤ room_1.slots)
    (kk : ∀ (v' : tV) (f' : Nat → Int64) (u' : mV) (mp' : Nat → nMap) (n' : Nat) (H1 : Heap) (locs1 : List Loc) (ls1 : Array Slot), lwS s G a b oo v' f' u' H1 locs1 → TI v' mp' n' (cn + 1) → MR u' mp' n' → n' ≤ 1 + (cn + 1) → lv_has ls1 8 (lwl (4 * cn) a b oo b0) → W p l e room_1 s m #[Value.ref b0] below meth c H1 locs1 (cells + 1) (slots + 6) Q (F0 m 768 ls1 [])) : W p l e room_1 s m #[Value.ref b0] below meth c H locs cells slots Q (F0 m 176 ls []) := by
  obtain ⟨κ, mp', n', ov, hκ, hn', cL, cM⟩ := op_remove l hfl z G a v oo f H.size b u mp n cn (xs (4 * cn + 1)) (xs (4 * cn + 2)) hT hM (by omega) (by omega)
  refine lv_aload_n S.1 S.2.1 d_L_law_176 rfl (lv_at hl 3 rfl) ?_
  refine lv_aload_n S.1 S.2.1 d_L_law_177 rfl (lv_at hl 4 rfl) ?_
  refine lv_iload S.1 S.2.1 d_L_law_178 (lv_at hl 0 rfl) ?_
  refine lv_iconst (v := nI 1) S.1 S.2.1 d_L_law_180 (by decide) ?_
  refine n_iadd S d_L_law_181 ?_
  refine l_sld S hX hbl hL hw.2.2.2 (by omega) d_L_law_182 ?_
  refine lv_aload_n S.1 S.2.1 d_L_law_183 rfl (lv_at hl 4 rfl) ?_
  refine lv_iload S.1 S.2.1 d_L_law_184 (lv_at hl 0 rfl) ?_
  refine lv_iconst (v := nI 2) S.1 S.2.1 d_L_law_186 (by decide) ?_
  refine n_iadd S d_L_law_187 ?_
  refine l_sld S hX hbl hL hw.2.2.2 (by omega) d_L_law_188 ?_
  refine lv_aload_n S.1 S.2.1 d_L_law_189 rfl (lv_at hl 1 rfl) ?_
  refine l_calli F hw (l_runS S (l_pre (As := [.int (xs (4 * cn + 1)), .int (xs (4 * cn + 2))]) F hw) wc_L_remove wI_L ⟨by decide, by decide⟩ (n := 4) (by decide +kernel) ws_L_remove wL_L_60 cL ⟨rfl, rfl, Nat.le_of_ble_eq_true rfl, Nat.le_of_ble_eq_true rfl⟩ rfl hl.1 rfl (Nat.le_of_ble_eq_true rfl) d_L_law_190 hf) (fun r v' f' H locs hp hw => ?_)
  obtain ⟨rfl, hT', hov⟩ := hp
  refine lv_istore S.1 S.2.1 d_L_law_193 hl (by decide) rfl (fun ls hl => ?_)
  refine lv_aload_n S.1 S.2.1 d_L_law_195 rfl (lv_at hl 3 rfl) ?_
  refine lv_aload_n S.1 S.2.1 d_L_law_196 rfl (lv_at hl 5 rfl) ?_
  refine lv_iload S.1 S.2.1 d_L_law_197 (lv_at hl 1 rfl) ?_
  refine lv_iconst (v := nI 1) S.1 S.2.1 d_L_law_199 (by decide) ?_
  refine n_iadd S d_L_law_200 ?_
  refine l_sld S hX hbl hL hw.2.2.2 (by omega) d_L_law_201 ?_
  refine lv_aload_n S.1 S.2.1 d_L_law_202 rfl (lv_at hl 5 rfl) ?_
  refine lv_iload S.1 S.2.1 d_L_law_203 (lv_at hl 1 rfl) ?_
  refine lv_iconst (v := nI 2) S.1 S.2.1 d_L_law_205 (by decide) ?_
  refine n_iadd S d_L_law_206 ?_
  refine l_sld S hX hbl hL hw.2.2.2 (by omega) d_L_law_207 ?_
  refine l_mcalli F hw (m_run S (l_mpre (As := [.int (xs (4 * cn + 1)), .int (xs (4 * cn + 2))]) F hw) k_M_remove wi_M_remove wv_M_M_remove wL_L_63 cM ⟨rfl, rfl, Nat.le_of_ble_eq_true rfl, Nat.le_of_ble_eq_true rfl⟩ rfl hl.1 rfl (Nat.le_of_ble_eq_true rfl) d_L_law_208 hf) (fun r u' H locs hp hw => ?_)
  obtain ⟨hthr, hM', hmv⟩ := hp
  have hth2 : uThr u' < 2 ^ 31 := by rw [hthr]; omega
  refine lv_istore S.1 S.2.1 d_L_law_211 hl (by decide) rfl (fun ls hl => ?_)
  refine lv_aload_n S.1 S.2.1 d_L_law_213 rfl (lv_at hl 4 rfl) ?_
  refine r_calli (mr_run S (l_mpre F hw) k_M_thrown wi_M_thrown wv_M_M_thrown wL_L_56 (c_M_thrown l G b u') ⟨rfl, rfl, Nat.le_of_ble_eq_true rfl, Nat.le_of_ble_eq_true rfl⟩ rfl hl.1 rfl (Nat.le_of_ble_eq_true rfl) d_L_law_214 hf) (fun r2 hp2 => ?_)
  subst hp2
  refine lv_iload S.1 S.2.1 d_L_law_217 (lv_at hl 1 rfl) ?_
  refine nb_eq S hth2 (by omega) d_L_law_219 rfl (fun _ => ?_) (fun h => absurd hthr h)
  refine lv_iload S.1 S.2.1 d_L_law_224 (lv_at hl 1 rfl) ?_
  have k768 : W p l e room_1 s m #[Value.ref b0] below meth c H locs (cells + 1) (slots + 6) Q (F0 m 241 ls []) := by
    refine lv_goto S.1 S.2.1 d_L_law_241 rfl ?_
    exact kk _ _ _ _ _ _ _ _ hw hT' hM' (by omega) (lv_drop2 hl)
  refine nz_ne S (by omega) d_L_law_226 rfl (fun _ => k768) (fun h0 => ?_)
  refine lv_aload_n S.1 S.2.1 d_L_law_229 rfl (lv_at hl 3 rfl) ?_
  refine lv_iconst (v := nI 0) S.1 S.2.1 d_L_law_230 (by decide) ?_
  refine o_ld S F.1 hw.2.1 d_L_law_231 ?_
  refine lv_iload S.1 S.2.1 d_L_law_232 (lv_at hl 0 rfl) ?_
  refine lv_i2l S.1 S.2.1 d_L_law_234 rfl ?_
  refine W.lcmp S.1 S.2.1 d_L_law_235 ?_
  exact lv_if_eq S.1 S.2.1 d_L_law_236 rfl (fun _ => k768) (fun hc => absurd ((lg_cmp_eq _ _).mpr ((hov h0).trans (hmv h0).symm)) hc)
set_option maxHeartbeats 4000000 in
set_option maxRecDepth 100000 in
theorem k_join {p : Program} {l : Launch} {e : Env} {s : State} {m : MethodId} {b0 : Nat} {below : List Frame} {meth : Method} {c : Code} {H : Heap} {locs : List Loc} {cells slots : Nat} {Q : State → Prop} {ls : Array Slot} {z : Nat} {G : gG} {a : tA} {b : mA} {oo : Nat} {v : tV} {f : Nat → Int64} {u : mV} {mp : Nat → nMap} {n cn L : Nat} {xs : Nat → Int32} (hfl : l.flags = pinnedFlags ++ [noTraceFlag]) (S : CallFix p m c code 8 s #[Value.ref b0] lw_t R_L) (F : lF s z G a b oo) (hX : va_X b0 L xs s s.heap) (hbl : b0 < s.heap.size) (hL : L ≤ 2048) (hi : 4 * cn + 4 ≤ L) (hw : lwS s G a b oo v f u H locs) (hT : TI v mp n cn) (hM : MR u mp n) (hn : n ≤ 1 + cn) (hl : lv_has ls 8 (lwl (4 * cn) a b oo b0)) (hf : cells + 1 ≤ room_1.cells ∧ slots + 6 ≤ room_1.slots)
    (kk : ∀ (v' : tV) (f' : Nat → Int64) (u' : mV) (mp' : Nat → nMap) (n' : Nat) (H1 : Heap) (locs1 : List Loc) (ls1 : Array Slot), lwS s G a b oo v' f' u' H1 locs1 → TI v' mp' n' (cn + 1) → MR u' mp' n' → n' ≤ 1 + (cn + 1) → lv_has ls1 8 (lwl (4 * cn) a b oo b0) → W p l e room_1 s m #[Value.ref b0] below meth c H1 locs1 (cells + 1) (slots + 6) Q (F0 m 768 ls1 [])) : W p l e room_1 s m #[Value.ref b0] below meth c H locs cells slots Q (F0 m 244 ls []) := by
  obtain ⟨κ, mp', n', ov, hκ, hn', cL, cM⟩ := op_join l hfl z G a v oo f H.size b u mp n cn (xs (4 * cn + 1)) (xs (4 * cn + 2)) (xs (4 * cn + 3)) hT hM (by omega) (by omega)
  refine lv_aload_n S.1 S.2.1 d_L_law_244 rfl (lv_at hl 3 rfl) ?_
  refine lv_aload_n S.1 S.2.1 d_L_law_245 rfl (lv_at hl 4 rfl) ?_
  refine lv_iload S.1 S.2.1 d_L_law_246 (lv_at hl 0 rfl) ?_
  refine lv_iconst (v := nI 1) S.1 S.2.1 d_L_law_248 (by decide) ?_
  refine n_iadd S d_L_law_249 ?_
  refine l_sld S hX hbl hL hw.2.2.2 (by omega) d_L_law_250 ?_
  refine lv_aload_n S.1 S.2.1 d_L_law_251 rfl (lv_at hl 4 rfl) ?_
  refine lv_iload S.1 S.2.1 d_L_law_252 (lv_at hl 0 rfl) ?_
  refine lv_iconst (v := nI 2) S.1 S.2.1 d_L_law_254 (by decide) ?_
  refine n_iadd S d_L_law_255 ?_
  refine l_sld S hX hbl hL hw.2.2.2 (by omega) d_L_law_256 ?_
  refine lv_aload_n S.1 S.2.1 d_L_law_257 rfl (lv_at hl 4 rfl) ?_
  refine lv_iload S.1 S.2.1 d_L_law_258 (lv_at hl 0 rfl) ?_
  refine lv_iconst (v := nI 3) S.1 S.2.1 d_L_law_260 (by decide) ?_
  refine n_iadd S d_L_law_261 ?_
  refine l_sld S hX hbl hL hw.2.2.2 (by omega) d_L_law_262 ?_
  refine lv_aload_n S.1 S.2.1 d_L_law_263 rfl (lv_at hl 1 rfl) ?_
  refine l_calli F hw (l_runS S (l_pre (As := [.int (xs (4 * cn + 1)), .int (xs (4 * cn + 2)), .int (xs (4 * cn + 3))]) F hw) wc_L_join wI_L ⟨by decide, by decide⟩ (n := 5) (by decide +kernel) ws_L_join wL_L_64 cL ⟨rfl, rfl, Nat.le_of_ble_eq_true rfl, Nat.le_of_ble_eq_true rfl⟩ rfl hl.1 rfl (Nat.le_of_ble_eq_true rfl) d_L_law_264 hf) (fun r v' f' H locs hp hw => ?_)
  obtain ⟨rfl, hT', hov⟩ := hp
  refine lv_istore S.1 S.2.1 d_L_law_267 hl (by decide) rfl (fun ls hl => ?_)
  refine lv_aload_n S.1 S.2.1 d_L_law_269 rfl (lv_at hl 3 rfl) ?_
  refine lv_aload_n S.1 S.2.1 d_L_law_270 rfl (lv_at hl 5 rfl) ?_
  refine lv_iload S.1 S.2.1 d_L_law_271 (lv_at hl 1 rfl) ?_
  refine lv_iconst (v := nI 1) S.1 S.2.1 d_L_law_273 (by decide) ?_
  refine n_iadd S d_L_law_274 ?_
  refine l_sld S hX hbl hL hw.2.2.2 (by omega) d_L_law_275 ?_
  refine lv_aload_n S.1 S.2.1 d_L_law_276 rfl (lv_at hl 5 rfl) ?_
  refine lv_iload S.1 S.2.1 d_L_law_277 (lv_at hl 1 rfl) ?_
  refine lv_iconst (v := nI 2) S.1 S.2.1 d_L_law_279 (by decide) ?_
  refine n_iadd S d_L_law_280 ?_
  refine l_sld S hX hbl hL hw.2.2.2 (by omega) d_L_law_281 ?_
  refine lv_aload_n S.1 S.2.1 d_L_law_282 rfl (lv_at hl 5 rfl) ?_
  refine lv_iload S.1 S.2.1 d_L_law_283 (lv_at hl 1 rfl) ?_
  refine lv_iconst (v := nI 3) S.1 S.2.1 d_L_law_285 (by decide) ?_
  refine n_iadd S d_L_law_286 ?_
  refine l_sld S hX hbl hL hw.2.2.2 (by omega) d_L_law_287 ?_
  refine l_mcalli F hw (m_run S (l_mpre (As := [.int (xs (4 * cn + 1)), .int (xs (4 * cn + 2)), .int (xs (4 * cn + 3))]) F hw) k_M_join wi_M_join wv_M_M_join wL_L_66 cM ⟨rfl, rfl, Nat.le_of_ble_eq_true rfl, Nat.le_of_ble_eq_true rfl⟩ rfl hl.1 rfl (Nat.le_of_ble_eq_true rfl) d_L_law_288 hf) (fun r u' H locs hp hw => ?_)
  obtain ⟨hthr, hM', hmv⟩ := hp
  have hth2 : uThr u' < 2 ^ 31 := by rw [hthr]; omega
  refine lv_istore S.1 S.2.1 d_L_law_291 hl (by decide) rfl (fun ls hl => ?_)
  refine lv_aload_n S.1 S.2.1 d_L_law_293 rfl (lv_at hl 4 rfl) ?_
  refine r_calli (mr_run S (l_mpre F hw) k_M_thrown wi_M_thrown wv_M_M_thrown wL_L_56 (c_M_thrown l G b u') ⟨rfl, rfl, Nat.le_of_ble_eq_true rfl, Nat.le_of_ble_eq_true rfl⟩ rfl hl.1 rfl (Nat.le_of_ble_eq_true rfl) d_L_law_294 hf) (fun r2 hp2 => ?_)
  subst hp2
  refine lv_iload S.1 S.2.1 d_L_law_297 (lv_at hl 1 rfl) ?_
  refine nb_eq S hth2 (by omega) d_L_law_299 rfl (fun _ => ?_) (fun h => absurd hthr h)
  refine lv_iload S.1 S.2.1 d_L_law_304 (lv_at hl 1 rfl) ?_
  have k768 : W p l e room_1 s m #[Value.ref b0] below meth c H locs (cells + 1) (slots + 6) Q (F0 m 321 ls []) := by
    refine lv_goto S.1 S.2.1 d_L_law_321 rfl ?_
    exact kk _ _ _ _ _ _ _ _ hw hT' hM' (by omega) (lv_drop2 hl)
  refine nz_ne S (by omega) d_L_law_306 rfl (fun _ => k768) (fun h0 => ?_)
  refine lv_aload_n S.1 S.2.1 d_L_law_309 rfl (lv_at hl 3 rfl) ?_
  refine lv_iconst (v := nI 0) S.1 S.2.1 d_L_law_310 (by decide) ?_
  refine o_ld S F.1 hw.2.1 d_L_law_311 ?_
  refine lv_iload S.1 S.2.1 d_L_law_312 (lv_at hl 0 rfl) ?_
  refine lv_i2l S.1 S.2.1 d_L_law_314 rfl ?_
  refine W.lcmp S.1 S.2.1 d_L_law_315 ?_
  exact lv_if_eq S.1 S.2.1 d_L_law_316 rfl (fun _ => k768) (fun hc => absurd ((lg_cmp_eq _ _).mpr ((hov h0).trans (hmv h0).symm)) hc)
set_option maxHeartbeats 4000000 in
set_option maxRecDepth 100000 in
theorem k_get {p : Program} {l : Launch} {e : Env} {s : State} {m : MethodId} {b0 : Nat} {below : List Frame} {meth : Method} {c : Code} {H : Heap} {locs : List Loc} {cells slots : Nat} {Q : State → Prop} {ls : Array Slot} {z : Nat} {G : gG} {a : tA} {b : mA} {oo : Nat} {v : tV} {f : Nat → Int64} {u : mV} {mp : Nat → nMap} {n cn L : Nat} {xs : Nat → Int32} (hfl : l.flags = pinnedFlags ++ [noTraceFlag]) (S : CallFix p m c code 8 s #[Value.ref b0] lw_t R_L) (F : lF s z G a b oo) (hX : va_X b0 L xs s s.heap) (hbl : b0 < s.heap.size) (hL : L ≤ 2048) (hi : 4 * cn + 4 ≤ L) (hw : lwS s G a b oo v f u H locs) (hT : TI v mp n cn) (hM : MR u mp n) (hn : n ≤ 1 + cn) (hl : lv_has ls 8 (lwl (4 * cn) a b oo b0)) (hf : cells + 1 ≤ room_1.cells ∧ slots + 6 ≤ room_1.slots)
    (kk : ∀ (v' : tV) (f' : Nat → Int64) (u' : mV) (mp' : Nat → nMap) (n' : Nat) (H1 : Heap) (locs1 : List Loc) (ls1 : Array Slot), lwS s G a b oo v' f' u' H1 locs1 → TI v' mp' n' (cn + 1) → MR u' mp' n' → n' ≤ 1 + (cn + 1) → lv_has ls1 8 (lwl (4 * cn) a b oo b0) → W p l e room_1 s m #[Value.ref b0] below meth c H1 locs1 (cells + 1) (slots + 6) Q (F0 m 768 ls1 [])) : W p l e room_1 s m #[Value.ref b0] below meth c H locs cells slots Q (F0 m 324 ls []) := by
  obtain ⟨κ, mp', n', ov, hκ, hn', cL, cM⟩ := op_get l hfl z G a v oo f H.size b u mp n cn (xs (4 * cn + 1)) (xs (4 * cn + 2)) hT hM (by omega) (by omega)
  refine lv_aload_n S.1 S.2.1 d_L_law_324 rfl (lv_at hl 3 rfl) ?_
  refine lv_aload_n S.1 S.2.1 d_L_law_325 rfl (lv_at hl 4 rfl) ?_
  refine lv_iload S.1 S.2.1 d_L_law_326 (lv_at hl 0 rfl) ?_
  refine lv_iconst (v := nI 1) S.1 S.2.1 d_L_law_328 (by decide) ?_
  refine n_iadd S d_L_law_329 ?_
  refine l_sld S hX hbl hL hw.2.2.2 (by omega) d_L_law_330 ?_
  refine lv_aload_n S.1 S.2.1 d_L_law_331 rfl (lv_at hl 4 rfl) ?_
  refine lv_iload S.1 S.2.1 d_L_law_332 (lv_at hl 0 rfl) ?_
  refine lv_iconst (v := nI 2) S.1 S.2.1 d_L_law_334 (by decide) ?_
  refine n_iadd S d_L_law_335 ?_
  refine l_sld S hX hbl hL hw.2.2.2 (by omega) d_L_law_336 ?_
  refine lv_aload_n S.1 S.2.1 d_L_law_337 rfl (lv_at hl 1 rfl) ?_
  refine l_calli F hw (l_runS S (l_pre (As := [.int (xs (4 * cn + 1)), .int (xs (4 * cn + 2))]) F hw) wc_L_get wI_L ⟨by decide, by decide⟩ (n := 4) (by decide +kernel) ws_L_get wL_L_67 cL ⟨rfl, rfl, Nat.le_of_ble_eq_true rfl, Nat.le_of_ble_eq_true rfl⟩ rfl hl.1 rfl (Nat.le_of_ble_eq_true rfl) d_L_law_338 hf) (fun r v' f' H locs hp hw => ?_)
  obtain ⟨rfl, hT', hov⟩ := hp
  refine lv_istore S.1 S.2.1 d_L_law_341 hl (by decide) rfl (fun ls hl => ?_)
  refine lv_aload_n S.1 S.2.1 d_L_law_343 rfl (lv_at hl 3 rfl) ?_
  refine lv_aload_n S.1 S.2.1 d_L_law_344 rfl (lv_at hl 5 rfl) ?_
  refine lv_iload S.1 S.2.1 d_L_law_345 (lv_at hl 1 rfl) ?_
  refine lv_iconst (v := nI 1) S.1 S.2.1 d_L_law_347 (by decide) ?_
  refine n_iadd S d_L_law_348 ?_
  refine l_sld S hX hbl hL hw.2.2.2 (by omega) d_L_law_349 ?_
  refine lv_aload_n S.1 S.2.1 d_L_law_350 rfl (lv_at hl 5 rfl) ?_
  refine lv_iload S.1 S.2.1 d_L_law_351 (lv_at hl 1 rfl) ?_
  refine lv_iconst (v := nI 2) S.1 S.2.1 d_L_law_353 (by decide) ?_
  refine n_iadd S d_L_law_354 ?_
  refine l_sld S hX hbl hL hw.2.2.2 (by omega) d_L_law_355 ?_
  refine l_mcalli F hw (m_run S (l_mpre (As := [.int (xs (4 * cn + 1)), .int (xs (4 * cn + 2))]) F hw) k_M_get wi_M_get wv_M_M_get wL_L_69 cM ⟨rfl, rfl, Nat.le_of_ble_eq_true rfl, Nat.le_of_ble_eq_true rfl⟩ rfl hl.1 rfl (Nat.le_of_ble_eq_true rfl) d_L_law_356 hf) (fun r u' H locs hp hw => ?_)
  obtain ⟨hthr, hM', hmv⟩ := hp
  have hth2 : uThr u' < 2 ^ 31 := by rw [hthr]; omega
  refine lv_istore S.1 S.2.1 d_L_law_359 hl (by decide) rfl (fun ls hl => ?_)
  refine lv_aload_n S.1 S.2.1 d_L_law_361 rfl (lv_at hl 4 rfl) ?_
  refine r_calli (mr_run S (l_mpre F hw) k_M_thrown wi_M_thrown wv_M_M_thrown wL_L_56 (c_M_thrown l G b u') ⟨rfl, rfl, Nat.le_of_ble_eq_true rfl, Nat.le_of_ble_eq_true rfl⟩ rfl hl.1 rfl (Nat.le_of_ble_eq_true rfl) d_L_law_362 hf) (fun r2 hp2 => ?_)
  subst hp2
  refine lv_iload S.1 S.2.1 d_L_law_365 (lv_at hl 1 rfl) ?_
  refine nb_eq S hth2 (by omega) d_L_law_367 rfl (fun _ => ?_) (fun h => absurd hthr h)
  refine lv_iload S.1 S.2.1 d_L_law_372 (lv_at hl 1 rfl) ?_
  have k768 : W p l e room_1 s m #[Value.ref b0] below meth c H locs (cells + 1) (slots + 6) Q (F0 m 389 ls []) := by
    refine lv_goto S.1 S.2.1 d_L_law_389 rfl ?_
    exact kk _ _ _ _ _ _ _ _ hw hT' hM' (by omega) (lv_drop2 hl)
  refine nz_ne S (by omega) d_L_law_374 rfl (fun _ => k768) (fun h0 => ?_)
  refine lv_aload_n S.1 S.2.1 d_L_law_377 rfl (lv_at hl 3 rfl) ?_
  refine lv_iconst (v := nI 0) S.1 S.2.1 d_L_law_378 (by decide) ?_
  refine o_ld S F.1 hw.2.1 d_L_law_379 ?_
  refine lv_iload S.1 S.2.1 d_L_law_380 (lv_at hl 0 rfl) ?_
  refine lv_i2l S.1 S.2.1 d_L_law_382 rfl ?_
  refine W.lcmp S.1 S.2.1 d_L_law_383 ?_
  exact lv_if_eq S.1 S.2.1 d_L_law_384 rfl (fun _ => k768) (fun hc => absurd ((lg_cmp_eq _ _).mpr ((hov h0).trans (hmv h0).symm)) hc)
set_option maxHeartbeats 4000000 in
set_option maxRecDepth 100000 in
theorem k_select {p : Program} {l : Launch} {e : Env} {s : State} {m : MethodId} {b0 : Nat} {below : List Frame} {meth : Method} {c : Code} {H : Heap} {locs : List Loc} {cells slots : Nat} {Q : State → Prop} {ls : Array Slot} {z : Nat} {G : gG} {a : tA} {b : mA} {oo : Nat} {v : tV} {f : Nat → Int64} {u : mV} {mp : Nat → nMap} {n cn L : Nat} {xs : Nat → Int32} (hfl : l.flags = pinnedFlags ++ [noTraceFlag]) (S : CallFix p m c code 8 s #[Value.ref b0] lw_t R_L) (F : lF s z G a b oo) (hX : va_X b0 L xs s s.heap) (hbl : b0 < s.heap.size) (hL : L ≤ 2048) (hi : 4 * cn + 4 ≤ L) (hw : lwS s G a b oo v f u H locs) (hT : TI v mp n cn) (hM : MR u mp n) (hn : n ≤ 1 + cn) (hl : lv_has ls 8 (lwl (4 * cn) a b oo b0)) (hf : cells + 1 ≤ room_1.cells ∧ slots + 6 ≤ room_1.slots)
    (kk : ∀ (v' : tV) (f' : Nat → Int64) (u' : mV) (mp' : Nat → nMap) (n' : Nat) (H1 : Heap) (locs1 : List Loc) (ls1 : Array Slot), lwS s G a b oo v' f' u' H1 locs1 → TI v' mp' n' (cn + 1) → MR u' mp' n' → n' ≤ 1 + (cn + 1) → lv_has ls1 8 (lwl (4 * cn) a b oo b0) → W p l e room_1 s m #[Value.ref b0] below meth c H1 locs1 (cells + 1) (slots + 6) Q (F0 m 768 ls1 [])) : W p l e room_1 s m #[Value.ref b0] below meth c H locs cells slots Q (F0 m 392 ls []) := by
  obtain ⟨κ, mp', n', ov, hκ, hn', cL, cM⟩ := op_select l hfl z G a v oo f H.size b u mp n cn (xs (4 * cn + 1)) (xs (4 * cn + 2)) hT hM (by omega) (by omega)
  refine lv_aload_n S.1 S.2.1 d_L_law_392 rfl (lv_at hl 3 rfl) ?_
  refine lv_aload_n S.1 S.2.1 d_L_law_393 rfl (lv_at hl 4 rfl) ?_
  refine lv_iload S.1 S.2.1 d_L_law_394 (lv_at hl 0 rfl) ?_
  refine lv_iconst (v := nI 1) S.1 S.2.1 d_L_law_396 (by decide) ?_
  refine n_iadd S d_L_law_397 ?_
  refine l_sld S hX hbl hL hw.2.2.2 (by omega) d_L_law_398 ?_
  refine lv_aload_n S.1 S.2.1 d_L_law_399 rfl (lv_at hl 4 rfl) ?_
  refine lv_iload S.1 S.2.1 d_L_law_400 (lv_at hl 0 rfl) ?_
  refine lv_iconst (v := nI 2) S.1 S.2.1 d_L_law_402 (by decide) ?_
  refine n_iadd S d_L_law_403 ?_
  refine l_sld S hX hbl hL hw.2.2.2 (by omega) d_L_law_404 ?_
  refine lv_aload_n S.1 S.2.1 d_L_law_405 rfl (lv_at hl 1 rfl) ?_
  refine l_calli F hw (l_runS S (l_pre (As := [.int (xs (4 * cn + 1)), .int (xs (4 * cn + 2))]) F hw) wc_L_select wI_L ⟨by decide, by decide⟩ (n := 4) (by decide +kernel) ws_L_select wL_L_70 cL ⟨rfl, rfl, Nat.le_of_ble_eq_true rfl, Nat.le_of_ble_eq_true rfl⟩ rfl hl.1 rfl (Nat.le_of_ble_eq_true rfl) d_L_law_406 hf) (fun r v' f' H locs hp hw => ?_)
  obtain ⟨rfl, hT', hov⟩ := hp
  refine lv_istore S.1 S.2.1 d_L_law_409 hl (by decide) rfl (fun ls hl => ?_)
  refine lv_aload_n S.1 S.2.1 d_L_law_411 rfl (lv_at hl 3 rfl) ?_
  refine lv_aload_n S.1 S.2.1 d_L_law_412 rfl (lv_at hl 5 rfl) ?_
  refine lv_iload S.1 S.2.1 d_L_law_413 (lv_at hl 1 rfl) ?_
  refine lv_iconst (v := nI 1) S.1 S.2.1 d_L_law_415 (by decide) ?_
  refine n_iadd S d_L_law_416 ?_
  refine l_sld S hX hbl hL hw.2.2.2 (by omega) d_L_law_417 ?_
  refine lv_aload_n S.1 S.2.1 d_L_law_418 rfl (lv_at hl 5 rfl) ?_
  refine lv_iload S.1 S.2.1 d_L_law_419 (lv_at hl 1 rfl) ?_
  refine lv_iconst (v := nI 2) S.1 S.2.1 d_L_law_421 (by decide) ?_
  refine n_iadd S d_L_law_422 ?_
  refine l_sld S hX hbl hL hw.2.2.2 (by omega) d_L_law_423 ?_
  refine l_mcalli F hw (m_run S (l_mpre (As := [.int (xs (4 * cn + 1)), .int (xs (4 * cn + 2))]) F hw) k_M_select wi_M_select wv_M_M_select wL_L_72 cM ⟨rfl, rfl, Nat.le_of_ble_eq_true rfl, Nat.le_of_ble_eq_true rfl⟩ rfl hl.1 rfl (Nat.le_of_ble_eq_true rfl) d_L_law_424 hf) (fun r u' H locs hp hw => ?_)
  obtain ⟨hthr, hM', hmv⟩ := hp
  have hth2 : uThr u' < 2 ^ 31 := by rw [hthr]; omega
  refine lv_istore S.1 S.2.1 d_L_law_427 hl (by decide) rfl (fun ls hl => ?_)
  refine lv_aload_n S.1 S.2.1 d_L_law_429 rfl (lv_at hl 4 rfl) ?_
  refine r_calli (mr_run S (l_mpre F hw) k_M_thrown wi_M_thrown wv_M_M_thrown wL_L_56 (c_M_thrown l G b u') ⟨rfl, rfl, Nat.le_of_ble_eq_true rfl, Nat.le_of_ble_eq_true rfl⟩ rfl hl.1 rfl (Nat.le_of_ble_eq_true rfl) d_L_law_430 hf) (fun r2 hp2 => ?_)
  subst hp2
  refine lv_iload S.1 S.2.1 d_L_law_433 (lv_at hl 1 rfl) ?_
  refine nb_eq S hth2 (by omega) d_L_law_435 rfl (fun _ => ?_) (fun h => absurd hthr h)
  refine lv_iload S.1 S.2.1 d_L_law_440 (lv_at hl 1 rfl) ?_
  have k768 : W p l e room_1 s m #[Value.ref b0] below meth c H locs (cells + 1) (slots + 6) Q (F0 m 457 ls []) := by
    refine lv_goto S.1 S.2.1 d_L_law_457 rfl ?_
    exact kk _ _ _ _ _ _ _ _ hw hT' hM' (by omega) (lv_drop2 hl)
  refine nz_ne S (by omega) d_L_law_442 rfl (fun _ => k768) (fun h0 => ?_)
  refine lv_aload_n S.1 S.2.1 d_L_law_445 rfl (lv_at hl 3 rfl) ?_
  refine lv_iconst (v := nI 0) S.1 S.2.1 d_L_law_446 (by decide) ?_
  refine o_ld S F.1 hw.2.1 d_L_law_447 ?_
  refine lv_iload S.1 S.2.1 d_L_law_448 (lv_at hl 0 rfl) ?_
  refine lv_i2l S.1 S.2.1 d_L_law_450 rfl ?_
  refine W.lcmp S.1 S.2.1 d_L_law_451 ?_
  exact lv_if_eq S.1 S.2.1 d_L_law_452 rfl (fun _ => k768) (fun hc => absurd ((lg_cmp_eq _ _).mpr ((hov h0).trans (hmv h0).symm)) hc)
end
section
set_option maxHeartbeats 4000000 in
set_option maxRecDepth 100000 in
theorem k_many {p : Program} {l : Launch} {e : Env} {s : State} {m : MethodId} {b0 : Nat} {below : List Frame} {meth : Method} {c : Code} {H : Heap} {locs : List Loc} {cells slots : Nat} {Q : State → Prop} {ls : Array Slot} {z : Nat} {G : gG} {a : tA} {b : mA} {oo : Nat} {v : tV} {f : Nat → Int64} {u : mV} {mp : Nat → nMap} {n cn L : Nat} {xs : Nat → Int32} (hfl : l.flags = pinnedFlags ++ [noTraceFlag]) (S : CallFix p m c code 8 s #[Value.ref b0] lw_t R_L) (F : lF s z G a b oo) (hX : va_X b0 L xs s s.heap) (hbl : b0 < s.heap.size) (hL : L ≤ 2048) (hi : 4 * cn + 4 ≤ L) (hw : lwS s G a b oo v f u H locs) (hT : TI v mp n cn) (hM : MR u mp n) (hn : n ≤ 1 + cn) (hl : lv_has ls 8 (lwl (4 * cn) a b oo b0)) (hf : cells + 1 ≤ room_1.cells ∧ slots + 6 ≤ room_1.slots)
    (kk : ∀ (v' : tV) (f' : Nat → Int64) (u' : mV) (mp' : Nat → nMap) (n' : Nat) (H1 : Heap) (locs1 : List Loc) (ls1 : Array Slot), lwS s G a b oo v' f' u' H1 locs1 → TI v' mp' n' (cn + 1) → MR u' mp' n' → n' ≤ 1 + (cn + 1) → lv_has ls1 8 (lwl (4 * cn) a b oo b0) → W p l e room_1 s m #[Value.ref b0] below meth c H1 locs1 (cells + 1) (slots + 6) Q (F0 m 768 ls1 [])) : W p l e room_1 s m #[Value.ref b0] below meth c H locs cells slots Q (F0 m 460 ls []) := by
  obtain ⟨κ, mp', n', ov, hκ, hn', cL, cM⟩ := op_many l hfl z G a v oo f H.size b u mp n cn (xs (4 * cn + 1)) (xs (4 * cn + 2)) (xs (4 * cn + 3)) hT hM (by omega) (by omega)
  refine lv_aload_n S.1 S.2.1 d_L_law_460 rfl (lv_at hl 3 rfl) ?_
  refine lv_aload_n S.1 S.2.1 d_L_law_461 rfl (lv_at hl 4 rfl) ?_
  refine lv_iload S.1 S.2.1 d_L_law_462 (lv_at hl 0 rfl) ?_
  refine lv_iconst (v := nI 1) S.1 S.2.1 d_L_law_464 (by decide) ?_
  refine n_iadd S d_L_law_465 ?_
  refine l_sld S hX hbl hL hw.2.2.2 (by omega) d_L_law_466 ?_
  refine lv_aload_n S.1 S.2.1 d_L_law_467 rfl (lv_at hl 4 rfl) ?_
  refine lv_iload S.1 S.2.1 d_L_law_468 (lv_at hl 0 rfl) ?_
  refine lv_iconst (v := nI 2) S.1 S.2.1 d_L_law_470 (by decide) ?_
  refine n_iadd S d_L_law_471 ?_
  refine l_sld S hX hbl hL hw.2.2.2 (by omega) d_L_law_472 ?_
  refine lv_aload_n S.1 S.2.1 d_L_law_473 rfl (lv_at hl 4 rfl) ?_
  refine lv_iload S.1 S.2.1 d_L_law_474 (lv_at hl 0 rfl) ?_
  refine lv_iconst (v := nI 3) S.1 S.2.1 d_L_law_476 (by decide) ?_
  refine n_iadd S d_L_law_477 ?_
  refine l_sld S hX hbl hL hw.2.2.2 (by omega) d_L_law_478 ?_
  refine lv_aload_n S.1 S.2.1 d_L_law_479 rfl (lv_at hl 1 rfl) ?_
  refine l_calli F hw (l_runS S (l_pre (As := [.int (xs (4 * cn + 1)), .int (xs (4 * cn + 2)), .int (xs (4 * cn + 3))]) F hw) wc_L_many wI_L ⟨by decide, by decide⟩ (n := 5) (by decide +kernel) ws_L_many wL_L_73 cL ⟨rfl, rfl, Nat.le_of_ble_eq_true rfl, Nat.le_of_ble_eq_true rfl⟩ rfl hl.1 rfl (Nat.le_of_ble_eq_true rfl) d_L_law_480 hf) (fun r v' f' H locs hp hw => ?_)
  obtain ⟨rfl, hT', hov⟩ := hp
  refine lv_istore S.1 S.2.1 d_L_law_483 hl (by decide) rfl (fun ls hl => ?_)
  refine lv_aload_n S.1 S.2.1 d_L_law_485 rfl (lv_at hl 3 rfl) ?_
  refine lv_aload_n S.1 S.2.1 d_L_law_486 rfl (lv_at hl 5 rfl) ?_
  refine lv_iload S.1 S.2.1 d_L_law_487 (lv_at hl 1 rfl) ?_
  refine lv_iconst (v := nI 1) S.1 S.2.1 d_L_law_489 (by decide) ?_
  refine n_iadd S d_L_law_490 ?_
  refine l_sld S hX hbl hL hw.2.2.2 (by omega) d_L_law_491 ?_
  refine lv_aload_n S.1 S.2.1 d_L_law_492 rfl (lv_at hl 5 rfl) ?_
  refine lv_iload S.1 S.2.1 d_L_law_493 (lv_at hl 1 rfl) ?_
  refine lv_iconst (v := nI 2) S.1 S.2.1 d_L_law_495 (by decide) ?_
  refine n_iadd S d_L_law_496 ?_
  refine l_sld S hX hbl hL hw.2.2.2 (by omega) d_L_law_497 ?_
  refine lv_aload_n S.1 S.2.1 d_L_law_498 rfl (lv_at hl 5 rfl) ?_
  refine lv_iload S.1 S.2.1 d_L_law_499 (lv_at hl 1 rfl) ?_
  refine lv_iconst (v := nI 3) S.1 S.2.1 d_L_law_501 (by decide) ?_
  refine n_iadd S d_L_law_502 ?_
  refine l_sld S hX hbl hL hw.2.2.2 (by omega) d_L_law_503 ?_
  refine l_mcalli F hw (m_run S (l_mpre (As := [.int (xs (4 * cn + 1)), .int (xs (4 * cn + 2)), .int (xs (4 * cn + 3))]) F hw) k_M_many wi_M_many wv_M_M_many wL_L_75 cM ⟨rfl, rfl, Nat.le_of_ble_eq_true rfl, Nat.le_of_ble_eq_true rfl⟩ rfl hl.1 rfl (Nat.le_of_ble_eq_true rfl) d_L_law_504 hf) (fun r u' H locs hp hw => ?_)
  obtain ⟨hthr, hM', hmv⟩ := hp
  have hth2 : uThr u' < 2 ^ 31 := by rw [hthr]; omega
  refine lv_istore S.1 S.2.1 d_L_law_507 hl (by decide) rfl (fun ls hl => ?_)
  refine lv_aload_n S.1 S.2.1 d_L_law_509 rfl (lv_at hl 4 rfl) ?_
  refine r_calli (mr_run S (l_mpre F hw) k_M_thrown wi_M_thrown wv_M_M_thrown wL_L_56 (c_M_thrown l G b u') ⟨rfl, rfl, Nat.le_of_ble_eq_true rfl, Nat.le_of_ble_eq_true rfl⟩ rfl hl.1 rfl (Nat.le_of_ble_eq_true rfl) d_L_law_510 hf) (fun r2 hp2 => ?_)
  subst hp2
  refine lv_iload S.1 S.2.1 d_L_law_513 (lv_at hl 1 rfl) ?_
  refine nb_eq S hth2 (by omega) d_L_law_515 rfl (fun _ => ?_) (fun h => absurd hthr h)
  refine lv_iload S.1 S.2.1 d_L_law_520 (lv_at hl 1 rfl) ?_
  have k768 : W p l e room_1 s m #[Value.ref b0] below meth c H locs (cells + 1) (slots + 6) Q (F0 m 537 ls []) := by
    refine lv_goto S.1 S.2.1 d_L_law_537 rfl ?_
    exact kk _ _ _ _ _ _ _ _ hw hT' hM' (by omega) (lv_drop2 hl)
  refine nz_ne S (by omega) d_L_law_522 rfl (fun _ => k768) (fun h0 => ?_)
  refine lv_aload_n S.1 S.2.1 d_L_law_525 rfl (lv_at hl 3 rfl) ?_
  refine lv_iconst (v := nI 0) S.1 S.2.1 d_L_law_526 (by decide) ?_
  refine o_ld S F.1 hw.2.1 d_L_law_527 ?_
  refine lv_iload S.1 S.2.1 d_L_law_528 (lv_at hl 0 rfl) ?_
  refine lv_i2l S.1 S.2.1 d_L_law_530 rfl ?_
  refine W.lcmp S.1 S.2.1 d_L_law_531 ?_
  exact lv_if_eq S.1 S.2.1 d_L_law_532 rfl (fun _ => k768) (fun hc => absurd ((lg_cmp_eq _ _).mpr ((hov h0).trans (hmv h0).symm)) hc)
set_option maxHeartbeats 4000000 in
set_option maxRecDepth 100000 in
theorem k_sum {p : Program} {l : Launch} {e : Env} {s : State} {m : MethodId} {b0 : Nat} {below : List Frame} {meth : Method} {c : Code} {H : Heap} {locs : List Loc} {cells slots : Nat} {Q : State → Prop} {ls : Array Slot} {z : Nat} {G : gG} {a : tA} {b : mA} {oo : Nat} {v : tV} {f : Nat → Int64} {u : mV} {mp : Nat → nMap} {n cn L : Nat} {xs : Nat → Int32} (hfl : l.flags = pinnedFlags ++ [noTraceFlag]) (S : CallFix p m c code 8 s #[Value.ref b0] lw_t R_L) (F : lF s z G a b oo) (hX : va_X b0 L xs s s.heap) (hbl : b0 < s.heap.size) (hL : L ≤ 2048) (hi : 4 * cn + 4 ≤ L) (hw : lwS s G a b oo v f u H locs) (hT : TI v mp n cn) (hM : MR u mp n) (hn : n ≤ 1 + cn) (hl : lv_has ls 8 (lwl (4 * cn) a b oo b0)) (hf : cells + 1 ≤ room_1.cells ∧ slots + 6 ≤ room_1.slots)
    (kk : ∀ (v' : tV) (f' : Nat → Int64) (u' : mV) (mp' : Nat → nMap) (n' : Nat) (H1 : Heap) (locs1 : List Loc) (ls1 : Array Slot), lwS s G a b oo v' f' u' H1 locs1 → TI v' mp' n' (cn + 1) → MR u' mp' n' → n' ≤ 1 + (cn + 1) → lv_has ls1 8 (lwl (4 * cn) a b oo b0) → W p l e room_1 s m #[Value.ref b0] below meth c H1 locs1 (cells + 1) (slots + 6) Q (F0 m 768 ls1 [])) : W p l e room_1 s m #[Value.ref b0] below meth c H locs cells slots Q (F0 m 540 ls []) := by
  obtain ⟨κ, mp', n', ov, hκ, hn', cL, cM⟩ := op_sum l hfl z G a v oo f H.size b u mp n cn (xs (4 * cn + 1)) (xs (4 * cn + 2)) (xs (4 * cn + 3)) hT hM (by omega) (by omega)
  refine lv_aload_n S.1 S.2.1 d_L_law_540 rfl (lv_at hl 3 rfl) ?_
  refine lv_aload_n S.1 S.2.1 d_L_law_541 rfl (lv_at hl 4 rfl) ?_
  refine lv_iload S.1 S.2.1 d_L_law_542 (lv_at hl 0 rfl) ?_
  refine lv_iconst (v := nI 1) S.1 S.2.1 d_L_law_544 (by decide) ?_
  refine n_iadd S d_L_law_545 ?_
  refine l_sld S hX hbl hL hw.2.2.2 (by omega) d_L_law_546 ?_
  refine lv_aload_n S.1 S.2.1 d_L_law_547 rfl (lv_at hl 4 rfl) ?_
  refine lv_iload S.1 S.2.1 d_L_law_548 (lv_at hl 0 rfl) ?_
  refine lv_iconst (v := nI 2) S.1 S.2.1 d_L_law_550 (by decide) ?_
  refine n_iadd S d_L_law_551 ?_
  refine l_sld S hX hbl hL hw.2.2.2 (by omega) d_L_law_552 ?_
  refine lv_aload_n S.1 S.2.1 d_L_law_553 rfl (lv_at hl 4 rfl) ?_
  refine lv_iload S.1 S.2.1 d_L_law_554 (lv_at hl 0 rfl) ?_
  refine lv_iconst (v := nI 3) S.1 S.2.1 d_L_law_556 (by decide) ?_
  refine n_iadd S d_L_law_557 ?_
  refine l_sld S hX hbl hL hw.2.2.2 (by omega) d_L_law_558 ?_
  refine lv_aload_n S.1 S.2.1 d_L_law_559 rfl (lv_at hl 1 rfl) ?_
  refine l_calli F hw (l_runS S (l_pre (As := [.int (xs (4 * cn + 1)), .int (xs (4 * cn + 2)), .int (xs (4 * cn + 3))]) F hw) wc_L_sum wI_L ⟨by decide, by decide⟩ (n := 5) (by decide +kernel) ws_L_sum wL_L_76 cL ⟨rfl, rfl, Nat.le_of_ble_eq_true rfl, Nat.le_of_ble_eq_true rfl⟩ rfl hl.1 rfl (Nat.le_of_ble_eq_true rfl) d_L_law_560 hf) (fun r v' f' H locs hp hw => ?_)
  obtain ⟨rfl, hT', hov⟩ := hp
  refine lv_istore S.1 S.2.1 d_L_law_563 hl (by decide) rfl (fun ls hl => ?_)
  refine lv_aload_n S.1 S.2.1 d_L_law_565 rfl (lv_at hl 3 rfl) ?_
  refine lv_aload_n S.1 S.2.1 d_L_law_566 rfl (lv_at hl 5 rfl) ?_
  refine lv_iload S.1 S.2.1 d_L_law_567 (lv_at hl 1 rfl) ?_
  refine lv_iconst (v := nI 1) S.1 S.2.1 d_L_law_569 (by decide) ?_
  refine n_iadd S d_L_law_570 ?_
  refine l_sld S hX hbl hL hw.2.2.2 (by omega) d_L_law_571 ?_
  refine lv_aload_n S.1 S.2.1 d_L_law_572 rfl (lv_at hl 5 rfl) ?_
  refine lv_iload S.1 S.2.1 d_L_law_573 (lv_at hl 1 rfl) ?_
  refine lv_iconst (v := nI 2) S.1 S.2.1 d_L_law_575 (by decide) ?_
  refine n_iadd S d_L_law_576 ?_
  refine l_sld S hX hbl hL hw.2.2.2 (by omega) d_L_law_577 ?_
  refine lv_aload_n S.1 S.2.1 d_L_law_578 rfl (lv_at hl 5 rfl) ?_
  refine lv_iload S.1 S.2.1 d_L_law_579 (lv_at hl 1 rfl) ?_
  refine lv_iconst (v := nI 3) S.1 S.2.1 d_L_law_581 (by decide) ?_
  refine n_iadd S d_L_law_582 ?_
  refine l_sld S hX hbl hL hw.2.2.2 (by omega) d_L_law_583 ?_
  refine l_mcalll F hw (m_run S (l_mpre (As := [.int (xs (4 * cn + 1)), .int (xs (4 * cn + 2)), .int (xs (4 * cn + 3))]) F hw) k_M_sum wi_M_sum wv_M_M_sum wL_L_78 cM ⟨rfl, rfl, Nat.le_of_ble_eq_true rfl, Nat.le_of_ble_eq_true rfl⟩ rfl hl.1 rfl (Nat.le_of_ble_eq_true rfl) d_L_law_584 hf) (fun r u' H locs hp hw => ?_)
  obtain ⟨hthr, hM', hmv⟩ := hp
  have hth2 : uThr u' < 2 ^ 31 := by rw [hthr]; omega
  refine lv_lstore S.1 S.2.1 d_L_law_587 hl (by decide) rfl (fun ls hl => ?_)
  refine lv_aload_n S.1 S.2.1 d_L_law_589 rfl (lv_at hl 4 rfl) ?_
  refine r_calli (mr_run S (l_mpre F hw) k_M_thrown wi_M_thrown wv_M_M_thrown wL_L_56 (c_M_thrown l G b u') ⟨rfl, rfl, Nat.le_of_ble_eq_true rfl, Nat.le_of_ble_eq_true rfl⟩ rfl hl.1 rfl (Nat.le_of_ble_eq_true rfl) d_L_law_590 hf) (fun r2 hp2 => ?_)
  subst hp2
  refine lv_iload S.1 S.2.1 d_L_law_593 (lv_at hl 1 rfl) ?_
  refine nb_eq S hth2 (by omega) d_L_law_595 rfl (fun _ => ?_) (fun h => absurd hthr h)
  refine lv_iload S.1 S.2.1 d_L_law_600 (lv_at hl 1 rfl) ?_
  have k768 : W p l e room_1 s m #[Value.ref b0] below meth c H locs (cells + 1) (slots + 6) Q (F0 m 616 ls []) := by
    refine lv_goto S.1 S.2.1 d_L_law_616 rfl ?_
    exact kk _ _ _ _ _ _ _ _ hw hT' hM' (by omega) (lv_drop2 hl)
  refine nz_ne S (by omega) d_L_law_602 rfl (fun _ => k768) (fun h0 => ?_)
  refine lv_aload_n S.1 S.2.1 d_L_law_605 rfl (lv_at hl 3 rfl) ?_
  refine lv_iconst (v := nI 0) S.1 S.2.1 d_L_law_606 (by decide) ?_
  refine o_ld S F.1 hw.2.1 d_L_law_607 ?_
  refine lv_lload S.1 S.2.1 d_L_law_608 (lv_at hl 0 rfl) ?_
  refine W.lcmp S.1 S.2.1 d_L_law_610 ?_
  exact lv_if_eq S.1 S.2.1 d_L_law_611 rfl (fun _ => k768) (fun hc => absurd ((lg_cmp_eq _ _).mpr ((hov h0).trans (hmv h0).symm)) hc)
set_option maxHeartbeats 4000000 in
set_option maxRecDepth 100000 in
theorem k_differ {p : Program} {l : Launch} {e : Env} {s : State} {m : MethodId} {b0 : Nat} {below : List Frame} {meth : Method} {c : Code} {H : Heap} {locs : List Loc} {cells slots : Nat} {Q : State → Prop} {ls : Array Slot} {z : Nat} {G : gG} {a : tA} {b : mA} {oo : Nat} {v : tV} {f : Nat → Int64} {u : mV} {mp : Nat → nMap} {n cn L : Nat} {xs : Nat → Int32} (hfl : l.flags = pinnedFlags ++ [noTraceFlag]) (S : CallFix p m c code 8 s #[Value.ref b0] lw_t R_L) (F : lF s z G a b oo) (hX : va_X b0 L xs s s.heap) (hbl : b0 < s.heap.size) (hL : L ≤ 2048) (hi : 4 * cn + 4 ≤ L) (hw : lwS s G a b oo v f u H locs) (hT : TI v mp n cn) (hM : MR u mp n) (hn : n ≤ 1 + cn) (hl : lv_has ls 8 (lwl (4 * cn) a b oo b0)) (hf : cells + 1 ≤ room_1.cells ∧ slots + 6 ≤ room_1.slots)
    (kk : ∀ (v' : tV) (f' : Nat → Int64) (u' : mV) (mp' : Nat → nMap) (n' : Nat) (H1 : Heap) (locs1 : List Loc) (ls1 : Array Slot), lwS s G a b oo v' f' u' H1 locs1 → TI v' mp' n' (cn + 1) → MR u' mp' n' → n' ≤ 1 + (cn + 1) → lv_has ls1 8 (lwl (4 * cn) a b oo b0) → W p l e room_1 s m #[Value.ref b0] below meth c H1 locs1 (cells + 1) (slots + 6) Q (F0 m 768 ls1 [])) : W p l e room_1 s m #[Value.ref b0] below meth c H locs cells slots Q (F0 m 619 ls []) := by
  obtain ⟨κ, mp', n', ov, hκ, hn', cL, cM⟩ := op_differ l hfl z G a v oo f H.size b u mp n cn (xs (4 * cn + 1)) (xs (4 * cn + 2)) hT hM (by omega) (by omega)
  refine lv_aload_n S.1 S.2.1 d_L_law_619 rfl (lv_at hl 3 rfl) ?_
  refine lv_aload_n S.1 S.2.1 d_L_law_620 rfl (lv_at hl 4 rfl) ?_
  refine lv_iload S.1 S.2.1 d_L_law_621 (lv_at hl 0 rfl) ?_
  refine lv_iconst (v := nI 1) S.1 S.2.1 d_L_law_623 (by decide) ?_
  refine n_iadd S d_L_law_624 ?_
  refine l_sld S hX hbl hL hw.2.2.2 (by omega) d_L_law_625 ?_
  refine lv_aload_n S.1 S.2.1 d_L_law_626 rfl (lv_at hl 4 rfl) ?_
  refine lv_iload S.1 S.2.1 d_L_law_627 (lv_at hl 0 rfl) ?_
  refine lv_iconst (v := nI 2) S.1 S.2.1 d_L_law_629 (by decide) ?_
  refine n_iadd S d_L_law_630 ?_
  refine l_sld S hX hbl hL hw.2.2.2 (by omega) d_L_law_631 ?_
  refine lv_aload_n S.1 S.2.1 d_L_law_632 rfl (lv_at hl 1 rfl) ?_
  refine l_calli F hw (l_runS S (l_pre (As := [.int (xs (4 * cn + 1)), .int (xs (4 * cn + 2))]) F hw) wc_L_differ wI_L ⟨by decide, by decide⟩ (n := 4) (by decide +kernel) ws_L_differ wL_L_79 cL ⟨rfl, rfl, Nat.le_of_ble_eq_true rfl, Nat.le_of_ble_eq_true rfl⟩ rfl hl.1 rfl (Nat.le_of_ble_eq_true rfl) d_L_law_633 hf) (fun r v' f' H locs hp hw => ?_)
  obtain ⟨rfl, hT', hov⟩ := hp
  refine lv_istore S.1 S.2.1 d_L_law_636 hl (by decide) rfl (fun ls hl => ?_)
  refine lv_aload_n S.1 S.2.1 d_L_law_638 rfl (lv_at hl 3 rfl) ?_
  refine lv_aload_n S.1 S.2.1 d_L_law_639 rfl (lv_at hl 5 rfl) ?_
  refine lv_iload S.1 S.2.1 d_L_law_640 (lv_at hl 1 rfl) ?_
  refine lv_iconst (v := nI 1) S.1 S.2.1 d_L_law_642 (by decide) ?_
  refine n_iadd S d_L_law_643 ?_
  refine l_sld S hX hbl hL hw.2.2.2 (by omega) d_L_law_644 ?_
  refine lv_aload_n S.1 S.2.1 d_L_law_645 rfl (lv_at hl 5 rfl) ?_
  refine lv_iload S.1 S.2.1 d_L_law_646 (lv_at hl 1 rfl) ?_
  refine lv_iconst (v := nI 2) S.1 S.2.1 d_L_law_648 (by decide) ?_
  refine n_iadd S d_L_law_649 ?_
  refine l_sld S hX hbl hL hw.2.2.2 (by omega) d_L_law_650 ?_
  refine l_mcalli F hw (m_run S (l_mpre (As := [.int (xs (4 * cn + 1)), .int (xs (4 * cn + 2))]) F hw) k_M_differ wi_M_differ wv_M_M_differ wL_L_81 cM ⟨rfl, rfl, Nat.le_of_ble_eq_true rfl, Nat.le_of_ble_eq_true rfl⟩ rfl hl.1 rfl (Nat.le_of_ble_eq_true rfl) d_L_law_651 hf) (fun r u' H locs hp hw => ?_)
  obtain ⟨hthr, hM', hmv⟩ := hp
  have hth2 : uThr u' < 2 ^ 31 := by rw [hthr]; omega
  refine lv_istore S.1 S.2.1 d_L_law_654 hl (by decide) rfl (fun ls hl => ?_)
  refine lv_aload_n S.1 S.2.1 d_L_law_656 rfl (lv_at hl 4 rfl) ?_
  refine r_calli (mr_run S (l_mpre F hw) k_M_thrown wi_M_thrown wv_M_M_thrown wL_L_56 (c_M_thrown l G b u') ⟨rfl, rfl, Nat.le_of_ble_eq_true rfl, Nat.le_of_ble_eq_true rfl⟩ rfl hl.1 rfl (Nat.le_of_ble_eq_true rfl) d_L_law_657 hf) (fun r2 hp2 => ?_)
  subst hp2
  refine lv_iload S.1 S.2.1 d_L_law_660 (lv_at hl 1 rfl) ?_
  refine nb_eq S hth2 (by omega) d_L_law_662 rfl (fun _ => ?_) (fun h => absurd hthr h)
  refine lv_iload S.1 S.2.1 d_L_law_667 (lv_at hl 1 rfl) ?_
  have k768 : W p l e room_1 s m #[Value.ref b0] below meth c H locs (cells + 1) (slots + 6) Q (F0 m 684 ls []) := by
    refine lv_goto S.1 S.2.1 d_L_law_684 rfl ?_
    exact kk _ _ _ _ _ _ _ _ hw hT' hM' (by omega) (lv_drop2 hl)
  refine nz_ne S (by omega) d_L_law_669 rfl (fun _ => k768) (fun h0 => ?_)
  refine lv_aload_n S.1 S.2.1 d_L_law_672 rfl (lv_at hl 3 rfl) ?_
  refine lv_iconst (v := nI 0) S.1 S.2.1 d_L_law_673 (by decide) ?_
  refine o_ld S F.1 hw.2.1 d_L_law_674 ?_
  refine lv_iload S.1 S.2.1 d_L_law_675 (lv_at hl 0 rfl) ?_
  refine lv_i2l S.1 S.2.1 d_L_law_677 rfl ?_
  refine W.lcmp S.1 S.2.1 d_L_law_678 ?_
  exact lv_if_eq S.1 S.2.1 d_L_law_679 rfl (fun _ => k768) (fun hc => absurd ((lg_cmp_eq _ _).mpr ((hov h0).trans (hmv h0).symm)) hc)
set_option maxHeartbeats 4000000 in
set_option maxRecDepth 100000 in
theorem k_digest {p : Program} {l : Launch} {e : Env} {s : State} {m : MethodId} {b0 : Nat} {below : List Frame} {meth : Method} {c : Code} {H : Heap} {locs : List Loc} {cells slots : Nat} {Q : State → Prop} {ls : Array Slot} {z : Nat} {G : gG} {a : tA} {b : mA} {oo : Nat} {v : tV} {f : Nat → Int64} {u : mV} {mp : Nat → nMap} {n cn L : Nat} {xs : Nat → Int32} (hfl : l.flags = pinnedFlags ++ [noTraceFlag]) (S : CallFix p m c code 8 s #[Value.ref b0] lw_t R_L) (F : lF s z G a b oo) (hX : va_X b0 L xs s s.heap) (hbl : b0 < s.heap.size) (hL : L ≤ 2048) (hi : 4 * cn + 4 ≤ L) (hw : lwS s G a b oo v f u H locs) (hT : TI v mp n cn) (hM : MR u mp n) (hn : n ≤ 1 + cn) (hl : lv_has ls 8 (lwl (4 * cn) a b oo b0)) (hf : cells + 1 ≤ room_1.cells ∧ slots + 6 ≤ room_1.slots)
    (kk : ∀ (v' : tV) (f' : Nat → Int64) (u' : mV) (mp' : Nat → nMap) (n' : Nat) (H1 : Heap) (locs1 : List Loc) (ls1 : Array Slot), lwS s G a b oo v' f' u' H1 locs1 → TI v' mp' n' (cn + 1) → MR u' mp' n' → n' ≤ 1 + (cn + 1) → lv_has ls1 8 (lwl (4 * cn) a b oo b0) → W p l e room_1 s m #[Value.ref b0] below meth c H1 locs1 (cells + 1) (slots + 6) Q (F0 m 768 ls1 [])) : W p l e room_1 s m #[Value.ref b0] below meth c H locs cells slots Q (F0 m 687 ls []) := by
  obtain ⟨κ, mp', n', ov, hκ, hn', cL, cM⟩ := op_digest l hfl z G a v oo f H.size b u mp n cn (xs (4 * cn + 1)) hT hM (by omega) (by omega)
  refine lv_aload_n S.1 S.2.1 d_L_law_687 rfl (lv_at hl 3 rfl) ?_
  refine lv_aload_n S.1 S.2.1 d_L_law_688 rfl (lv_at hl 4 rfl) ?_
  refine lv_iload S.1 S.2.1 d_L_law_689 (lv_at hl 0 rfl) ?_
  refine lv_iconst (v := nI 1) S.1 S.2.1 d_L_law_691 (by decide) ?_
  refine n_iadd S d_L_law_692 ?_
  refine l_sld S hX hbl hL hw.2.2.2 (by omega) d_L_law_693 ?_
  refine lv_aload_n S.1 S.2.1 d_L_law_694 rfl (lv_at hl 1 rfl) ?_
  refine l_calli F hw (l_runS S (l_pre (As := [.int (xs (4 * cn + 1))]) F hw) wc_L_digest wI_L ⟨by decide, by decide⟩ (n := 3) (by decide +kernel) ws_L_digest wL_L_82 cL ⟨rfl, rfl, Nat.le_of_ble_eq_true rfl, Nat.le_of_ble_eq_true rfl⟩ rfl hl.1 rfl (Nat.le_of_ble_eq_true rfl) d_L_law_695 hf) (fun r v' f' H locs hp hw => ?_)
  obtain ⟨rfl, hT', hov⟩ := hp
  refine lv_istore S.1 S.2.1 d_L_law_698 hl (by decide) rfl (fun ls hl => ?_)
  refine lv_aload_n S.1 S.2.1 d_L_law_700 rfl (lv_at hl 3 rfl) ?_
  refine lv_aload_n S.1 S.2.1 d_L_law_701 rfl (lv_at hl 5 rfl) ?_
  refine lv_iload S.1 S.2.1 d_L_law_702 (lv_at hl 1 rfl) ?_
  refine lv_iconst (v := nI 1) S.1 S.2.1 d_L_law_704 (by decide) ?_
  refine n_iadd S d_L_law_705 ?_
  refine l_sld S hX hbl hL hw.2.2.2 (by omega) d_L_law_706 ?_
  refine l_mcalll F hw (m_run S (l_mpre (As := [.int (xs (4 * cn + 1))]) F hw) k_M_digest wi_M_digest wv_M_M_digest wL_L_85 cM ⟨rfl, rfl, Nat.le_of_ble_eq_true rfl, Nat.le_of_ble_eq_true rfl⟩ rfl hl.1 rfl (Nat.le_of_ble_eq_true rfl) d_L_law_707 hf) (fun r u' H locs hp hw => ?_)
  obtain ⟨hthr, hM', hmv⟩ := hp
  have hth2 : uThr u' < 2 ^ 31 := by rw [hthr]; omega
  refine lv_lstore S.1 S.2.1 d_L_law_710 hl (by decide) rfl (fun ls hl => ?_)
  refine lv_aload_n S.1 S.2.1 d_L_law_712 rfl (lv_at hl 4 rfl) ?_
  refine r_calli (mr_run S (l_mpre F hw) k_M_thrown wi_M_thrown wv_M_M_thrown wL_L_56 (c_M_thrown l G b u') ⟨rfl, rfl, Nat.le_of_ble_eq_true rfl, Nat.le_of_ble_eq_true rfl⟩ rfl hl.1 rfl (Nat.le_of_ble_eq_true rfl) d_L_law_713 hf) (fun r2 hp2 => ?_)
  subst hp2
  refine lv_iload S.1 S.2.1 d_L_law_716 (lv_at hl 1 rfl) ?_
  refine nb_eq S hth2 (by omega) d_L_law_718 rfl (fun _ => ?_) (fun h => absurd hthr h)
  refine lv_iload S.1 S.2.1 d_L_law_723 (lv_at hl 1 rfl) ?_
  have k768 : W p l e room_1 s m #[Value.ref b0] below meth c H locs (cells + 1) (slots + 6) Q (F0 m 739 ls []) := by
    refine lv_goto S.1 S.2.1 d_L_law_739 rfl ?_
    exact kk _ _ _ _ _ _ _ _ hw hT' hM' (by omega) (lv_drop2 hl)
  refine nz_ne S (by omega) d_L_law_725 rfl (fun _ => k768) (fun h0 => ?_)
  refine lv_aload_n S.1 S.2.1 d_L_law_728 rfl (lv_at hl 3 rfl) ?_
  refine lv_iconst (v := nI 0) S.1 S.2.1 d_L_law_729 (by decide) ?_
  refine o_ld S F.1 hw.2.1 d_L_law_730 ?_
  refine lv_lload S.1 S.2.1 d_L_law_731 (lv_at hl 0 rfl) ?_
  refine W.lcmp S.1 S.2.1 d_L_law_733 ?_
  exact lv_if_eq S.1 S.2.1 d_L_law_734 rfl (fun _ => k768) (fun hc => absurd ((lg_cmp_eq _ _).mpr ((hov h0).trans (hmv h0).symm)) hc)
set_option maxHeartbeats 4000000 in
set_option maxRecDepth 100000 in
theorem k_versions {p : Program} {l : Launch} {e : Env} {s : State} {m : MethodId} {b0 : Nat} {below : List Frame} {meth : Method} {c : Code} {H : Heap} {locs : List Loc} {cells slots : Nat} {Q : State → Prop} {ls : Array Slot} {z : Nat} {G : gG} {a : tA} {b : mA} {oo : Nat} {v : tV} {f : Nat → Int64} {u : mV} {mp : Nat → nMap} {n cn L : Nat} {xs : Nat → Int32} (hfl : l.flags = pinnedFlags ++ [noTraceFlag]) (S : CallFix p m c code 8 s #[Value.ref b0] lw_t R_L) (F : lF s z G a b oo) (hX : va_X b0 L xs s s.heap) (hbl : b0 < s.heap.size) (hL : L ≤ 2048) (hi : 4 * cn + 4 ≤ L) (hw : lwS s G a b oo v f u H locs) (hT : TI v mp n cn) (hM : MR u mp n) (hn : n ≤ 1 + cn) (hl : lv_has ls 8 (lwl (4 * cn) a b oo b0)) (hf : cells + 1 ≤ room_1.cells ∧ slots + 6 ≤ room_1.slots)
    (kk : ∀ (v' : tV) (f' : Nat → Int64) (u' : mV) (mp' : Nat → nMap) (n' : Nat) (H1 : Heap) (locs1 : List Loc) (ls1 : Array Slot), lwS s G a b oo v' f' u' H1 locs1 → TI v' mp' n' (cn + 1) → MR u' mp' n' → n' ≤ 1 + (cn + 1) → lv_has ls1 8 (lwl (4 * cn) a b oo b0) → W p l e room_1 s m #[Value.ref b0] below meth c H1 locs1 (cells + 1) (slots + 6) Q (F0 m 768 ls1 [])) : W p l e room_1 s m #[Value.ref b0] below meth c H locs cells slots Q (F0 m 742 ls []) := by
  have hv := hT.ver
  have hu := hM.1
  obtain ⟨M, hI, -⟩ := id hT
  refine W.widen (k := cells + 1) (n := slots + 6) (Nat.le_add_right _ _) (Nat.le_add_right _ _) ?_
  refine lv_aload_n S.1 S.2.1 d_L_law_742 rfl (lv_at hl 3 rfl) ?_
  refine r_calli (r_run S (t_pre F.1 hw.1 F.2.2.1) k_T_versions wi_T_versions wv_T_T_versions wL_L_86 (c_T_versions l G a v) ⟨rfl, rfl, Nat.le_of_ble_eq_true rfl, Nat.le_of_ble_eq_true rfl⟩ rfl hl.1 rfl (Nat.le_of_ble_eq_true rfl) d_L_law_743 hf) (fun r hp => ?_)
  subst hp
  refine lv_aload_n S.1 S.2.1 d_L_law_746 rfl (lv_at hl 2 rfl) ?_
  refine l_mcalli F hw (m_run S (l_mpre F hw) k_M_versions wi_M_versions wv_M_M_versions wL_L_89 (c_M_versions l G b u) ⟨rfl, rfl, Nat.le_of_ble_eq_true rfl, Nat.le_of_ble_eq_true rfl⟩ rfl hl.1 rfl (Nat.le_of_ble_eq_true rfl) d_L_law_747 hf) (fun r u' H locs hp hw => ?_)
  obtain ⟨rfl, rfl⟩ := hp
  have h1 : vVer v < 2 ^ 31 := by rw [hv]; omega
  have h2 : uVer u < 2 ^ 31 := by rw [hu]; omega
  exact nb_eq S h1 h2 d_L_law_750 rfl (fun _ => kk _ _ _ _ _ _ _ _ hw hT.mono hM (by omega) hl) (fun h => absurd (hv.trans hu.symm) h)
set_option maxHeartbeats 4000000 in
set_option maxRecDepth 100000 in
theorem k_check {p : Program} {l : Launch} {e : Env} {s : State} {m : MethodId} {b0 : Nat} {below : List Frame} {meth : Method} {c : Code} {H : Heap} {locs : List Loc} {cells slots : Nat} {Q : State → Prop} {ls : Array Slot} {z : Nat} {G : gG} {a : tA} {b : mA} {oo : Nat} {v : tV} {f : Nat → Int64} {u : mV} {mp : Nat → nMap} {n cn L : Nat} {xs : Nat → Int32} (hfl : l.flags = pinnedFlags ++ [noTraceFlag]) (S : CallFix p m c code 8 s #[Value.ref b0] lw_t R_L) (F : lF s z G a b oo) (hX : va_X b0 L xs s s.heap) (hbl : b0 < s.heap.size) (hL : L ≤ 2048) (hi : 4 * cn + 4 ≤ L) (hw : lwS s G a b oo v f u H locs) (hT : TI v mp n cn) (hM : MR u mp n) (hn : n ≤ 1 + cn) (hl : lv_has ls 8 (lwl (4 * cn) a b oo b0)) (hf : cells + 1 ≤ room_1.cells ∧ slots + 6 ≤ room_1.slots)
    (kk : ∀ (v' : tV) (f' : Nat → Int64) (u' : mV) (mp' : Nat → nMap) (n' : Nat) (H1 : Heap) (locs1 : List Loc) (ls1 : Array Slot), lwS s G a b oo v' f' u' H1 locs1 → TI v' mp' n' (cn + 1) → MR u' mp' n' → n' ≤ 1 + (cn + 1) → lv_has ls1 8 (lwl (4 * cn) a b oo b0) → W p l e room_1 s m #[Value.ref b0] below meth c H1 locs1 (cells + 1) (slots + 6) Q (F0 m 768 ls1 [])) : W p l e room_1 s m #[Value.ref b0] below meth c H locs cells slots Q (F0 m 755 ls []) := by
  have hv := hT.ver
  have hu := hM.1
  obtain ⟨M, hI, -⟩ := id hT
  refine W.widen (k := cells + 1) (n := slots + 6) (Nat.le_add_right _ _) (Nat.le_add_right _ _) ?_
  refine lv_aload_n S.1 S.2.1 d_L_law_755 rfl (lv_at hl 3 rfl) ?_
  refine r_calli (r_run S (t_pre F.1 hw.1 F.2.2.1) k_T_check wi_T_check wv_T_T_check wL_L_90 (c_T_check l G a v M hI) ⟨rfl, rfl, Nat.le_of_ble_eq_true rfl, Nat.le_of_ble_eq_true rfl⟩ rfl hl.1 rfl (Nat.le_of_ble_eq_true rfl) d_L_law_756 hf) (fun r hp => ?_)
  subst hp
  refine lv_aload_n S.1 S.2.1 d_L_law_759 rfl (lv_at hl 2 rfl) ?_
  refine l_mcalli F hw (m_run S (l_mpre F hw) k_M_check wi_M_check wv_M_M_check wL_L_93 (c_M_check l G b u) ⟨rfl, rfl, Nat.le_of_ble_eq_true rfl, Nat.le_of_ble_eq_true rfl⟩ rfl hl.1 rfl (Nat.le_of_ble_eq_true rfl) d_L_law_760 hf) (fun r u' H locs hp hw => ?_)
  obtain ⟨rfl, rfl⟩ := hp
  exact nb_eq S (by decide) (by decide) d_L_law_763 rfl (fun _ => kk _ _ _ _ _ _ _ _ hw hT.mono hM (by omega) hl) (fun h => absurd rfl h)
end
section
/-! the law's loop and its start -/
set_option maxHeartbeats 4000000 in
set_option maxRecDepth 100000 in
theorem k_loop {p : Program} {l : Launch} {e : Env} {s : State} {m : MethodId} {b0 : Nat} {below : List Frame} {meth : Method} {c : Code} {z : Nat} {G : gG} {a : tA} {b : mA} {oo L : Nat} {xs : Nat → Int32} (hfl : l.flags = pinnedFlags ++ [noTraceFlag]) (S : CallFix p m c code 8 s #[Value.ref b0] lw_t R_L) (hr : meth.sig.returnType = ret) (hlk : meth.locks = false) (F : lF s z G a b oo) (hX : va_X b0 L xs s s.heap) (hbl : b0 < s.heap.size) (hL : L ≤ 2048) :
    ∀ (d cn : Nat), d = 512 - cn → cn ≤ 512 → ∀ (v : tV) (f : Nat → Int64) (u : mV) (mp : Nat → nMap) (n : Nat) (H : Heap) (locs : List Loc) (ls : Array Slot), lwS s G a b oo v f u H locs → TI v mp n cn → MR u mp n → n ≤ 1 + cn → lv_has ls 8 (lwl (4 * cn) a b oo b0) → W p l e room_1 s m #[Value.ref b0] below meth c H locs (12 + cn) (787816 + 6 * cn) (lw_Z below #[Value.ref b0] s) (F0 m 23 ls []) := by
  intro d
  induction d with
  | zero =>
    intro cn hd hcn v f u mp n H locs ls hw hT hM hn hl
    refine lv_iload S.1 S.2.1 d_L_law_23 (lv_at hl 0 rfl) ?_
    refine lv_aload_n S.1 S.2.1 d_L_law_25 rfl (lv_at hl 4 rfl) ?_
    refine va_slen S.1 S.2.1 hX hbl (fun h => absurd hbl (Nat.not_lt.mpr h)) hw.2.2.2 d_L_law_26 ?_
    refine lv_iconst (v := nI 4) S.1 S.2.1 d_L_law_27 (by decide) ?_
    refine lv_isub S.1 S.2.1 d_L_law_28 ?_
    refine lv_icmp_gt S.1 S.2.1 d_L_law_29 rfl (fun _ => ?_) (fun hc => ?_)
    · refine lv_iconst (v := 1) S.1 S.2.1 d_L_law_774 (by decide) ?_
      refine W.widen (k := 601024) (n := 7293034) (by omega) (by omega) ?_
      refine va_forget hw.2.2.2.2.2 ?_
      exact lw_ret S.1 S.2.1 hr hlk d_L_law_775
    have hi : 4 * cn + 4 ≤ L := l_cmp hL (by omega) hc
    omega
  | succ d ih =>
    intro cn hd hcn v f u mp n H locs ls hw hT hM hn hl
    refine lv_iload S.1 S.2.1 d_L_law_23 (lv_at hl 0 rfl) ?_
    refine lv_aload_n S.1 S.2.1 d_L_law_25 rfl (lv_at hl 4 rfl) ?_
    refine va_slen S.1 S.2.1 hX hbl (fun h => absurd hbl (Nat.not_lt.mpr h)) hw.2.2.2 d_L_law_26 ?_
    refine lv_iconst (v := nI 4) S.1 S.2.1 d_L_law_27 (by decide) ?_
    refine lv_isub S.1 S.2.1 d_L_law_28 ?_
    refine lv_icmp_gt S.1 S.2.1 d_L_law_29 rfl (fun _ => ?_) (fun hc => ?_)
    · refine lv_iconst (v := 1) S.1 S.2.1 d_L_law_774 (by decide) ?_
      refine W.widen (k := 601024) (n := 7293034) (by omega) (by omega) ?_
      refine va_forget hw.2.2.2.2.2 ?_
      exact lw_ret S.1 S.2.1 hr hlk d_L_law_775
    have hi : 4 * cn + 4 ≤ L := l_cmp hL (by omega) hc
    have hf : 12 + cn + 1 ≤ room_1.cells ∧ 787816 + 6 * cn + 6 ≤ room_1.slots := ⟨(show 12 + cn + 1 ≤ 601024 by omega), (show 787816 + 6 * cn + 6 ≤ 7293034 by omega)⟩
    have kk : ∀ (v' : tV) (f' : Nat → Int64) (u' : mV) (mp' : Nat → nMap) (n' : Nat) (H1 : Heap) (locs1 : List Loc) (ls1 : Array Slot), lwS s G a b oo v' f' u' H1 locs1 → TI v' mp' n' (cn + 1) → MR u' mp' n' → n' ≤ 1 + (cn + 1) → lv_has ls1 8 (lwl (4 * cn) a b oo b0) → W p l e room_1 s m #[Value.ref b0] below meth c H1 locs1 (12 + cn + 1) (787816 + 6 * cn + 6) (lw_Z below #[Value.ref b0] s) (F0 m 768 ls1 []) := by
      intro v' f' u' mp' n' H1 locs1 ls1 hw hT hM hn hl
      refine lv_iinc (k := 0) (v := nI (4 * (cn + 1))) S.1 S.2.1 d_L_law_768 hl rfl ?_ (by decide) rfl (fun ls hl => ?_)
      · exact nI_add (4 * cn) 4
      refine lv_goto S.1 S.2.1 d_L_law_771 rfl ?_
      refine W.widen (k := 12 + (cn + 1)) (n := 787816 + 6 * (cn + 1)) (by omega) (by omega) ?_
      exact ih (cn + 1) (by omega) (by omega) v' f' u' mp' n' H1 locs1 ls hw hT hM hn hl
    refine lv_aload_n S.1 S.2.1 d_L_law_32 rfl (lv_at hl 4 rfl) ?_
    refine lv_iload S.1 S.2.1 d_L_law_33 (lv_at hl 0 rfl) ?_
    refine l_sld S hX hbl hL hw.2.2.2 (by omega) d_L_law_35 ?_
    refine lv_bipush (v := nI 15) S.1 S.2.1 d_L_law_36 (by decide) ?_
    refine lv_iand S.1 S.2.1 d_L_law_38 ?_
    obtain ⟨j, hj, he⟩ := pk_andE (xs (4 * cn)) (m := nI 15) 4 (by decide)
    rw [he]
    by_cases h10 : 10 < j
    · refine lv_tableOut S.1 S.2.1 d_L_law_39 (Or.inr (by rw [nI_toInt (by omega)]; omega)) (tgt := 768) rfl ?_
      refine W.widen (k := 12 + cn + 1) (n := 787816 + 6 * cn + 6) (by omega) (by omega) ?_
      exact kk _ _ _ _ _ _ _ _ hw hT.mono hM (by omega) hl
    rcases (show j = 0 ∨ j = 1 ∨ j = 2 ∨ j = 3 ∨ j = 4 ∨ j = 5 ∨ j = 6 ∨ j = 7 ∨ j = 8 ∨ j = 9 ∨ j = 10 by omega) with rfl | rfl | rfl | rfl | rfl | rfl | rfl | rfl | rfl | rfl | rfl
    · exact lv_tableIn S.1 S.2.1 d_L_law_39 (tgt := 96) (by decide) (by decide) rfl rfl (k_put hfl S F hX hbl hL hi hw hT hM hn hl hf kk)
    · exact lv_tableIn S.1 S.2.1 d_L_law_39 (tgt := 176) (by decide) (by decide) rfl rfl (k_remove hfl S F hX hbl hL hi hw hT hM hn hl hf kk)
    · exact lv_tableIn S.1 S.2.1 d_L_law_39 (tgt := 244) (by decide) (by decide) rfl rfl (k_join hfl S F hX hbl hL hi hw hT hM hn hl hf kk)
    · exact lv_tableIn S.1 S.2.1 d_L_law_39 (tgt := 324) (by decide) (by decide) rfl rfl (k_get hfl S F hX hbl hL hi hw hT hM hn hl hf kk)
    · exact lv_tableIn S.1 S.2.1 d_L_law_39 (tgt := 392) (by decide) (by decide) rfl rfl (k_select hfl S F hX hbl hL hi hw hT hM hn hl hf kk)
    · exact lv_tableIn S.1 S.2.1 d_L_law_39 (tgt := 460) (by decide) (by decide) rfl rfl (k_many hfl S F hX hbl hL hi hw hT hM hn hl hf kk)
    · exact lv_tableIn S.1 S.2.1 d_L_law_39 (tgt := 540) (by decide) (by decide) rfl rfl (k_sum hfl S F hX hbl hL hi hw hT hM hn hl hf kk)
    · exact lv_tableIn S.1 S.2.1 d_L_law_39 (tgt := 619) (by decide) (by decide) rfl rfl (k_differ hfl S F hX hbl hL hi hw hT hM hn hl hf kk)
    · exact lv_tableIn S.1 S.2.1 d_L_law_39 (tgt := 687) (by decide) (by decide) rfl rfl (k_digest hfl S F hX hbl hL hi hw hT hM hn hl hf kk)
    · exact lv_tableIn S.1 S.2.1 d_L_law_39 (tgt := 742) (by decide) (by decide) rfl rfl (k_versions hfl S F hX hbl hL hi hw hT hM hn hl hf kk)
    · exact lv_tableIn S.1 S.2.1 d_L_law_39 (tgt := 755) (by decide) (by decide) rfl rfl (k_check hfl S F hX hbl hL hi hw hT hM hn hl hf kk)
end
section
/-! what holds at the law's entry -/
theorem e_arr {s : State} {args : Array Value} {ty : FieldType} (hp : ∀ C, ty ≠ .object C) (h : (Cond.arrayClass ty).before args s = true) : ∃ cA : ClassId, ArrOfT s cA ty ∧ va_RA s cA ty := by
  obtain ⟨cA, kA, comp, h1, h2, h3⟩ := Cond.arrayClass_spec h
  refine ⟨cA, fun n z => ⟨fun k h => (by cases h), kA, h2, comp, h3⟩, ?_⟩
  cases ty with
  | object C => exact absurd rfl (hp C)
  | _ => exact h1
theorem e_K {s : State} {args : Array Value} (hts : ∀ w ∈ lw_t, w.before args s = true) : ∃ G : gG, gK G s := by
  obtain ⟨cT, iT, hKT⟩ := u_known hts u_T_in (hts _ wN_T)
  obtain ⟨cM, iM, hKM⟩ := u_known hts u_M_in (hts _ wN_M)
  obtain ⟨cI, hI⟩ := e_arr (fun C h => by cases h) (hts _ wA_int)
  obtain ⟨cS, hS⟩ := e_arr (fun C h => by cases h) (hts _ wA_short)
  obtain ⟨cJ, hJ⟩ := e_arr (fun C h => by cases h) (hts _ wA_long)
  obtain ⟨cZ, hZ⟩ := e_arr (fun C h => by cases h) (hts _ wA_boolean)
  refine ⟨((fun c => if c = 0 then cT else cM, fun c => if c = 0 then iT else iM), cI, cS, cJ, cZ), fun c q hq => ?_, fun k q hq => ?_⟩
  · match c with
    | 0 => cases hq; exact hKT
    | 1 => cases hq; exact hKM
    | n + 2 => cases hq
  · match k with
    | 0 => cases hq; exact hI
    | 1 => cases hq; exact hS
    | 2 => cases hq; exact hJ
    | 3 => cases hq; exact hZ
    | n + 4 => cases hq
theorem e_nc {s : State} {args : Array Value} {A B A' B' : String} (h : (Cond.not (.castable A B)).before args s = true) (h1 : (Cond.castable A A').before args s = true) (h2 : (Cond.castable B B').before args s = true) : nc A B s := by
  obtain ⟨c1, -, hc1, -, -⟩ := Cond.castable_spec h1
  obtain ⟨c2, -, hc2, -, -⟩ := Cond.castable_spec h2
  refine ⟨c1, c2, hc1, hc2, ?_⟩
  simpa [Cond.before, Cond.holds, Cond.value, hc1, hc2] using h
set_option maxRecDepth 100000 in
theorem e_th {s : State} {args : Array Value} (hts : ∀ w ∈ lw_tbl, w.before args s = true) (hgv : (Jvm.Cond.and given_1 narrow_1).before args s = true) : ∃ z, thK z s := by
  have hs := flat_of_before _ hgv
  have r1 : (Cond.isRef (.static "java/lang/Throwable" "UNASSIGNED_STACK" "[Ljava/lang/StackTraceElement;")).before args s = true := hs _ (by decide +kernel)
  have r2 : (Cond.isRef (.static "java/lang/Throwable" "SUPPRESSED_SENTINEL" "Ljava/util/List;")).before args s = true := hs _ (by decide +kernel)
  have n1 : (Cond.not (.castable nNs nIo)).before args s = true := hs _ (by decide +kernel)
  have n2 : (Cond.not (.castable nNs nIs)).before args s = true := hs _ (by decide +kernel)
  have l1 := hts _ wyS_Th_UNASSIGNED_STACK
  have l2 := hts _ wyS_Th_SUPPRESSED_SENTINEL
  obtain ⟨cT, k, i, fd, z, cell, hc, hf, -, hz, hcell, -⟩ := Cond.laysStatic_spec l1
  have hk : s.vm.classes[cT]? = some k := (State.fieldFound?_spec hf).1
  refine ⟨z, fun w h => ?_, ⟨cT, k, hc, hk, hz⟩, (Array.getElem?_eq_some_iff.mp hcell).1, e_nc n1 (hts _ wC_Ns_Ns) (hts _ wC_Io_Io), e_nc n2 (hts _ wC_Ns_Ns) (hts _ wC_Is_Is)⟩
  simp only [thW, List.mem_cons, List.not_mem_nil, or_false] at h
  rcases h with rfl | rfl | rfl | rfl | rfl | rfl | rfl | rfl | rfl
  · exact va_any rfl (hts _ wd_Rt_init)
  · exact va_any rfl (hts _ wd_Ex_init)
  · exact va_any rfl (hts _ wd_Th_init)
  · exact va_any rfl (hts _ wC_Io_Io)
  · exact va_any rfl (hts _ wC_Ns_Ns)
  · exact l1
  · exact l2
  · exact r1
  · exact r2
theorem f0T_ok : ∀ j, j < 11 → defaultValue (ty_T j) = vp_V f0T j := by
  intro j hj
  rcases (show j = 0 ∨ j = 1 ∨ j = 2 ∨ j = 3 ∨ j = 4 ∨ j = 5 ∨ j = 6 ∨ j = 7 ∨ j = 8 ∨ j = 9 ∨ j = 10 by omega) with rfl | rfl | rfl | rfl | rfl | rfl | rfl | rfl | rfl | rfl | rfl <;> rfl
theorem f0M_ok : ∀ j, j < 4 → defaultValue (ty_M j) = vp_V f0M j := by
  intro j hj
  rcases (show j = 0 ∨ j = 1 ∨ j = 2 ∨ j = 3 by omega) with rfl | rfl | rfl | rfl <;> rfl
theorem i_pre {s : State} {G : gG} {h0 ci : Nat} {fs : List Value} {H : Heap} (hK : gK G s) (hP : va_P G.1 cls2 [(h0, .inr (ci, fs))] H) : PreS s H (iPc G h0 H.size ci fs) [.ref h0] :=
  ⟨iPc.blind, fun U hU hW => ⟨rfl, by rw [hU], by rw [hU]; exact hP, hK.moved hW.alike⟩⟩
theorem va_A1 {q : Nat} {x : Nat × va_E} {sz : Nat} (h : va_A [x] sz q) : q = x.1 ∨ sz ≤ q := by
  rcases h with ⟨k, e, hk⟩ | h
  · have h1 : k < 1 := (List.getElem?_eq_some_iff.mp hk).1
    rw [show k = 0 by omega] at hk
    cases hk
    exact Or.inl rfl
  · exact Or.inr h
end
section
set_option maxHeartbeats 4000000 in
set_option maxRecDepth 100000 in
/-- from the entry, for every script of at most 2048 ints, the law comes to its end with true -/
theorem whole_start {p : Program} {e : Env} {s : State} {m : MethodId} {below : List Frame} {meth : Method} {c : Code} (l : Launch) (hfl : l.flags = pinnedFlags ++ [noTraceFlag]) {b L : Nat} {xs : Nat → Int32} (hL : L ≤ 2048) (C0 : lw_At p s m meth c b L xs) : W p l e room_1 s m #[Value.ref b] below meth c s.heap [] 0 0 (lw_Z below #[Value.ref b] s) (entryFrame m ([Value.ref b] : List Value).toArray 8) := by
  obtain ⟨hexec, hb, hr, hml, hown, hts, hX, hbl, hlk, hgv⟩ := C0
  have S : CallFix p m c code 8 s #[Value.ref b] lw_t R_L := ⟨hexec, hb, hml, hown, fun w h => hts w (lw_sub h)⟩
  obtain ⟨G, hK⟩ := e_K S.2.2.2.2
  obtain ⟨z, hth⟩ := e_th hts hgv
  have hS : va_S (lwA s) s.heap s.heap [] := va_S.rf
  have hA : ∀ q : Nat, s.heap.size ≤ q → lwA s q := fun _ h => h
  have hP0 : va_P G.1 cls2 [] s.heap := fun _ _ h => by cases h
  have hD0 : va_D (lwA s) [] := ⟨fun _ _ _ _ h => (by cases h), fun _ _ h => (by cases h)⟩
  refine m_entry [.ref b] (Nat.le_of_ble_eq_true rfl) (fun ls hl => ?_)
  have hl : lv_has ls 8 [(0, .ref b)] := hl
  refine va_new (D := G.1) (cl := cls2) (T := F_T) (ci := 0) (fs := f0T) S.1 S.2.1 S.2.2.2.2 u_T_in ty_T ty_T_ok S.2.2.2.1 (S.2.2.2.2 _ wK_L_8) (S.2.2.2.2 _ wN_T) (S.2.2.2.2 _ wI_T) hK hP0 hD0 hS hA rfl f0T_ok (Nat.le_of_ble_eq_true rfl) (Nat.le_of_ble_eq_true rfl) d_L_law_0 (fun h0 H hP hD hS => ?_)
  have hP : va_P G.1 cls2 [(h0, .inr (0, f0T))] H := hP
  have hD : va_D (lwA s) [(h0, .inr (0, f0T))] := hD
  refine lv_dup S.1 S.2.1 d_L_law_3 rfl ?_
  have hA1 : ∀ q : Nat, va_A [(h0, .inr (0, f0T))] H.size q → lwA s q := fun q h => by
    rcases va_A1 h with rfl | h
    · exact hD.2 0 _ rfl
    · exact Nat.le_trans hS.1 h
  refine va_callv (va_runI S (c_T_init l G h0 H.size) ⟨m_callB S k_T_init wL_L_46 ⟨rfl, rfl, Nat.le_of_ble_eq_true rfl, Nat.le_of_ble_eq_true rfl⟩, rfl, S.2.2.2.2 _ wi_T_init⟩ (As := []) (i_pre hK hP) rfl rfl hl.1 rfl (lv_room (Nat.le_of_ble_eq_true rfl)) d_L_law_4 ⟨(Nat.le_of_ble_eq_true rfl), (Nat.le_of_ble_eq_true rfl)⟩) hS (fun q _ h => hA1 q h) hA1 (fun a t H1 locs ht _ ha hB hz hk hS => ?_)
  subst ha
  subst ht
  obtain ⟨hTP, hTD⟩ := hB
  have hTD : tD a (lwA s) := hTD.weaken (fun q h => hA1 q (hTD.sub q h))
  refine lv_astore_n S.1 S.2.1 d_L_law_7 rfl hl (by decide) rfl (fun ls hl => ?_)
  have hl : lv_has ls 8 [(1, .ref (aH a)), (0, .ref b)] := hl
  refine va_new (D := G.1) (cl := cls2) (T := F_M) (ci := 1) (fs := f0M) S.1 S.2.1 S.2.2.2.2 u_M_in ty_M ty_M_ok S.2.2.2.1 (S.2.2.2.2 _ wK_L_47) (S.2.2.2.2 _ wN_M) (S.2.2.2.2 _ wI_M) hK (ws := tw G a v0T) hTP (hTD G v0T) hS hA rfl f0M_ok (Nat.le_of_ble_eq_true rfl) (Nat.le_of_ble_eq_true rfl) d_L_law_8 (fun h0 H2 hP2 hD2 hS => ?_)
  have hTP : tP G a v0T H2 := hP2.left
  have hPm : va_P G.1 cls2 [(h0, .inr (1, f0M))] H2 := hP2.right
  have hne : ¬ inA a h0 := fun h => by
    obtain ⟨i, x, h1, h2⟩ := inA_tw (G := G) (v := v0T) h
    exact hD2.apart h1 (show ([(h0, .inr (1, f0M))] : va_W)[0]? = some _ from rfl) h2
  have hh0 : lwA s h0 := hD2.2 8 _ rfl
  refine lv_dup S.1 S.2.1 d_L_law_11 rfl ?_
  have hA2 : ∀ q : Nat, va_A [(h0, .inr (1, f0M))] H2.size q → lwA s q := fun q h => by
    rcases va_A1 h with rfl | h
    · exact hh0
    · exact Nat.le_trans hS.1 h
  refine va_callv (va_runI S (c_M_init l G h0 H2.size) ⟨m_callB S k_M_init wL_L_49 ⟨rfl, rfl, Nat.le_of_ble_eq_true rfl, Nat.le_of_ble_eq_true rfl⟩, rfl, S.2.2.2.2 _ wi_M_init⟩ (As := []) (i_pre hK hPm) rfl rfl hl.1 rfl (lv_room (Nat.le_of_ble_eq_true rfl)) d_L_law_12 ⟨(Nat.le_of_ble_eq_true rfl), (Nat.le_of_ble_eq_true rfl)⟩) hS (fun q _ h => hA2 q h) hA2 (fun b1 t H3 locs ht _ hb1 hB hz hk hS => ?_)
  subst ht
  obtain ⟨hMP, hMD⟩ := hB
  have hoff : ∀ q, inA a q → ¬ va_A [(h0, .inr (1, f0M))] H2.size q := fun q h1 h2 => by
    rcases va_A1 h2 with rfl | h2
    · exact hne h1
    · exact absurd (hTP.lt q h1) (Nat.not_lt.mpr h2)
  have hAB : ∀ q, inA a q → ¬ inB b1 q := fun q h1 h2 => hoff q h1 (hMD.sub q h2)
  have hTP : tP G a v0T t.heap := hTP.kept (fun q h => hk q (hTP.lt q h) (hoff q h))
  have hME : mD b1 (lwA s) := hMD.weaken (fun q h => hA2 q (hMD.sub q h))
  subst hb1
  refine lv_astore_n S.1 S.2.1 d_L_law_15 rfl hl (by decide) rfl (fun ls hl => ?_)
  refine lv_iconst (v := nI 1) S.1 S.2.1 d_L_law_16 (by decide) ?_
  have hPD : va_P G.1 cls2 (tw G a v0T ++ md G b1 u0M) t.heap := hTP.app hMP
  have hDD : va_D (lwA s) (tw G a v0T ++ md G b1 u0M) := (hTD G v0T).app (hME G u0M) (fun i j x y hx hy hxy => hAB _ (tw_inA hx) (by rw [hxy]; exact md_inB hy))
  refine g_newa (atype := .long) S hK wA_long (ty := .long) rfl (fun C h => by cases h) 2 (cA := G.2.2.2.1) rfl hPD hDD hS hA (a0 := (1, .inr (.inl (fun _ => 0)))) (N' := 1) (fun cA => rfl) (nI_pos (by decide)) (nI_clamp (by decide)) (by decide) (Nat.le_of_ble_eq_true rfl) (Nat.le_of_ble_eq_true rfl) d_L_law_17 (fun oo H hP hD hS => ?_)
  have hoP : oP G oo (fun _ => 0) H := hP.right
  have hTP : tP G a v0T H := hP.left.left
  have hMP : mP G b1 u0M H := hP.left.right
  have hoo : s.heap.size ≤ oo := hD.2 11 _ rfl
  have hoA : ¬ inA a oo := fun h => by
    obtain ⟨i, x, h1, h2⟩ := inA_tw (G := G) (v := v0T) h
    exact hD.apart (i := i) (x := x) (by rw [List.getElem?_append_left (List.getElem?_eq_some_iff.mp h1).1]; exact h1) (show ([oc G oo (fun _ => 0)] : va_W)[0]? = some _ from rfl) h2
  have hoB : ¬ inB b1 oo := fun h => by
    obtain ⟨i, x, h1, h2⟩ := inB_md (G := G) (u := u0M) h
    exact hD.apart (i := (tw G a v0T).length + i) (x := x) (by rw [List.getElem?_append_right (Nat.le_add_right _ _), Nat.add_sub_cancel_left]; exact h1) (show ([oc G oo (fun _ => 0)] : va_W)[0]? = some _ from rfl) h2
  refine lv_astore_n S.1 S.2.1 d_L_law_19 rfl hl (by decide) rfl (fun ls hl => ?_)
  refine lv_iconst (v := nI 0) S.1 S.2.1 d_L_law_20 (by decide) ?_
  refine lv_istore S.1 S.2.1 d_L_law_21 hl (by decide) rfl (fun ls hl => ?_)
  refine W.widen (k := 12 + 0) (n := 787816 + 6 * 0) (Nat.le_of_ble_eq_true rfl) (Nat.le_of_ble_eq_true rfl) ?_
  exact k_loop hfl S hr hlk ⟨hK, hth, hTD, hME, hoo, hAB, hoA, hoB⟩ hX hbl hL 512 0 rfl (by decide) v0T (fun _ => 0) u0M (fun _ _ => none) 1 H locs ls ⟨hTP, hoP, hMP, hS⟩ TI_0 MR_0 (by decide) hl
end
section
set_option maxHeartbeats 4000000 in
theorem lw_walk (l : Launch) (hfl : l.flags = pinnedFlags ++ [noTraceFlag]) (b : Addr) (xs : List Int32) : MetFree l x (headSpec (Jvm.Cond.code x code maxLocals ret :: tables_1) room_1) (lw_P b xs) (fun _ _ _ _ _ => True) lw_Q := by
  refine MetFree.of_bodyS (code := code) (maxLocals := maxLocals) (ret := ret) (by decide) ?_ ?_
  · intro args s m h hn
    obtain ⟨meth, c, h1, h2, h3, h4, h5, h6, -, -⟩ := Cond.code_spec hn (atoms_spec (ws := Jvm.Cond.code x code maxLocals ret :: tables_1) h _ List.mem_cons_self)
    exact ⟨meth, c, h1, h2, h3, h4, h5, h6⟩
  · intro p e s m args below meth c s₁ B hml0 hP _
    obtain ⟨rfl, hx, hbd, hgv⟩ := hP
    obtain ⟨scr, harrAt, hlist, hof, hsmall⟩ := hx
    obtain ⟨hcb, hkn, -, -⟩ := State.arrayAt?_spec harrAt
    have hown : s.vm.findClass R_law = some m.cls := findClass_of_methodNamed B.named
    have hts0 : ∀ c ∈ (Jvm.Cond.code x code maxLocals ret :: tables_1), c.before #[Value.ref b] s = true := atoms_spec (ws := Jvm.Cond.code x code maxLocals ret :: tables_1) B.pre
    have hts : ∀ w ∈ lw_tbl, w.before #[Value.ref b] s = true := k2_hts_sels lw_privs (fun w hw => hts0 w (List.mem_cons_of_mem _ hw)) lw_privs_ok
    have hml : c.maxLocals = 8 := B.maxLocals_eq (hts0 _ List.mem_cons_self)
    have X₀ : Stand p l e room_1 s m #[Value.ref b] below meth c s₁ [] 0 0 := Stand.of_body B
    have hh0 : s₁.heap = s.heap := by rw [B.state]; rfl
    have hsz : scr.slots.size = xs.length := by rw [← Array.length_toList, hlist, List.length_map]
    have hval : ∀ j : Nat, j < xs.length → scr.slots[j]? = some (.int (xs.getD j 0)) := fun j hj => by
      rw [← Array.getElem?_toList, hlist]
      simp [hj]
    have hbl : b < s.heap.size := (Array.getElem?_eq_some_iff.mp hcb).1
    have hX : va_X b xs.length (fun j => xs.getD j 0) s s.heap := ⟨scr, hcb, hof, hkn, hsz, hval⟩
    have K : W p l e room_1 s m #[Value.ref b] below meth c s₁.heap [] 0 0 (lw_Z below #[Value.ref b] s) (entryFrame m ([Value.ref b] : List Value).toArray 8) := by
      rw [hh0]
      exact whole_start l hfl hbd ⟨B.exec, B.bytes, B.returns, hml, hown, hts, hX, hbl, B.notSynchronized, hgv⟩
    obtain ⟨t, a1, o, b1, b2, b3⟩ := K s₁ rfl X₀
    exact ⟨t, o, a1, b1, b2, b3⟩
theorem lw_pre_spec {args : Array Value} {s : State} (h : (Jvm.Cond.and given_1 narrow_1).before args s = true) (hr : rest_1_c.before args s = true) : ∃ (b : Addr) (xs : List Int32), lw_P b xs args s := by
  have hs := flat_of_before _ h
  have hq := flat_of_before _ hr
  have hc : (Cond.count 1).before args s = true := hs _ (by decide +kernel)
  have harr : (Cond.arrayOf (.arg 0) .int).before args s = true := hs _ (by decide +kernel)
  have hle : (Cond.le (.length (.arg 0)) (.int 2048)).before args s = true := hs _ (by decide +kernel)
  have hlen : (Cond.isInt (.length (.arg 0))).before args s = true := hq _ (by decide +kernel)
  have hall : (Cond.all (.arg 0) (.isInt (.elem (.arg 0) (.index 0)))).before args s = true := hq _ (by decide +kernel)
  obtain ⟨b, xs, hb, hx⟩ := State.ints_of_pre rfl harr hlen hall
  have hsm : xs.length < 2 ^ 31 := hx.choose_spec.2.2.2
  have hev : (Term.length (.arg 0)).eval args s none [] s = some (.int xs.length.toInt32) := hx.length_eval hb
  have hv := Cond.le_ints hev (show (Term.int 2048).eval args s none [] s = some (.int 2048) from rfl)
  have hd : xs.length.toInt32 ≤ 2048 := by
    simpa [Cond.before, Cond.holds, hv] using hle
  have hN : xs.length ≤ 2048 := (Int32.ofNat_le_ofNat hsm (by decide)).mp (show Int32.ofNat xs.length ≤ Int32.ofNat 2048 from hd)
  exact ⟨b, xs, Cond.one_arg hc (show args[0]? = some (.ref b) from hb), hx, hN, h⟩
theorem lw_comes (l : Launch) (hfl : l.flags = pinnedFlags ++ [noTraceFlag]) : Comes l x (Jvm.Cond.code x code maxLocals ret :: tables_1) room_1 (fun tb e args s => Calls_1 tb e args s ∧ rest_1 tb e args s ∧ Pre_1 tb e args s)
    (fun _ _ args s o t => lw_Q args s o t) := by
  intro p e ha hc hk s m args below hf hfit hheap happ hpre
  obtain ⟨b, xs, hP⟩ := lw_pre_spec hpre.2.2 hpre.2.1
  obtain ⟨k, o, h1, h2, h3, hQ⟩ := lw_walk l hfl b xs p e ha hc hk s m args below hf ((Spec.applies_iff_loose hf).mp happ).1 hP trivial
  exact ⟨k, o, h1, h2, h3, hQ⟩
theorem lw_frame {s t : State} {o : Outcome} {args : Array Value} (h : Framed s o t [] 601024 7293034) :
    Framed s o t (fieldLocs frame_1_writes args s ++ arrayLocs frame_1_arrays args s ++ staticLocs frame_1_statics s) 601024 7293034 := h
theorem lw_limb (L : Cond) (hL : ∀ (args : Array Value) (s t : State), L.after args s (.returned (some (.int 1))) t = true) :
    ArmFor flags0 classFile x code maxLocals ret World_1 tables_1 room_1 Calls_1 rest_1 Pre_1
      (fun tb e a s o t => postC L tb e a s o t ∧ Framed s o t (fieldLocs frame_1_writes a s ++ arrayLocs frame_1_arrays a s ++ staticLocs frame_1_statics s) 601024 7293034) := by
  intro l hfl _ _ p e ha hc hk s m args below hf hfit hheap happ hpre
  obtain ⟨k, o, h1, h2, h3, rfl, hF⟩ := lw_comes l hfl p e ha hc hk s m args below hf hfit hheap happ hpre
  exact ⟨k, _, h1, h2, h3, hL args s _, lw_frame hF⟩
theorem i_vc : Claimed_1_1 ∧ Claimed_1_2 := ⟨lw_limb limb_1_1 (fun args s t => by simp [limb_1_1, Cond.after, Cond.holds, Cond.value]), lw_limb limb_1_2 (fun args s t => Cond.after_iff.mpr (by
  first | (rw [show limb_1_2 = Cond.eq .result (.int 1) from rfl, Cond.eq_ints (x := 1) (y := 1) rfl rfl]; simp; done) | (simp [limb_1_2, Cond.value, Term.eval]; done)))⟩
end
