section
-- PART A is the skeleton's own text (a starting text)
-- ===== PART A: goes FIRST, ahead of the names: the tables' words, and 'selects' of the private methods out of them =====
/-- a private method of a class that the tables say can be made, by its rows of tables_1 -/
def lw_okq (q : MethodName × Nat) : Prop := (q.1.cls ≠ "java/lang/invoke/MethodHandle" ∧ q.1.cls ≠ "java/lang/invoke/VarHandle") ∧ Cond.instantiable q.1.cls q.2 ∈ tables_1 ∧ Cond.privateMethod q.1 ∈ tables_1 ∧ Cond.instanceMethod q.1 ∈ tables_1
theorem lw_p0 : lw_okq (⟨"ClerkRows", "isNoTime", "(J)Z"⟩, 8) := ⟨⟨by decide +kernel, by decide +kernel⟩, List.mem_of_getElem? (i := 9) (by decide +kernel), List.mem_of_getElem? (i := 137) (by decide +kernel), List.mem_of_getElem? (i := 138) (by decide +kernel)⟩
theorem lw_p1 : lw_okq (⟨"ClerkRows", "pass", "(J)V"⟩, 8) := ⟨⟨by decide +kernel, by decide +kernel⟩, List.mem_of_getElem? (i := 9) (by decide +kernel), List.mem_of_getElem? (i := 141) (by decide +kernel), List.mem_of_getElem? (i := 142) (by decide +kernel)⟩
theorem lw_p2 : lw_okq (⟨"ClerkRows", "find", "(I)I"⟩, 8) := ⟨⟨by decide +kernel, by decide +kernel⟩, List.mem_of_getElem? (i := 9) (by decide +kernel), List.mem_of_getElem? (i := 151) (by decide +kernel), List.mem_of_getElem? (i := 152) (by decide +kernel)⟩
theorem lw_p3 : lw_okq (⟨"ClerkRows$Picture", "differs", "()Z"⟩, 10) := ⟨⟨by decide +kernel, by decide +kernel⟩, List.mem_of_getElem? (i := 84) (by decide +kernel), List.mem_of_getElem? (i := 159) (by decide +kernel), List.mem_of_getElem? (i := 160) (by decide +kernel)⟩
theorem lw_p4 : lw_okq (⟨"ClerkRows$Picture", "isTaken", "()Z"⟩, 10) := ⟨⟨by decide +kernel, by decide +kernel⟩, List.mem_of_getElem? (i := 84) (by decide +kernel), List.mem_of_getElem? (i := 164) (by decide +kernel), List.mem_of_getElem? (i := 165) (by decide +kernel)⟩
theorem lw_p5 : lw_okq (⟨"ClerkRows", "isPicture", "(I)Z"⟩, 8) := ⟨⟨by decide +kernel, by decide +kernel⟩, List.mem_of_getElem? (i := 9) (by decide +kernel), List.mem_of_getElem? (i := 176) (by decide +kernel), List.mem_of_getElem? (i := 177) (by decide +kernel)⟩
theorem lw_p6 : lw_okq (⟨"ClerkRows$Picture", "finish", "(I)V"⟩, 10) := ⟨⟨by decide +kernel, by decide +kernel⟩, List.mem_of_getElem? (i := 84) (by decide +kernel), List.mem_of_getElem? (i := 185) (by decide +kernel), List.mem_of_getElem? (i := 186) (by decide +kernel)⟩
theorem lw_p7 : lw_okq (⟨"ClerkRows", "giveBack", "(I)V"⟩, 8) := ⟨⟨by decide +kernel, by decide +kernel⟩, List.mem_of_getElem? (i := 9) (by decide +kernel), List.mem_of_getElem? (i := 216) (by decide +kernel), List.mem_of_getElem? (i := 217) (by decide +kernel)⟩
theorem lw_p8 : lw_okq (⟨"ClerkRowsModel", "isTime", "(J)Z"⟩, 17) := ⟨⟨by decide +kernel, by decide +kernel⟩, List.mem_of_getElem? (i := 245) (by decide +kernel), List.mem_of_getElem? (i := 309) (by decide +kernel), List.mem_of_getElem? (i := 310) (by decide +kernel)⟩
theorem lw_p9 : lw_okq (⟨"ClerkRowsModel", "open", "()I"⟩, 17) := ⟨⟨by decide +kernel, by decide +kernel⟩, List.mem_of_getElem? (i := 245) (by decide +kernel), List.mem_of_getElem? (i := 318) (by decide +kernel), List.mem_of_getElem? (i := 319) (by decide +kernel)⟩
theorem lw_p10 : lw_okq (⟨"ClerkRowsModel", "held", "(I)I"⟩, 17) := ⟨⟨by decide +kernel, by decide +kernel⟩, List.mem_of_getElem? (i := 245) (by decide +kernel), List.mem_of_getElem? (i := 330) (by decide +kernel), List.mem_of_getElem? (i := 331) (by decide +kernel)⟩
theorem lw_p11 : lw_okq (⟨"ClerkRowsModel", "pass", "(J)V"⟩, 17) := ⟨⟨by decide +kernel, by decide +kernel⟩, List.mem_of_getElem? (i := 245) (by decide +kernel), List.mem_of_getElem? (i := 334) (by decide +kernel), List.mem_of_getElem? (i := 335) (by decide +kernel)⟩
theorem lw_p12 : lw_okq (⟨"ClerkRowsModel", "isFree", "(II)Z"⟩, 17) := ⟨⟨by decide +kernel, by decide +kernel⟩, List.mem_of_getElem? (i := 245) (by decide +kernel), List.mem_of_getElem? (i := 338) (by decide +kernel), List.mem_of_getElem? (i := 339) (by decide +kernel)⟩
theorem lw_p13 : lw_okq (⟨"ClerkRowsModel", "isTaken", "(I)Z"⟩, 17) := ⟨⟨by decide +kernel, by decide +kernel⟩, List.mem_of_getElem? (i := 245) (by decide +kernel), List.mem_of_getElem? (i := 342) (by decide +kernel), List.mem_of_getElem? (i := 343) (by decide +kernel)⟩
theorem lw_p14 : lw_okq (⟨"ClerkRowsModel", "differ", "(I)Z"⟩, 17) := ⟨⟨by decide +kernel, by decide +kernel⟩, List.mem_of_getElem? (i := 245) (by decide +kernel), List.mem_of_getElem? (i := 346) (by decide +kernel), List.mem_of_getElem? (i := 347) (by decide +kernel)⟩
theorem lw_p15 : lw_okq (⟨"ClerkRowsModel", "isPicture", "(I)Z"⟩, 17) := ⟨⟨by decide +kernel, by decide +kernel⟩, List.mem_of_getElem? (i := 245) (by decide +kernel), List.mem_of_getElem? (i := 354) (by decide +kernel), List.mem_of_getElem? (i := 355) (by decide +kernel)⟩
def lw_privs_1 : List (MethodName × Nat) := [(⟨"ClerkRows", "isNoTime", "(J)Z"⟩, 8), (⟨"ClerkRows", "pass", "(J)V"⟩, 8), (⟨"ClerkRows", "find", "(I)I"⟩, 8), (⟨"ClerkRows$Picture", "differs", "()Z"⟩, 10), (⟨"ClerkRows$Picture", "isTaken", "()Z"⟩, 10), (⟨"ClerkRows", "isPicture", "(I)Z"⟩, 8), (⟨"ClerkRows$Picture", "finish", "(I)V"⟩, 10), (⟨"ClerkRows", "giveBack", "(I)V"⟩, 8), (⟨"ClerkRowsModel", "isTime", "(J)Z"⟩, 17), (⟨"ClerkRowsModel", "open", "()I"⟩, 17), (⟨"ClerkRowsModel", "held", "(I)I"⟩, 17), (⟨"ClerkRowsModel", "pass", "(J)V"⟩, 17), (⟨"ClerkRowsModel", "isFree", "(II)Z"⟩, 17), (⟨"ClerkRowsModel", "isTaken", "(I)Z"⟩, 17), (⟨"ClerkRowsModel", "differ", "(I)Z"⟩, 17), (⟨"ClerkRowsModel", "isPicture", "(I)Z"⟩, 17)]
theorem lw_r1 : ∀ q ∈ lw_privs_1, lw_okq q := List.forall_mem_cons.mpr ⟨lw_p0, List.forall_mem_cons.mpr ⟨lw_p1, List.forall_mem_cons.mpr ⟨lw_p2, List.forall_mem_cons.mpr ⟨lw_p3, List.forall_mem_cons.mpr ⟨lw_p4, List.forall_mem_cons.mpr ⟨lw_p5, List.forall_mem_cons.mpr ⟨lw_p6, List.forall_mem_cons.mpr ⟨lw_p7, List.forall_mem_cons.mpr ⟨lw_p8, List.forall_mem_cons.mpr ⟨lw_p9, List.forall_mem_cons.mpr ⟨lw_p10, List.forall_mem_cons.mpr ⟨lw_p11, List.forall_mem_cons.mpr ⟨lw_p12, List.forall_mem_cons.mpr ⟨lw_p13, List.forall_mem_cons.mpr ⟨lw_p14, List.forall_mem_cons.mpr ⟨lw_p15, fun _ h => absurd h List.not_mem_nil⟩⟩⟩⟩⟩⟩⟩⟩⟩⟩⟩⟩⟩⟩⟩⟩
theorem lw_p16 : lw_okq (⟨"ClerkRowsModel", "take", "(II)V"⟩, 17) := ⟨⟨by decide +kernel, by decide +kernel⟩, List.mem_of_getElem? (i := 245) (by decide +kernel), List.mem_of_getElem? (i := 359) (by decide +kernel), List.mem_of_getElem? (i := 360) (by decide +kernel)⟩
theorem lw_p17 : lw_okq (⟨"ClerkRowsModel", "stateOf", "(I)I"⟩, 17) := ⟨⟨by decide +kernel, by decide +kernel⟩, List.mem_of_getElem? (i := 245) (by decide +kernel), List.mem_of_getElem? (i := 363) (by decide +kernel), List.mem_of_getElem? (i := 364) (by decide +kernel)⟩
def lw_privs_2 : List (MethodName × Nat) := [(⟨"ClerkRowsModel", "take", "(II)V"⟩, 17), (⟨"ClerkRowsModel", "stateOf", "(I)I"⟩, 17)]
theorem lw_r2 : ∀ q ∈ lw_privs_2, lw_okq q := List.forall_mem_cons.mpr ⟨lw_p16, List.forall_mem_cons.mpr ⟨lw_p17, fun _ h => absurd h List.not_mem_nil⟩⟩
def lw_privs : List (MethodName × Nat) := lw_privs_1 ++ (lw_privs_2)
def lw_tbl : List Cond := k2_sels lw_privs ++ tables_1
theorem lw_privs_ok : ∀ q ∈ lw_privs, lw_okq q := by
  show ∀ q ∈ lw_privs_1 ++ (lw_privs_2), lw_okq q
  exact List.forall_mem_append.mpr ⟨lw_r1, lw_r2⟩
def R_law : String := "ClerkRowsLaw"
/-! names: methods, their bytes -/
def y_CR_init : MethodName := ⟨"ClerkRows", "<init>", "(I)V"⟩
abbrev b_CR_init : ByteArray := prog_1_method_2_code
def y_Ma_min : MethodName := ⟨"java/lang/Math", "min", "(II)I"⟩
abbrev b_Ma_min : ByteArray := prog_8_method_69_code
def y_Ma_max : MethodName := ⟨"java/lang/Math", "max", "(II)I"⟩
abbrev b_Ma_max : ByteArray := prog_8_method_65_code
def y_Ck_init : MethodName := ⟨"ClerkRows$Clerk", "<init>", "()V"⟩
abbrev b_Ck_init : ByteArray := prog_2_method_1_code
def y_CR_picture : MethodName := ⟨"ClerkRows", "picture", "(JI)I"⟩
abbrev b_CR_picture : ByteArray := prog_1_method_7_code
def y_CR_outside : MethodName := ⟨"ClerkRows", "outside", "(JJJ)Z"⟩
abbrev b_CR_outside : ByteArray := prog_1_method_1_code
def y_Pi_init : MethodName := ⟨"ClerkRows$Picture", "<init>", "(JI)V"⟩
abbrev b_Pi_init : ByteArray := prog_4_method_1_code
def y_CR_give : MethodName := ⟨"ClerkRows", "give", "(IJ)I"⟩
abbrev b_CR_give : ByteArray := prog_1_method_9_code
def y_CR_isClerk : MethodName := ⟨"ClerkRows", "isClerk", "(I)Z"⟩
abbrev b_CR_isClerk : ByteArray := prog_1_method_3_code
def y_CR_isNoTime : MethodName := ⟨"ClerkRows", "isNoTime", "(J)Z"⟩
abbrev b_CR_isNoTime : ByteArray := prog_1_method_5_code
def y_CR_pass : MethodName := ⟨"ClerkRows", "pass", "(J)V"⟩
abbrev b_CR_pass : ByteArray := prog_1_method_6_code
def y_Pi_isOver : MethodName := ⟨"ClerkRows$Picture", "isOver", "()Z"⟩
abbrev b_Pi_isOver : ByteArray := prog_4_method_2_code
def y_CR_find : MethodName := ⟨"ClerkRows", "find", "(I)I"⟩
abbrev b_CR_find : ByteArray := prog_1_method_8_code
def y_Pi_isFree : MethodName := ⟨"ClerkRows$Picture", "isFree", "(ILClerkRows$Clerk;)Z"⟩
abbrev b_Pi_isFree : ByteArray := prog_4_method_6_code
def y_Pi_differs : MethodName := ⟨"ClerkRows$Picture", "differs", "()Z"⟩
abbrev b_Pi_differs : ByteArray := prog_4_method_3_code
def y_Pi_isTaken : MethodName := ⟨"ClerkRows$Picture", "isTaken", "()Z"⟩
abbrev b_Pi_isTaken : ByteArray := prog_4_method_5_code
def y_Pi_wants : MethodName := ⟨"ClerkRows$Picture", "wants", "()I"⟩
abbrev b_Pi_wants : ByteArray := prog_4_method_4_code
def y_CR_answer : MethodName := ⟨"ClerkRows", "answer", "(IIIJ)I"⟩
abbrev b_CR_answer : ByteArray := prog_1_method_10_code
def y_CR_isPicture : MethodName := ⟨"ClerkRows", "isPicture", "(I)Z"⟩
abbrev b_CR_isPicture : ByteArray := prog_1_method_4_code
def y_Pi_add : MethodName := ⟨"ClerkRows$Picture", "add", "(I)V"⟩
abbrev b_Pi_add : ByteArray := prog_4_method_9_code
def y_Pi_finish : MethodName := ⟨"ClerkRows$Picture", "finish", "(I)V"⟩
abbrev b_Pi_finish : ByteArray := prog_4_method_8_code
def y_Pi_state : MethodName := ⟨"ClerkRows$Picture", "state", "()I"⟩
abbrev b_Pi_state : ByteArray := prog_4_method_7_code
def y_Eu_ordinal : MethodName := ⟨"java/lang/Enum", "ordinal", "()I"⟩
abbrev b_Eu_ordinal : ByteArray := prog_7_method_2_code
def y_CR_office : MethodName := ⟨"ClerkRows", "office", "(III)I"⟩
abbrev b_CR_office : ByteArray := prog_1_method_11_code
def y_Ck_is : MethodName := ⟨"ClerkRows$Clerk", "is", "(II)Z"⟩
abbrev b_Ck_is : ByteArray := prog_2_method_2_code
def y_CR_leave : MethodName := ⟨"ClerkRows", "leave", "(I)I"⟩
abbrev b_CR_leave : ByteArray := prog_1_method_13_code
def y_CR_giveBack : MethodName := ⟨"ClerkRows", "giveBack", "(I)V"⟩
abbrev b_CR_giveBack : ByteArray := prog_1_method_12_code
def y_CR_tick : MethodName := ⟨"ClerkRows", "tick", "(J)I"⟩
abbrev b_CR_tick : ByteArray := prog_1_method_14_code
def y_CR_settled : MethodName := ⟨"ClerkRows", "settled", "(I)I"⟩
abbrev b_CR_settled : ByteArray := prog_1_method_15_code
def y_CR_state : MethodName := ⟨"ClerkRows", "state", "(I)I"⟩
abbrev b_CR_state : ByteArray := prog_1_method_16_code
def y_CR_agreement : MethodName := ⟨"ClerkRows", "agreement", "(III)J"⟩
abbrev b_CR_agreement : ByteArray := prog_1_method_17_code
def y_CR_waiting : MethodName := ⟨"ClerkRows", "waiting", "()I"⟩
abbrev b_CR_waiting : ByteArray := prog_1_method_18_code
def y_La_cell : MethodName := ⟨"ClerkRowsLaw", "cell", "([II)I"⟩
abbrev b_La_cell : ByteArray := method_2_code
def y_Mo_init : MethodName := ⟨"ClerkRowsModel", "<init>", "(I)V"⟩
abbrev b_Mo_init : ByteArray := prog_6_method_1_code
def y_Mo_picture : MethodName := ⟨"ClerkRowsModel", "picture", "(JI)I"⟩
abbrev b_Mo_picture : ByteArray := prog_6_method_8_code
def y_Mo_isTime : MethodName := ⟨"ClerkRowsModel", "isTime", "(J)Z"⟩
abbrev b_Mo_isTime : ByteArray := prog_6_method_6_code
def y_Mo_isIn : MethodName := ⟨"ClerkRowsModel", "isIn", "(JJJ)Z"⟩
abbrev b_Mo_isIn : ByteArray := prog_6_method_3_code
def y_Mo_opn : MethodName := ⟨"ClerkRowsModel", "open", "()I"⟩
abbrev b_Mo_opn : ByteArray := prog_6_method_7_code
def y_Mo_give : MethodName := ⟨"ClerkRowsModel", "give", "(IJ)I"⟩
abbrev b_Mo_give : ByteArray := prog_6_method_14_code
def y_Mo_isClerk : MethodName := ⟨"ClerkRowsModel", "isClerk", "(I)Z"⟩
abbrev b_Mo_isClerk : ByteArray := prog_6_method_5_code
def y_Mo_held : MethodName := ⟨"ClerkRowsModel", "held", "(I)I"⟩
abbrev b_Mo_held : ByteArray := prog_6_method_10_code
def y_Mo_pass : MethodName := ⟨"ClerkRowsModel", "pass", "(J)V"⟩
abbrev b_Mo_pass : ByteArray := prog_6_method_9_code
def y_Mo_isFree : MethodName := ⟨"ClerkRowsModel", "isFree", "(II)Z"⟩
abbrev b_Mo_isFree : ByteArray := prog_6_method_13_code
def y_Mo_isTaken : MethodName := ⟨"ClerkRowsModel", "isTaken", "(I)Z"⟩
abbrev b_Mo_isTaken : ByteArray := prog_6_method_12_code
def y_Mo_differ : MethodName := ⟨"ClerkRowsModel", "differ", "(I)Z"⟩
abbrev b_Mo_differ : ByteArray := prog_6_method_11_code
def y_Mo_answer : MethodName := ⟨"ClerkRowsModel", "answer", "(IIIJ)I"⟩
abbrev b_Mo_answer : ByteArray := prog_6_method_17_code
def y_Mo_isPicture : MethodName := ⟨"ClerkRowsModel", "isPicture", "(I)Z"⟩
abbrev b_Mo_isPicture : ByteArray := prog_6_method_4_code
def y_Mo_take : MethodName := ⟨"ClerkRowsModel", "take", "(II)V"⟩
abbrev b_Mo_take : ByteArray := prog_6_method_16_code
def y_Mo_stateOf : MethodName := ⟨"ClerkRowsModel", "stateOf", "(I)I"⟩
abbrev b_Mo_stateOf : ByteArray := prog_6_method_15_code
def y_Mo_office : MethodName := ⟨"ClerkRowsModel", "office", "(III)I"⟩
abbrev b_Mo_office : ByteArray := prog_6_method_18_code
def y_Mo_leave : MethodName := ⟨"ClerkRowsModel", "leave", "(I)I"⟩
abbrev b_Mo_leave : ByteArray := prog_6_method_19_code
def y_Mo_tick : MethodName := ⟨"ClerkRowsModel", "tick", "(J)I"⟩
abbrev b_Mo_tick : ByteArray := prog_6_method_20_code
def y_Mo_settled : MethodName := ⟨"ClerkRowsModel", "settled", "(I)I"⟩
abbrev b_Mo_settled : ByteArray := prog_6_method_21_code
def y_Mo_state : MethodName := ⟨"ClerkRowsModel", "state", "(I)I"⟩
abbrev b_Mo_state : ByteArray := prog_6_method_22_code
def y_Mo_agreement : MethodName := ⟨"ClerkRowsModel", "agreement", "(III)J"⟩
abbrev b_Mo_agreement : ByteArray := prog_6_method_23_code
def y_Mo_waiting : MethodName := ⟨"ClerkRowsModel", "waiting", "()I"⟩
abbrev b_Mo_waiting : ByteArray := prog_6_method_24_code
abbrev b_La_law : ByteArray := code
/-! the words that every contract rests on: those of the tables that stay when something is resolved -/
def gtb : List Cond := lw_tbl.filter goodWord
theorem gtb_hts {args : Array Value} {s : State} (h : ∀ w ∈ lw_tbl, w.before args s = true) : ∀ w ∈ gtb, w.before args s = true := fun w hw => h w (List.mem_filter.mp hw).1
theorem gtb_good : ∀ w ∈ gtb, (w.onTables && w.keeps) = true ∨ ∃ ty, w = .arrayClass ty := fun w hw => good_of_word (List.mem_filter.mp hw).2
theorem gt_0 {w : Cond} (h : w ∈ k2_sels lw_privs) (g : goodWord w = true) : w ∈ gtb := List.mem_filter.mpr ⟨List.mem_append_left _ h, g⟩
theorem gt_1 {w : Cond} (h : w ∈ tables_1_1) (g : goodWord w = true) : w ∈ gtb := List.mem_filter.mpr ⟨List.mem_append_right _ (List.mem_append_left _ h), g⟩
theorem gt_2 {w : Cond} (h : w ∈ tables_1_2) (g : goodWord w = true) : w ∈ gtb := List.mem_filter.mpr ⟨List.mem_append_right _ (List.mem_append_right _ h), g⟩
theorem wd_0 : Cond.selects "ClerkRows" y_CR_isNoTime y_CR_isNoTime ∈ gtb := gt_0 (List.mem_of_getElem? (i := 0) rfl) rfl
theorem wd_1 : Cond.selects "ClerkRows" y_CR_pass y_CR_pass ∈ gtb := gt_0 (List.mem_of_getElem? (i := 1) rfl) rfl
theorem wd_2 : Cond.selects "ClerkRows" y_CR_find y_CR_find ∈ gtb := gt_0 (List.mem_of_getElem? (i := 2) rfl) rfl
theorem wd_3 : Cond.selects "ClerkRows$Picture" y_Pi_differs y_Pi_differs ∈ gtb := gt_0 (List.mem_of_getElem? (i := 3) rfl) rfl
theorem wd_4 : Cond.selects "ClerkRows$Picture" y_Pi_isTaken y_Pi_isTaken ∈ gtb := gt_0 (List.mem_of_getElem? (i := 4) rfl) rfl
theorem wd_5 : Cond.selects "ClerkRows" y_CR_isPicture y_CR_isPicture ∈ gtb := gt_0 (List.mem_of_getElem? (i := 5) rfl) rfl
theorem wd_6 : Cond.selects "ClerkRows$Picture" y_Pi_finish y_Pi_finish ∈ gtb := gt_0 (List.mem_of_getElem? (i := 6) rfl) rfl
theorem wd_7 : Cond.selects "ClerkRows" y_CR_giveBack y_CR_giveBack ∈ gtb := gt_0 (List.mem_of_getElem? (i := 7) rfl) rfl
theorem wd_8 : Cond.selects "ClerkRowsModel" y_Mo_isTime y_Mo_isTime ∈ gtb := gt_0 (List.mem_of_getElem? (i := 8) rfl) rfl
theorem wd_9 : Cond.selects "ClerkRowsModel" y_Mo_opn y_Mo_opn ∈ gtb := gt_0 (List.mem_of_getElem? (i := 9) rfl) rfl
theorem wd_10 : Cond.selects "ClerkRowsModel" y_Mo_held y_Mo_held ∈ gtb := gt_0 (List.mem_of_getElem? (i := 10) rfl) rfl
theorem wd_11 : Cond.selects "ClerkRowsModel" y_Mo_pass y_Mo_pass ∈ gtb := gt_0 (List.mem_of_getElem? (i := 11) rfl) rfl
theorem wd_12 : Cond.selects "ClerkRowsModel" y_Mo_isFree y_Mo_isFree ∈ gtb := gt_0 (List.mem_of_getElem? (i := 12) rfl) rfl
theorem wd_13 : Cond.selects "ClerkRowsModel" y_Mo_isTaken y_Mo_isTaken ∈ gtb := gt_0 (List.mem_of_getElem? (i := 13) rfl) rfl
theorem wd_14 : Cond.selects "ClerkRowsModel" y_Mo_differ y_Mo_differ ∈ gtb := gt_0 (List.mem_of_getElem? (i := 14) rfl) rfl
theorem wd_15 : Cond.selects "ClerkRowsModel" y_Mo_isPicture y_Mo_isPicture ∈ gtb := gt_0 (List.mem_of_getElem? (i := 15) rfl) rfl
theorem wd_16 : Cond.selects "ClerkRowsModel" y_Mo_take y_Mo_take ∈ gtb := gt_0 (List.mem_of_getElem? (i := 16) rfl) rfl
theorem wd_17 : Cond.selects "ClerkRowsModel" y_Mo_stateOf y_Mo_stateOf ∈ gtb := gt_0 (List.mem_of_getElem? (i := 17) rfl) rfl
theorem wd_18 : Cond.initialized "ClerkRowsLaw" ∈ gtb := gt_1 (List.mem_of_getElem? (i := 0) rfl) rfl
theorem wd_19 : Cond.initialized "ClerkRows" ∈ gtb := gt_1 (List.mem_of_getElem? (i := 1) rfl) rfl
theorem wd_20 : Cond.initialized "java/lang/Math" ∈ gtb := gt_1 (List.mem_of_getElem? (i := 2) rfl) rfl
theorem wd_21 : Cond.initialized "ClerkRows$Clerk" ∈ gtb := gt_1 (List.mem_of_getElem? (i := 3) rfl) rfl
theorem wd_22 : Cond.initialized "ClerkRowsModel" ∈ gtb := gt_1 (List.mem_of_getElem? (i := 4) rfl) rfl
theorem wd_23 : Cond.initialized "ClerkRows$Picture" ∈ gtb := gt_1 (List.mem_of_getElem? (i := 5) rfl) rfl
theorem wd_24 : Cond.initialized "java/lang/Enum" ∈ gtb := gt_1 (List.mem_of_getElem? (i := 6) rfl) rfl
theorem wd_25 : Cond.initialized "ClerkRows$End" ∈ gtb := gt_1 (List.mem_of_getElem? (i := 7) rfl) rfl
theorem wd_26 : Cond.classLink "ClerkRowsLaw" 7 "ClerkRows" ∈ gtb := gt_1 (List.mem_of_getElem? (i := 8) rfl) rfl
theorem wd_27 : Cond.instantiable "ClerkRows" 8 ∈ gtb := gt_1 (List.mem_of_getElem? (i := 9) rfl) rfl
theorem wd_28 : Cond.methodLink "ClerkRowsLaw" 15 y_CR_init ∈ gtb := gt_1 (List.mem_of_getElem? (i := 10) rfl) rfl
theorem wd_29 : Cond.instanceMethod y_CR_init ∈ gtb := gt_1 (List.mem_of_getElem? (i := 11) rfl) rfl
theorem wd_30 : Cond.code y_CR_init prog_1_method_2_code 3 none ∈ gtb := gt_1 (List.mem_of_getElem? (i := 12) rfl) rfl
theorem wd_31 : Cond.methodLink "ClerkRows" 1 objectInit ∈ gtb := gt_1 (List.mem_of_getElem? (i := 13) rfl) rfl
theorem wd_32 : Cond.instanceMethod objectInit ∈ gtb := gt_1 (List.mem_of_getElem? (i := 14) rfl) rfl
theorem wd_33 : Cond.code objectInit ⟨#[0xb1]⟩ 1 none ∈ gtb := gt_1 (List.mem_of_getElem? (i := 15) rfl) rfl
theorem wd_34 : Cond.classLink "ClerkRows" 9 "ClerkRows$Picture" ∈ gtb := gt_1 (List.mem_of_getElem? (i := 16) rfl) rfl
theorem wd_36 : Cond.classLink "ClerkRows" 15 "ClerkRows$Clerk" ∈ gtb := gt_1 (List.mem_of_getElem? (i := 18) rfl) rfl
theorem wd_38 : Cond.methodLink "ClerkRows" 25 y_Ma_min ∈ gtb := gt_1 (List.mem_of_getElem? (i := 20) rfl) rfl
theorem wd_39 : Cond.static y_Ma_min ∈ gtb := gt_1 (List.mem_of_getElem? (i := 21) rfl) rfl
theorem wd_40 : Cond.code y_Ma_min prog_8_method_69_code 2 (some .int) ∈ gtb := gt_1 (List.mem_of_getElem? (i := 22) rfl) rfl
theorem wd_41 : Cond.methodLink "ClerkRows" 31 y_Ma_max ∈ gtb := gt_1 (List.mem_of_getElem? (i := 23) rfl) rfl
theorem wd_42 : Cond.static y_Ma_max ∈ gtb := gt_1 (List.mem_of_getElem? (i := 24) rfl) rfl
theorem wd_43 : Cond.code y_Ma_max prog_8_method_65_code 2 (some .int) ∈ gtb := gt_1 (List.mem_of_getElem? (i := 25) rfl) rfl
theorem wd_44 : Cond.instantiable "ClerkRows$Clerk" 4 ∈ gtb := gt_1 (List.mem_of_getElem? (i := 26) rfl) rfl
theorem wd_46 : Cond.instanceMethod y_Ck_init ∈ gtb := gt_1 (List.mem_of_getElem? (i := 28) rfl) rfl
theorem wd_47 : Cond.code y_Ck_init prog_2_method_1_code 1 none ∈ gtb := gt_1 (List.mem_of_getElem? (i := 29) rfl) rfl
theorem wd_48 : Cond.methodLink "ClerkRows$Clerk" 1 objectInit ∈ gtb := gt_1 (List.mem_of_getElem? (i := 30) rfl) rfl
theorem wd_49 : Cond.fieldLink "ClerkRows$Clerk" 7 "ClerkRows$Clerk" "in" "Z" ∈ gtb := gt_1 (List.mem_of_getElem? (i := 31) rfl) rfl
theorem wd_51 : Cond.fieldLink "ClerkRows$Clerk" 13 "ClerkRows$Clerk" "office" "I" ∈ gtb := gt_1 (List.mem_of_getElem? (i := 33) rfl) rfl
theorem wd_54 : Cond.fieldLink "ClerkRows$Clerk" 17 "ClerkRows$Clerk" "skill" "I" ∈ gtb := gt_1 (List.mem_of_getElem? (i := 36) rfl) rfl
theorem wd_58 : Cond.lays "ClerkRows$Clerk" "ClerkRows$Clerk" "in" "Z" ∈ gtb := gt_1 (List.mem_of_getElem? (i := 40) rfl) rfl
theorem wd_60 : Cond.lays "ClerkRows$Clerk" "ClerkRows$Clerk" "office" "I" ∈ gtb := gt_1 (List.mem_of_getElem? (i := 42) rfl) rfl
theorem wd_62 : Cond.lays "ClerkRows$Clerk" "ClerkRows$Clerk" "skill" "I" ∈ gtb := gt_1 (List.mem_of_getElem? (i := 44) rfl) rfl
theorem wd_64 : Cond.lays "ClerkRows$Clerk" "ClerkRows$Clerk" "holds" "LClerkRows$Picture;" ∈ gtb := gt_1 (List.mem_of_getElem? (i := 46) rfl) rfl
theorem wd_67 : Cond.arrayClass .int ∈ gtb := gt_1 (List.mem_of_getElem? (i := 49) rfl) rfl
theorem wd_68 : Cond.fieldLink "ClerkRows" 34 "ClerkRows" "bound" "I" ∈ gtb := gt_1 (List.mem_of_getElem? (i := 50) rfl) rfl
theorem wd_69 : Cond.fieldLink "ClerkRows" 11 "ClerkRows" "pictures" "[LClerkRows$Picture;" ∈ gtb := gt_1 (List.mem_of_getElem? (i := 51) rfl) rfl
theorem wd_70 : Cond.fieldLink "ClerkRows" 39 "ClerkRows" "count" "I" ∈ gtb := gt_1 (List.mem_of_getElem? (i := 52) rfl) rfl
theorem wd_71 : Cond.fieldLink "ClerkRows" 17 "ClerkRows" "clerks" "[LClerkRows$Clerk;" ∈ gtb := gt_1 (List.mem_of_getElem? (i := 53) rfl) rfl
theorem wd_72 : Cond.fieldLink "ClerkRows" 21 "ClerkRows" "gotIn" "[I" ∈ gtb := gt_1 (List.mem_of_getElem? (i := 54) rfl) rfl
theorem wd_73 : Cond.fieldLink "ClerkRows" 42 "ClerkRows" "now" "J" ∈ gtb := gt_1 (List.mem_of_getElem? (i := 55) rfl) rfl
theorem wd_74 : Cond.fieldLink "ClerkRows" 68 "ClerkRows" "late" "I" ∈ gtb := gt_1 (List.mem_of_getElem? (i := 56) rfl) rfl
theorem wd_75 : Cond.fieldLink "ClerkRows" 71 "ClerkRows" "open" "I" ∈ gtb := gt_1 (List.mem_of_getElem? (i := 57) rfl) rfl
theorem wd_76 : Cond.laysFinal "ClerkRows" "ClerkRows" "bound" "I" ∈ gtb := gt_1 (List.mem_of_getElem? (i := 58) rfl) rfl
theorem wd_78 : Cond.laysFinal "ClerkRows" "ClerkRows" "pictures" "[LClerkRows$Picture;" ∈ gtb := gt_1 (List.mem_of_getElem? (i := 60) rfl) rfl
theorem wd_80 : Cond.lays "ClerkRows" "ClerkRows" "count" "I" ∈ gtb := gt_1 (List.mem_of_getElem? (i := 62) rfl) rfl
theorem wd_82 : Cond.laysFinal "ClerkRows" "ClerkRows" "clerks" "[LClerkRows$Clerk;" ∈ gtb := gt_1 (List.mem_of_getElem? (i := 64) rfl) rfl
theorem wd_84 : Cond.laysFinal "ClerkRows" "ClerkRows" "gotIn" "[I" ∈ gtb := gt_1 (List.mem_of_getElem? (i := 66) rfl) rfl
theorem wd_86 : Cond.lays "ClerkRows" "ClerkRows" "now" "J" ∈ gtb := gt_1 (List.mem_of_getElem? (i := 68) rfl) rfl
theorem wd_88 : Cond.lays "ClerkRows" "ClerkRows" "late" "I" ∈ gtb := gt_1 (List.mem_of_getElem? (i := 70) rfl) rfl
theorem wd_90 : Cond.lays "ClerkRows" "ClerkRows" "open" "I" ∈ gtb := gt_1 (List.mem_of_getElem? (i := 72) rfl) rfl
theorem wd_93 : Cond.methodLink "ClerkRowsLaw" 23 y_CR_picture ∈ gtb := gt_1 (List.mem_of_getElem? (i := 75) rfl) rfl
theorem wd_94 : Cond.instanceMethod y_CR_picture ∈ gtb := gt_1 (List.mem_of_getElem? (i := 76) rfl) rfl
theorem wd_95 : Cond.selects "ClerkRows" y_CR_picture y_CR_picture ∈ gtb := gt_1 (List.mem_of_getElem? (i := 77) rfl) rfl
theorem wd_96 : Cond.code y_CR_picture prog_1_method_7_code 4 (some .int) ∈ gtb := gt_1 (List.mem_of_getElem? (i := 78) rfl) rfl
theorem wd_97 : Cond.constantLong "ClerkRows" 46 (1000000000 : Int64) ∈ gtb := gt_1 (List.mem_of_getElem? (i := 79) rfl) rfl
theorem wd_98 : Cond.methodLink "ClerkRows" 48 y_CR_outside ∈ gtb := gt_1 (List.mem_of_getElem? (i := 80) rfl) rfl
theorem wd_99 : Cond.static y_CR_outside ∈ gtb := gt_1 (List.mem_of_getElem? (i := 81) rfl) rfl
theorem wd_100 : Cond.code y_CR_outside prog_1_method_1_code 6 (some .boolean) ∈ gtb := gt_1 (List.mem_of_getElem? (i := 82) rfl) rfl
theorem wd_101 : Cond.constantLong "ClerkRows" 74 (3 : Int64) ∈ gtb := gt_1 (List.mem_of_getElem? (i := 83) rfl) rfl
theorem wd_102 : Cond.instantiable "ClerkRows$Picture" 10 ∈ gtb := gt_1 (List.mem_of_getElem? (i := 84) rfl) rfl
theorem wd_103 : Cond.methodLink "ClerkRows" 76 y_Pi_init ∈ gtb := gt_1 (List.mem_of_getElem? (i := 85) rfl) rfl
theorem wd_104 : Cond.instanceMethod y_Pi_init ∈ gtb := gt_1 (List.mem_of_getElem? (i := 86) rfl) rfl
theorem wd_105 : Cond.code y_Pi_init prog_4_method_1_code 5 none ∈ gtb := gt_1 (List.mem_of_getElem? (i := 87) rfl) rfl
theorem wd_106 : Cond.methodLink "ClerkRows$Picture" 3 objectInit ∈ gtb := gt_1 (List.mem_of_getElem? (i := 88) rfl) rfl
theorem wd_107 : Cond.fieldLink "ClerkRows$Picture" 18 "ClerkRows$End" "NOT" "LClerkRows$End;" ∈ gtb := gt_1 (List.mem_of_getElem? (i := 89) rfl) rfl
theorem wd_109 : Cond.fieldLink "ClerkRows$Picture" 27 "ClerkRows$Picture" "due" "J" ∈ gtb := gt_1 (List.mem_of_getElem? (i := 91) rfl) rfl
theorem wd_111 : Cond.fieldLink "ClerkRows$Picture" 31 "ClerkRows$Picture" "skill" "I" ∈ gtb := gt_1 (List.mem_of_getElem? (i := 93) rfl) rfl
theorem wd_112 : Cond.fieldLink "ClerkRows$Picture" 64 "ClerkRows$Picture" "had" "I" ∈ gtb := gt_1 (List.mem_of_getElem? (i := 94) rfl) rfl
theorem wd_114 : Cond.fieldLink "ClerkRows$Picture" 9 "ClerkRows$Picture" "said" "[I" ∈ gtb := gt_1 (List.mem_of_getElem? (i := 96) rfl) rfl
theorem wd_116 : Cond.fieldLink "ClerkRows$Picture" 49 "ClerkRows$Picture" "offices" "I" ∈ gtb := gt_1 (List.mem_of_getElem? (i := 98) rfl) rfl
theorem wd_118 : Cond.fieldLink "ClerkRows$Picture" 15 "ClerkRows$Picture" "entries" "[I" ∈ gtb := gt_1 (List.mem_of_getElem? (i := 100) rfl) rfl
theorem wd_119 : Cond.fieldLink "ClerkRows$Picture" 35 "ClerkRows$Picture" "count" "I" ∈ gtb := gt_1 (List.mem_of_getElem? (i := 101) rfl) rfl
theorem wd_120 : Cond.fieldLink "ClerkRows$Picture" 42 "ClerkRows$Picture" "holders" "I" ∈ gtb := gt_1 (List.mem_of_getElem? (i := 102) rfl) rfl
theorem wd_122 : Cond.fieldLink "ClerkRows$Picture" 24 "ClerkRows$Picture" "end" "LClerkRows$End;" ∈ gtb := gt_1 (List.mem_of_getElem? (i := 104) rfl) rfl
theorem wd_124 : Cond.fieldLink "ClerkRows$Picture" 70 "ClerkRows$Picture" "entry" "I" ∈ gtb := gt_1 (List.mem_of_getElem? (i := 106) rfl) rfl
theorem wd_126 : Cond.laysFinal "ClerkRows$Picture" "ClerkRows$Picture" "due" "J" ∈ gtb := gt_1 (List.mem_of_getElem? (i := 108) rfl) rfl
theorem wd_128 : Cond.laysFinal "ClerkRows$Picture" "ClerkRows$Picture" "skill" "I" ∈ gtb := gt_1 (List.mem_of_getElem? (i := 110) rfl) rfl
theorem wd_130 : Cond.lays "ClerkRows$Picture" "ClerkRows$Picture" "had" "I" ∈ gtb := gt_1 (List.mem_of_getElem? (i := 112) rfl) rfl
theorem wd_132 : Cond.laysFinal "ClerkRows$Picture" "ClerkRows$Picture" "said" "[I" ∈ gtb := gt_1 (List.mem_of_getElem? (i := 114) rfl) rfl
theorem wd_134 : Cond.lays "ClerkRows$Picture" "ClerkRows$Picture" "offices" "I" ∈ gtb := gt_1 (List.mem_of_getElem? (i := 116) rfl) rfl
theorem wd_136 : Cond.laysFinal "ClerkRows$Picture" "ClerkRows$Picture" "entries" "[I" ∈ gtb := gt_1 (List.mem_of_getElem? (i := 118) rfl) rfl
theorem wd_138 : Cond.lays "ClerkRows$Picture" "ClerkRows$Picture" "count" "I" ∈ gtb := gt_1 (List.mem_of_getElem? (i := 120) rfl) rfl
theorem wd_140 : Cond.lays "ClerkRows$Picture" "ClerkRows$Picture" "holders" "I" ∈ gtb := gt_1 (List.mem_of_getElem? (i := 122) rfl) rfl
theorem wd_142 : Cond.lays "ClerkRows$Picture" "ClerkRows$Picture" "end" "LClerkRows$End;" ∈ gtb := gt_1 (List.mem_of_getElem? (i := 124) rfl) rfl
theorem wd_144 : Cond.lays "ClerkRows$Picture" "ClerkRows$Picture" "entry" "I" ∈ gtb := gt_1 (List.mem_of_getElem? (i := 126) rfl) rfl
theorem wd_147 : Cond.methodLink "ClerkRowsLaw" 28 y_CR_give ∈ gtb := gt_1 (List.mem_of_getElem? (i := 129) rfl) rfl
theorem wd_148 : Cond.instanceMethod y_CR_give ∈ gtb := gt_1 (List.mem_of_getElem? (i := 130) rfl) rfl
theorem wd_149 : Cond.selects "ClerkRows" y_CR_give y_CR_give ∈ gtb := gt_1 (List.mem_of_getElem? (i := 131) rfl) rfl
theorem wd_150 : Cond.code y_CR_give prog_1_method_9_code 6 (some .int) ∈ gtb := gt_1 (List.mem_of_getElem? (i := 132) rfl) rfl
theorem wd_151 : Cond.methodLink "ClerkRows" 83 y_CR_isClerk ∈ gtb := gt_1 (List.mem_of_getElem? (i := 133) rfl) rfl
theorem wd_152 : Cond.static y_CR_isClerk ∈ gtb := gt_1 (List.mem_of_getElem? (i := 134) rfl) rfl
theorem wd_153 : Cond.code y_CR_isClerk prog_1_method_3_code 1 (some .boolean) ∈ gtb := gt_1 (List.mem_of_getElem? (i := 135) rfl) rfl
theorem wd_154 : Cond.methodLink "ClerkRows" 87 y_CR_isNoTime ∈ gtb := gt_1 (List.mem_of_getElem? (i := 136) rfl) rfl
theorem wd_156 : Cond.instanceMethod y_CR_isNoTime ∈ gtb := gt_1 (List.mem_of_getElem? (i := 138) rfl) rfl
theorem wd_157 : Cond.code y_CR_isNoTime prog_1_method_5_code 3 (some .boolean) ∈ gtb := gt_1 (List.mem_of_getElem? (i := 139) rfl) rfl
theorem wd_158 : Cond.methodLink "ClerkRows" 99 y_CR_pass ∈ gtb := gt_1 (List.mem_of_getElem? (i := 140) rfl) rfl
theorem wd_160 : Cond.instanceMethod y_CR_pass ∈ gtb := gt_1 (List.mem_of_getElem? (i := 142) rfl) rfl
theorem wd_161 : Cond.code y_CR_pass prog_1_method_6_code 4 none ∈ gtb := gt_1 (List.mem_of_getElem? (i := 143) rfl) rfl
theorem wd_162 : Cond.methodLink "ClerkRows" 52 y_Pi_isOver ∈ gtb := gt_1 (List.mem_of_getElem? (i := 144) rfl) rfl
theorem wd_163 : Cond.instanceMethod y_Pi_isOver ∈ gtb := gt_1 (List.mem_of_getElem? (i := 145) rfl) rfl
theorem wd_164 : Cond.selects "ClerkRows$Picture" y_Pi_isOver y_Pi_isOver ∈ gtb := gt_1 (List.mem_of_getElem? (i := 146) rfl) rfl
theorem wd_165 : Cond.code y_Pi_isOver prog_4_method_2_code 1 (some .boolean) ∈ gtb := gt_1 (List.mem_of_getElem? (i := 147) rfl) rfl
theorem wd_166 : Cond.fieldLink "ClerkRows" 59 "ClerkRows$End" "LATE" "LClerkRows$End;" ∈ gtb := gt_1 (List.mem_of_getElem? (i := 148) rfl) rfl
theorem wd_168 : Cond.methodLink "ClerkRows" 103 y_CR_find ∈ gtb := gt_1 (List.mem_of_getElem? (i := 150) rfl) rfl
theorem wd_170 : Cond.instanceMethod y_CR_find ∈ gtb := gt_1 (List.mem_of_getElem? (i := 152) rfl) rfl
theorem wd_171 : Cond.code y_CR_find prog_1_method_8_code 5 (some .int) ∈ gtb := gt_1 (List.mem_of_getElem? (i := 153) rfl) rfl
theorem wd_172 : Cond.methodLink "ClerkRows" 79 y_Pi_isFree ∈ gtb := gt_1 (List.mem_of_getElem? (i := 154) rfl) rfl
theorem wd_173 : Cond.instanceMethod y_Pi_isFree ∈ gtb := gt_1 (List.mem_of_getElem? (i := 155) rfl) rfl
theorem wd_174 : Cond.selects "ClerkRows$Picture" y_Pi_isFree y_Pi_isFree ∈ gtb := gt_1 (List.mem_of_getElem? (i := 156) rfl) rfl
theorem wd_175 : Cond.code y_Pi_isFree prog_4_method_6_code 4 (some .boolean) ∈ gtb := gt_1 (List.mem_of_getElem? (i := 157) rfl) rfl
theorem wd_176 : Cond.methodLink "ClerkRows$Picture" 38 y_Pi_differs ∈ gtb := gt_1 (List.mem_of_getElem? (i := 158) rfl) rfl
theorem wd_178 : Cond.instanceMethod y_Pi_differs ∈ gtb := gt_1 (List.mem_of_getElem? (i := 160) rfl) rfl
theorem wd_179 : Cond.code y_Pi_differs prog_4_method_3_code 1 (some .boolean) ∈ gtb := gt_1 (List.mem_of_getElem? (i := 161) rfl) rfl
theorem wd_180 : Cond.methodLink "ClerkRows$Picture" 57 y_Pi_isOver ∈ gtb := gt_1 (List.mem_of_getElem? (i := 162) rfl) rfl
theorem wd_181 : Cond.methodLink "ClerkRows$Picture" 60 y_Pi_isTaken ∈ gtb := gt_1 (List.mem_of_getElem? (i := 163) rfl) rfl
theorem wd_183 : Cond.instanceMethod y_Pi_isTaken ∈ gtb := gt_1 (List.mem_of_getElem? (i := 165) rfl) rfl
theorem wd_184 : Cond.code y_Pi_isTaken prog_4_method_5_code 1 (some .boolean) ∈ gtb := gt_1 (List.mem_of_getElem? (i := 166) rfl) rfl
theorem wd_185 : Cond.methodLink "ClerkRows$Picture" 45 y_Pi_wants ∈ gtb := gt_1 (List.mem_of_getElem? (i := 167) rfl) rfl
theorem wd_186 : Cond.instanceMethod y_Pi_wants ∈ gtb := gt_1 (List.mem_of_getElem? (i := 168) rfl) rfl
theorem wd_187 : Cond.selects "ClerkRows$Picture" y_Pi_wants y_Pi_wants ∈ gtb := gt_1 (List.mem_of_getElem? (i := 169) rfl) rfl
theorem wd_188 : Cond.code y_Pi_wants prog_4_method_4_code 1 (some .int) ∈ gtb := gt_1 (List.mem_of_getElem? (i := 170) rfl) rfl
theorem wd_189 : Cond.methodLink "ClerkRowsLaw" 33 y_CR_answer ∈ gtb := gt_1 (List.mem_of_getElem? (i := 171) rfl) rfl
theorem wd_190 : Cond.instanceMethod y_CR_answer ∈ gtb := gt_1 (List.mem_of_getElem? (i := 172) rfl) rfl
theorem wd_191 : Cond.selects "ClerkRows" y_CR_answer y_CR_answer ∈ gtb := gt_1 (List.mem_of_getElem? (i := 173) rfl) rfl
theorem wd_192 : Cond.code y_CR_answer prog_1_method_10_code 9 (some .int) ∈ gtb := gt_1 (List.mem_of_getElem? (i := 174) rfl) rfl
theorem wd_193 : Cond.methodLink "ClerkRows" 119 y_CR_isPicture ∈ gtb := gt_1 (List.mem_of_getElem? (i := 175) rfl) rfl
theorem wd_195 : Cond.instanceMethod y_CR_isPicture ∈ gtb := gt_1 (List.mem_of_getElem? (i := 177) rfl) rfl
theorem wd_196 : Cond.code y_CR_isPicture prog_1_method_4_code 2 (some .boolean) ∈ gtb := gt_1 (List.mem_of_getElem? (i := 178) rfl) rfl
theorem wd_197 : Cond.constantLong "ClerkRows" 122 (9999 : Int64) ∈ gtb := gt_1 (List.mem_of_getElem? (i := 179) rfl) rfl
theorem wd_198 : Cond.methodLink "ClerkRows" 127 y_Pi_add ∈ gtb := gt_1 (List.mem_of_getElem? (i := 180) rfl) rfl
theorem wd_199 : Cond.instanceMethod y_Pi_add ∈ gtb := gt_1 (List.mem_of_getElem? (i := 181) rfl) rfl
theorem wd_200 : Cond.selects "ClerkRows$Picture" y_Pi_add y_Pi_add ∈ gtb := gt_1 (List.mem_of_getElem? (i := 182) rfl) rfl
theorem wd_201 : Cond.code y_Pi_add prog_4_method_9_code 4 none ∈ gtb := gt_1 (List.mem_of_getElem? (i := 183) rfl) rfl
theorem wd_202 : Cond.methodLink "ClerkRows$Picture" 79 y_Pi_finish ∈ gtb := gt_1 (List.mem_of_getElem? (i := 184) rfl) rfl
theorem wd_204 : Cond.instanceMethod y_Pi_finish ∈ gtb := gt_1 (List.mem_of_getElem? (i := 186) rfl) rfl
theorem wd_205 : Cond.code y_Pi_finish prog_4_method_8_code 2 none ∈ gtb := gt_1 (List.mem_of_getElem? (i := 187) rfl) rfl
theorem wd_206 : Cond.fieldLink "ClerkRows$Picture" 73 "ClerkRows$End" "SETTLED" "LClerkRows$End;" ∈ gtb := gt_1 (List.mem_of_getElem? (i := 188) rfl) rfl
theorem wd_208 : Cond.fieldLink "ClerkRows$Picture" 76 "ClerkRows$End" "UNREADABLE" "LClerkRows$End;" ∈ gtb := gt_1 (List.mem_of_getElem? (i := 190) rfl) rfl
theorem wd_210 : Cond.methodLink "ClerkRows" 131 y_Pi_state ∈ gtb := gt_1 (List.mem_of_getElem? (i := 192) rfl) rfl
theorem wd_211 : Cond.instanceMethod y_Pi_state ∈ gtb := gt_1 (List.mem_of_getElem? (i := 193) rfl) rfl
theorem wd_212 : Cond.selects "ClerkRows$Picture" y_Pi_state y_Pi_state ∈ gtb := gt_1 (List.mem_of_getElem? (i := 194) rfl) rfl
theorem wd_213 : Cond.code y_Pi_state prog_4_method_7_code 1 (some .int) ∈ gtb := gt_1 (List.mem_of_getElem? (i := 195) rfl) rfl
theorem wd_214 : Cond.methodLink "ClerkRows$Picture" 67 ⟨"ClerkRows$End", "ordinal", "()I"⟩ ∈ gtb := gt_1 (List.mem_of_getElem? (i := 196) rfl) rfl
theorem wd_215 : Cond.sameMethod "ClerkRows$End" "java/lang/Enum" "ordinal" "()I" ∈ gtb := gt_1 (List.mem_of_getElem? (i := 197) rfl) rfl
theorem wd_217 : Cond.selects "ClerkRows$End" ⟨"ClerkRows$End", "ordinal", "()I"⟩ y_Eu_ordinal ∈ gtb := gt_1 (List.mem_of_getElem? (i := 199) rfl) rfl
theorem wd_218 : Cond.instanceMethod y_Eu_ordinal ∈ gtb := gt_1 (List.mem_of_getElem? (i := 200) rfl) rfl
theorem wd_219 : Cond.code y_Eu_ordinal prog_7_method_2_code 1 (some .int) ∈ gtb := gt_1 (List.mem_of_getElem? (i := 201) rfl) rfl
theorem wd_220 : Cond.methodLink "ClerkRowsLaw" 38 y_CR_office ∈ gtb := gt_1 (List.mem_of_getElem? (i := 202) rfl) rfl
theorem wd_221 : Cond.instanceMethod y_CR_office ∈ gtb := gt_1 (List.mem_of_getElem? (i := 203) rfl) rfl
theorem wd_222 : Cond.selects "ClerkRows" y_CR_office y_CR_office ∈ gtb := gt_1 (List.mem_of_getElem? (i := 204) rfl) rfl
theorem wd_223 : Cond.code y_CR_office prog_1_method_11_code 6 (some .int) ∈ gtb := gt_1 (List.mem_of_getElem? (i := 205) rfl) rfl
theorem wd_224 : Cond.constantLong "ClerkRows" 135 (4 : Int64) ∈ gtb := gt_1 (List.mem_of_getElem? (i := 206) rfl) rfl
theorem wd_225 : Cond.methodLink "ClerkRows" 137 y_Ck_is ∈ gtb := gt_1 (List.mem_of_getElem? (i := 207) rfl) rfl
theorem wd_226 : Cond.instanceMethod y_Ck_is ∈ gtb := gt_1 (List.mem_of_getElem? (i := 208) rfl) rfl
theorem wd_227 : Cond.selects "ClerkRows$Clerk" y_Ck_is y_Ck_is ∈ gtb := gt_1 (List.mem_of_getElem? (i := 209) rfl) rfl
theorem wd_228 : Cond.code y_Ck_is prog_2_method_2_code 3 (some .boolean) ∈ gtb := gt_1 (List.mem_of_getElem? (i := 210) rfl) rfl
theorem wd_229 : Cond.methodLink "ClerkRowsLaw" 43 y_CR_leave ∈ gtb := gt_1 (List.mem_of_getElem? (i := 211) rfl) rfl
theorem wd_230 : Cond.instanceMethod y_CR_leave ∈ gtb := gt_1 (List.mem_of_getElem? (i := 212) rfl) rfl
theorem wd_231 : Cond.selects "ClerkRows" y_CR_leave y_CR_leave ∈ gtb := gt_1 (List.mem_of_getElem? (i := 213) rfl) rfl
theorem wd_232 : Cond.code y_CR_leave prog_1_method_13_code 3 (some .int) ∈ gtb := gt_1 (List.mem_of_getElem? (i := 214) rfl) rfl
theorem wd_233 : Cond.methodLink "ClerkRows" 144 y_CR_giveBack ∈ gtb := gt_1 (List.mem_of_getElem? (i := 215) rfl) rfl
theorem wd_235 : Cond.instanceMethod y_CR_giveBack ∈ gtb := gt_1 (List.mem_of_getElem? (i := 217) rfl) rfl
theorem wd_236 : Cond.code y_CR_giveBack prog_1_method_12_code 3 none ∈ gtb := gt_1 (List.mem_of_getElem? (i := 218) rfl) rfl
theorem wd_237 : Cond.methodLink "ClerkRowsLaw" 48 y_CR_tick ∈ gtb := gt_1 (List.mem_of_getElem? (i := 219) rfl) rfl
theorem wd_238 : Cond.instanceMethod y_CR_tick ∈ gtb := gt_1 (List.mem_of_getElem? (i := 220) rfl) rfl
theorem wd_239 : Cond.selects "ClerkRows" y_CR_tick y_CR_tick ∈ gtb := gt_1 (List.mem_of_getElem? (i := 221) rfl) rfl
theorem wd_240 : Cond.code y_CR_tick prog_1_method_14_code 4 (some .int) ∈ gtb := gt_1 (List.mem_of_getElem? (i := 222) rfl) rfl
theorem wd_241 : Cond.methodLink "ClerkRowsLaw" 53 y_CR_settled ∈ gtb := gt_1 (List.mem_of_getElem? (i := 223) rfl) rfl
theorem wd_242 : Cond.instanceMethod y_CR_settled ∈ gtb := gt_1 (List.mem_of_getElem? (i := 224) rfl) rfl
theorem wd_243 : Cond.selects "ClerkRows" y_CR_settled y_CR_settled ∈ gtb := gt_1 (List.mem_of_getElem? (i := 225) rfl) rfl
theorem wd_244 : Cond.code y_CR_settled prog_1_method_15_code 3 (some .int) ∈ gtb := gt_1 (List.mem_of_getElem? (i := 226) rfl) rfl
theorem wd_245 : Cond.methodLink "ClerkRowsLaw" 57 y_CR_state ∈ gtb := gt_1 (List.mem_of_getElem? (i := 227) rfl) rfl
theorem wd_246 : Cond.instanceMethod y_CR_state ∈ gtb := gt_1 (List.mem_of_getElem? (i := 228) rfl) rfl
theorem wd_247 : Cond.selects "ClerkRows" y_CR_state y_CR_state ∈ gtb := gt_1 (List.mem_of_getElem? (i := 229) rfl) rfl
theorem wd_248 : Cond.code y_CR_state prog_1_method_16_code 2 (some .int) ∈ gtb := gt_1 (List.mem_of_getElem? (i := 230) rfl) rfl
theorem wd_249 : Cond.methodLink "ClerkRowsLaw" 61 y_CR_agreement ∈ gtb := gt_1 (List.mem_of_getElem? (i := 231) rfl) rfl
theorem wd_250 : Cond.instanceMethod y_CR_agreement ∈ gtb := gt_1 (List.mem_of_getElem? (i := 232) rfl) rfl
theorem wd_251 : Cond.selects "ClerkRows" y_CR_agreement y_CR_agreement ∈ gtb := gt_1 (List.mem_of_getElem? (i := 233) rfl) rfl
theorem wd_252 : Cond.code y_CR_agreement prog_1_method_17_code 8 (some .long) ∈ gtb := gt_1 (List.mem_of_getElem? (i := 234) rfl) rfl
theorem wd_253 : Cond.constantLong "ClerkRows" 150 (-101 : Int64) ∈ gtb := gt_1 (List.mem_of_getElem? (i := 235) rfl) rfl
theorem wd_254 : Cond.constantLong "ClerkRows" 152 (-102 : Int64) ∈ gtb := gt_1 (List.mem_of_getElem? (i := 236) rfl) rfl
theorem wd_255 : Cond.methodLink "ClerkRowsLaw" 66 y_CR_waiting ∈ gtb := gt_1 (List.mem_of_getElem? (i := 237) rfl) rfl
theorem wd_256 : Cond.instanceMethod y_CR_waiting ∈ gtb := gt_1 (List.mem_of_getElem? (i := 238) rfl) rfl
theorem wd_257 : Cond.selects "ClerkRows" y_CR_waiting y_CR_waiting ∈ gtb := gt_1 (List.mem_of_getElem? (i := 239) rfl) rfl
theorem wd_258 : Cond.code y_CR_waiting prog_1_method_18_code 1 (some .int) ∈ gtb := gt_2 (List.mem_of_getElem? (i := 0) rfl) rfl
theorem wd_259 : Cond.methodLink "ClerkRowsLaw" 9 y_La_cell ∈ gtb := gt_2 (List.mem_of_getElem? (i := 1) rfl) rfl
theorem wd_260 : Cond.static y_La_cell ∈ gtb := gt_2 (List.mem_of_getElem? (i := 2) rfl) rfl
theorem wd_261 : Cond.code y_La_cell method_2_code 2 (some .int) ∈ gtb := gt_2 (List.mem_of_getElem? (i := 3) rfl) rfl
theorem wd_262 : Cond.classLink "ClerkRowsLaw" 18 "ClerkRowsModel" ∈ gtb := gt_2 (List.mem_of_getElem? (i := 4) rfl) rfl
theorem wd_263 : Cond.instantiable "ClerkRowsModel" 17 ∈ gtb := gt_2 (List.mem_of_getElem? (i := 5) rfl) rfl
theorem wd_264 : Cond.methodLink "ClerkRowsLaw" 20 y_Mo_init ∈ gtb := gt_2 (List.mem_of_getElem? (i := 6) rfl) rfl
theorem wd_265 : Cond.instanceMethod y_Mo_init ∈ gtb := gt_2 (List.mem_of_getElem? (i := 7) rfl) rfl
theorem wd_266 : Cond.code y_Mo_init prog_6_method_1_code 3 none ∈ gtb := gt_2 (List.mem_of_getElem? (i := 8) rfl) rfl
theorem wd_267 : Cond.methodLink "ClerkRowsModel" 1 objectInit ∈ gtb := gt_2 (List.mem_of_getElem? (i := 9) rfl) rfl
theorem wd_268 : Cond.fieldLink "ClerkRowsModel" 52 "ClerkRowsModel" "thrown" "I" ∈ gtb := gt_2 (List.mem_of_getElem? (i := 10) rfl) rfl
theorem wd_269 : Cond.fieldLink "ClerkRowsModel" 48 "ClerkRowsModel" "most" "I" ∈ gtb := gt_2 (List.mem_of_getElem? (i := 11) rfl) rfl
theorem wd_270 : Cond.fieldLink "ClerkRowsModel" 55 "ClerkRowsModel" "count" "I" ∈ gtb := gt_2 (List.mem_of_getElem? (i := 12) rfl) rfl
theorem wd_271 : Cond.fieldLink "ClerkRowsModel" 7 "ClerkRowsModel" "dues" "[J" ∈ gtb := gt_2 (List.mem_of_getElem? (i := 13) rfl) rfl
theorem wd_272 : Cond.fieldLink "ClerkRowsModel" 13 "ClerkRowsModel" "skills" "[I" ∈ gtb := gt_2 (List.mem_of_getElem? (i := 14) rfl) rfl
theorem wd_273 : Cond.fieldLink "ClerkRowsModel" 17 "ClerkRowsModel" "ends" "[I" ∈ gtb := gt_2 (List.mem_of_getElem? (i := 15) rfl) rfl
theorem wd_274 : Cond.fieldLink "ClerkRowsModel" 20 "ClerkRowsModel" "settled" "[I" ∈ gtb := gt_2 (List.mem_of_getElem? (i := 16) rfl) rfl
theorem wd_275 : Cond.fieldLink "ClerkRowsModel" 23 "ClerkRowsModel" "answers" "[I" ∈ gtb := gt_2 (List.mem_of_getElem? (i := 17) rfl) rfl
theorem wd_276 : Cond.fieldLink "ClerkRowsModel" 26 "ClerkRowsModel" "entries" "[I" ∈ gtb := gt_2 (List.mem_of_getElem? (i := 18) rfl) rfl
theorem wd_277 : Cond.fieldLink "ClerkRowsModel" 29 "ClerkRowsModel" "did" "[I" ∈ gtb := gt_2 (List.mem_of_getElem? (i := 19) rfl) rfl
theorem wd_278 : Cond.fieldLink "ClerkRowsModel" 32 "ClerkRowsModel" "where" "[I" ∈ gtb := gt_2 (List.mem_of_getElem? (i := 20) rfl) rfl
theorem wd_279 : Cond.fieldLink "ClerkRowsModel" 35 "ClerkRowsModel" "said" "[I" ∈ gtb := gt_2 (List.mem_of_getElem? (i := 21) rfl) rfl
theorem wd_280 : Cond.fieldLink "ClerkRowsModel" 38 "ClerkRowsModel" "in" "[Z" ∈ gtb := gt_2 (List.mem_of_getElem? (i := 22) rfl) rfl
theorem wd_281 : Cond.fieldLink "ClerkRowsModel" 42 "ClerkRowsModel" "offices" "[I" ∈ gtb := gt_2 (List.mem_of_getElem? (i := 23) rfl) rfl
theorem wd_282 : Cond.fieldLink "ClerkRowsModel" 45 "ClerkRowsModel" "levels" "[I" ∈ gtb := gt_2 (List.mem_of_getElem? (i := 24) rfl) rfl
theorem wd_283 : Cond.fieldLink "ClerkRowsModel" 64 "ClerkRowsModel" "now" "J" ∈ gtb := gt_2 (List.mem_of_getElem? (i := 25) rfl) rfl
theorem wd_284 : Cond.fieldLink "ClerkRowsModel" 80 "ClerkRowsModel" "late" "I" ∈ gtb := gt_2 (List.mem_of_getElem? (i := 26) rfl) rfl
theorem wd_285 : Cond.lays "ClerkRowsModel" "ClerkRowsModel" "thrown" "I" ∈ gtb := gt_2 (List.mem_of_getElem? (i := 27) rfl) rfl
theorem wd_287 : Cond.laysFinal "ClerkRowsModel" "ClerkRowsModel" "most" "I" ∈ gtb := gt_2 (List.mem_of_getElem? (i := 29) rfl) rfl
theorem wd_289 : Cond.lays "ClerkRowsModel" "ClerkRowsModel" "count" "I" ∈ gtb := gt_2 (List.mem_of_getElem? (i := 31) rfl) rfl
theorem wd_291 : Cond.laysFinal "ClerkRowsModel" "ClerkRowsModel" "dues" "[J" ∈ gtb := gt_2 (List.mem_of_getElem? (i := 33) rfl) rfl
theorem wd_293 : Cond.laysFinal "ClerkRowsModel" "ClerkRowsModel" "skills" "[I" ∈ gtb := gt_2 (List.mem_of_getElem? (i := 35) rfl) rfl
theorem wd_295 : Cond.laysFinal "ClerkRowsModel" "ClerkRowsModel" "ends" "[I" ∈ gtb := gt_2 (List.mem_of_getElem? (i := 37) rfl) rfl
theorem wd_297 : Cond.laysFinal "ClerkRowsModel" "ClerkRowsModel" "settled" "[I" ∈ gtb := gt_2 (List.mem_of_getElem? (i := 39) rfl) rfl
theorem wd_299 : Cond.laysFinal "ClerkRowsModel" "ClerkRowsModel" "answers" "[I" ∈ gtb := gt_2 (List.mem_of_getElem? (i := 41) rfl) rfl
theorem wd_301 : Cond.laysFinal "ClerkRowsModel" "ClerkRowsModel" "entries" "[I" ∈ gtb := gt_2 (List.mem_of_getElem? (i := 43) rfl) rfl
theorem wd_303 : Cond.laysFinal "ClerkRowsModel" "ClerkRowsModel" "did" "[I" ∈ gtb := gt_2 (List.mem_of_getElem? (i := 45) rfl) rfl
theorem wd_305 : Cond.laysFinal "ClerkRowsModel" "ClerkRowsModel" "where" "[I" ∈ gtb := gt_2 (List.mem_of_getElem? (i := 47) rfl) rfl
theorem wd_307 : Cond.laysFinal "ClerkRowsModel" "ClerkRowsModel" "said" "[I" ∈ gtb := gt_2 (List.mem_of_getElem? (i := 49) rfl) rfl
theorem wd_309 : Cond.laysFinal "ClerkRowsModel" "ClerkRowsModel" "in" "[Z" ∈ gtb := gt_2 (List.mem_of_getElem? (i := 51) rfl) rfl
theorem wd_311 : Cond.laysFinal "ClerkRowsModel" "ClerkRowsModel" "offices" "[I" ∈ gtb := gt_2 (List.mem_of_getElem? (i := 53) rfl) rfl
theorem wd_313 : Cond.laysFinal "ClerkRowsModel" "ClerkRowsModel" "levels" "[I" ∈ gtb := gt_2 (List.mem_of_getElem? (i := 55) rfl) rfl
theorem wd_315 : Cond.lays "ClerkRowsModel" "ClerkRowsModel" "now" "J" ∈ gtb := gt_2 (List.mem_of_getElem? (i := 57) rfl) rfl
theorem wd_317 : Cond.lays "ClerkRowsModel" "ClerkRowsModel" "late" "I" ∈ gtb := gt_2 (List.mem_of_getElem? (i := 59) rfl) rfl
theorem wd_320 : Cond.arrayClass .long ∈ gtb := gt_2 (List.mem_of_getElem? (i := 62) rfl) rfl
theorem wd_321 : Cond.arrayClass .boolean ∈ gtb := gt_2 (List.mem_of_getElem? (i := 63) rfl) rfl
theorem wd_322 : Cond.methodLink "ClerkRowsLaw" 27 y_Mo_picture ∈ gtb := gt_2 (List.mem_of_getElem? (i := 64) rfl) rfl
theorem wd_323 : Cond.instanceMethod y_Mo_picture ∈ gtb := gt_2 (List.mem_of_getElem? (i := 65) rfl) rfl
theorem wd_324 : Cond.selects "ClerkRowsModel" y_Mo_picture y_Mo_picture ∈ gtb := gt_2 (List.mem_of_getElem? (i := 66) rfl) rfl
theorem wd_325 : Cond.code y_Mo_picture prog_6_method_8_code 4 (some .int) ∈ gtb := gt_2 (List.mem_of_getElem? (i := 67) rfl) rfl
theorem wd_326 : Cond.methodLink "ClerkRowsModel" 70 y_Mo_isTime ∈ gtb := gt_2 (List.mem_of_getElem? (i := 68) rfl) rfl
theorem wd_328 : Cond.instanceMethod y_Mo_isTime ∈ gtb := gt_2 (List.mem_of_getElem? (i := 70) rfl) rfl
theorem wd_329 : Cond.code y_Mo_isTime prog_6_method_6_code 3 (some .boolean) ∈ gtb := gt_2 (List.mem_of_getElem? (i := 71) rfl) rfl
theorem wd_330 : Cond.constantLong "ClerkRowsModel" 68 (1000000000 : Int64) ∈ gtb := gt_2 (List.mem_of_getElem? (i := 72) rfl) rfl
theorem wd_331 : Cond.methodLink "ClerkRowsModel" 58 y_Mo_isIn ∈ gtb := gt_2 (List.mem_of_getElem? (i := 73) rfl) rfl
theorem wd_332 : Cond.static y_Mo_isIn ∈ gtb := gt_2 (List.mem_of_getElem? (i := 74) rfl) rfl
theorem wd_333 : Cond.code y_Mo_isIn prog_6_method_3_code 6 (some .boolean) ∈ gtb := gt_2 (List.mem_of_getElem? (i := 75) rfl) rfl
theorem wd_334 : Cond.constantLong "ClerkRowsModel" 74 (3 : Int64) ∈ gtb := gt_2 (List.mem_of_getElem? (i := 76) rfl) rfl
theorem wd_335 : Cond.methodLink "ClerkRowsModel" 76 y_Mo_opn ∈ gtb := gt_2 (List.mem_of_getElem? (i := 77) rfl) rfl
theorem wd_337 : Cond.instanceMethod y_Mo_opn ∈ gtb := gt_2 (List.mem_of_getElem? (i := 79) rfl) rfl
theorem wd_338 : Cond.code y_Mo_opn prog_6_method_7_code 3 (some .int) ∈ gtb := gt_2 (List.mem_of_getElem? (i := 80) rfl) rfl
theorem wd_339 : Cond.methodLink "ClerkRowsLaw" 32 y_Mo_give ∈ gtb := gt_2 (List.mem_of_getElem? (i := 81) rfl) rfl
theorem wd_340 : Cond.instanceMethod y_Mo_give ∈ gtb := gt_2 (List.mem_of_getElem? (i := 82) rfl) rfl
theorem wd_341 : Cond.selects "ClerkRowsModel" y_Mo_give y_Mo_give ∈ gtb := gt_2 (List.mem_of_getElem? (i := 83) rfl) rfl
theorem wd_342 : Cond.code y_Mo_give prog_6_method_14_code 6 (some .int) ∈ gtb := gt_2 (List.mem_of_getElem? (i := 84) rfl) rfl
theorem wd_343 : Cond.methodLink "ClerkRowsModel" 90 y_Mo_isClerk ∈ gtb := gt_2 (List.mem_of_getElem? (i := 85) rfl) rfl
theorem wd_344 : Cond.static y_Mo_isClerk ∈ gtb := gt_2 (List.mem_of_getElem? (i := 86) rfl) rfl
theorem wd_345 : Cond.code y_Mo_isClerk prog_6_method_5_code 1 (some .boolean) ∈ gtb := gt_2 (List.mem_of_getElem? (i := 87) rfl) rfl
theorem wd_346 : Cond.constantLong "ClerkRowsModel" 62 (19 : Int64) ∈ gtb := gt_2 (List.mem_of_getElem? (i := 88) rfl) rfl
theorem wd_347 : Cond.methodLink "ClerkRowsModel" 93 y_Mo_held ∈ gtb := gt_2 (List.mem_of_getElem? (i := 89) rfl) rfl
theorem wd_349 : Cond.instanceMethod y_Mo_held ∈ gtb := gt_2 (List.mem_of_getElem? (i := 91) rfl) rfl
theorem wd_350 : Cond.code y_Mo_held prog_6_method_10_code 4 (some .int) ∈ gtb := gt_2 (List.mem_of_getElem? (i := 92) rfl) rfl
theorem wd_351 : Cond.methodLink "ClerkRowsModel" 97 y_Mo_pass ∈ gtb := gt_2 (List.mem_of_getElem? (i := 93) rfl) rfl
theorem wd_353 : Cond.instanceMethod y_Mo_pass ∈ gtb := gt_2 (List.mem_of_getElem? (i := 95) rfl) rfl
theorem wd_354 : Cond.code y_Mo_pass prog_6_method_9_code 4 none ∈ gtb := gt_2 (List.mem_of_getElem? (i := 96) rfl) rfl
theorem wd_355 : Cond.methodLink "ClerkRowsModel" 101 y_Mo_isFree ∈ gtb := gt_2 (List.mem_of_getElem? (i := 97) rfl) rfl
theorem wd_357 : Cond.instanceMethod y_Mo_isFree ∈ gtb := gt_2 (List.mem_of_getElem? (i := 99) rfl) rfl
theorem wd_358 : Cond.code y_Mo_isFree prog_6_method_13_code 6 (some .boolean) ∈ gtb := gt_2 (List.mem_of_getElem? (i := 100) rfl) rfl
theorem wd_359 : Cond.methodLink "ClerkRowsModel" 87 y_Mo_isTaken ∈ gtb := gt_2 (List.mem_of_getElem? (i := 101) rfl) rfl
theorem wd_361 : Cond.instanceMethod y_Mo_isTaken ∈ gtb := gt_2 (List.mem_of_getElem? (i := 103) rfl) rfl
theorem wd_362 : Cond.code y_Mo_isTaken prog_6_method_12_code 4 (some .boolean) ∈ gtb := gt_2 (List.mem_of_getElem? (i := 104) rfl) rfl
theorem wd_363 : Cond.methodLink "ClerkRowsModel" 83 y_Mo_differ ∈ gtb := gt_2 (List.mem_of_getElem? (i := 105) rfl) rfl
theorem wd_365 : Cond.instanceMethod y_Mo_differ ∈ gtb := gt_2 (List.mem_of_getElem? (i := 107) rfl) rfl
theorem wd_366 : Cond.code y_Mo_differ prog_6_method_11_code 2 (some .boolean) ∈ gtb := gt_2 (List.mem_of_getElem? (i := 108) rfl) rfl
theorem wd_367 : Cond.methodLink "ClerkRowsLaw" 37 y_Mo_answer ∈ gtb := gt_2 (List.mem_of_getElem? (i := 109) rfl) rfl
theorem wd_368 : Cond.instanceMethod y_Mo_answer ∈ gtb := gt_2 (List.mem_of_getElem? (i := 110) rfl) rfl
theorem wd_369 : Cond.selects "ClerkRowsModel" y_Mo_answer y_Mo_answer ∈ gtb := gt_2 (List.mem_of_getElem? (i := 111) rfl) rfl
theorem wd_370 : Cond.code y_Mo_answer prog_6_method_17_code 6 (some .int) ∈ gtb := gt_2 (List.mem_of_getElem? (i := 112) rfl) rfl
theorem wd_371 : Cond.methodLink "ClerkRowsModel" 105 y_Mo_isPicture ∈ gtb := gt_2 (List.mem_of_getElem? (i := 113) rfl) rfl
theorem wd_373 : Cond.instanceMethod y_Mo_isPicture ∈ gtb := gt_2 (List.mem_of_getElem? (i := 115) rfl) rfl
theorem wd_374 : Cond.code y_Mo_isPicture prog_6_method_4_code 2 (some .boolean) ∈ gtb := gt_2 (List.mem_of_getElem? (i := 116) rfl) rfl
theorem wd_375 : Cond.constantLong "ClerkRowsModel" 108 (9999 : Int64) ∈ gtb := gt_2 (List.mem_of_getElem? (i := 117) rfl) rfl
theorem wd_376 : Cond.methodLink "ClerkRowsModel" 110 y_Mo_take ∈ gtb := gt_2 (List.mem_of_getElem? (i := 118) rfl) rfl
theorem wd_378 : Cond.instanceMethod y_Mo_take ∈ gtb := gt_2 (List.mem_of_getElem? (i := 120) rfl) rfl
theorem wd_379 : Cond.code y_Mo_take prog_6_method_16_code 6 none ∈ gtb := gt_2 (List.mem_of_getElem? (i := 121) rfl) rfl
theorem wd_380 : Cond.methodLink "ClerkRowsModel" 114 y_Mo_stateOf ∈ gtb := gt_2 (List.mem_of_getElem? (i := 122) rfl) rfl
theorem wd_382 : Cond.instanceMethod y_Mo_stateOf ∈ gtb := gt_2 (List.mem_of_getElem? (i := 124) rfl) rfl
theorem wd_383 : Cond.code y_Mo_stateOf prog_6_method_15_code 2 (some .int) ∈ gtb := gt_2 (List.mem_of_getElem? (i := 125) rfl) rfl
theorem wd_384 : Cond.methodLink "ClerkRowsLaw" 42 y_Mo_office ∈ gtb := gt_2 (List.mem_of_getElem? (i := 126) rfl) rfl
theorem wd_385 : Cond.instanceMethod y_Mo_office ∈ gtb := gt_2 (List.mem_of_getElem? (i := 127) rfl) rfl
theorem wd_386 : Cond.selects "ClerkRowsModel" y_Mo_office y_Mo_office ∈ gtb := gt_2 (List.mem_of_getElem? (i := 128) rfl) rfl
theorem wd_387 : Cond.code y_Mo_office prog_6_method_18_code 5 (some .int) ∈ gtb := gt_2 (List.mem_of_getElem? (i := 129) rfl) rfl
theorem wd_388 : Cond.constantLong "ClerkRowsModel" 117 (4 : Int64) ∈ gtb := gt_2 (List.mem_of_getElem? (i := 130) rfl) rfl
theorem wd_389 : Cond.methodLink "ClerkRowsLaw" 47 y_Mo_leave ∈ gtb := gt_2 (List.mem_of_getElem? (i := 131) rfl) rfl
theorem wd_390 : Cond.instanceMethod y_Mo_leave ∈ gtb := gt_2 (List.mem_of_getElem? (i := 132) rfl) rfl
theorem wd_391 : Cond.selects "ClerkRowsModel" y_Mo_leave y_Mo_leave ∈ gtb := gt_2 (List.mem_of_getElem? (i := 133) rfl) rfl
theorem wd_392 : Cond.code y_Mo_leave prog_6_method_19_code 3 (some .int) ∈ gtb := gt_2 (List.mem_of_getElem? (i := 134) rfl) rfl
theorem wd_393 : Cond.methodLink "ClerkRowsLaw" 52 y_Mo_tick ∈ gtb := gt_2 (List.mem_of_getElem? (i := 135) rfl) rfl
theorem wd_394 : Cond.instanceMethod y_Mo_tick ∈ gtb := gt_2 (List.mem_of_getElem? (i := 136) rfl) rfl
theorem wd_395 : Cond.selects "ClerkRowsModel" y_Mo_tick y_Mo_tick ∈ gtb := gt_2 (List.mem_of_getElem? (i := 137) rfl) rfl
theorem wd_396 : Cond.code y_Mo_tick prog_6_method_20_code 4 (some .int) ∈ gtb := gt_2 (List.mem_of_getElem? (i := 138) rfl) rfl
theorem wd_397 : Cond.methodLink "ClerkRowsLaw" 56 y_Mo_settled ∈ gtb := gt_2 (List.mem_of_getElem? (i := 139) rfl) rfl
theorem wd_398 : Cond.instanceMethod y_Mo_settled ∈ gtb := gt_2 (List.mem_of_getElem? (i := 140) rfl) rfl
theorem wd_399 : Cond.selects "ClerkRowsModel" y_Mo_settled y_Mo_settled ∈ gtb := gt_2 (List.mem_of_getElem? (i := 141) rfl) rfl
theorem wd_400 : Cond.code y_Mo_settled prog_6_method_21_code 2 (some .int) ∈ gtb := gt_2 (List.mem_of_getElem? (i := 142) rfl) rfl
theorem wd_401 : Cond.methodLink "ClerkRowsLaw" 60 y_Mo_state ∈ gtb := gt_2 (List.mem_of_getElem? (i := 143) rfl) rfl
theorem wd_402 : Cond.instanceMethod y_Mo_state ∈ gtb := gt_2 (List.mem_of_getElem? (i := 144) rfl) rfl
theorem wd_403 : Cond.selects "ClerkRowsModel" y_Mo_state y_Mo_state ∈ gtb := gt_2 (List.mem_of_getElem? (i := 145) rfl) rfl
theorem wd_404 : Cond.code y_Mo_state prog_6_method_22_code 2 (some .int) ∈ gtb := gt_2 (List.mem_of_getElem? (i := 146) rfl) rfl
theorem wd_405 : Cond.methodLink "ClerkRowsLaw" 65 y_Mo_agreement ∈ gtb := gt_2 (List.mem_of_getElem? (i := 147) rfl) rfl
theorem wd_406 : Cond.instanceMethod y_Mo_agreement ∈ gtb := gt_2 (List.mem_of_getElem? (i := 148) rfl) rfl
theorem wd_407 : Cond.selects "ClerkRowsModel" y_Mo_agreement y_Mo_agreement ∈ gtb := gt_2 (List.mem_of_getElem? (i := 149) rfl) rfl
theorem wd_408 : Cond.code y_Mo_agreement prog_6_method_23_code 8 (some .long) ∈ gtb := gt_2 (List.mem_of_getElem? (i := 150) rfl) rfl
theorem wd_409 : Cond.constantLong "ClerkRowsModel" 119 (-101 : Int64) ∈ gtb := gt_2 (List.mem_of_getElem? (i := 151) rfl) rfl
theorem wd_410 : Cond.constantLong "ClerkRowsModel" 121 (-102 : Int64) ∈ gtb := gt_2 (List.mem_of_getElem? (i := 152) rfl) rfl
theorem wd_411 : Cond.methodLink "ClerkRowsLaw" 70 y_Mo_waiting ∈ gtb := gt_2 (List.mem_of_getElem? (i := 153) rfl) rfl
theorem wd_412 : Cond.instanceMethod y_Mo_waiting ∈ gtb := gt_2 (List.mem_of_getElem? (i := 154) rfl) rfl
theorem wd_413 : Cond.selects "ClerkRowsModel" y_Mo_waiting y_Mo_waiting ∈ gtb := gt_2 (List.mem_of_getElem? (i := 155) rfl) rfl
theorem wd_414 : Cond.code y_Mo_waiting prog_6_method_24_code 1 (some .int) ∈ gtb := gt_2 (List.mem_of_getElem? (i := 156) rfl) rfl
theorem wd_415 : Cond.constantLong "ClerkRowsLaw" 21 (4294967295 : Int64) ∈ gtb := gt_2 (List.mem_of_getElem? (i := 157) rfl) rfl
theorem wd_416 : Cond.fieldLink "java/lang/Enum" 7 "java/lang/Enum" "ordinal" "I" ∈ gtb := gt_2 (List.mem_of_getElem? (i := 158) rfl) rfl
end
section
theorem d_CR_init_0 : decode b_CR_init 0 = .ok (.aload_n 0, 1) := by decide +kernel
theorem d_CR_init_1 : decode b_CR_init 1 = .ok (.invokespecial 1, 3) := by decide +kernel
theorem d_CR_init_4 : decode b_CR_init 4 = .ok (.aload_n 0, 1) := by decide +kernel
theorem d_CR_init_5 : decode b_CR_init 5 = .ok (.sipush 301, 3) := by decide +kernel
theorem d_CR_init_8 : decode b_CR_init 8 = .ok (.anewarray 9, 3) := by decide +kernel
theorem d_CR_init_11 : decode b_CR_init 11 = .ok (.putfield 11, 3) := by decide +kernel
theorem d_CR_init_14 : decode b_CR_init 14 = .ok (.aload_n 0, 1) := by decide +kernel
theorem d_CR_init_15 : decode b_CR_init 15 = .ok (.bipush 20, 2) := by decide +kernel
theorem d_CR_init_17 : decode b_CR_init 17 = .ok (.anewarray 15, 3) := by decide +kernel
theorem d_CR_init_20 : decode b_CR_init 20 = .ok (.putfield 17, 3) := by decide +kernel
theorem d_CR_init_23 : decode b_CR_init 23 = .ok (.aload_n 0, 1) := by decide +kernel
theorem d_CR_init_24 : decode b_CR_init 24 = .ok (.bipush 20, 2) := by decide +kernel
theorem d_CR_init_26 : decode b_CR_init 26 = .ok (.newarray .int, 2) := by decide +kernel
theorem d_CR_init_28 : decode b_CR_init 28 = .ok (.putfield 21, 3) := by decide +kernel
theorem d_CR_init_31 : decode b_CR_init 31 = .ok (.aload_n 0, 1) := by decide +kernel
theorem d_CR_init_32 : decode b_CR_init 32 = .ok (.iconst 1, 1) := by decide +kernel
theorem d_CR_init_33 : decode b_CR_init 33 = .ok (.iload_n 1, 1) := by decide +kernel
theorem d_CR_init_34 : decode b_CR_init 34 = .ok (.bipush 100, 2) := by decide +kernel
theorem d_CR_init_36 : decode b_CR_init 36 = .ok (.invokestatic 25, 3) := by decide +kernel
theorem d_CR_init_39 : decode b_CR_init 39 = .ok (.invokestatic 31, 3) := by decide +kernel
theorem d_CR_init_42 : decode b_CR_init 42 = .ok (.putfield 34, 3) := by decide +kernel
theorem d_CR_init_45 : decode b_CR_init 45 = .ok (.iconst 0, 1) := by decide +kernel
theorem d_CR_init_46 : decode b_CR_init 46 = .ok (.istore_n 2, 1) := by decide +kernel
theorem d_CR_init_47 : decode b_CR_init 47 = .ok (.iload_n 2, 1) := by decide +kernel
theorem d_CR_init_48 : decode b_CR_init 48 = .ok (.bipush 20, 2) := by decide +kernel
theorem d_CR_init_50 : decode b_CR_init 50 = .ok (.if_icmp .ge 22, 3) := by decide +kernel
theorem d_CR_init_53 : decode b_CR_init 53 = .ok (.aload_n 0, 1) := by decide +kernel
theorem d_CR_init_54 : decode b_CR_init 54 = .ok (.getfield 17, 3) := by decide +kernel
theorem d_CR_init_57 : decode b_CR_init 57 = .ok (.iload_n 2, 1) := by decide +kernel
theorem d_CR_init_58 : decode b_CR_init 58 = .ok (.new 15, 3) := by decide +kernel
theorem d_CR_init_61 : decode b_CR_init 61 = .ok (.dup, 1) := by decide +kernel
theorem d_CR_init_62 : decode b_CR_init 62 = .ok (.invokespecial 38, 3) := by decide +kernel
theorem d_CR_init_65 : decode b_CR_init 65 = .ok (.aastore, 1) := by decide +kernel
theorem d_CR_init_66 : decode b_CR_init 66 = .ok (.iinc 2 1, 3) := by decide +kernel
theorem d_CR_init_69 : decode b_CR_init 69 = .ok (.goto (-22), 3) := by decide +kernel
theorem d_CR_init_72 : decode b_CR_init 72 = .ok (.return_, 1) := by decide +kernel
theorem d_Ck_init_0 : decode b_Ck_init 0 = .ok (.aload_n 0, 1) := by decide +kernel
theorem d_Ck_init_1 : decode b_Ck_init 1 = .ok (.invokespecial 1, 3) := by decide +kernel
theorem d_Ck_init_4 : decode b_Ck_init 4 = .ok (.return_, 1) := by decide +kernel
theorem d_CR_picture_0 : decode b_CR_picture 0 = .ok (.lload_n 1, 1) := by decide +kernel
theorem d_CR_picture_1 : decode b_CR_picture 1 = .ok (.aload_n 0, 1) := by decide +kernel
theorem d_CR_picture_2 : decode b_CR_picture 2 = .ok (.getfield 42, 3) := by decide +kernel
theorem d_CR_picture_5 : decode b_CR_picture 5 = .ok (.ldc2_w 46, 3) := by decide +kernel
theorem d_CR_picture_8 : decode b_CR_picture 8 = .ok (.invokestatic 48, 3) := by decide +kernel
theorem d_CR_picture_11 : decode b_CR_picture 11 = .ok (.ifCond .ne 15, 3) := by decide +kernel
theorem d_CR_picture_14 : decode b_CR_picture 14 = .ok (.iload_n 3, 1) := by decide +kernel
theorem d_CR_picture_15 : decode b_CR_picture 15 = .ok (.i2l, 1) := by decide +kernel
theorem d_CR_picture_16 : decode b_CR_picture 16 = .ok (.lconst 0, 1) := by decide +kernel
theorem d_CR_picture_17 : decode b_CR_picture 17 = .ok (.ldc2_w 74, 3) := by decide +kernel
theorem d_CR_picture_20 : decode b_CR_picture 20 = .ok (.invokestatic 48, 3) := by decide +kernel
theorem d_CR_picture_23 : decode b_CR_picture 23 = .ok (.ifCond .eq 6, 3) := by decide +kernel
theorem d_CR_picture_26 : decode b_CR_picture 26 = .ok (.bipush (-102), 2) := by decide +kernel
theorem d_CR_picture_28 : decode b_CR_picture 28 = .ok (.ireturn, 1) := by decide +kernel
theorem d_CR_picture_29 : decode b_CR_picture 29 = .ok (.aload_n 0, 1) := by decide +kernel
theorem d_CR_picture_30 : decode b_CR_picture 30 = .ok (.getfield 39, 3) := by decide +kernel
theorem d_CR_picture_33 : decode b_CR_picture 33 = .ok (.sipush 300, 3) := by decide +kernel
theorem d_CR_picture_36 : decode b_CR_picture 36 = .ok (.if_icmp .ne 6, 3) := by decide +kernel
theorem d_CR_picture_39 : decode b_CR_picture 39 = .ok (.bipush (-104), 2) := by decide +kernel
theorem d_CR_picture_41 : decode b_CR_picture 41 = .ok (.ireturn, 1) := by decide +kernel
theorem d_CR_picture_42 : decode b_CR_picture 42 = .ok (.aload_n 0, 1) := by decide +kernel
theorem d_CR_picture_43 : decode b_CR_picture 43 = .ok (.getfield 71, 3) := by decide +kernel
theorem d_CR_picture_46 : decode b_CR_picture 46 = .ok (.aload_n 0, 1) := by decide +kernel
theorem d_CR_picture_47 : decode b_CR_picture 47 = .ok (.getfield 34, 3) := by decide +kernel
theorem d_CR_picture_50 : decode b_CR_picture 50 = .ok (.if_icmp .ne 5, 3) := by decide +kernel
theorem d_CR_picture_53 : decode b_CR_picture 53 = .ok (.iconst 0, 1) := by decide +kernel
theorem d_CR_picture_54 : decode b_CR_picture 54 = .ok (.ireturn, 1) := by decide +kernel
theorem d_CR_picture_55 : decode b_CR_picture 55 = .ok (.aload_n 0, 1) := by decide +kernel
theorem d_CR_picture_56 : decode b_CR_picture 56 = .ok (.dup, 1) := by decide +kernel
theorem d_CR_picture_57 : decode b_CR_picture 57 = .ok (.getfield 39, 3) := by decide +kernel
theorem d_CR_picture_60 : decode b_CR_picture 60 = .ok (.iconst 1, 1) := by decide +kernel
theorem d_CR_picture_61 : decode b_CR_picture 61 = .ok (.iadd, 1) := by decide +kernel
theorem d_CR_picture_62 : decode b_CR_picture 62 = .ok (.putfield 39, 3) := by decide +kernel
theorem d_CR_picture_65 : decode b_CR_picture 65 = .ok (.aload_n 0, 1) := by decide +kernel
theorem d_CR_picture_66 : decode b_CR_picture 66 = .ok (.dup, 1) := by decide +kernel
theorem d_CR_picture_67 : decode b_CR_picture 67 = .ok (.getfield 71, 3) := by decide +kernel
theorem d_CR_picture_70 : decode b_CR_picture 70 = .ok (.iconst 1, 1) := by decide +kernel
theorem d_CR_picture_71 : decode b_CR_picture 71 = .ok (.iadd, 1) := by decide +kernel
theorem d_CR_picture_72 : decode b_CR_picture 72 = .ok (.putfield 71, 3) := by decide +kernel
theorem d_CR_picture_75 : decode b_CR_picture 75 = .ok (.aload_n 0, 1) := by decide +kernel
theorem d_CR_picture_76 : decode b_CR_picture 76 = .ok (.getfield 11, 3) := by decide +kernel
theorem d_CR_picture_79 : decode b_CR_picture 79 = .ok (.aload_n 0, 1) := by decide +kernel
theorem d_CR_picture_80 : decode b_CR_picture 80 = .ok (.getfield 39, 3) := by decide +kernel
theorem d_CR_picture_83 : decode b_CR_picture 83 = .ok (.new 9, 3) := by decide +kernel
theorem d_CR_picture_86 : decode b_CR_picture 86 = .ok (.dup, 1) := by decide +kernel
theorem d_CR_picture_87 : decode b_CR_picture 87 = .ok (.lload_n 1, 1) := by decide +kernel
theorem d_CR_picture_88 : decode b_CR_picture 88 = .ok (.iload_n 3, 1) := by decide +kernel
theorem d_CR_picture_89 : decode b_CR_picture 89 = .ok (.invokespecial 76, 3) := by decide +kernel
theorem d_CR_picture_92 : decode b_CR_picture 92 = .ok (.aastore, 1) := by decide +kernel
theorem d_CR_picture_93 : decode b_CR_picture 93 = .ok (.aload_n 0, 1) := by decide +kernel
theorem d_CR_picture_94 : decode b_CR_picture 94 = .ok (.getfield 39, 3) := by decide +kernel
theorem d_CR_picture_97 : decode b_CR_picture 97 = .ok (.ireturn, 1) := by decide +kernel
theorem d_CR_outside_0 : decode b_CR_outside 0 = .ok (.lload_n 0, 1) := by decide +kernel
theorem d_CR_outside_1 : decode b_CR_outside 1 = .ok (.lload_n 2, 1) := by decide +kernel
theorem d_CR_outside_2 : decode b_CR_outside 2 = .ok (.lcmp, 1) := by decide +kernel
theorem d_CR_outside_3 : decode b_CR_outside 3 = .ok (.ifCond .lt 10, 3) := by decide +kernel
theorem d_CR_outside_6 : decode b_CR_outside 6 = .ok (.lload_n 0, 1) := by decide +kernel
theorem d_CR_outside_7 : decode b_CR_outside 7 = .ok (.lload 4, 2) := by decide +kernel
theorem d_CR_outside_9 : decode b_CR_outside 9 = .ok (.lcmp, 1) := by decide +kernel
theorem d_CR_outside_10 : decode b_CR_outside 10 = .ok (.ifCond .le 7, 3) := by decide +kernel
theorem d_CR_outside_13 : decode b_CR_outside 13 = .ok (.iconst 1, 1) := by decide +kernel
theorem d_CR_outside_14 : decode b_CR_outside 14 = .ok (.goto 4, 3) := by decide +kernel
theorem d_CR_outside_17 : decode b_CR_outside 17 = .ok (.iconst 0, 1) := by decide +kernel
theorem d_CR_outside_18 : decode b_CR_outside 18 = .ok (.ireturn, 1) := by decide +kernel
theorem d_Pi_init_0 : decode b_Pi_init 0 = .ok (.aload_n 0, 1) := by decide +kernel
theorem d_Pi_init_1 : decode b_Pi_init 1 = .ok (.invokespecial 3, 3) := by decide +kernel
theorem d_Pi_init_4 : decode b_Pi_init 4 = .ok (.aload_n 0, 1) := by decide +kernel
theorem d_Pi_init_5 : decode b_Pi_init 5 = .ok (.bipush 20, 2) := by decide +kernel
theorem d_Pi_init_7 : decode b_Pi_init 7 = .ok (.newarray .int, 2) := by decide +kernel
theorem d_Pi_init_9 : decode b_Pi_init 9 = .ok (.putfield 9, 3) := by decide +kernel
theorem d_Pi_init_12 : decode b_Pi_init 12 = .ok (.aload_n 0, 1) := by decide +kernel
theorem d_Pi_init_13 : decode b_Pi_init 13 = .ok (.iconst 3, 1) := by decide +kernel
theorem d_Pi_init_14 : decode b_Pi_init 14 = .ok (.newarray .int, 2) := by decide +kernel
theorem d_Pi_init_16 : decode b_Pi_init 16 = .ok (.putfield 15, 3) := by decide +kernel
theorem d_Pi_init_19 : decode b_Pi_init 19 = .ok (.aload_n 0, 1) := by decide +kernel
theorem d_Pi_init_20 : decode b_Pi_init 20 = .ok (.getstatic 18, 3) := by decide +kernel
theorem d_Pi_init_23 : decode b_Pi_init 23 = .ok (.putfield 24, 3) := by decide +kernel
theorem d_Pi_init_26 : decode b_Pi_init 26 = .ok (.aload_n 0, 1) := by decide +kernel
theorem d_Pi_init_27 : decode b_Pi_init 27 = .ok (.lload_n 1, 1) := by decide +kernel
theorem d_Pi_init_28 : decode b_Pi_init 28 = .ok (.putfield 27, 3) := by decide +kernel
theorem d_Pi_init_31 : decode b_Pi_init 31 = .ok (.aload_n 0, 1) := by decide +kernel
theorem d_Pi_init_32 : decode b_Pi_init 32 = .ok (.iload_n 3, 1) := by decide +kernel
theorem d_Pi_init_33 : decode b_Pi_init 33 = .ok (.putfield 31, 3) := by decide +kernel
theorem d_Pi_init_36 : decode b_Pi_init 36 = .ok (.iconst 0, 1) := by decide +kernel
theorem d_Pi_init_37 : decode b_Pi_init 37 = .ok (.istore 4, 2) := by decide +kernel
theorem d_Pi_init_39 : decode b_Pi_init 39 = .ok (.iload 4, 2) := by decide +kernel
theorem d_Pi_init_41 : decode b_Pi_init 41 = .ok (.bipush 20, 2) := by decide +kernel
theorem d_Pi_init_43 : decode b_Pi_init 43 = .ok (.if_icmp .ge 17, 3) := by decide +kernel
theorem d_Pi_init_46 : decode b_Pi_init 46 = .ok (.aload_n 0, 1) := by decide +kernel
theorem d_Pi_init_47 : decode b_Pi_init 47 = .ok (.getfield 9, 3) := by decide +kernel
theorem d_Pi_init_50 : decode b_Pi_init 50 = .ok (.iload 4, 2) := by decide +kernel
theorem d_Pi_init_52 : decode b_Pi_init 52 = .ok (.iconst (-1), 1) := by decide +kernel
theorem d_Pi_init_53 : decode b_Pi_init 53 = .ok (.iastore, 1) := by decide +kernel
theorem d_Pi_init_54 : decode b_Pi_init 54 = .ok (.iinc 4 1, 3) := by decide +kernel
theorem d_Pi_init_57 : decode b_Pi_init 57 = .ok (.goto (-18), 3) := by decide +kernel
theorem d_Pi_init_60 : decode b_Pi_init 60 = .ok (.return_, 1) := by decide +kernel
theorem d_CR_give_0 : decode b_CR_give 0 = .ok (.iload_n 1, 1) := by decide +kernel
theorem d_CR_give_1 : decode b_CR_give 1 = .ok (.invokestatic 83, 3) := by decide +kernel
theorem d_CR_give_4 : decode b_CR_give 4 = .ok (.ifCond .ne 6, 3) := by decide +kernel
theorem d_CR_give_7 : decode b_CR_give 7 = .ok (.bipush (-101), 2) := by decide +kernel
theorem d_CR_give_9 : decode b_CR_give 9 = .ok (.ireturn, 1) := by decide +kernel
theorem d_CR_give_10 : decode b_CR_give 10 = .ok (.aload_n 0, 1) := by decide +kernel
theorem d_CR_give_11 : decode b_CR_give 11 = .ok (.lload_n 2, 1) := by decide +kernel
theorem d_CR_give_12 : decode b_CR_give 12 = .ok (.invokevirtual 87, 3) := by decide +kernel
theorem d_CR_give_15 : decode b_CR_give 15 = .ok (.ifCond .eq 6, 3) := by decide +kernel
theorem d_CR_give_18 : decode b_CR_give 18 = .ok (.bipush (-102), 2) := by decide +kernel
theorem d_CR_give_20 : decode b_CR_give 20 = .ok (.ireturn, 1) := by decide +kernel
theorem d_CR_give_21 : decode b_CR_give 21 = .ok (.aload_n 0, 1) := by decide +kernel
theorem d_CR_give_22 : decode b_CR_give 22 = .ok (.getfield 17, 3) := by decide +kernel
theorem d_CR_give_25 : decode b_CR_give 25 = .ok (.iload_n 1, 1) := by decide +kernel
theorem d_CR_give_26 : decode b_CR_give 26 = .ok (.aaload, 1) := by decide +kernel
theorem d_CR_give_27 : decode b_CR_give 27 = .ok (.astore 4, 2) := by decide +kernel
theorem d_CR_give_29 : decode b_CR_give 29 = .ok (.aload 4, 2) := by decide +kernel
theorem d_CR_give_31 : decode b_CR_give 31 = .ok (.getfield 91, 3) := by decide +kernel
theorem d_CR_give_34 : decode b_CR_give 34 = .ok (.ifCond .eq 11, 3) := by decide +kernel
theorem d_CR_give_37 : decode b_CR_give 37 = .ok (.aload 4, 2) := by decide +kernel
theorem d_CR_give_39 : decode b_CR_give 39 = .ok (.getfield 95, 3) := by decide +kernel
theorem d_CR_give_42 : decode b_CR_give 42 = .ok (.ifnull 6, 3) := by decide +kernel
theorem d_CR_give_45 : decode b_CR_give 45 = .ok (.bipush (-103), 2) := by decide +kernel
theorem d_CR_give_47 : decode b_CR_give 47 = .ok (.ireturn, 1) := by decide +kernel
theorem d_CR_give_48 : decode b_CR_give 48 = .ok (.aload_n 0, 1) := by decide +kernel
theorem d_CR_give_49 : decode b_CR_give 49 = .ok (.lload_n 2, 1) := by decide +kernel
theorem d_CR_give_50 : decode b_CR_give 50 = .ok (.invokevirtual 99, 3) := by decide +kernel
theorem d_CR_give_53 : decode b_CR_give 53 = .ok (.aload_n 0, 1) := by decide +kernel
theorem d_CR_give_54 : decode b_CR_give 54 = .ok (.iload_n 1, 1) := by decide +kernel
theorem d_CR_give_55 : decode b_CR_give 55 = .ok (.invokevirtual 103, 3) := by decide +kernel
theorem d_CR_give_58 : decode b_CR_give 58 = .ok (.istore 5, 2) := by decide +kernel
theorem d_CR_give_60 : decode b_CR_give 60 = .ok (.iload 5, 2) := by decide +kernel
theorem d_CR_give_62 : decode b_CR_give 62 = .ok (.ifCond .ne 5, 3) := by decide +kernel
theorem d_CR_give_65 : decode b_CR_give 65 = .ok (.iconst 0, 1) := by decide +kernel
theorem d_CR_give_66 : decode b_CR_give 66 = .ok (.ireturn, 1) := by decide +kernel
theorem d_CR_give_67 : decode b_CR_give 67 = .ok (.aload 4, 2) := by decide +kernel
theorem d_CR_give_69 : decode b_CR_give 69 = .ok (.aload_n 0, 1) := by decide +kernel
theorem d_CR_give_70 : decode b_CR_give 70 = .ok (.getfield 11, 3) := by decide +kernel
theorem d_CR_give_73 : decode b_CR_give 73 = .ok (.iload 5, 2) := by decide +kernel
theorem d_CR_give_75 : decode b_CR_give 75 = .ok (.aaload, 1) := by decide +kernel
theorem d_CR_give_76 : decode b_CR_give 76 = .ok (.putfield 95, 3) := by decide +kernel
theorem d_CR_give_79 : decode b_CR_give 79 = .ok (.aload_n 0, 1) := by decide +kernel
theorem d_CR_give_80 : decode b_CR_give 80 = .ok (.getfield 21, 3) := by decide +kernel
theorem d_CR_give_83 : decode b_CR_give 83 = .ok (.iload_n 1, 1) := by decide +kernel
theorem d_CR_give_84 : decode b_CR_give 84 = .ok (.aload 4, 2) := by decide +kernel
theorem d_CR_give_86 : decode b_CR_give 86 = .ok (.getfield 107, 3) := by decide +kernel
theorem d_CR_give_89 : decode b_CR_give 89 = .ok (.iastore, 1) := by decide +kernel
theorem d_CR_give_90 : decode b_CR_give 90 = .ok (.aload 4, 2) := by decide +kernel
theorem d_CR_give_92 : decode b_CR_give 92 = .ok (.getfield 95, 3) := by decide +kernel
theorem d_CR_give_95 : decode b_CR_give 95 = .ok (.dup, 1) := by decide +kernel
theorem d_CR_give_96 : decode b_CR_give 96 = .ok (.getfield 110, 3) := by decide +kernel
theorem d_CR_give_99 : decode b_CR_give 99 = .ok (.iconst 1, 1) := by decide +kernel
theorem d_CR_give_100 : decode b_CR_give 100 = .ok (.iload_n 1, 1) := by decide +kernel
theorem d_CR_give_101 : decode b_CR_give 101 = .ok (.ishl, 1) := by decide +kernel
theorem d_CR_give_102 : decode b_CR_give 102 = .ok (.ior, 1) := by decide +kernel
theorem d_CR_give_103 : decode b_CR_give 103 = .ok (.putfield 110, 3) := by decide +kernel
theorem d_CR_give_106 : decode b_CR_give 106 = .ok (.aload 4, 2) := by decide +kernel
theorem d_CR_give_108 : decode b_CR_give 108 = .ok (.getfield 95, 3) := by decide +kernel
theorem d_CR_give_111 : decode b_CR_give 111 = .ok (.dup, 1) := by decide +kernel
theorem d_CR_give_112 : decode b_CR_give 112 = .ok (.getfield 113, 3) := by decide +kernel
theorem d_CR_give_115 : decode b_CR_give 115 = .ok (.iconst 1, 1) := by decide +kernel
theorem d_CR_give_116 : decode b_CR_give 116 = .ok (.aload 4, 2) := by decide +kernel
theorem d_CR_give_118 : decode b_CR_give 118 = .ok (.getfield 107, 3) := by decide +kernel
theorem d_CR_give_121 : decode b_CR_give 121 = .ok (.ishl, 1) := by decide +kernel
theorem d_CR_give_122 : decode b_CR_give 122 = .ok (.ior, 1) := by decide +kernel
theorem d_CR_give_123 : decode b_CR_give 123 = .ok (.putfield 113, 3) := by decide +kernel
theorem d_CR_give_126 : decode b_CR_give 126 = .ok (.aload 4, 2) := by decide +kernel
theorem d_CR_give_128 : decode b_CR_give 128 = .ok (.getfield 95, 3) := by decide +kernel
theorem d_CR_give_131 : decode b_CR_give 131 = .ok (.dup, 1) := by decide +kernel
theorem d_CR_give_132 : decode b_CR_give 132 = .ok (.getfield 116, 3) := by decide +kernel
theorem d_CR_give_135 : decode b_CR_give 135 = .ok (.iconst 1, 1) := by decide +kernel
theorem d_CR_give_136 : decode b_CR_give 136 = .ok (.iadd, 1) := by decide +kernel
theorem d_CR_give_137 : decode b_CR_give 137 = .ok (.putfield 116, 3) := by decide +kernel
theorem d_CR_give_140 : decode b_CR_give 140 = .ok (.iload 5, 2) := by decide +kernel
theorem d_CR_give_142 : decode b_CR_give 142 = .ok (.ireturn, 1) := by decide +kernel
theorem d_CR_isClerk_0 : decode b_CR_isClerk 0 = .ok (.iload_n 0, 1) := by decide +kernel
theorem d_CR_isClerk_1 : decode b_CR_isClerk 1 = .ok (.ifCond .lt 13, 3) := by decide +kernel
theorem d_CR_isClerk_4 : decode b_CR_isClerk 4 = .ok (.iload_n 0, 1) := by decide +kernel
theorem d_CR_isClerk_5 : decode b_CR_isClerk 5 = .ok (.bipush 20, 2) := by decide +kernel
theorem d_CR_isClerk_7 : decode b_CR_isClerk 7 = .ok (.if_icmp .ge 7, 3) := by decide +kernel
theorem d_CR_isClerk_10 : decode b_CR_isClerk 10 = .ok (.iconst 1, 1) := by decide +kernel
theorem d_CR_isClerk_11 : decode b_CR_isClerk 11 = .ok (.goto 4, 3) := by decide +kernel
theorem d_CR_isClerk_14 : decode b_CR_isClerk 14 = .ok (.iconst 0, 1) := by decide +kernel
theorem d_CR_isClerk_15 : decode b_CR_isClerk 15 = .ok (.ireturn, 1) := by decide +kernel
theorem d_CR_isNoTime_0 : decode b_CR_isNoTime 0 = .ok (.lload_n 1, 1) := by decide +kernel
theorem d_CR_isNoTime_1 : decode b_CR_isNoTime 1 = .ok (.aload_n 0, 1) := by decide +kernel
theorem d_CR_isNoTime_2 : decode b_CR_isNoTime 2 = .ok (.getfield 42, 3) := by decide +kernel
theorem d_CR_isNoTime_5 : decode b_CR_isNoTime 5 = .ok (.ldc2_w 46, 3) := by decide +kernel
theorem d_CR_isNoTime_8 : decode b_CR_isNoTime 8 = .ok (.invokestatic 48, 3) := by decide +kernel
theorem d_CR_isNoTime_11 : decode b_CR_isNoTime 11 = .ok (.ireturn, 1) := by decide +kernel
theorem d_CR_pass_0 : decode b_CR_pass 0 = .ok (.aload_n 0, 1) := by decide +kernel
theorem d_CR_pass_1 : decode b_CR_pass 1 = .ok (.lload_n 1, 1) := by decide +kernel
theorem d_CR_pass_2 : decode b_CR_pass 2 = .ok (.putfield 42, 3) := by decide +kernel
theorem d_CR_pass_5 : decode b_CR_pass 5 = .ok (.iconst 1, 1) := by decide +kernel
theorem d_CR_pass_6 : decode b_CR_pass 6 = .ok (.istore_n 3, 1) := by decide +kernel
theorem d_CR_pass_7 : decode b_CR_pass 7 = .ok (.iload_n 3, 1) := by decide +kernel
theorem d_CR_pass_8 : decode b_CR_pass 8 = .ok (.aload_n 0, 1) := by decide +kernel
theorem d_CR_pass_9 : decode b_CR_pass 9 = .ok (.getfield 39, 3) := by decide +kernel
theorem d_CR_pass_12 : decode b_CR_pass 12 = .ok (.if_icmp .gt 70, 3) := by decide +kernel
theorem d_CR_pass_15 : decode b_CR_pass 15 = .ok (.aload_n 0, 1) := by decide +kernel
theorem d_CR_pass_16 : decode b_CR_pass 16 = .ok (.getfield 11, 3) := by decide +kernel
theorem d_CR_pass_19 : decode b_CR_pass 19 = .ok (.iload_n 3, 1) := by decide +kernel
theorem d_CR_pass_20 : decode b_CR_pass 20 = .ok (.aaload, 1) := by decide +kernel
theorem d_CR_pass_21 : decode b_CR_pass 21 = .ok (.invokevirtual 52, 3) := by decide +kernel
theorem d_CR_pass_24 : decode b_CR_pass 24 = .ok (.ifCond .ne 52, 3) := by decide +kernel
theorem d_CR_pass_27 : decode b_CR_pass 27 = .ok (.aload_n 0, 1) := by decide +kernel
theorem d_CR_pass_28 : decode b_CR_pass 28 = .ok (.getfield 11, 3) := by decide +kernel
theorem d_CR_pass_31 : decode b_CR_pass 31 = .ok (.iload_n 3, 1) := by decide +kernel
theorem d_CR_pass_32 : decode b_CR_pass 32 = .ok (.aaload, 1) := by decide +kernel
theorem d_CR_pass_33 : decode b_CR_pass 33 = .ok (.getfield 56, 3) := by decide +kernel
theorem d_CR_pass_36 : decode b_CR_pass 36 = .ok (.lload_n 1, 1) := by decide +kernel
theorem d_CR_pass_37 : decode b_CR_pass 37 = .ok (.lcmp, 1) := by decide +kernel
theorem d_CR_pass_38 : decode b_CR_pass 38 = .ok (.ifCond .lt 6, 3) := by decide +kernel
theorem d_CR_pass_41 : decode b_CR_pass 41 = .ok (.goto 35, 3) := by decide +kernel
theorem d_CR_pass_44 : decode b_CR_pass 44 = .ok (.aload_n 0, 1) := by decide +kernel
theorem d_CR_pass_45 : decode b_CR_pass 45 = .ok (.getfield 11, 3) := by decide +kernel
theorem d_CR_pass_48 : decode b_CR_pass 48 = .ok (.iload_n 3, 1) := by decide +kernel
theorem d_CR_pass_49 : decode b_CR_pass 49 = .ok (.aaload, 1) := by decide +kernel
theorem d_CR_pass_50 : decode b_CR_pass 50 = .ok (.getstatic 59, 3) := by decide +kernel
theorem d_CR_pass_53 : decode b_CR_pass 53 = .ok (.putfield 65, 3) := by decide +kernel
theorem d_CR_pass_56 : decode b_CR_pass 56 = .ok (.aload_n 0, 1) := by decide +kernel
theorem d_CR_pass_57 : decode b_CR_pass 57 = .ok (.dup, 1) := by decide +kernel
theorem d_CR_pass_58 : decode b_CR_pass 58 = .ok (.getfield 68, 3) := by decide +kernel
theorem d_CR_pass_61 : decode b_CR_pass 61 = .ok (.iconst 1, 1) := by decide +kernel
theorem d_CR_pass_62 : decode b_CR_pass 62 = .ok (.iadd, 1) := by decide +kernel
theorem d_CR_pass_63 : decode b_CR_pass 63 = .ok (.putfield 68, 3) := by decide +kernel
theorem d_CR_pass_66 : decode b_CR_pass 66 = .ok (.aload_n 0, 1) := by decide +kernel
theorem d_CR_pass_67 : decode b_CR_pass 67 = .ok (.dup, 1) := by decide +kernel
theorem d_CR_pass_68 : decode b_CR_pass 68 = .ok (.getfield 71, 3) := by decide +kernel
theorem d_CR_pass_71 : decode b_CR_pass 71 = .ok (.iconst 1, 1) := by decide +kernel
theorem d_CR_pass_72 : decode b_CR_pass 72 = .ok (.isub, 1) := by decide +kernel
theorem d_CR_pass_73 : decode b_CR_pass 73 = .ok (.putfield 71, 3) := by decide +kernel
theorem d_CR_pass_76 : decode b_CR_pass 76 = .ok (.iinc 3 1, 3) := by decide +kernel
theorem d_CR_pass_79 : decode b_CR_pass 79 = .ok (.goto (-72), 3) := by decide +kernel
theorem d_CR_pass_82 : decode b_CR_pass 82 = .ok (.return_, 1) := by decide +kernel
theorem d_Pi_isOver_0 : decode b_Pi_isOver 0 = .ok (.aload_n 0, 1) := by decide +kernel
theorem d_Pi_isOver_1 : decode b_Pi_isOver 1 = .ok (.getfield 24, 3) := by decide +kernel
theorem d_Pi_isOver_4 : decode b_Pi_isOver 4 = .ok (.getstatic 18, 3) := by decide +kernel
theorem d_Pi_isOver_7 : decode b_Pi_isOver 7 = .ok (.if_acmp .eq 7, 3) := by decide +kernel
theorem d_Pi_isOver_10 : decode b_Pi_isOver 10 = .ok (.iconst 1, 1) := by decide +kernel
theorem d_Pi_isOver_11 : decode b_Pi_isOver 11 = .ok (.goto 4, 3) := by decide +kernel
theorem d_Pi_isOver_14 : decode b_Pi_isOver 14 = .ok (.iconst 0, 1) := by decide +kernel
theorem d_Pi_isOver_15 : decode b_Pi_isOver 15 = .ok (.ireturn, 1) := by decide +kernel
theorem d_CR_find_0 : decode b_CR_find 0 = .ok (.iconst 0, 1) := by decide +kernel
theorem d_CR_find_1 : decode b_CR_find 1 = .ok (.istore_n 2, 1) := by decide +kernel
theorem d_CR_find_2 : decode b_CR_find 2 = .ok (.iconst 1, 1) := by decide +kernel
theorem d_CR_find_3 : decode b_CR_find 3 = .ok (.istore_n 3, 1) := by decide +kernel
theorem d_CR_find_4 : decode b_CR_find 4 = .ok (.iload_n 3, 1) := by decide +kernel
theorem d_CR_find_5 : decode b_CR_find 5 = .ok (.aload_n 0, 1) := by decide +kernel
theorem d_CR_find_6 : decode b_CR_find 6 = .ok (.getfield 39, 3) := by decide +kernel
theorem d_CR_find_9 : decode b_CR_find 9 = .ok (.if_icmp .gt 64, 3) := by decide +kernel
theorem d_CR_find_12 : decode b_CR_find 12 = .ok (.aload_n 0, 1) := by decide +kernel
theorem d_CR_find_13 : decode b_CR_find 13 = .ok (.getfield 11, 3) := by decide +kernel
theorem d_CR_find_16 : decode b_CR_find 16 = .ok (.iload_n 3, 1) := by decide +kernel
theorem d_CR_find_17 : decode b_CR_find 17 = .ok (.aaload, 1) := by decide +kernel
theorem d_CR_find_18 : decode b_CR_find 18 = .ok (.iload_n 1, 1) := by decide +kernel
theorem d_CR_find_19 : decode b_CR_find 19 = .ok (.aload_n 0, 1) := by decide +kernel
theorem d_CR_find_20 : decode b_CR_find 20 = .ok (.getfield 17, 3) := by decide +kernel
theorem d_CR_find_23 : decode b_CR_find 23 = .ok (.iload_n 1, 1) := by decide +kernel
theorem d_CR_find_24 : decode b_CR_find 24 = .ok (.aaload, 1) := by decide +kernel
theorem d_CR_find_25 : decode b_CR_find 25 = .ok (.invokevirtual 79, 3) := by decide +kernel
theorem d_CR_find_28 : decode b_CR_find 28 = .ok (.istore 4, 2) := by decide +kernel
theorem d_CR_find_30 : decode b_CR_find 30 = .ok (.iload 4, 2) := by decide +kernel
theorem d_CR_find_32 : decode b_CR_find 32 = .ok (.ifCond .eq 33, 3) := by decide +kernel
theorem d_CR_find_35 : decode b_CR_find 35 = .ok (.iload_n 2, 1) := by decide +kernel
theorem d_CR_find_36 : decode b_CR_find 36 = .ok (.ifCond .eq 25, 3) := by decide +kernel
theorem d_CR_find_39 : decode b_CR_find 39 = .ok (.aload_n 0, 1) := by decide +kernel
theorem d_CR_find_40 : decode b_CR_find 40 = .ok (.getfield 11, 3) := by decide +kernel
theorem d_CR_find_43 : decode b_CR_find 43 = .ok (.iload_n 3, 1) := by decide +kernel
theorem d_CR_find_44 : decode b_CR_find 44 = .ok (.aaload, 1) := by decide +kernel
theorem d_CR_find_45 : decode b_CR_find 45 = .ok (.getfield 56, 3) := by decide +kernel
theorem d_CR_find_48 : decode b_CR_find 48 = .ok (.aload_n 0, 1) := by decide +kernel
theorem d_CR_find_49 : decode b_CR_find 49 = .ok (.getfield 11, 3) := by decide +kernel
theorem d_CR_find_52 : decode b_CR_find 52 = .ok (.iload_n 2, 1) := by decide +kernel
theorem d_CR_find_53 : decode b_CR_find 53 = .ok (.aaload, 1) := by decide +kernel
theorem d_CR_find_54 : decode b_CR_find 54 = .ok (.getfield 56, 3) := by decide +kernel
theorem d_CR_find_57 : decode b_CR_find 57 = .ok (.lcmp, 1) := by decide +kernel
theorem d_CR_find_58 : decode b_CR_find 58 = .ok (.ifCond .ge 7, 3) := by decide +kernel
theorem d_CR_find_61 : decode b_CR_find 61 = .ok (.iload_n 3, 1) := by decide +kernel
theorem d_CR_find_62 : decode b_CR_find 62 = .ok (.goto 4, 3) := by decide +kernel
theorem d_CR_find_65 : decode b_CR_find 65 = .ok (.iload_n 2, 1) := by decide +kernel
theorem d_CR_find_66 : decode b_CR_find 66 = .ok (.istore_n 2, 1) := by decide +kernel
theorem d_CR_find_67 : decode b_CR_find 67 = .ok (.iinc 3 1, 3) := by decide +kernel
theorem d_CR_find_70 : decode b_CR_find 70 = .ok (.goto (-66), 3) := by decide +kernel
theorem d_CR_find_73 : decode b_CR_find 73 = .ok (.iload_n 2, 1) := by decide +kernel
theorem d_CR_find_74 : decode b_CR_find 74 = .ok (.ireturn, 1) := by decide +kernel
theorem d_Pi_isFree_0 : decode b_Pi_isFree 0 = .ok (.aload_n 0, 1) := by decide +kernel
theorem d_Pi_isFree_1 : decode b_Pi_isFree 1 = .ok (.invokevirtual 38, 3) := by decide +kernel
theorem d_Pi_isFree_4 : decode b_Pi_isFree 4 = .ok (.ifCond .ne 17, 3) := by decide +kernel
theorem d_Pi_isFree_7 : decode b_Pi_isFree 7 = .ok (.aload_n 0, 1) := by decide +kernel
theorem d_Pi_isFree_8 : decode b_Pi_isFree 8 = .ok (.getfield 49, 3) := by decide +kernel
theorem d_Pi_isFree_11 : decode b_Pi_isFree 11 = .ok (.aload_n 2, 1) := by decide +kernel
theorem d_Pi_isFree_12 : decode b_Pi_isFree 12 = .ok (.getfield 52, 3) := by decide +kernel
theorem d_Pi_isFree_15 : decode b_Pi_isFree 15 = .ok (.ishr, 1) := by decide +kernel
theorem d_Pi_isFree_16 : decode b_Pi_isFree 16 = .ok (.iconst 1, 1) := by decide +kernel
theorem d_Pi_isFree_17 : decode b_Pi_isFree 17 = .ok (.iand, 1) := by decide +kernel
theorem d_Pi_isFree_18 : decode b_Pi_isFree 18 = .ok (.ifCond .ne 7, 3) := by decide +kernel
theorem d_Pi_isFree_21 : decode b_Pi_isFree 21 = .ok (.iconst 1, 1) := by decide +kernel
theorem d_Pi_isFree_22 : decode b_Pi_isFree 22 = .ok (.goto 4, 3) := by decide +kernel
theorem d_Pi_isFree_25 : decode b_Pi_isFree 25 = .ok (.iconst 0, 1) := by decide +kernel
theorem d_Pi_isFree_26 : decode b_Pi_isFree 26 = .ok (.istore_n 3, 1) := by decide +kernel
theorem d_Pi_isFree_27 : decode b_Pi_isFree 27 = .ok (.aload_n 0, 1) := by decide +kernel
theorem d_Pi_isFree_28 : decode b_Pi_isFree 28 = .ok (.invokevirtual 57, 3) := by decide +kernel
theorem d_Pi_isFree_31 : decode b_Pi_isFree 31 = .ok (.ifCond .ne 40, 3) := by decide +kernel
theorem d_Pi_isFree_34 : decode b_Pi_isFree 34 = .ok (.aload_n 0, 1) := by decide +kernel
theorem d_Pi_isFree_35 : decode b_Pi_isFree 35 = .ok (.invokevirtual 60, 3) := by decide +kernel
theorem d_Pi_isFree_38 : decode b_Pi_isFree 38 = .ok (.ifCond .ne 33, 3) := by decide +kernel
theorem d_Pi_isFree_41 : decode b_Pi_isFree 41 = .ok (.aload_n 0, 1) := by decide +kernel
theorem d_Pi_isFree_42 : decode b_Pi_isFree 42 = .ok (.getfield 31, 3) := by decide +kernel
theorem d_Pi_isFree_45 : decode b_Pi_isFree 45 = .ok (.aload_n 2, 1) := by decide +kernel
theorem d_Pi_isFree_46 : decode b_Pi_isFree 46 = .ok (.getfield 63, 3) := by decide +kernel
theorem d_Pi_isFree_49 : decode b_Pi_isFree 49 = .ok (.if_icmp .gt 22, 3) := by decide +kernel
theorem d_Pi_isFree_52 : decode b_Pi_isFree 52 = .ok (.aload_n 0, 1) := by decide +kernel
theorem d_Pi_isFree_53 : decode b_Pi_isFree 53 = .ok (.getfield 64, 3) := by decide +kernel
theorem d_Pi_isFree_56 : decode b_Pi_isFree 56 = .ok (.iload_n 1, 1) := by decide +kernel
theorem d_Pi_isFree_57 : decode b_Pi_isFree 57 = .ok (.ishr, 1) := by decide +kernel
theorem d_Pi_isFree_58 : decode b_Pi_isFree 58 = .ok (.iconst 1, 1) := by decide +kernel
theorem d_Pi_isFree_59 : decode b_Pi_isFree 59 = .ok (.iand, 1) := by decide +kernel
theorem d_Pi_isFree_60 : decode b_Pi_isFree 60 = .ok (.ifCond .ne 11, 3) := by decide +kernel
theorem d_Pi_isFree_63 : decode b_Pi_isFree 63 = .ok (.iload_n 3, 1) := by decide +kernel
theorem d_Pi_isFree_64 : decode b_Pi_isFree 64 = .ok (.ifCond .eq 7, 3) := by decide +kernel
theorem d_Pi_isFree_67 : decode b_Pi_isFree 67 = .ok (.iconst 1, 1) := by decide +kernel
theorem d_Pi_isFree_68 : decode b_Pi_isFree 68 = .ok (.goto 4, 3) := by decide +kernel
theorem d_Pi_isFree_71 : decode b_Pi_isFree 71 = .ok (.iconst 0, 1) := by decide +kernel
theorem d_Pi_isFree_72 : decode b_Pi_isFree 72 = .ok (.ireturn, 1) := by decide +kernel
theorem d_Pi_differs_0 : decode b_Pi_differs 0 = .ok (.aload_n 0, 1) := by decide +kernel
theorem d_Pi_differs_1 : decode b_Pi_differs 1 = .ok (.getfield 35, 3) := by decide +kernel
theorem d_Pi_differs_4 : decode b_Pi_differs 4 = .ok (.iconst 1, 1) := by decide +kernel
theorem d_Pi_differs_5 : decode b_Pi_differs 5 = .ok (.if_icmp .le 22, 3) := by decide +kernel
theorem d_Pi_differs_8 : decode b_Pi_differs 8 = .ok (.aload_n 0, 1) := by decide +kernel
theorem d_Pi_differs_9 : decode b_Pi_differs 9 = .ok (.getfield 15, 3) := by decide +kernel
theorem d_Pi_differs_12 : decode b_Pi_differs 12 = .ok (.iconst 0, 1) := by decide +kernel
theorem d_Pi_differs_13 : decode b_Pi_differs 13 = .ok (.iaload, 1) := by decide +kernel
theorem d_Pi_differs_14 : decode b_Pi_differs 14 = .ok (.aload_n 0, 1) := by decide +kernel
theorem d_Pi_differs_15 : decode b_Pi_differs 15 = .ok (.getfield 15, 3) := by decide +kernel
theorem d_Pi_differs_18 : decode b_Pi_differs 18 = .ok (.iconst 1, 1) := by decide +kernel
theorem d_Pi_differs_19 : decode b_Pi_differs 19 = .ok (.iaload, 1) := by decide +kernel
theorem d_Pi_differs_20 : decode b_Pi_differs 20 = .ok (.if_icmp .eq 7, 3) := by decide +kernel
theorem d_Pi_differs_23 : decode b_Pi_differs 23 = .ok (.iconst 1, 1) := by decide +kernel
theorem d_Pi_differs_24 : decode b_Pi_differs 24 = .ok (.goto 4, 3) := by decide +kernel
theorem d_Pi_differs_27 : decode b_Pi_differs 27 = .ok (.iconst 0, 1) := by decide +kernel
theorem d_Pi_differs_28 : decode b_Pi_differs 28 = .ok (.ireturn, 1) := by decide +kernel
theorem d_Pi_isTaken_0 : decode b_Pi_isTaken 0 = .ok (.aload_n 0, 1) := by decide +kernel
theorem d_Pi_isTaken_1 : decode b_Pi_isTaken 1 = .ok (.getfield 35, 3) := by decide +kernel
theorem d_Pi_isTaken_4 : decode b_Pi_isTaken 4 = .ok (.aload_n 0, 1) := by decide +kernel
theorem d_Pi_isTaken_5 : decode b_Pi_isTaken 5 = .ok (.getfield 42, 3) := by decide +kernel
theorem d_Pi_isTaken_8 : decode b_Pi_isTaken 8 = .ok (.iadd, 1) := by decide +kernel
theorem d_Pi_isTaken_9 : decode b_Pi_isTaken 9 = .ok (.aload_n 0, 1) := by decide +kernel
theorem d_Pi_isTaken_10 : decode b_Pi_isTaken 10 = .ok (.invokevirtual 45, 3) := by decide +kernel
theorem d_Pi_isTaken_13 : decode b_Pi_isTaken 13 = .ok (.if_icmp .lt 7, 3) := by decide +kernel
theorem d_Pi_isTaken_16 : decode b_Pi_isTaken 16 = .ok (.iconst 1, 1) := by decide +kernel
theorem d_Pi_isTaken_17 : decode b_Pi_isTaken 17 = .ok (.goto 4, 3) := by decide +kernel
theorem d_Pi_isTaken_20 : decode b_Pi_isTaken 20 = .ok (.iconst 0, 1) := by decide +kernel
theorem d_Pi_isTaken_21 : decode b_Pi_isTaken 21 = .ok (.ireturn, 1) := by decide +kernel
theorem d_Pi_wants_0 : decode b_Pi_wants 0 = .ok (.aload_n 0, 1) := by decide +kernel
theorem d_Pi_wants_1 : decode b_Pi_wants 1 = .ok (.invokevirtual 38, 3) := by decide +kernel
theorem d_Pi_wants_4 : decode b_Pi_wants 4 = .ok (.ifCond .eq 7, 3) := by decide +kernel
theorem d_Pi_wants_7 : decode b_Pi_wants 7 = .ok (.iconst 3, 1) := by decide +kernel
theorem d_Pi_wants_8 : decode b_Pi_wants 8 = .ok (.goto 4, 3) := by decide +kernel
theorem d_Pi_wants_11 : decode b_Pi_wants 11 = .ok (.iconst 2, 1) := by decide +kernel
theorem d_Pi_wants_12 : decode b_Pi_wants 12 = .ok (.ireturn, 1) := by decide +kernel
theorem d_CR_answer_0 : decode b_CR_answer 0 = .ok (.iload_n 1, 1) := by decide +kernel
theorem d_CR_answer_1 : decode b_CR_answer 1 = .ok (.invokestatic 83, 3) := by decide +kernel
theorem d_CR_answer_4 : decode b_CR_answer 4 = .ok (.ifCond .eq 11, 3) := by decide +kernel
theorem d_CR_answer_7 : decode b_CR_answer 7 = .ok (.aload_n 0, 1) := by decide +kernel
theorem d_CR_answer_8 : decode b_CR_answer 8 = .ok (.iload_n 2, 1) := by decide +kernel
theorem d_CR_answer_9 : decode b_CR_answer 9 = .ok (.invokevirtual 119, 3) := by decide +kernel
theorem d_CR_answer_12 : decode b_CR_answer 12 = .ok (.ifCond .ne 6, 3) := by decide +kernel
theorem d_CR_answer_15 : decode b_CR_answer 15 = .ok (.bipush (-101), 2) := by decide +kernel
theorem d_CR_answer_17 : decode b_CR_answer 17 = .ok (.ireturn, 1) := by decide +kernel
theorem d_CR_answer_18 : decode b_CR_answer 18 = .ok (.iload_n 3, 1) := by decide +kernel
theorem d_CR_answer_19 : decode b_CR_answer 19 = .ok (.i2l, 1) := by decide +kernel
theorem d_CR_answer_20 : decode b_CR_answer 20 = .ok (.lconst 0, 1) := by decide +kernel
theorem d_CR_answer_21 : decode b_CR_answer 21 = .ok (.ldc2_w 122, 3) := by decide +kernel
theorem d_CR_answer_24 : decode b_CR_answer 24 = .ok (.invokestatic 48, 3) := by decide +kernel
theorem d_CR_answer_27 : decode b_CR_answer 27 = .ok (.ifCond .ne 12, 3) := by decide +kernel
theorem d_CR_answer_30 : decode b_CR_answer 30 = .ok (.aload_n 0, 1) := by decide +kernel
theorem d_CR_answer_31 : decode b_CR_answer 31 = .ok (.lload 4, 2) := by decide +kernel
theorem d_CR_answer_33 : decode b_CR_answer 33 = .ok (.invokevirtual 87, 3) := by decide +kernel
theorem d_CR_answer_36 : decode b_CR_answer 36 = .ok (.ifCond .eq 6, 3) := by decide +kernel
theorem d_CR_answer_39 : decode b_CR_answer 39 = .ok (.bipush (-102), 2) := by decide +kernel
theorem d_CR_answer_41 : decode b_CR_answer 41 = .ok (.ireturn, 1) := by decide +kernel
theorem d_CR_answer_42 : decode b_CR_answer 42 = .ok (.aload_n 0, 1) := by decide +kernel
theorem d_CR_answer_43 : decode b_CR_answer 43 = .ok (.getfield 17, 3) := by decide +kernel
theorem d_CR_answer_46 : decode b_CR_answer 46 = .ok (.iload_n 1, 1) := by decide +kernel
theorem d_CR_answer_47 : decode b_CR_answer 47 = .ok (.aaload, 1) := by decide +kernel
theorem d_CR_answer_48 : decode b_CR_answer 48 = .ok (.astore 6, 2) := by decide +kernel
theorem d_CR_answer_50 : decode b_CR_answer 50 = .ok (.aload_n 0, 1) := by decide +kernel
theorem d_CR_answer_51 : decode b_CR_answer 51 = .ok (.getfield 11, 3) := by decide +kernel
theorem d_CR_answer_54 : decode b_CR_answer 54 = .ok (.iload_n 2, 1) := by decide +kernel
theorem d_CR_answer_55 : decode b_CR_answer 55 = .ok (.aaload, 1) := by decide +kernel
theorem d_CR_answer_56 : decode b_CR_answer 56 = .ok (.astore 7, 2) := by decide +kernel
theorem d_CR_answer_58 : decode b_CR_answer 58 = .ok (.aload 6, 2) := by decide +kernel
theorem d_CR_answer_60 : decode b_CR_answer 60 = .ok (.getfield 95, 3) := by decide +kernel
theorem d_CR_answer_63 : decode b_CR_answer 63 = .ok (.aload 7, 2) := by decide +kernel
theorem d_CR_answer_65 : decode b_CR_answer 65 = .ok (.if_acmp .eq 6, 3) := by decide +kernel
theorem d_CR_answer_68 : decode b_CR_answer 68 = .ok (.bipush (-103), 2) := by decide +kernel
theorem d_CR_answer_70 : decode b_CR_answer 70 = .ok (.ireturn, 1) := by decide +kernel
theorem d_CR_answer_71 : decode b_CR_answer 71 = .ok (.aload_n 0, 1) := by decide +kernel
theorem d_CR_answer_72 : decode b_CR_answer 72 = .ok (.lload 4, 2) := by decide +kernel
theorem d_CR_answer_74 : decode b_CR_answer 74 = .ok (.invokevirtual 99, 3) := by decide +kernel
theorem d_CR_answer_77 : decode b_CR_answer 77 = .ok (.aload 6, 2) := by decide +kernel
theorem d_CR_answer_79 : decode b_CR_answer 79 = .ok (.aconst_null, 1) := by decide +kernel
theorem d_CR_answer_80 : decode b_CR_answer 80 = .ok (.putfield 95, 3) := by decide +kernel
theorem d_CR_answer_83 : decode b_CR_answer 83 = .ok (.aload 7, 2) := by decide +kernel
theorem d_CR_answer_85 : decode b_CR_answer 85 = .ok (.dup, 1) := by decide +kernel
theorem d_CR_answer_86 : decode b_CR_answer 86 = .ok (.getfield 116, 3) := by decide +kernel
theorem d_CR_answer_89 : decode b_CR_answer 89 = .ok (.iconst 1, 1) := by decide +kernel
theorem d_CR_answer_90 : decode b_CR_answer 90 = .ok (.isub, 1) := by decide +kernel
theorem d_CR_answer_91 : decode b_CR_answer 91 = .ok (.putfield 116, 3) := by decide +kernel
theorem d_CR_answer_94 : decode b_CR_answer 94 = .ok (.aload 7, 2) := by decide +kernel
theorem d_CR_answer_96 : decode b_CR_answer 96 = .ok (.getfield 124, 3) := by decide +kernel
theorem d_CR_answer_99 : decode b_CR_answer 99 = .ok (.iload_n 1, 1) := by decide +kernel
theorem d_CR_answer_100 : decode b_CR_answer 100 = .ok (.iload_n 3, 1) := by decide +kernel
theorem d_CR_answer_101 : decode b_CR_answer 101 = .ok (.iastore, 1) := by decide +kernel
theorem d_CR_answer_102 : decode b_CR_answer 102 = .ok (.aload 7, 2) := by decide +kernel
theorem d_CR_answer_104 : decode b_CR_answer 104 = .ok (.invokevirtual 52, 3) := by decide +kernel
theorem d_CR_answer_107 : decode b_CR_answer 107 = .ok (.istore 8, 2) := by decide +kernel
theorem d_CR_answer_109 : decode b_CR_answer 109 = .ok (.aload 7, 2) := by decide +kernel
theorem d_CR_answer_111 : decode b_CR_answer 111 = .ok (.iload_n 3, 1) := by decide +kernel
theorem d_CR_answer_112 : decode b_CR_answer 112 = .ok (.invokevirtual 127, 3) := by decide +kernel
theorem d_CR_answer_115 : decode b_CR_answer 115 = .ok (.aload_n 0, 1) := by decide +kernel
theorem d_CR_answer_116 : decode b_CR_answer 116 = .ok (.dup, 1) := by decide +kernel
theorem d_CR_answer_117 : decode b_CR_answer 117 = .ok (.getfield 71, 3) := by decide +kernel
theorem d_CR_answer_120 : decode b_CR_answer 120 = .ok (.aload 7, 2) := by decide +kernel
theorem d_CR_answer_122 : decode b_CR_answer 122 = .ok (.invokevirtual 52, 3) := by decide +kernel
theorem d_CR_answer_125 : decode b_CR_answer 125 = .ok (.ifCond .eq 12, 3) := by decide +kernel
theorem d_CR_answer_128 : decode b_CR_answer 128 = .ok (.iload 8, 2) := by decide +kernel
theorem d_CR_answer_130 : decode b_CR_answer 130 = .ok (.ifCond .ne 7, 3) := by decide +kernel
theorem d_CR_answer_133 : decode b_CR_answer 133 = .ok (.iconst 1, 1) := by decide +kernel
theorem d_CR_answer_134 : decode b_CR_answer 134 = .ok (.goto 4, 3) := by decide +kernel
theorem d_CR_answer_137 : decode b_CR_answer 137 = .ok (.iconst 0, 1) := by decide +kernel
theorem d_CR_answer_138 : decode b_CR_answer 138 = .ok (.isub, 1) := by decide +kernel
theorem d_CR_answer_139 : decode b_CR_answer 139 = .ok (.putfield 71, 3) := by decide +kernel
theorem d_CR_answer_142 : decode b_CR_answer 142 = .ok (.aload 7, 2) := by decide +kernel
theorem d_CR_answer_144 : decode b_CR_answer 144 = .ok (.invokevirtual 131, 3) := by decide +kernel
theorem d_CR_answer_147 : decode b_CR_answer 147 = .ok (.ireturn, 1) := by decide +kernel
theorem d_CR_isPicture_0 : decode b_CR_isPicture 0 = .ok (.iload_n 1, 1) := by decide +kernel
theorem d_CR_isPicture_1 : decode b_CR_isPicture 1 = .ok (.ifCond .le 15, 3) := by decide +kernel
theorem d_CR_isPicture_4 : decode b_CR_isPicture 4 = .ok (.iload_n 1, 1) := by decide +kernel
theorem d_CR_isPicture_5 : decode b_CR_isPicture 5 = .ok (.aload_n 0, 1) := by decide +kernel
theorem d_CR_isPicture_6 : decode b_CR_isPicture 6 = .ok (.getfield 39, 3) := by decide +kernel
theorem d_CR_isPicture_9 : decode b_CR_isPicture 9 = .ok (.if_icmp .gt 7, 3) := by decide +kernel
theorem d_CR_isPicture_12 : decode b_CR_isPicture 12 = .ok (.iconst 1, 1) := by decide +kernel
theorem d_CR_isPicture_13 : decode b_CR_isPicture 13 = .ok (.goto 4, 3) := by decide +kernel
theorem d_CR_isPicture_16 : decode b_CR_isPicture 16 = .ok (.iconst 0, 1) := by decide +kernel
theorem d_CR_isPicture_17 : decode b_CR_isPicture 17 = .ok (.ireturn, 1) := by decide +kernel
theorem d_Pi_add_0 : decode b_Pi_add 0 = .ok (.aload_n 0, 1) := by decide +kernel
theorem d_Pi_add_1 : decode b_Pi_add 1 = .ok (.invokevirtual 57, 3) := by decide +kernel
theorem d_Pi_add_4 : decode b_Pi_add 4 = .ok (.ifCond .eq 4, 3) := by decide +kernel
theorem d_Pi_add_7 : decode b_Pi_add 7 = .ok (.return_, 1) := by decide +kernel
theorem d_Pi_add_8 : decode b_Pi_add 8 = .ok (.aload_n 0, 1) := by decide +kernel
theorem d_Pi_add_9 : decode b_Pi_add 9 = .ok (.getfield 35, 3) := by decide +kernel
theorem d_Pi_add_12 : decode b_Pi_add 12 = .ok (.ifCond .le 17, 3) := by decide +kernel
theorem d_Pi_add_15 : decode b_Pi_add 15 = .ok (.aload_n 0, 1) := by decide +kernel
theorem d_Pi_add_16 : decode b_Pi_add 16 = .ok (.getfield 15, 3) := by decide +kernel
theorem d_Pi_add_19 : decode b_Pi_add 19 = .ok (.iconst 0, 1) := by decide +kernel
theorem d_Pi_add_20 : decode b_Pi_add 20 = .ok (.iaload, 1) := by decide +kernel
theorem d_Pi_add_21 : decode b_Pi_add 21 = .ok (.iload_n 1, 1) := by decide +kernel
theorem d_Pi_add_22 : decode b_Pi_add 22 = .ok (.if_icmp .ne 7, 3) := by decide +kernel
theorem d_Pi_add_25 : decode b_Pi_add 25 = .ok (.iconst 1, 1) := by decide +kernel
theorem d_Pi_add_26 : decode b_Pi_add 26 = .ok (.goto 4, 3) := by decide +kernel
theorem d_Pi_add_29 : decode b_Pi_add 29 = .ok (.iconst 0, 1) := by decide +kernel
theorem d_Pi_add_30 : decode b_Pi_add 30 = .ok (.istore_n 2, 1) := by decide +kernel
theorem d_Pi_add_31 : decode b_Pi_add 31 = .ok (.aload_n 0, 1) := by decide +kernel
theorem d_Pi_add_32 : decode b_Pi_add 32 = .ok (.getfield 35, 3) := by decide +kernel
theorem d_Pi_add_35 : decode b_Pi_add 35 = .ok (.iconst 1, 1) := by decide +kernel
theorem d_Pi_add_36 : decode b_Pi_add 36 = .ok (.if_icmp .le 17, 3) := by decide +kernel
theorem d_Pi_add_39 : decode b_Pi_add 39 = .ok (.aload_n 0, 1) := by decide +kernel
theorem d_Pi_add_40 : decode b_Pi_add 40 = .ok (.getfield 15, 3) := by decide +kernel
theorem d_Pi_add_43 : decode b_Pi_add 43 = .ok (.iconst 1, 1) := by decide +kernel
theorem d_Pi_add_44 : decode b_Pi_add 44 = .ok (.iaload, 1) := by decide +kernel
theorem d_Pi_add_45 : decode b_Pi_add 45 = .ok (.iload_n 1, 1) := by decide +kernel
theorem d_Pi_add_46 : decode b_Pi_add 46 = .ok (.if_icmp .ne 7, 3) := by decide +kernel
theorem d_Pi_add_49 : decode b_Pi_add 49 = .ok (.iconst 1, 1) := by decide +kernel
theorem d_Pi_add_50 : decode b_Pi_add 50 = .ok (.goto 4, 3) := by decide +kernel
theorem d_Pi_add_53 : decode b_Pi_add 53 = .ok (.iconst 0, 1) := by decide +kernel
theorem d_Pi_add_54 : decode b_Pi_add 54 = .ok (.istore_n 3, 1) := by decide +kernel
theorem d_Pi_add_55 : decode b_Pi_add 55 = .ok (.aload_n 0, 1) := by decide +kernel
theorem d_Pi_add_56 : decode b_Pi_add 56 = .ok (.getfield 15, 3) := by decide +kernel
theorem d_Pi_add_59 : decode b_Pi_add 59 = .ok (.aload_n 0, 1) := by decide +kernel
theorem d_Pi_add_60 : decode b_Pi_add 60 = .ok (.getfield 35, 3) := by decide +kernel
theorem d_Pi_add_63 : decode b_Pi_add 63 = .ok (.iload_n 1, 1) := by decide +kernel
theorem d_Pi_add_64 : decode b_Pi_add 64 = .ok (.iastore, 1) := by decide +kernel
theorem d_Pi_add_65 : decode b_Pi_add 65 = .ok (.aload_n 0, 1) := by decide +kernel
theorem d_Pi_add_66 : decode b_Pi_add 66 = .ok (.dup, 1) := by decide +kernel
theorem d_Pi_add_67 : decode b_Pi_add 67 = .ok (.getfield 35, 3) := by decide +kernel
theorem d_Pi_add_70 : decode b_Pi_add 70 = .ok (.iconst 1, 1) := by decide +kernel
theorem d_Pi_add_71 : decode b_Pi_add 71 = .ok (.iadd, 1) := by decide +kernel
theorem d_Pi_add_72 : decode b_Pi_add 72 = .ok (.putfield 35, 3) := by decide +kernel
theorem d_Pi_add_75 : decode b_Pi_add 75 = .ok (.iload_n 2, 1) := by decide +kernel
theorem d_Pi_add_76 : decode b_Pi_add 76 = .ok (.ifCond .ne 7, 3) := by decide +kernel
theorem d_Pi_add_79 : decode b_Pi_add 79 = .ok (.iload_n 3, 1) := by decide +kernel
theorem d_Pi_add_80 : decode b_Pi_add 80 = .ok (.ifCond .eq 11, 3) := by decide +kernel
theorem d_Pi_add_83 : decode b_Pi_add 83 = .ok (.aload_n 0, 1) := by decide +kernel
theorem d_Pi_add_84 : decode b_Pi_add 84 = .ok (.iload_n 1, 1) := by decide +kernel
theorem d_Pi_add_85 : decode b_Pi_add 85 = .ok (.invokevirtual 79, 3) := by decide +kernel
theorem d_Pi_add_88 : decode b_Pi_add 88 = .ok (.goto 16, 3) := by decide +kernel
theorem d_Pi_add_91 : decode b_Pi_add 91 = .ok (.aload_n 0, 1) := by decide +kernel
theorem d_Pi_add_92 : decode b_Pi_add 92 = .ok (.getfield 35, 3) := by decide +kernel
theorem d_Pi_add_95 : decode b_Pi_add 95 = .ok (.iconst 3, 1) := by decide +kernel
theorem d_Pi_add_96 : decode b_Pi_add 96 = .ok (.if_icmp .ne 8, 3) := by decide +kernel
theorem d_Pi_add_99 : decode b_Pi_add 99 = .ok (.aload_n 0, 1) := by decide +kernel
theorem d_Pi_add_100 : decode b_Pi_add 100 = .ok (.iconst 0, 1) := by decide +kernel
theorem d_Pi_add_101 : decode b_Pi_add 101 = .ok (.invokevirtual 79, 3) := by decide +kernel
theorem d_Pi_add_104 : decode b_Pi_add 104 = .ok (.return_, 1) := by decide +kernel
theorem d_Pi_finish_0 : decode b_Pi_finish 0 = .ok (.aload_n 0, 1) := by decide +kernel
theorem d_Pi_finish_1 : decode b_Pi_finish 1 = .ok (.iload_n 1, 1) := by decide +kernel
theorem d_Pi_finish_2 : decode b_Pi_finish 2 = .ok (.putfield 70, 3) := by decide +kernel
theorem d_Pi_finish_5 : decode b_Pi_finish 5 = .ok (.aload_n 0, 1) := by decide +kernel
theorem d_Pi_finish_6 : decode b_Pi_finish 6 = .ok (.iload_n 1, 1) := by decide +kernel
theorem d_Pi_finish_7 : decode b_Pi_finish 7 = .ok (.ifCond .le 9, 3) := by decide +kernel
theorem d_Pi_finish_10 : decode b_Pi_finish 10 = .ok (.getstatic 73, 3) := by decide +kernel
theorem d_Pi_finish_13 : decode b_Pi_finish 13 = .ok (.goto 6, 3) := by decide +kernel
theorem d_Pi_finish_16 : decode b_Pi_finish 16 = .ok (.getstatic 76, 3) := by decide +kernel
theorem d_Pi_finish_19 : decode b_Pi_finish 19 = .ok (.putfield 24, 3) := by decide +kernel
theorem d_Pi_finish_22 : decode b_Pi_finish 22 = .ok (.return_, 1) := by decide +kernel
theorem d_Pi_state_0 : decode b_Pi_state 0 = .ok (.aload_n 0, 1) := by decide +kernel
theorem d_Pi_state_1 : decode b_Pi_state 1 = .ok (.getfield 24, 3) := by decide +kernel
theorem d_Pi_state_4 : decode b_Pi_state 4 = .ok (.invokevirtual 67, 3) := by decide +kernel
theorem d_Pi_state_7 : decode b_Pi_state 7 = .ok (.tableswitch 31 1 3 #[25, 27, 29], 25) := by decide +kernel
theorem d_Pi_state_32 : decode b_Pi_state 32 = .ok (.iconst 2, 1) := by decide +kernel
theorem d_Pi_state_33 : decode b_Pi_state 33 = .ok (.ireturn, 1) := by decide +kernel
theorem d_Pi_state_34 : decode b_Pi_state 34 = .ok (.iconst 3, 1) := by decide +kernel
theorem d_Pi_state_35 : decode b_Pi_state 35 = .ok (.ireturn, 1) := by decide +kernel
theorem d_Pi_state_36 : decode b_Pi_state 36 = .ok (.iconst 4, 1) := by decide +kernel
theorem d_Pi_state_37 : decode b_Pi_state 37 = .ok (.ireturn, 1) := by decide +kernel
theorem d_Pi_state_38 : decode b_Pi_state 38 = .ok (.aload_n 0, 1) := by decide +kernel
theorem d_Pi_state_39 : decode b_Pi_state 39 = .ok (.invokevirtual 60, 3) := by decide +kernel
theorem d_Pi_state_42 : decode b_Pi_state 42 = .ok (.ifCond .eq 7, 3) := by decide +kernel
theorem d_Pi_state_45 : decode b_Pi_state 45 = .ok (.iconst 1, 1) := by decide +kernel
theorem d_Pi_state_46 : decode b_Pi_state 46 = .ok (.goto 4, 3) := by decide +kernel
theorem d_Pi_state_49 : decode b_Pi_state 49 = .ok (.iconst 0, 1) := by decide +kernel
theorem d_Pi_state_50 : decode b_Pi_state 50 = .ok (.ireturn, 1) := by decide +kernel
theorem d_Eu_ordinal_0 : decode b_Eu_ordinal 0 = .ok (.aload_n 0, 1) := by decide +kernel
theorem d_Eu_ordinal_1 : decode b_Eu_ordinal 1 = .ok (.getfield 7, 3) := by decide +kernel
theorem d_Eu_ordinal_4 : decode b_Eu_ordinal 4 = .ok (.ireturn, 1) := by decide +kernel
theorem d_CR_office_0 : decode b_CR_office 0 = .ok (.iload_n 1, 1) := by decide +kernel
theorem d_CR_office_1 : decode b_CR_office 1 = .ok (.invokestatic 83, 3) := by decide +kernel
theorem d_CR_office_4 : decode b_CR_office 4 = .ok (.ifCond .ne 6, 3) := by decide +kernel
theorem d_CR_office_7 : decode b_CR_office 7 = .ok (.bipush (-101), 2) := by decide +kernel
theorem d_CR_office_9 : decode b_CR_office 9 = .ok (.ireturn, 1) := by decide +kernel
theorem d_CR_office_10 : decode b_CR_office 10 = .ok (.iload_n 2, 1) := by decide +kernel
theorem d_CR_office_11 : decode b_CR_office 11 = .ok (.i2l, 1) := by decide +kernel
theorem d_CR_office_12 : decode b_CR_office 12 = .ok (.lconst 0, 1) := by decide +kernel
theorem d_CR_office_13 : decode b_CR_office 13 = .ok (.ldc2_w 135, 3) := by decide +kernel
theorem d_CR_office_16 : decode b_CR_office 16 = .ok (.invokestatic 48, 3) := by decide +kernel
theorem d_CR_office_19 : decode b_CR_office 19 = .ok (.ifCond .ne 15, 3) := by decide +kernel
theorem d_CR_office_22 : decode b_CR_office 22 = .ok (.iload_n 3, 1) := by decide +kernel
theorem d_CR_office_23 : decode b_CR_office 23 = .ok (.i2l, 1) := by decide +kernel
theorem d_CR_office_24 : decode b_CR_office 24 = .ok (.lconst 0, 1) := by decide +kernel
theorem d_CR_office_25 : decode b_CR_office 25 = .ok (.ldc2_w 74, 3) := by decide +kernel
theorem d_CR_office_28 : decode b_CR_office 28 = .ok (.invokestatic 48, 3) := by decide +kernel
theorem d_CR_office_31 : decode b_CR_office 31 = .ok (.ifCond .eq 6, 3) := by decide +kernel
theorem d_CR_office_34 : decode b_CR_office 34 = .ok (.bipush (-102), 2) := by decide +kernel
theorem d_CR_office_36 : decode b_CR_office 36 = .ok (.ireturn, 1) := by decide +kernel
theorem d_CR_office_37 : decode b_CR_office 37 = .ok (.aload_n 0, 1) := by decide +kernel
theorem d_CR_office_38 : decode b_CR_office 38 = .ok (.getfield 17, 3) := by decide +kernel
theorem d_CR_office_41 : decode b_CR_office 41 = .ok (.iload_n 1, 1) := by decide +kernel
theorem d_CR_office_42 : decode b_CR_office 42 = .ok (.aaload, 1) := by decide +kernel
theorem d_CR_office_43 : decode b_CR_office 43 = .ok (.astore 4, 2) := by decide +kernel
theorem d_CR_office_45 : decode b_CR_office 45 = .ok (.aload 4, 2) := by decide +kernel
theorem d_CR_office_47 : decode b_CR_office 47 = .ok (.iload_n 2, 1) := by decide +kernel
theorem d_CR_office_48 : decode b_CR_office 48 = .ok (.iload_n 3, 1) := by decide +kernel
theorem d_CR_office_49 : decode b_CR_office 49 = .ok (.invokevirtual 137, 3) := by decide +kernel
theorem d_CR_office_52 : decode b_CR_office 52 = .ok (.ifCond .eq 7, 3) := by decide +kernel
theorem d_CR_office_55 : decode b_CR_office 55 = .ok (.iconst 0, 1) := by decide +kernel
theorem d_CR_office_56 : decode b_CR_office 56 = .ok (.goto 4, 3) := by decide +kernel
theorem d_CR_office_59 : decode b_CR_office 59 = .ok (.iconst 1, 1) := by decide +kernel
theorem d_CR_office_60 : decode b_CR_office 60 = .ok (.istore 5, 2) := by decide +kernel
theorem d_CR_office_62 : decode b_CR_office 62 = .ok (.aload 4, 2) := by decide +kernel
theorem d_CR_office_64 : decode b_CR_office 64 = .ok (.iconst 1, 1) := by decide +kernel
theorem d_CR_office_65 : decode b_CR_office 65 = .ok (.putfield 91, 3) := by decide +kernel
theorem d_CR_office_68 : decode b_CR_office 68 = .ok (.aload 4, 2) := by decide +kernel
theorem d_CR_office_70 : decode b_CR_office 70 = .ok (.iload_n 2, 1) := by decide +kernel
theorem d_CR_office_71 : decode b_CR_office 71 = .ok (.putfield 107, 3) := by decide +kernel
theorem d_CR_office_74 : decode b_CR_office 74 = .ok (.aload 4, 2) := by decide +kernel
theorem d_CR_office_76 : decode b_CR_office 76 = .ok (.iload_n 3, 1) := by decide +kernel
theorem d_CR_office_77 : decode b_CR_office 77 = .ok (.putfield 141, 3) := by decide +kernel
theorem d_CR_office_80 : decode b_CR_office 80 = .ok (.iload 5, 2) := by decide +kernel
theorem d_CR_office_82 : decode b_CR_office 82 = .ok (.ireturn, 1) := by decide +kernel
theorem d_Ck_is_0 : decode b_Ck_is 0 = .ok (.aload_n 0, 1) := by decide +kernel
theorem d_Ck_is_1 : decode b_Ck_is 1 = .ok (.getfield 7, 3) := by decide +kernel
theorem d_Ck_is_4 : decode b_Ck_is 4 = .ok (.ifCond .eq 23, 3) := by decide +kernel
theorem d_Ck_is_7 : decode b_Ck_is 7 = .ok (.aload_n 0, 1) := by decide +kernel
theorem d_Ck_is_8 : decode b_Ck_is 8 = .ok (.getfield 13, 3) := by decide +kernel
theorem d_Ck_is_11 : decode b_Ck_is 11 = .ok (.iload_n 1, 1) := by decide +kernel
theorem d_Ck_is_12 : decode b_Ck_is 12 = .ok (.if_icmp .ne 15, 3) := by decide +kernel
theorem d_Ck_is_15 : decode b_Ck_is 15 = .ok (.aload_n 0, 1) := by decide +kernel
theorem d_Ck_is_16 : decode b_Ck_is 16 = .ok (.getfield 17, 3) := by decide +kernel
theorem d_Ck_is_19 : decode b_Ck_is 19 = .ok (.iload_n 2, 1) := by decide +kernel
theorem d_Ck_is_20 : decode b_Ck_is 20 = .ok (.if_icmp .ne 7, 3) := by decide +kernel
theorem d_Ck_is_23 : decode b_Ck_is 23 = .ok (.iconst 1, 1) := by decide +kernel
theorem d_Ck_is_24 : decode b_Ck_is 24 = .ok (.goto 4, 3) := by decide +kernel
theorem d_Ck_is_27 : decode b_Ck_is 27 = .ok (.iconst 0, 1) := by decide +kernel
theorem d_Ck_is_28 : decode b_Ck_is 28 = .ok (.ireturn, 1) := by decide +kernel
theorem d_CR_leave_0 : decode b_CR_leave 0 = .ok (.iload_n 1, 1) := by decide +kernel
theorem d_CR_leave_1 : decode b_CR_leave 1 = .ok (.invokestatic 83, 3) := by decide +kernel
theorem d_CR_leave_4 : decode b_CR_leave 4 = .ok (.ifCond .ne 6, 3) := by decide +kernel
theorem d_CR_leave_7 : decode b_CR_leave 7 = .ok (.bipush (-101), 2) := by decide +kernel
theorem d_CR_leave_9 : decode b_CR_leave 9 = .ok (.ireturn, 1) := by decide +kernel
theorem d_CR_leave_10 : decode b_CR_leave 10 = .ok (.aload_n 0, 1) := by decide +kernel
theorem d_CR_leave_11 : decode b_CR_leave 11 = .ok (.getfield 17, 3) := by decide +kernel
theorem d_CR_leave_14 : decode b_CR_leave 14 = .ok (.iload_n 1, 1) := by decide +kernel
theorem d_CR_leave_15 : decode b_CR_leave 15 = .ok (.aaload, 1) := by decide +kernel
theorem d_CR_leave_16 : decode b_CR_leave 16 = .ok (.astore_n 2, 1) := by decide +kernel
theorem d_CR_leave_17 : decode b_CR_leave 17 = .ok (.aload_n 2, 1) := by decide +kernel
theorem d_CR_leave_18 : decode b_CR_leave 18 = .ok (.getfield 91, 3) := by decide +kernel
theorem d_CR_leave_21 : decode b_CR_leave 21 = .ok (.ifCond .ne 6, 3) := by decide +kernel
theorem d_CR_leave_24 : decode b_CR_leave 24 = .ok (.bipush (-103), 2) := by decide +kernel
theorem d_CR_leave_26 : decode b_CR_leave 26 = .ok (.ireturn, 1) := by decide +kernel
theorem d_CR_leave_27 : decode b_CR_leave 27 = .ok (.aload_n 2, 1) := by decide +kernel
theorem d_CR_leave_28 : decode b_CR_leave 28 = .ok (.iconst 0, 1) := by decide +kernel
theorem d_CR_leave_29 : decode b_CR_leave 29 = .ok (.putfield 91, 3) := by decide +kernel
theorem d_CR_leave_32 : decode b_CR_leave 32 = .ok (.aload_n 2, 1) := by decide +kernel
theorem d_CR_leave_33 : decode b_CR_leave 33 = .ok (.getfield 95, 3) := by decide +kernel
theorem d_CR_leave_36 : decode b_CR_leave 36 = .ok (.ifnonnull 5, 3) := by decide +kernel
theorem d_CR_leave_39 : decode b_CR_leave 39 = .ok (.iconst 0, 1) := by decide +kernel
theorem d_CR_leave_40 : decode b_CR_leave 40 = .ok (.ireturn, 1) := by decide +kernel
theorem d_CR_leave_41 : decode b_CR_leave 41 = .ok (.aload_n 0, 1) := by decide +kernel
theorem d_CR_leave_42 : decode b_CR_leave 42 = .ok (.iload_n 1, 1) := by decide +kernel
theorem d_CR_leave_43 : decode b_CR_leave 43 = .ok (.invokevirtual 144, 3) := by decide +kernel
theorem d_CR_leave_46 : decode b_CR_leave 46 = .ok (.iconst 1, 1) := by decide +kernel
theorem d_CR_leave_47 : decode b_CR_leave 47 = .ok (.ireturn, 1) := by decide +kernel
theorem d_CR_giveBack_0 : decode b_CR_giveBack 0 = .ok (.aload_n 0, 1) := by decide +kernel
theorem d_CR_giveBack_1 : decode b_CR_giveBack 1 = .ok (.getfield 17, 3) := by decide +kernel
theorem d_CR_giveBack_4 : decode b_CR_giveBack 4 = .ok (.iload_n 1, 1) := by decide +kernel
theorem d_CR_giveBack_5 : decode b_CR_giveBack 5 = .ok (.aaload, 1) := by decide +kernel
theorem d_CR_giveBack_6 : decode b_CR_giveBack 6 = .ok (.getfield 95, 3) := by decide +kernel
theorem d_CR_giveBack_9 : decode b_CR_giveBack 9 = .ok (.astore_n 2, 1) := by decide +kernel
theorem d_CR_giveBack_10 : decode b_CR_giveBack 10 = .ok (.aload_n 0, 1) := by decide +kernel
theorem d_CR_giveBack_11 : decode b_CR_giveBack 11 = .ok (.getfield 17, 3) := by decide +kernel
theorem d_CR_giveBack_14 : decode b_CR_giveBack 14 = .ok (.iload_n 1, 1) := by decide +kernel
theorem d_CR_giveBack_15 : decode b_CR_giveBack 15 = .ok (.aaload, 1) := by decide +kernel
theorem d_CR_giveBack_16 : decode b_CR_giveBack 16 = .ok (.aconst_null, 1) := by decide +kernel
theorem d_CR_giveBack_17 : decode b_CR_giveBack 17 = .ok (.putfield 95, 3) := by decide +kernel
theorem d_CR_giveBack_20 : decode b_CR_giveBack 20 = .ok (.aload_n 2, 1) := by decide +kernel
theorem d_CR_giveBack_21 : decode b_CR_giveBack 21 = .ok (.dup, 1) := by decide +kernel
theorem d_CR_giveBack_22 : decode b_CR_giveBack 22 = .ok (.getfield 116, 3) := by decide +kernel
theorem d_CR_giveBack_25 : decode b_CR_giveBack 25 = .ok (.iconst 1, 1) := by decide +kernel
theorem d_CR_giveBack_26 : decode b_CR_giveBack 26 = .ok (.isub, 1) := by decide +kernel
theorem d_CR_giveBack_27 : decode b_CR_giveBack 27 = .ok (.putfield 116, 3) := by decide +kernel
theorem d_CR_giveBack_30 : decode b_CR_giveBack 30 = .ok (.aload_n 2, 1) := by decide +kernel
theorem d_CR_giveBack_31 : decode b_CR_giveBack 31 = .ok (.dup, 1) := by decide +kernel
theorem d_CR_giveBack_32 : decode b_CR_giveBack 32 = .ok (.getfield 113, 3) := by decide +kernel
theorem d_CR_giveBack_35 : decode b_CR_giveBack 35 = .ok (.iconst 1, 1) := by decide +kernel
theorem d_CR_giveBack_36 : decode b_CR_giveBack 36 = .ok (.aload_n 0, 1) := by decide +kernel
theorem d_CR_giveBack_37 : decode b_CR_giveBack 37 = .ok (.getfield 21, 3) := by decide +kernel
theorem d_CR_giveBack_40 : decode b_CR_giveBack 40 = .ok (.iload_n 1, 1) := by decide +kernel
theorem d_CR_giveBack_41 : decode b_CR_giveBack 41 = .ok (.iaload, 1) := by decide +kernel
theorem d_CR_giveBack_42 : decode b_CR_giveBack 42 = .ok (.ishl, 1) := by decide +kernel
theorem d_CR_giveBack_43 : decode b_CR_giveBack 43 = .ok (.iconst (-1), 1) := by decide +kernel
theorem d_CR_giveBack_44 : decode b_CR_giveBack 44 = .ok (.ixor, 1) := by decide +kernel
theorem d_CR_giveBack_45 : decode b_CR_giveBack 45 = .ok (.iand, 1) := by decide +kernel
theorem d_CR_giveBack_46 : decode b_CR_giveBack 46 = .ok (.putfield 113, 3) := by decide +kernel
theorem d_CR_giveBack_49 : decode b_CR_giveBack 49 = .ok (.return_, 1) := by decide +kernel
theorem d_CR_tick_0 : decode b_CR_tick 0 = .ok (.aload_n 0, 1) := by decide +kernel
theorem d_CR_tick_1 : decode b_CR_tick 1 = .ok (.lload_n 1, 1) := by decide +kernel
theorem d_CR_tick_2 : decode b_CR_tick 2 = .ok (.invokevirtual 87, 3) := by decide +kernel
theorem d_CR_tick_5 : decode b_CR_tick 5 = .ok (.ifCond .eq 6, 3) := by decide +kernel
theorem d_CR_tick_8 : decode b_CR_tick 8 = .ok (.bipush (-102), 2) := by decide +kernel
theorem d_CR_tick_10 : decode b_CR_tick 10 = .ok (.ireturn, 1) := by decide +kernel
theorem d_CR_tick_11 : decode b_CR_tick 11 = .ok (.aload_n 0, 1) := by decide +kernel
theorem d_CR_tick_12 : decode b_CR_tick 12 = .ok (.lload_n 1, 1) := by decide +kernel
theorem d_CR_tick_13 : decode b_CR_tick 13 = .ok (.invokevirtual 99, 3) := by decide +kernel
theorem d_CR_tick_16 : decode b_CR_tick 16 = .ok (.aload_n 0, 1) := by decide +kernel
theorem d_CR_tick_17 : decode b_CR_tick 17 = .ok (.getfield 68, 3) := by decide +kernel
theorem d_CR_tick_20 : decode b_CR_tick 20 = .ok (.istore_n 3, 1) := by decide +kernel
theorem d_CR_tick_21 : decode b_CR_tick 21 = .ok (.aload_n 0, 1) := by decide +kernel
theorem d_CR_tick_22 : decode b_CR_tick 22 = .ok (.iconst 0, 1) := by decide +kernel
theorem d_CR_tick_23 : decode b_CR_tick 23 = .ok (.putfield 68, 3) := by decide +kernel
theorem d_CR_tick_26 : decode b_CR_tick 26 = .ok (.iload_n 3, 1) := by decide +kernel
theorem d_CR_tick_27 : decode b_CR_tick 27 = .ok (.ireturn, 1) := by decide +kernel
theorem d_CR_settled_0 : decode b_CR_settled 0 = .ok (.aload_n 0, 1) := by decide +kernel
theorem d_CR_settled_1 : decode b_CR_settled 1 = .ok (.iload_n 1, 1) := by decide +kernel
theorem d_CR_settled_2 : decode b_CR_settled 2 = .ok (.invokevirtual 119, 3) := by decide +kernel
theorem d_CR_settled_5 : decode b_CR_settled 5 = .ok (.ifCond .ne 6, 3) := by decide +kernel
theorem d_CR_settled_8 : decode b_CR_settled 8 = .ok (.bipush (-101), 2) := by decide +kernel
theorem d_CR_settled_10 : decode b_CR_settled 10 = .ok (.ireturn, 1) := by decide +kernel
theorem d_CR_settled_11 : decode b_CR_settled 11 = .ok (.aload_n 0, 1) := by decide +kernel
theorem d_CR_settled_12 : decode b_CR_settled 12 = .ok (.getfield 11, 3) := by decide +kernel
theorem d_CR_settled_15 : decode b_CR_settled 15 = .ok (.iload_n 1, 1) := by decide +kernel
theorem d_CR_settled_16 : decode b_CR_settled 16 = .ok (.aaload, 1) := by decide +kernel
theorem d_CR_settled_17 : decode b_CR_settled 17 = .ok (.astore_n 2, 1) := by decide +kernel
theorem d_CR_settled_18 : decode b_CR_settled 18 = .ok (.aload_n 2, 1) := by decide +kernel
theorem d_CR_settled_19 : decode b_CR_settled 19 = .ok (.invokevirtual 52, 3) := by decide +kernel
theorem d_CR_settled_22 : decode b_CR_settled 22 = .ok (.ifCond .eq 10, 3) := by decide +kernel
theorem d_CR_settled_25 : decode b_CR_settled 25 = .ok (.aload_n 2, 1) := by decide +kernel
theorem d_CR_settled_26 : decode b_CR_settled 26 = .ok (.getfield 147, 3) := by decide +kernel
theorem d_CR_settled_29 : decode b_CR_settled 29 = .ok (.goto 4, 3) := by decide +kernel
theorem d_CR_settled_32 : decode b_CR_settled 32 = .ok (.iconst (-1), 1) := by decide +kernel
theorem d_CR_settled_33 : decode b_CR_settled 33 = .ok (.ireturn, 1) := by decide +kernel
theorem d_CR_state_0 : decode b_CR_state 0 = .ok (.aload_n 0, 1) := by decide +kernel
theorem d_CR_state_1 : decode b_CR_state 1 = .ok (.iload_n 1, 1) := by decide +kernel
theorem d_CR_state_2 : decode b_CR_state 2 = .ok (.invokevirtual 119, 3) := by decide +kernel
theorem d_CR_state_5 : decode b_CR_state 5 = .ok (.ifCond .eq 15, 3) := by decide +kernel
theorem d_CR_state_8 : decode b_CR_state 8 = .ok (.aload_n 0, 1) := by decide +kernel
theorem d_CR_state_9 : decode b_CR_state 9 = .ok (.getfield 11, 3) := by decide +kernel
theorem d_CR_state_12 : decode b_CR_state 12 = .ok (.iload_n 1, 1) := by decide +kernel
theorem d_CR_state_13 : decode b_CR_state 13 = .ok (.aaload, 1) := by decide +kernel
theorem d_CR_state_14 : decode b_CR_state 14 = .ok (.invokevirtual 131, 3) := by decide +kernel
theorem d_CR_state_17 : decode b_CR_state 17 = .ok (.goto 5, 3) := by decide +kernel
theorem d_CR_state_20 : decode b_CR_state 20 = .ok (.bipush (-101), 2) := by decide +kernel
theorem d_CR_state_22 : decode b_CR_state 22 = .ok (.ireturn, 1) := by decide +kernel
theorem d_CR_agreement_0 : decode b_CR_agreement 0 = .ok (.iload_n 1, 1) := by decide +kernel
theorem d_CR_agreement_1 : decode b_CR_agreement 1 = .ok (.invokestatic 83, 3) := by decide +kernel
theorem d_CR_agreement_4 : decode b_CR_agreement 4 = .ok (.ifCond .eq 10, 3) := by decide +kernel
theorem d_CR_agreement_7 : decode b_CR_agreement 7 = .ok (.iload_n 2, 1) := by decide +kernel
theorem d_CR_agreement_8 : decode b_CR_agreement 8 = .ok (.invokestatic 83, 3) := by decide +kernel
theorem d_CR_agreement_11 : decode b_CR_agreement 11 = .ok (.ifCond .ne 7, 3) := by decide +kernel
theorem d_CR_agreement_14 : decode b_CR_agreement 14 = .ok (.ldc2_w 150, 3) := by decide +kernel
theorem d_CR_agreement_17 : decode b_CR_agreement 17 = .ok (.lreturn, 1) := by decide +kernel
theorem d_CR_agreement_18 : decode b_CR_agreement 18 = .ok (.iload_n 1, 1) := by decide +kernel
theorem d_CR_agreement_19 : decode b_CR_agreement 19 = .ok (.iload_n 2, 1) := by decide +kernel
theorem d_CR_agreement_20 : decode b_CR_agreement 20 = .ok (.if_icmp .eq 12, 3) := by decide +kernel
theorem d_CR_agreement_23 : decode b_CR_agreement 23 = .ok (.iload_n 3, 1) := by decide +kernel
theorem d_CR_agreement_24 : decode b_CR_agreement 24 = .ok (.ifCond .eq 12, 3) := by decide +kernel
theorem d_CR_agreement_27 : decode b_CR_agreement 27 = .ok (.iload_n 3, 1) := by decide +kernel
theorem d_CR_agreement_28 : decode b_CR_agreement 28 = .ok (.iconst 1, 1) := by decide +kernel
theorem d_CR_agreement_29 : decode b_CR_agreement 29 = .ok (.if_icmp .eq 7, 3) := by decide +kernel
theorem d_CR_agreement_32 : decode b_CR_agreement 32 = .ok (.ldc2_w 152, 3) := by decide +kernel
theorem d_CR_agreement_35 : decode b_CR_agreement 35 = .ok (.lreturn, 1) := by decide +kernel
theorem d_CR_agreement_36 : decode b_CR_agreement 36 = .ok (.iconst 0, 1) := by decide +kernel
theorem d_CR_agreement_37 : decode b_CR_agreement 37 = .ok (.istore 4, 2) := by decide +kernel
theorem d_CR_agreement_39 : decode b_CR_agreement 39 = .ok (.iconst 1, 1) := by decide +kernel
theorem d_CR_agreement_40 : decode b_CR_agreement 40 = .ok (.istore 5, 2) := by decide +kernel
theorem d_CR_agreement_42 : decode b_CR_agreement 42 = .ok (.iload 5, 2) := by decide +kernel
theorem d_CR_agreement_44 : decode b_CR_agreement 44 = .ok (.aload_n 0, 1) := by decide +kernel
theorem d_CR_agreement_45 : decode b_CR_agreement 45 = .ok (.getfield 39, 3) := by decide +kernel
theorem d_CR_agreement_48 : decode b_CR_agreement 48 = .ok (.if_icmp .gt 71, 3) := by decide +kernel
theorem d_CR_agreement_51 : decode b_CR_agreement 51 = .ok (.aload_n 0, 1) := by decide +kernel
theorem d_CR_agreement_52 : decode b_CR_agreement 52 = .ok (.getfield 11, 3) := by decide +kernel
theorem d_CR_agreement_55 : decode b_CR_agreement 55 = .ok (.iload 5, 2) := by decide +kernel
theorem d_CR_agreement_57 : decode b_CR_agreement 57 = .ok (.aaload, 1) := by decide +kernel
theorem d_CR_agreement_58 : decode b_CR_agreement 58 = .ok (.getfield 124, 3) := by decide +kernel
theorem d_CR_agreement_61 : decode b_CR_agreement 61 = .ok (.iload_n 1, 1) := by decide +kernel
theorem d_CR_agreement_62 : decode b_CR_agreement 62 = .ok (.iaload, 1) := by decide +kernel
theorem d_CR_agreement_63 : decode b_CR_agreement 63 = .ok (.istore 6, 2) := by decide +kernel
theorem d_CR_agreement_65 : decode b_CR_agreement 65 = .ok (.aload_n 0, 1) := by decide +kernel
theorem d_CR_agreement_66 : decode b_CR_agreement 66 = .ok (.getfield 11, 3) := by decide +kernel
theorem d_CR_agreement_69 : decode b_CR_agreement 69 = .ok (.iload 5, 2) := by decide +kernel
theorem d_CR_agreement_71 : decode b_CR_agreement 71 = .ok (.aaload, 1) := by decide +kernel
theorem d_CR_agreement_72 : decode b_CR_agreement 72 = .ok (.getfield 124, 3) := by decide +kernel
theorem d_CR_agreement_75 : decode b_CR_agreement 75 = .ok (.iload_n 2, 1) := by decide +kernel
theorem d_CR_agreement_76 : decode b_CR_agreement 76 = .ok (.iaload, 1) := by decide +kernel
theorem d_CR_agreement_77 : decode b_CR_agreement 77 = .ok (.istore 7, 2) := by decide +kernel
theorem d_CR_agreement_79 : decode b_CR_agreement 79 = .ok (.iload 4, 2) := by decide +kernel
theorem d_CR_agreement_81 : decode b_CR_agreement 81 = .ok (.iload 6, 2) := by decide +kernel
theorem d_CR_agreement_83 : decode b_CR_agreement 83 = .ok (.iconst (-1), 1) := by decide +kernel
theorem d_CR_agreement_84 : decode b_CR_agreement 84 = .ok (.if_icmp .eq 25, 3) := by decide +kernel
theorem d_CR_agreement_87 : decode b_CR_agreement 87 = .ok (.iload 7, 2) := by decide +kernel
theorem d_CR_agreement_89 : decode b_CR_agreement 89 = .ok (.iconst (-1), 1) := by decide +kernel
theorem d_CR_agreement_90 : decode b_CR_agreement 90 = .ok (.if_icmp .eq 19, 3) := by decide +kernel
theorem d_CR_agreement_93 : decode b_CR_agreement 93 = .ok (.iload_n 3, 1) := by decide +kernel
theorem d_CR_agreement_94 : decode b_CR_agreement 94 = .ok (.iconst 1, 1) := by decide +kernel
theorem d_CR_agreement_95 : decode b_CR_agreement 95 = .ok (.if_icmp .eq 10, 3) := by decide +kernel
theorem d_CR_agreement_98 : decode b_CR_agreement 98 = .ok (.iload 6, 2) := by decide +kernel
theorem d_CR_agreement_100 : decode b_CR_agreement 100 = .ok (.iload 7, 2) := by decide +kernel
theorem d_CR_agreement_102 : decode b_CR_agreement 102 = .ok (.if_icmp .ne 7, 3) := by decide +kernel
theorem d_CR_agreement_105 : decode b_CR_agreement 105 = .ok (.iconst 1, 1) := by decide +kernel
theorem d_CR_agreement_106 : decode b_CR_agreement 106 = .ok (.goto 4, 3) := by decide +kernel
theorem d_CR_agreement_109 : decode b_CR_agreement 109 = .ok (.iconst 0, 1) := by decide +kernel
theorem d_CR_agreement_110 : decode b_CR_agreement 110 = .ok (.iadd, 1) := by decide +kernel
theorem d_CR_agreement_111 : decode b_CR_agreement 111 = .ok (.istore 4, 2) := by decide +kernel
theorem d_CR_agreement_113 : decode b_CR_agreement 113 = .ok (.iinc 5 1, 3) := by decide +kernel
theorem d_CR_agreement_116 : decode b_CR_agreement 116 = .ok (.goto (-74), 3) := by decide +kernel
theorem d_CR_agreement_119 : decode b_CR_agreement 119 = .ok (.iload 4, 2) := by decide +kernel
theorem d_CR_agreement_121 : decode b_CR_agreement 121 = .ok (.i2l, 1) := by decide +kernel
theorem d_CR_agreement_122 : decode b_CR_agreement 122 = .ok (.lreturn, 1) := by decide +kernel
theorem d_CR_waiting_0 : decode b_CR_waiting 0 = .ok (.aload_n 0, 1) := by decide +kernel
theorem d_CR_waiting_1 : decode b_CR_waiting 1 = .ok (.getfield 71, 3) := by decide +kernel
theorem d_CR_waiting_4 : decode b_CR_waiting 4 = .ok (.ireturn, 1) := by decide +kernel
theorem d_La_cell_0 : decode b_La_cell 0 = .ok (.iload_n 1, 1) := by decide +kernel
theorem d_La_cell_1 : decode b_La_cell 1 = .ok (.aload_n 0, 1) := by decide +kernel
theorem d_La_cell_2 : decode b_La_cell 2 = .ok (.arraylength, 1) := by decide +kernel
theorem d_La_cell_3 : decode b_La_cell 3 = .ok (.if_icmp .ge 9, 3) := by decide +kernel
theorem d_La_cell_6 : decode b_La_cell 6 = .ok (.aload_n 0, 1) := by decide +kernel
theorem d_La_cell_7 : decode b_La_cell 7 = .ok (.iload_n 1, 1) := by decide +kernel
theorem d_La_cell_8 : decode b_La_cell 8 = .ok (.iaload, 1) := by decide +kernel
theorem d_La_cell_9 : decode b_La_cell 9 = .ok (.goto 4, 3) := by decide +kernel
theorem d_La_cell_12 : decode b_La_cell 12 = .ok (.iconst 0, 1) := by decide +kernel
theorem d_La_cell_13 : decode b_La_cell 13 = .ok (.ireturn, 1) := by decide +kernel
end
section
theorem d_Mo_init_0 : decode b_Mo_init 0 = .ok (.aload_n 0, 1) := by decide +kernel
theorem d_Mo_init_1 : decode b_Mo_init 1 = .ok (.invokespecial 1, 3) := by decide +kernel
theorem d_Mo_init_4 : decode b_Mo_init 4 = .ok (.aload_n 0, 1) := by decide +kernel
theorem d_Mo_init_5 : decode b_Mo_init 5 = .ok (.sipush 301, 3) := by decide +kernel
theorem d_Mo_init_8 : decode b_Mo_init 8 = .ok (.newarray .long, 2) := by decide +kernel
theorem d_Mo_init_10 : decode b_Mo_init 10 = .ok (.putfield 7, 3) := by decide +kernel
theorem d_Mo_init_13 : decode b_Mo_init 13 = .ok (.aload_n 0, 1) := by decide +kernel
theorem d_Mo_init_14 : decode b_Mo_init 14 = .ok (.sipush 301, 3) := by decide +kernel
theorem d_Mo_init_17 : decode b_Mo_init 17 = .ok (.newarray .int, 2) := by decide +kernel
theorem d_Mo_init_19 : decode b_Mo_init 19 = .ok (.putfield 13, 3) := by decide +kernel
theorem d_Mo_init_22 : decode b_Mo_init 22 = .ok (.aload_n 0, 1) := by decide +kernel
theorem d_Mo_init_23 : decode b_Mo_init 23 = .ok (.sipush 301, 3) := by decide +kernel
theorem d_Mo_init_26 : decode b_Mo_init 26 = .ok (.newarray .int, 2) := by decide +kernel
theorem d_Mo_init_28 : decode b_Mo_init 28 = .ok (.putfield 17, 3) := by decide +kernel
theorem d_Mo_init_31 : decode b_Mo_init 31 = .ok (.aload_n 0, 1) := by decide +kernel
theorem d_Mo_init_32 : decode b_Mo_init 32 = .ok (.sipush 301, 3) := by decide +kernel
theorem d_Mo_init_35 : decode b_Mo_init 35 = .ok (.newarray .int, 2) := by decide +kernel
theorem d_Mo_init_37 : decode b_Mo_init 37 = .ok (.putfield 20, 3) := by decide +kernel
theorem d_Mo_init_40 : decode b_Mo_init 40 = .ok (.aload_n 0, 1) := by decide +kernel
theorem d_Mo_init_41 : decode b_Mo_init 41 = .ok (.sipush 301, 3) := by decide +kernel
theorem d_Mo_init_44 : decode b_Mo_init 44 = .ok (.newarray .int, 2) := by decide +kernel
theorem d_Mo_init_46 : decode b_Mo_init 46 = .ok (.putfield 23, 3) := by decide +kernel
theorem d_Mo_init_49 : decode b_Mo_init 49 = .ok (.aload_n 0, 1) := by decide +kernel
theorem d_Mo_init_50 : decode b_Mo_init 50 = .ok (.sipush 903, 3) := by decide +kernel
theorem d_Mo_init_53 : decode b_Mo_init 53 = .ok (.newarray .int, 2) := by decide +kernel
theorem d_Mo_init_55 : decode b_Mo_init 55 = .ok (.putfield 26, 3) := by decide +kernel
theorem d_Mo_init_58 : decode b_Mo_init 58 = .ok (.aload_n 0, 1) := by decide +kernel
theorem d_Mo_init_59 : decode b_Mo_init 59 = .ok (.sipush 6020, 3) := by decide +kernel
theorem d_Mo_init_62 : decode b_Mo_init 62 = .ok (.newarray .int, 2) := by decide +kernel
theorem d_Mo_init_64 : decode b_Mo_init 64 = .ok (.putfield 29, 3) := by decide +kernel
theorem d_Mo_init_67 : decode b_Mo_init 67 = .ok (.aload_n 0, 1) := by decide +kernel
theorem d_Mo_init_68 : decode b_Mo_init 68 = .ok (.sipush 6020, 3) := by decide +kernel
theorem d_Mo_init_71 : decode b_Mo_init 71 = .ok (.newarray .int, 2) := by decide +kernel
theorem d_Mo_init_73 : decode b_Mo_init 73 = .ok (.putfield 32, 3) := by decide +kernel
theorem d_Mo_init_76 : decode b_Mo_init 76 = .ok (.aload_n 0, 1) := by decide +kernel
theorem d_Mo_init_77 : decode b_Mo_init 77 = .ok (.sipush 6020, 3) := by decide +kernel
theorem d_Mo_init_80 : decode b_Mo_init 80 = .ok (.newarray .int, 2) := by decide +kernel
theorem d_Mo_init_82 : decode b_Mo_init 82 = .ok (.putfield 35, 3) := by decide +kernel
theorem d_Mo_init_85 : decode b_Mo_init 85 = .ok (.aload_n 0, 1) := by decide +kernel
theorem d_Mo_init_86 : decode b_Mo_init 86 = .ok (.bipush 20, 2) := by decide +kernel
theorem d_Mo_init_88 : decode b_Mo_init 88 = .ok (.newarray .boolean, 2) := by decide +kernel
theorem d_Mo_init_90 : decode b_Mo_init 90 = .ok (.putfield 38, 3) := by decide +kernel
theorem d_Mo_init_93 : decode b_Mo_init 93 = .ok (.aload_n 0, 1) := by decide +kernel
theorem d_Mo_init_94 : decode b_Mo_init 94 = .ok (.bipush 20, 2) := by decide +kernel
theorem d_Mo_init_96 : decode b_Mo_init 96 = .ok (.newarray .int, 2) := by decide +kernel
theorem d_Mo_init_98 : decode b_Mo_init 98 = .ok (.putfield 42, 3) := by decide +kernel
theorem d_Mo_init_101 : decode b_Mo_init 101 = .ok (.aload_n 0, 1) := by decide +kernel
theorem d_Mo_init_102 : decode b_Mo_init 102 = .ok (.bipush 20, 2) := by decide +kernel
theorem d_Mo_init_104 : decode b_Mo_init 104 = .ok (.newarray .int, 2) := by decide +kernel
theorem d_Mo_init_106 : decode b_Mo_init 106 = .ok (.putfield 45, 3) := by decide +kernel
theorem d_Mo_init_109 : decode b_Mo_init 109 = .ok (.aload_n 0, 1) := by decide +kernel
theorem d_Mo_init_110 : decode b_Mo_init 110 = .ok (.iload_n 1, 1) := by decide +kernel
theorem d_Mo_init_111 : decode b_Mo_init 111 = .ok (.iconst 1, 1) := by decide +kernel
theorem d_Mo_init_112 : decode b_Mo_init 112 = .ok (.if_icmp .ge 7, 3) := by decide +kernel
theorem d_Mo_init_115 : decode b_Mo_init 115 = .ok (.iconst 1, 1) := by decide +kernel
theorem d_Mo_init_116 : decode b_Mo_init 116 = .ok (.goto 15, 3) := by decide +kernel
theorem d_Mo_init_119 : decode b_Mo_init 119 = .ok (.iload_n 1, 1) := by decide +kernel
theorem d_Mo_init_120 : decode b_Mo_init 120 = .ok (.bipush 100, 2) := by decide +kernel
theorem d_Mo_init_122 : decode b_Mo_init 122 = .ok (.if_icmp .le 8, 3) := by decide +kernel
theorem d_Mo_init_125 : decode b_Mo_init 125 = .ok (.bipush 100, 2) := by decide +kernel
theorem d_Mo_init_127 : decode b_Mo_init 127 = .ok (.goto 4, 3) := by decide +kernel
theorem d_Mo_init_130 : decode b_Mo_init 130 = .ok (.iload_n 1, 1) := by decide +kernel
theorem d_Mo_init_131 : decode b_Mo_init 131 = .ok (.putfield 48, 3) := by decide +kernel
theorem d_Mo_init_134 : decode b_Mo_init 134 = .ok (.iconst 0, 1) := by decide +kernel
theorem d_Mo_init_135 : decode b_Mo_init 135 = .ok (.istore_n 2, 1) := by decide +kernel
theorem d_Mo_init_136 : decode b_Mo_init 136 = .ok (.iload_n 2, 1) := by decide +kernel
theorem d_Mo_init_137 : decode b_Mo_init 137 = .ok (.sipush 6020, 3) := by decide +kernel
theorem d_Mo_init_140 : decode b_Mo_init 140 = .ok (.if_icmp .ge 16, 3) := by decide +kernel
theorem d_Mo_init_143 : decode b_Mo_init 143 = .ok (.aload_n 0, 1) := by decide +kernel
theorem d_Mo_init_144 : decode b_Mo_init 144 = .ok (.getfield 35, 3) := by decide +kernel
theorem d_Mo_init_147 : decode b_Mo_init 147 = .ok (.iload_n 2, 1) := by decide +kernel
theorem d_Mo_init_148 : decode b_Mo_init 148 = .ok (.iconst (-1), 1) := by decide +kernel
theorem d_Mo_init_149 : decode b_Mo_init 149 = .ok (.iastore, 1) := by decide +kernel
theorem d_Mo_init_150 : decode b_Mo_init 150 = .ok (.iinc 2 1, 3) := by decide +kernel
theorem d_Mo_init_153 : decode b_Mo_init 153 = .ok (.goto (-17), 3) := by decide +kernel
theorem d_Mo_init_156 : decode b_Mo_init 156 = .ok (.return_, 1) := by decide +kernel
theorem d_Mo_picture_0 : decode b_Mo_picture 0 = .ok (.aload_n 0, 1) := by decide +kernel
theorem d_Mo_picture_1 : decode b_Mo_picture 1 = .ok (.iconst 0, 1) := by decide +kernel
theorem d_Mo_picture_2 : decode b_Mo_picture 2 = .ok (.putfield 52, 3) := by decide +kernel
theorem d_Mo_picture_5 : decode b_Mo_picture 5 = .ok (.aload_n 0, 1) := by decide +kernel
theorem d_Mo_picture_6 : decode b_Mo_picture 6 = .ok (.lload_n 1, 1) := by decide +kernel
theorem d_Mo_picture_7 : decode b_Mo_picture 7 = .ok (.invokevirtual 70, 3) := by decide +kernel
theorem d_Mo_picture_10 : decode b_Mo_picture 10 = .ok (.ifCond .eq 15, 3) := by decide +kernel
theorem d_Mo_picture_13 : decode b_Mo_picture 13 = .ok (.iload_n 3, 1) := by decide +kernel
theorem d_Mo_picture_14 : decode b_Mo_picture 14 = .ok (.i2l, 1) := by decide +kernel
theorem d_Mo_picture_15 : decode b_Mo_picture 15 = .ok (.lconst 0, 1) := by decide +kernel
theorem d_Mo_picture_16 : decode b_Mo_picture 16 = .ok (.ldc2_w 74, 3) := by decide +kernel
theorem d_Mo_picture_19 : decode b_Mo_picture 19 = .ok (.invokestatic 58, 3) := by decide +kernel
theorem d_Mo_picture_22 : decode b_Mo_picture 22 = .ok (.ifCond .ne 6, 3) := by decide +kernel
theorem d_Mo_picture_25 : decode b_Mo_picture 25 = .ok (.bipush (-102), 2) := by decide +kernel
theorem d_Mo_picture_27 : decode b_Mo_picture 27 = .ok (.ireturn, 1) := by decide +kernel
theorem d_Mo_picture_28 : decode b_Mo_picture 28 = .ok (.aload_n 0, 1) := by decide +kernel
theorem d_Mo_picture_29 : decode b_Mo_picture 29 = .ok (.getfield 55, 3) := by decide +kernel
theorem d_Mo_picture_32 : decode b_Mo_picture 32 = .ok (.sipush 300, 3) := by decide +kernel
theorem d_Mo_picture_35 : decode b_Mo_picture 35 = .ok (.if_icmp .ne 6, 3) := by decide +kernel
theorem d_Mo_picture_38 : decode b_Mo_picture 38 = .ok (.bipush (-104), 2) := by decide +kernel
theorem d_Mo_picture_40 : decode b_Mo_picture 40 = .ok (.ireturn, 1) := by decide +kernel
theorem d_Mo_picture_41 : decode b_Mo_picture 41 = .ok (.aload_n 0, 1) := by decide +kernel
theorem d_Mo_picture_42 : decode b_Mo_picture 42 = .ok (.invokevirtual 76, 3) := by decide +kernel
theorem d_Mo_picture_45 : decode b_Mo_picture 45 = .ok (.aload_n 0, 1) := by decide +kernel
theorem d_Mo_picture_46 : decode b_Mo_picture 46 = .ok (.getfield 48, 3) := by decide +kernel
theorem d_Mo_picture_49 : decode b_Mo_picture 49 = .ok (.if_icmp .ne 5, 3) := by decide +kernel
theorem d_Mo_picture_52 : decode b_Mo_picture 52 = .ok (.iconst 0, 1) := by decide +kernel
theorem d_Mo_picture_53 : decode b_Mo_picture 53 = .ok (.ireturn, 1) := by decide +kernel
theorem d_Mo_picture_54 : decode b_Mo_picture 54 = .ok (.aload_n 0, 1) := by decide +kernel
theorem d_Mo_picture_55 : decode b_Mo_picture 55 = .ok (.dup, 1) := by decide +kernel
theorem d_Mo_picture_56 : decode b_Mo_picture 56 = .ok (.getfield 55, 3) := by decide +kernel
theorem d_Mo_picture_59 : decode b_Mo_picture 59 = .ok (.iconst 1, 1) := by decide +kernel
theorem d_Mo_picture_60 : decode b_Mo_picture 60 = .ok (.iadd, 1) := by decide +kernel
theorem d_Mo_picture_61 : decode b_Mo_picture 61 = .ok (.putfield 55, 3) := by decide +kernel
theorem d_Mo_picture_64 : decode b_Mo_picture 64 = .ok (.aload_n 0, 1) := by decide +kernel
theorem d_Mo_picture_65 : decode b_Mo_picture 65 = .ok (.getfield 7, 3) := by decide +kernel
theorem d_Mo_picture_68 : decode b_Mo_picture 68 = .ok (.aload_n 0, 1) := by decide +kernel
theorem d_Mo_picture_69 : decode b_Mo_picture 69 = .ok (.getfield 55, 3) := by decide +kernel
theorem d_Mo_picture_72 : decode b_Mo_picture 72 = .ok (.lload_n 1, 1) := by decide +kernel
theorem d_Mo_picture_73 : decode b_Mo_picture 73 = .ok (.lastore, 1) := by decide +kernel
theorem d_Mo_picture_74 : decode b_Mo_picture 74 = .ok (.aload_n 0, 1) := by decide +kernel
theorem d_Mo_picture_75 : decode b_Mo_picture 75 = .ok (.getfield 13, 3) := by decide +kernel
theorem d_Mo_picture_78 : decode b_Mo_picture 78 = .ok (.aload_n 0, 1) := by decide +kernel
theorem d_Mo_picture_79 : decode b_Mo_picture 79 = .ok (.getfield 55, 3) := by decide +kernel
theorem d_Mo_picture_82 : decode b_Mo_picture 82 = .ok (.iload_n 3, 1) := by decide +kernel
theorem d_Mo_picture_83 : decode b_Mo_picture 83 = .ok (.iastore, 1) := by decide +kernel
theorem d_Mo_picture_84 : decode b_Mo_picture 84 = .ok (.aload_n 0, 1) := by decide +kernel
theorem d_Mo_picture_85 : decode b_Mo_picture 85 = .ok (.getfield 55, 3) := by decide +kernel
theorem d_Mo_picture_88 : decode b_Mo_picture 88 = .ok (.ireturn, 1) := by decide +kernel
theorem d_Mo_isTime_0 : decode b_Mo_isTime 0 = .ok (.lload_n 1, 1) := by decide +kernel
theorem d_Mo_isTime_1 : decode b_Mo_isTime 1 = .ok (.aload_n 0, 1) := by decide +kernel
theorem d_Mo_isTime_2 : decode b_Mo_isTime 2 = .ok (.getfield 64, 3) := by decide +kernel
theorem d_Mo_isTime_5 : decode b_Mo_isTime 5 = .ok (.ldc2_w 68, 3) := by decide +kernel
theorem d_Mo_isTime_8 : decode b_Mo_isTime 8 = .ok (.invokestatic 58, 3) := by decide +kernel
theorem d_Mo_isTime_11 : decode b_Mo_isTime 11 = .ok (.ireturn, 1) := by decide +kernel
theorem d_Mo_isIn_0 : decode b_Mo_isIn 0 = .ok (.lload_n 0, 1) := by decide +kernel
theorem d_Mo_isIn_1 : decode b_Mo_isIn 1 = .ok (.lload_n 2, 1) := by decide +kernel
theorem d_Mo_isIn_2 : decode b_Mo_isIn 2 = .ok (.lcmp, 1) := by decide +kernel
theorem d_Mo_isIn_3 : decode b_Mo_isIn 3 = .ok (.ifCond .lt 14, 3) := by decide +kernel
theorem d_Mo_isIn_6 : decode b_Mo_isIn 6 = .ok (.lload_n 0, 1) := by decide +kernel
theorem d_Mo_isIn_7 : decode b_Mo_isIn 7 = .ok (.lload 4, 2) := by decide +kernel
theorem d_Mo_isIn_9 : decode b_Mo_isIn 9 = .ok (.lcmp, 1) := by decide +kernel
theorem d_Mo_isIn_10 : decode b_Mo_isIn 10 = .ok (.ifCond .gt 7, 3) := by decide +kernel
theorem d_Mo_isIn_13 : decode b_Mo_isIn 13 = .ok (.iconst 1, 1) := by decide +kernel
theorem d_Mo_isIn_14 : decode b_Mo_isIn 14 = .ok (.goto 4, 3) := by decide +kernel
theorem d_Mo_isIn_17 : decode b_Mo_isIn 17 = .ok (.iconst 0, 1) := by decide +kernel
theorem d_Mo_isIn_18 : decode b_Mo_isIn 18 = .ok (.ireturn, 1) := by decide +kernel
theorem d_Mo_opn_0 : decode b_Mo_opn 0 = .ok (.iconst 0, 1) := by decide +kernel
theorem d_Mo_opn_1 : decode b_Mo_opn 1 = .ok (.istore_n 1, 1) := by decide +kernel
theorem d_Mo_opn_2 : decode b_Mo_opn 2 = .ok (.iconst 1, 1) := by decide +kernel
theorem d_Mo_opn_3 : decode b_Mo_opn 3 = .ok (.istore_n 2, 1) := by decide +kernel
theorem d_Mo_opn_4 : decode b_Mo_opn 4 = .ok (.iload_n 2, 1) := by decide +kernel
theorem d_Mo_opn_5 : decode b_Mo_opn 5 = .ok (.aload_n 0, 1) := by decide +kernel
theorem d_Mo_opn_6 : decode b_Mo_opn 6 = .ok (.getfield 55, 3) := by decide +kernel
theorem d_Mo_opn_9 : decode b_Mo_opn 9 = .ok (.if_icmp .gt 26, 3) := by decide +kernel
theorem d_Mo_opn_12 : decode b_Mo_opn 12 = .ok (.aload_n 0, 1) := by decide +kernel
theorem d_Mo_opn_13 : decode b_Mo_opn 13 = .ok (.getfield 17, 3) := by decide +kernel
theorem d_Mo_opn_16 : decode b_Mo_opn 16 = .ok (.iload_n 2, 1) := by decide +kernel
theorem d_Mo_opn_17 : decode b_Mo_opn 17 = .ok (.iaload, 1) := by decide +kernel
theorem d_Mo_opn_18 : decode b_Mo_opn 18 = .ok (.ifCond .ne 9, 3) := by decide +kernel
theorem d_Mo_opn_21 : decode b_Mo_opn 21 = .ok (.iload_n 1, 1) := by decide +kernel
theorem d_Mo_opn_22 : decode b_Mo_opn 22 = .ok (.iconst 1, 1) := by decide +kernel
theorem d_Mo_opn_23 : decode b_Mo_opn 23 = .ok (.iadd, 1) := by decide +kernel
theorem d_Mo_opn_24 : decode b_Mo_opn 24 = .ok (.goto 4, 3) := by decide +kernel
theorem d_Mo_opn_27 : decode b_Mo_opn 27 = .ok (.iload_n 1, 1) := by decide +kernel
theorem d_Mo_opn_28 : decode b_Mo_opn 28 = .ok (.istore_n 1, 1) := by decide +kernel
theorem d_Mo_opn_29 : decode b_Mo_opn 29 = .ok (.iinc 2 1, 3) := by decide +kernel
theorem d_Mo_opn_32 : decode b_Mo_opn 32 = .ok (.goto (-28), 3) := by decide +kernel
theorem d_Mo_opn_35 : decode b_Mo_opn 35 = .ok (.iload_n 1, 1) := by decide +kernel
theorem d_Mo_opn_36 : decode b_Mo_opn 36 = .ok (.ireturn, 1) := by decide +kernel
theorem d_Mo_give_0 : decode b_Mo_give 0 = .ok (.aload_n 0, 1) := by decide +kernel
theorem d_Mo_give_1 : decode b_Mo_give 1 = .ok (.iconst 0, 1) := by decide +kernel
theorem d_Mo_give_2 : decode b_Mo_give 2 = .ok (.putfield 52, 3) := by decide +kernel
theorem d_Mo_give_5 : decode b_Mo_give 5 = .ok (.iload_n 1, 1) := by decide +kernel
theorem d_Mo_give_6 : decode b_Mo_give 6 = .ok (.invokestatic 90, 3) := by decide +kernel
theorem d_Mo_give_9 : decode b_Mo_give 9 = .ok (.ifCond .ne 6, 3) := by decide +kernel
theorem d_Mo_give_12 : decode b_Mo_give 12 = .ok (.bipush (-101), 2) := by decide +kernel
theorem d_Mo_give_14 : decode b_Mo_give 14 = .ok (.ireturn, 1) := by decide +kernel
theorem d_Mo_give_15 : decode b_Mo_give 15 = .ok (.aload_n 0, 1) := by decide +kernel
theorem d_Mo_give_16 : decode b_Mo_give 16 = .ok (.lload_n 2, 1) := by decide +kernel
theorem d_Mo_give_17 : decode b_Mo_give 17 = .ok (.invokevirtual 70, 3) := by decide +kernel
theorem d_Mo_give_20 : decode b_Mo_give 20 = .ok (.ifCond .ne 6, 3) := by decide +kernel
theorem d_Mo_give_23 : decode b_Mo_give 23 = .ok (.bipush (-102), 2) := by decide +kernel
theorem d_Mo_give_25 : decode b_Mo_give 25 = .ok (.ireturn, 1) := by decide +kernel
theorem d_Mo_give_26 : decode b_Mo_give 26 = .ok (.aload_n 0, 1) := by decide +kernel
theorem d_Mo_give_27 : decode b_Mo_give 27 = .ok (.getfield 38, 3) := by decide +kernel
theorem d_Mo_give_30 : decode b_Mo_give 30 = .ok (.iload_n 1, 1) := by decide +kernel
theorem d_Mo_give_31 : decode b_Mo_give 31 = .ok (.baload, 1) := by decide +kernel
theorem d_Mo_give_32 : decode b_Mo_give 32 = .ok (.ifCond .eq 11, 3) := by decide +kernel
theorem d_Mo_give_35 : decode b_Mo_give 35 = .ok (.aload_n 0, 1) := by decide +kernel
theorem d_Mo_give_36 : decode b_Mo_give 36 = .ok (.iload_n 1, 1) := by decide +kernel
theorem d_Mo_give_37 : decode b_Mo_give 37 = .ok (.invokevirtual 93, 3) := by decide +kernel
theorem d_Mo_give_40 : decode b_Mo_give 40 = .ok (.ifCond .le 6, 3) := by decide +kernel
theorem d_Mo_give_43 : decode b_Mo_give 43 = .ok (.bipush (-103), 2) := by decide +kernel
theorem d_Mo_give_45 : decode b_Mo_give 45 = .ok (.ireturn, 1) := by decide +kernel
theorem d_Mo_give_46 : decode b_Mo_give 46 = .ok (.aload_n 0, 1) := by decide +kernel
theorem d_Mo_give_47 : decode b_Mo_give 47 = .ok (.lload_n 2, 1) := by decide +kernel
theorem d_Mo_give_48 : decode b_Mo_give 48 = .ok (.invokevirtual 97, 3) := by decide +kernel
theorem d_Mo_give_51 : decode b_Mo_give 51 = .ok (.iconst 0, 1) := by decide +kernel
theorem d_Mo_give_52 : decode b_Mo_give 52 = .ok (.istore 4, 2) := by decide +kernel
theorem d_Mo_give_54 : decode b_Mo_give 54 = .ok (.aload_n 0, 1) := by decide +kernel
theorem d_Mo_give_55 : decode b_Mo_give 55 = .ok (.getfield 55, 3) := by decide +kernel
theorem d_Mo_give_58 : decode b_Mo_give 58 = .ok (.istore 5, 2) := by decide +kernel
theorem d_Mo_give_60 : decode b_Mo_give 60 = .ok (.iload 5, 2) := by decide +kernel
theorem d_Mo_give_62 : decode b_Mo_give 62 = .ok (.ifCond .le 51, 3) := by decide +kernel
theorem d_Mo_give_65 : decode b_Mo_give 65 = .ok (.aload_n 0, 1) := by decide +kernel
theorem d_Mo_give_66 : decode b_Mo_give 66 = .ok (.iload 5, 2) := by decide +kernel
theorem d_Mo_give_68 : decode b_Mo_give 68 = .ok (.iload_n 1, 1) := by decide +kernel
theorem d_Mo_give_69 : decode b_Mo_give 69 = .ok (.invokevirtual 101, 3) := by decide +kernel
theorem d_Mo_give_72 : decode b_Mo_give 72 = .ok (.ifCond .eq 31, 3) := by decide +kernel
theorem d_Mo_give_75 : decode b_Mo_give 75 = .ok (.iload 4, 2) := by decide +kernel
theorem d_Mo_give_77 : decode b_Mo_give 77 = .ok (.ifCond .eq 21, 3) := by decide +kernel
theorem d_Mo_give_80 : decode b_Mo_give 80 = .ok (.aload_n 0, 1) := by decide +kernel
theorem d_Mo_give_81 : decode b_Mo_give 81 = .ok (.getfield 7, 3) := by decide +kernel
theorem d_Mo_give_84 : decode b_Mo_give 84 = .ok (.iload 5, 2) := by decide +kernel
theorem d_Mo_give_86 : decode b_Mo_give 86 = .ok (.laload, 1) := by decide +kernel
theorem d_Mo_give_87 : decode b_Mo_give 87 = .ok (.aload_n 0, 1) := by decide +kernel
theorem d_Mo_give_88 : decode b_Mo_give 88 = .ok (.getfield 7, 3) := by decide +kernel
theorem d_Mo_give_91 : decode b_Mo_give 91 = .ok (.iload 4, 2) := by decide +kernel
theorem d_Mo_give_93 : decode b_Mo_give 93 = .ok (.laload, 1) := by decide +kernel
theorem d_Mo_give_94 : decode b_Mo_give 94 = .ok (.lcmp, 1) := by decide +kernel
theorem d_Mo_give_95 : decode b_Mo_give 95 = .ok (.ifCond .gt 8, 3) := by decide +kernel
theorem d_Mo_give_98 : decode b_Mo_give 98 = .ok (.iload 5, 2) := by decide +kernel
theorem d_Mo_give_100 : decode b_Mo_give 100 = .ok (.goto 5, 3) := by decide +kernel
theorem d_Mo_give_103 : decode b_Mo_give 103 = .ok (.iload 4, 2) := by decide +kernel
theorem d_Mo_give_105 : decode b_Mo_give 105 = .ok (.istore 4, 2) := by decide +kernel
theorem d_Mo_give_107 : decode b_Mo_give 107 = .ok (.iinc 5 (-1), 3) := by decide +kernel
theorem d_Mo_give_110 : decode b_Mo_give 110 = .ok (.goto (-50), 3) := by decide +kernel
theorem d_Mo_give_113 : decode b_Mo_give 113 = .ok (.iload 4, 2) := by decide +kernel
theorem d_Mo_give_115 : decode b_Mo_give 115 = .ok (.ifCond .le 40, 3) := by decide +kernel
theorem d_Mo_give_118 : decode b_Mo_give 118 = .ok (.aload_n 0, 1) := by decide +kernel
theorem d_Mo_give_119 : decode b_Mo_give 119 = .ok (.getfield 29, 3) := by decide +kernel
theorem d_Mo_give_122 : decode b_Mo_give 122 = .ok (.bipush 20, 2) := by decide +kernel
theorem d_Mo_give_124 : decode b_Mo_give 124 = .ok (.iload 4, 2) := by decide +kernel
theorem d_Mo_give_126 : decode b_Mo_give 126 = .ok (.imul, 1) := by decide +kernel
theorem d_Mo_give_127 : decode b_Mo_give 127 = .ok (.iload_n 1, 1) := by decide +kernel
theorem d_Mo_give_128 : decode b_Mo_give 128 = .ok (.iadd, 1) := by decide +kernel
theorem d_Mo_give_129 : decode b_Mo_give 129 = .ok (.bipush 20, 2) := by decide +kernel
theorem d_Mo_give_131 : decode b_Mo_give 131 = .ok (.isub, 1) := by decide +kernel
theorem d_Mo_give_132 : decode b_Mo_give 132 = .ok (.iconst 2, 1) := by decide +kernel
theorem d_Mo_give_133 : decode b_Mo_give 133 = .ok (.iastore, 1) := by decide +kernel
theorem d_Mo_give_134 : decode b_Mo_give 134 = .ok (.aload_n 0, 1) := by decide +kernel
theorem d_Mo_give_135 : decode b_Mo_give 135 = .ok (.getfield 32, 3) := by decide +kernel
theorem d_Mo_give_138 : decode b_Mo_give 138 = .ok (.bipush 20, 2) := by decide +kernel
theorem d_Mo_give_140 : decode b_Mo_give 140 = .ok (.iload 4, 2) := by decide +kernel
theorem d_Mo_give_142 : decode b_Mo_give 142 = .ok (.imul, 1) := by decide +kernel
theorem d_Mo_give_143 : decode b_Mo_give 143 = .ok (.iload_n 1, 1) := by decide +kernel
theorem d_Mo_give_144 : decode b_Mo_give 144 = .ok (.iadd, 1) := by decide +kernel
theorem d_Mo_give_145 : decode b_Mo_give 145 = .ok (.bipush 20, 2) := by decide +kernel
theorem d_Mo_give_147 : decode b_Mo_give 147 = .ok (.isub, 1) := by decide +kernel
theorem d_Mo_give_148 : decode b_Mo_give 148 = .ok (.aload_n 0, 1) := by decide +kernel
theorem d_Mo_give_149 : decode b_Mo_give 149 = .ok (.getfield 42, 3) := by decide +kernel
theorem d_Mo_give_152 : decode b_Mo_give 152 = .ok (.iload_n 1, 1) := by decide +kernel
theorem d_Mo_give_153 : decode b_Mo_give 153 = .ok (.iaload, 1) := by decide +kernel
theorem d_Mo_give_154 : decode b_Mo_give 154 = .ok (.iastore, 1) := by decide +kernel
theorem d_Mo_give_155 : decode b_Mo_give 155 = .ok (.iload 4, 2) := by decide +kernel
theorem d_Mo_give_157 : decode b_Mo_give 157 = .ok (.ireturn, 1) := by decide +kernel
theorem d_Mo_isClerk_0 : decode b_Mo_isClerk 0 = .ok (.iload_n 0, 1) := by decide +kernel
theorem d_Mo_isClerk_1 : decode b_Mo_isClerk 1 = .ok (.i2l, 1) := by decide +kernel
theorem d_Mo_isClerk_2 : decode b_Mo_isClerk 2 = .ok (.lconst 0, 1) := by decide +kernel
theorem d_Mo_isClerk_3 : decode b_Mo_isClerk 3 = .ok (.ldc2_w 62, 3) := by decide +kernel
theorem d_Mo_isClerk_6 : decode b_Mo_isClerk 6 = .ok (.invokestatic 58, 3) := by decide +kernel
theorem d_Mo_isClerk_9 : decode b_Mo_isClerk 9 = .ok (.ireturn, 1) := by decide +kernel
theorem d_Mo_held_0 : decode b_Mo_held 0 = .ok (.iconst 0, 1) := by decide +kernel
theorem d_Mo_held_1 : decode b_Mo_held 1 = .ok (.istore_n 2, 1) := by decide +kernel
theorem d_Mo_held_2 : decode b_Mo_held 2 = .ok (.iconst 1, 1) := by decide +kernel
theorem d_Mo_held_3 : decode b_Mo_held 3 = .ok (.istore_n 3, 1) := by decide +kernel
theorem d_Mo_held_4 : decode b_Mo_held 4 = .ok (.iload_n 3, 1) := by decide +kernel
theorem d_Mo_held_5 : decode b_Mo_held 5 = .ok (.aload_n 0, 1) := by decide +kernel
theorem d_Mo_held_6 : decode b_Mo_held 6 = .ok (.getfield 55, 3) := by decide +kernel
theorem d_Mo_held_9 : decode b_Mo_held 9 = .ok (.if_icmp .gt 33, 3) := by decide +kernel
theorem d_Mo_held_12 : decode b_Mo_held 12 = .ok (.aload_n 0, 1) := by decide +kernel
theorem d_Mo_held_13 : decode b_Mo_held 13 = .ok (.getfield 29, 3) := by decide +kernel
theorem d_Mo_held_16 : decode b_Mo_held 16 = .ok (.bipush 20, 2) := by decide +kernel
theorem d_Mo_held_18 : decode b_Mo_held 18 = .ok (.iload_n 3, 1) := by decide +kernel
theorem d_Mo_held_19 : decode b_Mo_held 19 = .ok (.imul, 1) := by decide +kernel
theorem d_Mo_held_20 : decode b_Mo_held 20 = .ok (.iload_n 1, 1) := by decide +kernel
theorem d_Mo_held_21 : decode b_Mo_held 21 = .ok (.iadd, 1) := by decide +kernel
theorem d_Mo_held_22 : decode b_Mo_held 22 = .ok (.bipush 20, 2) := by decide +kernel
theorem d_Mo_held_24 : decode b_Mo_held 24 = .ok (.isub, 1) := by decide +kernel
theorem d_Mo_held_25 : decode b_Mo_held 25 = .ok (.iaload, 1) := by decide +kernel
theorem d_Mo_held_26 : decode b_Mo_held 26 = .ok (.iconst 2, 1) := by decide +kernel
theorem d_Mo_held_27 : decode b_Mo_held 27 = .ok (.if_icmp .ne 7, 3) := by decide +kernel
theorem d_Mo_held_30 : decode b_Mo_held 30 = .ok (.iload_n 3, 1) := by decide +kernel
theorem d_Mo_held_31 : decode b_Mo_held 31 = .ok (.goto 4, 3) := by decide +kernel
theorem d_Mo_held_34 : decode b_Mo_held 34 = .ok (.iload_n 2, 1) := by decide +kernel
theorem d_Mo_held_35 : decode b_Mo_held 35 = .ok (.istore_n 2, 1) := by decide +kernel
theorem d_Mo_held_36 : decode b_Mo_held 36 = .ok (.iinc 3 1, 3) := by decide +kernel
theorem d_Mo_held_39 : decode b_Mo_held 39 = .ok (.goto (-35), 3) := by decide +kernel
theorem d_Mo_held_42 : decode b_Mo_held 42 = .ok (.iload_n 2, 1) := by decide +kernel
theorem d_Mo_held_43 : decode b_Mo_held 43 = .ok (.ireturn, 1) := by decide +kernel
theorem d_Mo_pass_0 : decode b_Mo_pass 0 = .ok (.aload_n 0, 1) := by decide +kernel
theorem d_Mo_pass_1 : decode b_Mo_pass 1 = .ok (.lload_n 1, 1) := by decide +kernel
theorem d_Mo_pass_2 : decode b_Mo_pass 2 = .ok (.putfield 64, 3) := by decide +kernel
theorem d_Mo_pass_5 : decode b_Mo_pass 5 = .ok (.iconst 1, 1) := by decide +kernel
theorem d_Mo_pass_6 : decode b_Mo_pass 6 = .ok (.istore_n 3, 1) := by decide +kernel
theorem d_Mo_pass_7 : decode b_Mo_pass 7 = .ok (.iload_n 3, 1) := by decide +kernel
theorem d_Mo_pass_8 : decode b_Mo_pass 8 = .ok (.aload_n 0, 1) := by decide +kernel
theorem d_Mo_pass_9 : decode b_Mo_pass 9 = .ok (.getfield 55, 3) := by decide +kernel
theorem d_Mo_pass_12 : decode b_Mo_pass 12 = .ok (.if_icmp .gt 46, 3) := by decide +kernel
theorem d_Mo_pass_15 : decode b_Mo_pass 15 = .ok (.aload_n 0, 1) := by decide +kernel
theorem d_Mo_pass_16 : decode b_Mo_pass 16 = .ok (.getfield 17, 3) := by decide +kernel
theorem d_Mo_pass_19 : decode b_Mo_pass 19 = .ok (.iload_n 3, 1) := by decide +kernel
theorem d_Mo_pass_20 : decode b_Mo_pass 20 = .ok (.iaload, 1) := by decide +kernel
theorem d_Mo_pass_21 : decode b_Mo_pass 21 = .ok (.ifCond .ne 31, 3) := by decide +kernel
theorem d_Mo_pass_24 : decode b_Mo_pass 24 = .ok (.aload_n 0, 1) := by decide +kernel
theorem d_Mo_pass_25 : decode b_Mo_pass 25 = .ok (.getfield 7, 3) := by decide +kernel
theorem d_Mo_pass_28 : decode b_Mo_pass 28 = .ok (.iload_n 3, 1) := by decide +kernel
theorem d_Mo_pass_29 : decode b_Mo_pass 29 = .ok (.laload, 1) := by decide +kernel
theorem d_Mo_pass_30 : decode b_Mo_pass 30 = .ok (.lload_n 1, 1) := by decide +kernel
theorem d_Mo_pass_31 : decode b_Mo_pass 31 = .ok (.lcmp, 1) := by decide +kernel
theorem d_Mo_pass_32 : decode b_Mo_pass 32 = .ok (.ifCond .ge 20, 3) := by decide +kernel
theorem d_Mo_pass_35 : decode b_Mo_pass 35 = .ok (.aload_n 0, 1) := by decide +kernel
theorem d_Mo_pass_36 : decode b_Mo_pass 36 = .ok (.getfield 17, 3) := by decide +kernel
theorem d_Mo_pass_39 : decode b_Mo_pass 39 = .ok (.iload_n 3, 1) := by decide +kernel
theorem d_Mo_pass_40 : decode b_Mo_pass 40 = .ok (.iconst 4, 1) := by decide +kernel
theorem d_Mo_pass_41 : decode b_Mo_pass 41 = .ok (.iastore, 1) := by decide +kernel
theorem d_Mo_pass_42 : decode b_Mo_pass 42 = .ok (.aload_n 0, 1) := by decide +kernel
theorem d_Mo_pass_43 : decode b_Mo_pass 43 = .ok (.dup, 1) := by decide +kernel
theorem d_Mo_pass_44 : decode b_Mo_pass 44 = .ok (.getfield 80, 3) := by decide +kernel
theorem d_Mo_pass_47 : decode b_Mo_pass 47 = .ok (.iconst 1, 1) := by decide +kernel
theorem d_Mo_pass_48 : decode b_Mo_pass 48 = .ok (.iadd, 1) := by decide +kernel
theorem d_Mo_pass_49 : decode b_Mo_pass 49 = .ok (.putfield 80, 3) := by decide +kernel
theorem d_Mo_pass_52 : decode b_Mo_pass 52 = .ok (.iinc 3 1, 3) := by decide +kernel
theorem d_Mo_pass_55 : decode b_Mo_pass 55 = .ok (.goto (-48), 3) := by decide +kernel
theorem d_Mo_pass_58 : decode b_Mo_pass 58 = .ok (.return_, 1) := by decide +kernel
theorem d_Mo_isFree_0 : decode b_Mo_isFree 0 = .ok (.aload_n 0, 1) := by decide +kernel
theorem d_Mo_isFree_1 : decode b_Mo_isFree 1 = .ok (.getfield 17, 3) := by decide +kernel
theorem d_Mo_isFree_4 : decode b_Mo_isFree 4 = .ok (.iload_n 1, 1) := by decide +kernel
theorem d_Mo_isFree_5 : decode b_Mo_isFree 5 = .ok (.iaload, 1) := by decide +kernel
theorem d_Mo_isFree_6 : decode b_Mo_isFree 6 = .ok (.ifCond .ne 43, 3) := by decide +kernel
theorem d_Mo_isFree_9 : decode b_Mo_isFree 9 = .ok (.aload_n 0, 1) := by decide +kernel
theorem d_Mo_isFree_10 : decode b_Mo_isFree 10 = .ok (.iload_n 1, 1) := by decide +kernel
theorem d_Mo_isFree_11 : decode b_Mo_isFree 11 = .ok (.invokevirtual 87, 3) := by decide +kernel
theorem d_Mo_isFree_14 : decode b_Mo_isFree 14 = .ok (.ifCond .ne 35, 3) := by decide +kernel
theorem d_Mo_isFree_17 : decode b_Mo_isFree 17 = .ok (.aload_n 0, 1) := by decide +kernel
theorem d_Mo_isFree_18 : decode b_Mo_isFree 18 = .ok (.getfield 13, 3) := by decide +kernel
theorem d_Mo_isFree_21 : decode b_Mo_isFree 21 = .ok (.iload_n 1, 1) := by decide +kernel
theorem d_Mo_isFree_22 : decode b_Mo_isFree 22 = .ok (.iaload, 1) := by decide +kernel
theorem d_Mo_isFree_23 : decode b_Mo_isFree 23 = .ok (.aload_n 0, 1) := by decide +kernel
theorem d_Mo_isFree_24 : decode b_Mo_isFree 24 = .ok (.getfield 45, 3) := by decide +kernel
theorem d_Mo_isFree_27 : decode b_Mo_isFree 27 = .ok (.iload_n 2, 1) := by decide +kernel
theorem d_Mo_isFree_28 : decode b_Mo_isFree 28 = .ok (.iaload, 1) := by decide +kernel
theorem d_Mo_isFree_29 : decode b_Mo_isFree 29 = .ok (.if_icmp .gt 20, 3) := by decide +kernel
theorem d_Mo_isFree_32 : decode b_Mo_isFree 32 = .ok (.aload_n 0, 1) := by decide +kernel
theorem d_Mo_isFree_33 : decode b_Mo_isFree 33 = .ok (.getfield 29, 3) := by decide +kernel
theorem d_Mo_isFree_36 : decode b_Mo_isFree 36 = .ok (.bipush 20, 2) := by decide +kernel
theorem d_Mo_isFree_38 : decode b_Mo_isFree 38 = .ok (.iload_n 1, 1) := by decide +kernel
theorem d_Mo_isFree_39 : decode b_Mo_isFree 39 = .ok (.imul, 1) := by decide +kernel
theorem d_Mo_isFree_40 : decode b_Mo_isFree 40 = .ok (.iload_n 2, 1) := by decide +kernel
theorem d_Mo_isFree_41 : decode b_Mo_isFree 41 = .ok (.iadd, 1) := by decide +kernel
theorem d_Mo_isFree_42 : decode b_Mo_isFree 42 = .ok (.bipush 20, 2) := by decide +kernel
theorem d_Mo_isFree_44 : decode b_Mo_isFree 44 = .ok (.isub, 1) := by decide +kernel
theorem d_Mo_isFree_45 : decode b_Mo_isFree 45 = .ok (.iaload, 1) := by decide +kernel
theorem d_Mo_isFree_46 : decode b_Mo_isFree 46 = .ok (.ifCond .eq 5, 3) := by decide +kernel
theorem d_Mo_isFree_49 : decode b_Mo_isFree 49 = .ok (.iconst 0, 1) := by decide +kernel
theorem d_Mo_isFree_50 : decode b_Mo_isFree 50 = .ok (.ireturn, 1) := by decide +kernel
theorem d_Mo_isFree_51 : decode b_Mo_isFree 51 = .ok (.iconst 1, 1) := by decide +kernel
theorem d_Mo_isFree_52 : decode b_Mo_isFree 52 = .ok (.istore_n 3, 1) := by decide +kernel
theorem d_Mo_isFree_53 : decode b_Mo_isFree 53 = .ok (.iconst 0, 1) := by decide +kernel
theorem d_Mo_isFree_54 : decode b_Mo_isFree 54 = .ok (.istore 4, 2) := by decide +kernel
theorem d_Mo_isFree_56 : decode b_Mo_isFree 56 = .ok (.iload 4, 2) := by decide +kernel
theorem d_Mo_isFree_58 : decode b_Mo_isFree 58 = .ok (.bipush 20, 2) := by decide +kernel
theorem d_Mo_isFree_60 : decode b_Mo_isFree 60 = .ok (.if_icmp .ge 58, 3) := by decide +kernel
theorem d_Mo_isFree_63 : decode b_Mo_isFree 63 = .ok (.bipush 20, 2) := by decide +kernel
theorem d_Mo_isFree_65 : decode b_Mo_isFree 65 = .ok (.iload_n 1, 1) := by decide +kernel
theorem d_Mo_isFree_66 : decode b_Mo_isFree 66 = .ok (.imul, 1) := by decide +kernel
theorem d_Mo_isFree_67 : decode b_Mo_isFree 67 = .ok (.iload 4, 2) := by decide +kernel
theorem d_Mo_isFree_69 : decode b_Mo_isFree 69 = .ok (.iadd, 1) := by decide +kernel
theorem d_Mo_isFree_70 : decode b_Mo_isFree 70 = .ok (.bipush 20, 2) := by decide +kernel
theorem d_Mo_isFree_72 : decode b_Mo_isFree 72 = .ok (.isub, 1) := by decide +kernel
theorem d_Mo_isFree_73 : decode b_Mo_isFree 73 = .ok (.istore 5, 2) := by decide +kernel
theorem d_Mo_isFree_75 : decode b_Mo_isFree 75 = .ok (.iload_n 3, 1) := by decide +kernel
theorem d_Mo_isFree_76 : decode b_Mo_isFree 76 = .ok (.ifCond .eq 34, 3) := by decide +kernel
theorem d_Mo_isFree_79 : decode b_Mo_isFree 79 = .ok (.aload_n 0, 1) := by decide +kernel
theorem d_Mo_isFree_80 : decode b_Mo_isFree 80 = .ok (.getfield 29, 3) := by decide +kernel
theorem d_Mo_isFree_83 : decode b_Mo_isFree 83 = .ok (.iload 5, 2) := by decide +kernel
theorem d_Mo_isFree_85 : decode b_Mo_isFree 85 = .ok (.iaload, 1) := by decide +kernel
theorem d_Mo_isFree_86 : decode b_Mo_isFree 86 = .ok (.iconst 1, 1) := by decide +kernel
theorem d_Mo_isFree_87 : decode b_Mo_isFree 87 = .ok (.if_icmp .le 19, 3) := by decide +kernel
theorem d_Mo_isFree_90 : decode b_Mo_isFree 90 = .ok (.aload_n 0, 1) := by decide +kernel
theorem d_Mo_isFree_91 : decode b_Mo_isFree 91 = .ok (.getfield 32, 3) := by decide +kernel
theorem d_Mo_isFree_94 : decode b_Mo_isFree 94 = .ok (.iload 5, 2) := by decide +kernel
theorem d_Mo_isFree_96 : decode b_Mo_isFree 96 = .ok (.iaload, 1) := by decide +kernel
theorem d_Mo_isFree_97 : decode b_Mo_isFree 97 = .ok (.aload_n 0, 1) := by decide +kernel
theorem d_Mo_isFree_98 : decode b_Mo_isFree 98 = .ok (.getfield 42, 3) := by decide +kernel
theorem d_Mo_isFree_101 : decode b_Mo_isFree 101 = .ok (.iload_n 2, 1) := by decide +kernel
theorem d_Mo_isFree_102 : decode b_Mo_isFree 102 = .ok (.iaload, 1) := by decide +kernel
theorem d_Mo_isFree_103 : decode b_Mo_isFree 103 = .ok (.if_icmp .eq 7, 3) := by decide +kernel
theorem d_Mo_isFree_106 : decode b_Mo_isFree 106 = .ok (.iconst 1, 1) := by decide +kernel
theorem d_Mo_isFree_107 : decode b_Mo_isFree 107 = .ok (.goto 4, 3) := by decide +kernel
theorem d_Mo_isFree_110 : decode b_Mo_isFree 110 = .ok (.iconst 0, 1) := by decide +kernel
theorem d_Mo_isFree_111 : decode b_Mo_isFree 111 = .ok (.istore_n 3, 1) := by decide +kernel
theorem d_Mo_isFree_112 : decode b_Mo_isFree 112 = .ok (.iinc 4 1, 3) := by decide +kernel
theorem d_Mo_isFree_115 : decode b_Mo_isFree 115 = .ok (.goto (-59), 3) := by decide +kernel
theorem d_Mo_isFree_118 : decode b_Mo_isFree 118 = .ok (.iload_n 3, 1) := by decide +kernel
theorem d_Mo_isFree_119 : decode b_Mo_isFree 119 = .ok (.ifCond .ne 11, 3) := by decide +kernel
theorem d_Mo_isFree_122 : decode b_Mo_isFree 122 = .ok (.aload_n 0, 1) := by decide +kernel
theorem d_Mo_isFree_123 : decode b_Mo_isFree 123 = .ok (.iload_n 1, 1) := by decide +kernel
theorem d_Mo_isFree_124 : decode b_Mo_isFree 124 = .ok (.invokevirtual 83, 3) := by decide +kernel
theorem d_Mo_isFree_127 : decode b_Mo_isFree 127 = .ok (.ifCond .eq 7, 3) := by decide +kernel
theorem d_Mo_isFree_130 : decode b_Mo_isFree 130 = .ok (.iconst 1, 1) := by decide +kernel
theorem d_Mo_isFree_131 : decode b_Mo_isFree 131 = .ok (.goto 4, 3) := by decide +kernel
theorem d_Mo_isFree_134 : decode b_Mo_isFree 134 = .ok (.iconst 0, 1) := by decide +kernel
theorem d_Mo_isFree_135 : decode b_Mo_isFree 135 = .ok (.ireturn, 1) := by decide +kernel
theorem d_Mo_isTaken_0 : decode b_Mo_isTaken 0 = .ok (.aload_n 0, 1) := by decide +kernel
theorem d_Mo_isTaken_1 : decode b_Mo_isTaken 1 = .ok (.getfield 23, 3) := by decide +kernel
theorem d_Mo_isTaken_4 : decode b_Mo_isTaken 4 = .ok (.iload_n 1, 1) := by decide +kernel
theorem d_Mo_isTaken_5 : decode b_Mo_isTaken 5 = .ok (.iaload, 1) := by decide +kernel
theorem d_Mo_isTaken_6 : decode b_Mo_isTaken 6 = .ok (.istore_n 2, 1) := by decide +kernel
theorem d_Mo_isTaken_7 : decode b_Mo_isTaken 7 = .ok (.iconst 0, 1) := by decide +kernel
theorem d_Mo_isTaken_8 : decode b_Mo_isTaken 8 = .ok (.istore_n 3, 1) := by decide +kernel
theorem d_Mo_isTaken_9 : decode b_Mo_isTaken 9 = .ok (.iload_n 3, 1) := by decide +kernel
theorem d_Mo_isTaken_10 : decode b_Mo_isTaken 10 = .ok (.bipush 20, 2) := by decide +kernel
theorem d_Mo_isTaken_12 : decode b_Mo_isTaken 12 = .ok (.if_icmp .ge 35, 3) := by decide +kernel
theorem d_Mo_isTaken_15 : decode b_Mo_isTaken 15 = .ok (.aload_n 0, 1) := by decide +kernel
theorem d_Mo_isTaken_16 : decode b_Mo_isTaken 16 = .ok (.getfield 29, 3) := by decide +kernel
theorem d_Mo_isTaken_19 : decode b_Mo_isTaken 19 = .ok (.bipush 20, 2) := by decide +kernel
theorem d_Mo_isTaken_21 : decode b_Mo_isTaken 21 = .ok (.iload_n 1, 1) := by decide +kernel
theorem d_Mo_isTaken_22 : decode b_Mo_isTaken 22 = .ok (.imul, 1) := by decide +kernel
theorem d_Mo_isTaken_23 : decode b_Mo_isTaken 23 = .ok (.iload_n 3, 1) := by decide +kernel
theorem d_Mo_isTaken_24 : decode b_Mo_isTaken 24 = .ok (.iadd, 1) := by decide +kernel
theorem d_Mo_isTaken_25 : decode b_Mo_isTaken 25 = .ok (.bipush 20, 2) := by decide +kernel
theorem d_Mo_isTaken_27 : decode b_Mo_isTaken 27 = .ok (.isub, 1) := by decide +kernel
theorem d_Mo_isTaken_28 : decode b_Mo_isTaken 28 = .ok (.iaload, 1) := by decide +kernel
theorem d_Mo_isTaken_29 : decode b_Mo_isTaken 29 = .ok (.iconst 2, 1) := by decide +kernel
theorem d_Mo_isTaken_30 : decode b_Mo_isTaken 30 = .ok (.if_icmp .ne 9, 3) := by decide +kernel
theorem d_Mo_isTaken_33 : decode b_Mo_isTaken 33 = .ok (.iload_n 2, 1) := by decide +kernel
theorem d_Mo_isTaken_34 : decode b_Mo_isTaken 34 = .ok (.iconst 1, 1) := by decide +kernel
theorem d_Mo_isTaken_35 : decode b_Mo_isTaken 35 = .ok (.iadd, 1) := by decide +kernel
theorem d_Mo_isTaken_36 : decode b_Mo_isTaken 36 = .ok (.goto 4, 3) := by decide +kernel
theorem d_Mo_isTaken_39 : decode b_Mo_isTaken 39 = .ok (.iload_n 2, 1) := by decide +kernel
theorem d_Mo_isTaken_40 : decode b_Mo_isTaken 40 = .ok (.istore_n 2, 1) := by decide +kernel
theorem d_Mo_isTaken_41 : decode b_Mo_isTaken 41 = .ok (.iinc 3 1, 3) := by decide +kernel
theorem d_Mo_isTaken_44 : decode b_Mo_isTaken 44 = .ok (.goto (-35), 3) := by decide +kernel
theorem d_Mo_isTaken_47 : decode b_Mo_isTaken 47 = .ok (.iload_n 2, 1) := by decide +kernel
theorem d_Mo_isTaken_48 : decode b_Mo_isTaken 48 = .ok (.aload_n 0, 1) := by decide +kernel
theorem d_Mo_isTaken_49 : decode b_Mo_isTaken 49 = .ok (.iload_n 1, 1) := by decide +kernel
theorem d_Mo_isTaken_50 : decode b_Mo_isTaken 50 = .ok (.invokevirtual 83, 3) := by decide +kernel
theorem d_Mo_isTaken_53 : decode b_Mo_isTaken 53 = .ok (.ifCond .eq 7, 3) := by decide +kernel
theorem d_Mo_isTaken_56 : decode b_Mo_isTaken 56 = .ok (.iconst 3, 1) := by decide +kernel
theorem d_Mo_isTaken_57 : decode b_Mo_isTaken 57 = .ok (.goto 4, 3) := by decide +kernel
theorem d_Mo_isTaken_60 : decode b_Mo_isTaken 60 = .ok (.iconst 2, 1) := by decide +kernel
theorem d_Mo_isTaken_61 : decode b_Mo_isTaken 61 = .ok (.if_icmp .lt 7, 3) := by decide +kernel
theorem d_Mo_isTaken_64 : decode b_Mo_isTaken 64 = .ok (.iconst 1, 1) := by decide +kernel
theorem d_Mo_isTaken_65 : decode b_Mo_isTaken 65 = .ok (.goto 4, 3) := by decide +kernel
theorem d_Mo_isTaken_68 : decode b_Mo_isTaken 68 = .ok (.iconst 0, 1) := by decide +kernel
theorem d_Mo_isTaken_69 : decode b_Mo_isTaken 69 = .ok (.ireturn, 1) := by decide +kernel
theorem d_Mo_differ_0 : decode b_Mo_differ 0 = .ok (.aload_n 0, 1) := by decide +kernel
theorem d_Mo_differ_1 : decode b_Mo_differ 1 = .ok (.getfield 23, 3) := by decide +kernel
theorem d_Mo_differ_4 : decode b_Mo_differ 4 = .ok (.iload_n 1, 1) := by decide +kernel
theorem d_Mo_differ_5 : decode b_Mo_differ 5 = .ok (.iaload, 1) := by decide +kernel
theorem d_Mo_differ_6 : decode b_Mo_differ 6 = .ok (.iconst 1, 1) := by decide +kernel
theorem d_Mo_differ_7 : decode b_Mo_differ 7 = .ok (.if_icmp .le 28, 3) := by decide +kernel
theorem d_Mo_differ_10 : decode b_Mo_differ 10 = .ok (.aload_n 0, 1) := by decide +kernel
theorem d_Mo_differ_11 : decode b_Mo_differ 11 = .ok (.getfield 26, 3) := by decide +kernel
theorem d_Mo_differ_14 : decode b_Mo_differ 14 = .ok (.iconst 3, 1) := by decide +kernel
theorem d_Mo_differ_15 : decode b_Mo_differ 15 = .ok (.iload_n 1, 1) := by decide +kernel
theorem d_Mo_differ_16 : decode b_Mo_differ 16 = .ok (.imul, 1) := by decide +kernel
theorem d_Mo_differ_17 : decode b_Mo_differ 17 = .ok (.iaload, 1) := by decide +kernel
theorem d_Mo_differ_18 : decode b_Mo_differ 18 = .ok (.aload_n 0, 1) := by decide +kernel
theorem d_Mo_differ_19 : decode b_Mo_differ 19 = .ok (.getfield 26, 3) := by decide +kernel
theorem d_Mo_differ_22 : decode b_Mo_differ 22 = .ok (.iconst 3, 1) := by decide +kernel
theorem d_Mo_differ_23 : decode b_Mo_differ 23 = .ok (.iload_n 1, 1) := by decide +kernel
theorem d_Mo_differ_24 : decode b_Mo_differ 24 = .ok (.imul, 1) := by decide +kernel
theorem d_Mo_differ_25 : decode b_Mo_differ 25 = .ok (.iconst 1, 1) := by decide +kernel
theorem d_Mo_differ_26 : decode b_Mo_differ 26 = .ok (.iadd, 1) := by decide +kernel
theorem d_Mo_differ_27 : decode b_Mo_differ 27 = .ok (.iaload, 1) := by decide +kernel
theorem d_Mo_differ_28 : decode b_Mo_differ 28 = .ok (.if_icmp .eq 7, 3) := by decide +kernel
theorem d_Mo_differ_31 : decode b_Mo_differ 31 = .ok (.iconst 1, 1) := by decide +kernel
theorem d_Mo_differ_32 : decode b_Mo_differ 32 = .ok (.goto 4, 3) := by decide +kernel
theorem d_Mo_differ_35 : decode b_Mo_differ 35 = .ok (.iconst 0, 1) := by decide +kernel
theorem d_Mo_differ_36 : decode b_Mo_differ 36 = .ok (.ireturn, 1) := by decide +kernel
theorem d_Mo_answer_0 : decode b_Mo_answer 0 = .ok (.aload_n 0, 1) := by decide +kernel
theorem d_Mo_answer_1 : decode b_Mo_answer 1 = .ok (.iconst 0, 1) := by decide +kernel
theorem d_Mo_answer_2 : decode b_Mo_answer 2 = .ok (.putfield 52, 3) := by decide +kernel
theorem d_Mo_answer_5 : decode b_Mo_answer 5 = .ok (.iload_n 1, 1) := by decide +kernel
theorem d_Mo_answer_6 : decode b_Mo_answer 6 = .ok (.invokestatic 90, 3) := by decide +kernel
theorem d_Mo_answer_9 : decode b_Mo_answer 9 = .ok (.ifCond .eq 11, 3) := by decide +kernel
theorem d_Mo_answer_12 : decode b_Mo_answer 12 = .ok (.aload_n 0, 1) := by decide +kernel
theorem d_Mo_answer_13 : decode b_Mo_answer 13 = .ok (.iload_n 2, 1) := by decide +kernel
theorem d_Mo_answer_14 : decode b_Mo_answer 14 = .ok (.invokevirtual 105, 3) := by decide +kernel
theorem d_Mo_answer_17 : decode b_Mo_answer 17 = .ok (.ifCond .ne 6, 3) := by decide +kernel
theorem d_Mo_answer_20 : decode b_Mo_answer 20 = .ok (.bipush (-101), 2) := by decide +kernel
theorem d_Mo_answer_22 : decode b_Mo_answer 22 = .ok (.ireturn, 1) := by decide +kernel
theorem d_Mo_answer_23 : decode b_Mo_answer 23 = .ok (.iload_n 3, 1) := by decide +kernel
theorem d_Mo_answer_24 : decode b_Mo_answer 24 = .ok (.i2l, 1) := by decide +kernel
theorem d_Mo_answer_25 : decode b_Mo_answer 25 = .ok (.lconst 0, 1) := by decide +kernel
theorem d_Mo_answer_26 : decode b_Mo_answer 26 = .ok (.ldc2_w 108, 3) := by decide +kernel
theorem d_Mo_answer_29 : decode b_Mo_answer 29 = .ok (.invokestatic 58, 3) := by decide +kernel
theorem d_Mo_answer_32 : decode b_Mo_answer 32 = .ok (.ifCond .eq 12, 3) := by decide +kernel
theorem d_Mo_answer_35 : decode b_Mo_answer 35 = .ok (.aload_n 0, 1) := by decide +kernel
theorem d_Mo_answer_36 : decode b_Mo_answer 36 = .ok (.lload 4, 2) := by decide +kernel
theorem d_Mo_answer_38 : decode b_Mo_answer 38 = .ok (.invokevirtual 70, 3) := by decide +kernel
theorem d_Mo_answer_41 : decode b_Mo_answer 41 = .ok (.ifCond .ne 6, 3) := by decide +kernel
theorem d_Mo_answer_44 : decode b_Mo_answer 44 = .ok (.bipush (-102), 2) := by decide +kernel
theorem d_Mo_answer_46 : decode b_Mo_answer 46 = .ok (.ireturn, 1) := by decide +kernel
theorem d_Mo_answer_47 : decode b_Mo_answer 47 = .ok (.aload_n 0, 1) := by decide +kernel
theorem d_Mo_answer_48 : decode b_Mo_answer 48 = .ok (.iload_n 1, 1) := by decide +kernel
theorem d_Mo_answer_49 : decode b_Mo_answer 49 = .ok (.invokevirtual 93, 3) := by decide +kernel
theorem d_Mo_answer_52 : decode b_Mo_answer 52 = .ok (.iload_n 2, 1) := by decide +kernel
theorem d_Mo_answer_53 : decode b_Mo_answer 53 = .ok (.if_icmp .eq 6, 3) := by decide +kernel
theorem d_Mo_answer_56 : decode b_Mo_answer 56 = .ok (.bipush (-103), 2) := by decide +kernel
theorem d_Mo_answer_58 : decode b_Mo_answer 58 = .ok (.ireturn, 1) := by decide +kernel
theorem d_Mo_answer_59 : decode b_Mo_answer 59 = .ok (.aload_n 0, 1) := by decide +kernel
theorem d_Mo_answer_60 : decode b_Mo_answer 60 = .ok (.lload 4, 2) := by decide +kernel
theorem d_Mo_answer_62 : decode b_Mo_answer 62 = .ok (.invokevirtual 97, 3) := by decide +kernel
theorem d_Mo_answer_65 : decode b_Mo_answer 65 = .ok (.aload_n 0, 1) := by decide +kernel
theorem d_Mo_answer_66 : decode b_Mo_answer 66 = .ok (.getfield 29, 3) := by decide +kernel
theorem d_Mo_answer_69 : decode b_Mo_answer 69 = .ok (.bipush 20, 2) := by decide +kernel
theorem d_Mo_answer_71 : decode b_Mo_answer 71 = .ok (.iload_n 2, 1) := by decide +kernel
theorem d_Mo_answer_72 : decode b_Mo_answer 72 = .ok (.imul, 1) := by decide +kernel
theorem d_Mo_answer_73 : decode b_Mo_answer 73 = .ok (.iload_n 1, 1) := by decide +kernel
theorem d_Mo_answer_74 : decode b_Mo_answer 74 = .ok (.iadd, 1) := by decide +kernel
theorem d_Mo_answer_75 : decode b_Mo_answer 75 = .ok (.bipush 20, 2) := by decide +kernel
theorem d_Mo_answer_77 : decode b_Mo_answer 77 = .ok (.isub, 1) := by decide +kernel
theorem d_Mo_answer_78 : decode b_Mo_answer 78 = .ok (.iconst 3, 1) := by decide +kernel
theorem d_Mo_answer_79 : decode b_Mo_answer 79 = .ok (.iastore, 1) := by decide +kernel
theorem d_Mo_answer_80 : decode b_Mo_answer 80 = .ok (.aload_n 0, 1) := by decide +kernel
theorem d_Mo_answer_81 : decode b_Mo_answer 81 = .ok (.getfield 35, 3) := by decide +kernel
theorem d_Mo_answer_84 : decode b_Mo_answer 84 = .ok (.bipush 20, 2) := by decide +kernel
theorem d_Mo_answer_86 : decode b_Mo_answer 86 = .ok (.iload_n 2, 1) := by decide +kernel
theorem d_Mo_answer_87 : decode b_Mo_answer 87 = .ok (.imul, 1) := by decide +kernel
theorem d_Mo_answer_88 : decode b_Mo_answer 88 = .ok (.iload_n 1, 1) := by decide +kernel
theorem d_Mo_answer_89 : decode b_Mo_answer 89 = .ok (.iadd, 1) := by decide +kernel
theorem d_Mo_answer_90 : decode b_Mo_answer 90 = .ok (.bipush 20, 2) := by decide +kernel
theorem d_Mo_answer_92 : decode b_Mo_answer 92 = .ok (.isub, 1) := by decide +kernel
theorem d_Mo_answer_93 : decode b_Mo_answer 93 = .ok (.iload_n 3, 1) := by decide +kernel
theorem d_Mo_answer_94 : decode b_Mo_answer 94 = .ok (.iastore, 1) := by decide +kernel
theorem d_Mo_answer_95 : decode b_Mo_answer 95 = .ok (.aload_n 0, 1) := by decide +kernel
theorem d_Mo_answer_96 : decode b_Mo_answer 96 = .ok (.getfield 17, 3) := by decide +kernel
theorem d_Mo_answer_99 : decode b_Mo_answer 99 = .ok (.iload_n 2, 1) := by decide +kernel
theorem d_Mo_answer_100 : decode b_Mo_answer 100 = .ok (.iaload, 1) := by decide +kernel
theorem d_Mo_answer_101 : decode b_Mo_answer 101 = .ok (.ifCond .ne 9, 3) := by decide +kernel
theorem d_Mo_answer_104 : decode b_Mo_answer 104 = .ok (.aload_n 0, 1) := by decide +kernel
theorem d_Mo_answer_105 : decode b_Mo_answer 105 = .ok (.iload_n 2, 1) := by decide +kernel
theorem d_Mo_answer_106 : decode b_Mo_answer 106 = .ok (.iload_n 3, 1) := by decide +kernel
theorem d_Mo_answer_107 : decode b_Mo_answer 107 = .ok (.invokevirtual 110, 3) := by decide +kernel
theorem d_Mo_answer_110 : decode b_Mo_answer 110 = .ok (.aload_n 0, 1) := by decide +kernel
theorem d_Mo_answer_111 : decode b_Mo_answer 111 = .ok (.iload_n 2, 1) := by decide +kernel
theorem d_Mo_answer_112 : decode b_Mo_answer 112 = .ok (.invokevirtual 114, 3) := by decide +kernel
theorem d_Mo_answer_115 : decode b_Mo_answer 115 = .ok (.ireturn, 1) := by decide +kernel
theorem d_Mo_isPicture_0 : decode b_Mo_isPicture 0 = .ok (.iload_n 1, 1) := by decide +kernel
theorem d_Mo_isPicture_1 : decode b_Mo_isPicture 1 = .ok (.i2l, 1) := by decide +kernel
theorem d_Mo_isPicture_2 : decode b_Mo_isPicture 2 = .ok (.lconst 1, 1) := by decide +kernel
theorem d_Mo_isPicture_3 : decode b_Mo_isPicture 3 = .ok (.aload_n 0, 1) := by decide +kernel
theorem d_Mo_isPicture_4 : decode b_Mo_isPicture 4 = .ok (.getfield 55, 3) := by decide +kernel
theorem d_Mo_isPicture_7 : decode b_Mo_isPicture 7 = .ok (.i2l, 1) := by decide +kernel
theorem d_Mo_isPicture_8 : decode b_Mo_isPicture 8 = .ok (.invokestatic 58, 3) := by decide +kernel
theorem d_Mo_isPicture_11 : decode b_Mo_isPicture 11 = .ok (.ireturn, 1) := by decide +kernel
theorem d_Mo_take_0 : decode b_Mo_take 0 = .ok (.aload_n 0, 1) := by decide +kernel
theorem d_Mo_take_1 : decode b_Mo_take 1 = .ok (.getfield 23, 3) := by decide +kernel
theorem d_Mo_take_4 : decode b_Mo_take 4 = .ok (.iload_n 1, 1) := by decide +kernel
theorem d_Mo_take_5 : decode b_Mo_take 5 = .ok (.iaload, 1) := by decide +kernel
theorem d_Mo_take_6 : decode b_Mo_take 6 = .ok (.istore_n 3, 1) := by decide +kernel
theorem d_Mo_take_7 : decode b_Mo_take 7 = .ok (.iconst 0, 1) := by decide +kernel
theorem d_Mo_take_8 : decode b_Mo_take 8 = .ok (.istore 4, 2) := by decide +kernel
theorem d_Mo_take_10 : decode b_Mo_take 10 = .ok (.iconst 0, 1) := by decide +kernel
theorem d_Mo_take_11 : decode b_Mo_take 11 = .ok (.istore 5, 2) := by decide +kernel
theorem d_Mo_take_13 : decode b_Mo_take 13 = .ok (.iload 5, 2) := by decide +kernel
theorem d_Mo_take_15 : decode b_Mo_take 15 = .ok (.iload_n 3, 1) := by decide +kernel
theorem d_Mo_take_16 : decode b_Mo_take 16 = .ok (.if_icmp .ge 36, 3) := by decide +kernel
theorem d_Mo_take_19 : decode b_Mo_take 19 = .ok (.iload 4, 2) := by decide +kernel
theorem d_Mo_take_21 : decode b_Mo_take 21 = .ok (.ifCond .ne 18, 3) := by decide +kernel
theorem d_Mo_take_24 : decode b_Mo_take 24 = .ok (.aload_n 0, 1) := by decide +kernel
theorem d_Mo_take_25 : decode b_Mo_take 25 = .ok (.getfield 26, 3) := by decide +kernel
theorem d_Mo_take_28 : decode b_Mo_take 28 = .ok (.iconst 3, 1) := by decide +kernel
theorem d_Mo_take_29 : decode b_Mo_take 29 = .ok (.iload_n 1, 1) := by decide +kernel
theorem d_Mo_take_30 : decode b_Mo_take 30 = .ok (.imul, 1) := by decide +kernel
theorem d_Mo_take_31 : decode b_Mo_take 31 = .ok (.iload 5, 2) := by decide +kernel
theorem d_Mo_take_33 : decode b_Mo_take 33 = .ok (.iadd, 1) := by decide +kernel
theorem d_Mo_take_34 : decode b_Mo_take 34 = .ok (.iaload, 1) := by decide +kernel
theorem d_Mo_take_35 : decode b_Mo_take 35 = .ok (.iload_n 2, 1) := by decide +kernel
theorem d_Mo_take_36 : decode b_Mo_take 36 = .ok (.if_icmp .ne 7, 3) := by decide +kernel
theorem d_Mo_take_39 : decode b_Mo_take 39 = .ok (.iconst 1, 1) := by decide +kernel
theorem d_Mo_take_40 : decode b_Mo_take 40 = .ok (.goto 4, 3) := by decide +kernel
theorem d_Mo_take_43 : decode b_Mo_take 43 = .ok (.iconst 0, 1) := by decide +kernel
theorem d_Mo_take_44 : decode b_Mo_take 44 = .ok (.istore 4, 2) := by decide +kernel
theorem d_Mo_take_46 : decode b_Mo_take 46 = .ok (.iinc 5 1, 3) := by decide +kernel
theorem d_Mo_take_49 : decode b_Mo_take 49 = .ok (.goto (-36), 3) := by decide +kernel
theorem d_Mo_take_52 : decode b_Mo_take 52 = .ok (.aload_n 0, 1) := by decide +kernel
theorem d_Mo_take_53 : decode b_Mo_take 53 = .ok (.getfield 26, 3) := by decide +kernel
theorem d_Mo_take_56 : decode b_Mo_take 56 = .ok (.iconst 3, 1) := by decide +kernel
theorem d_Mo_take_57 : decode b_Mo_take 57 = .ok (.iload_n 1, 1) := by decide +kernel
theorem d_Mo_take_58 : decode b_Mo_take 58 = .ok (.imul, 1) := by decide +kernel
theorem d_Mo_take_59 : decode b_Mo_take 59 = .ok (.iload_n 3, 1) := by decide +kernel
theorem d_Mo_take_60 : decode b_Mo_take 60 = .ok (.iadd, 1) := by decide +kernel
theorem d_Mo_take_61 : decode b_Mo_take 61 = .ok (.iload_n 2, 1) := by decide +kernel
theorem d_Mo_take_62 : decode b_Mo_take 62 = .ok (.iastore, 1) := by decide +kernel
theorem d_Mo_take_63 : decode b_Mo_take 63 = .ok (.aload_n 0, 1) := by decide +kernel
theorem d_Mo_take_64 : decode b_Mo_take 64 = .ok (.getfield 23, 3) := by decide +kernel
theorem d_Mo_take_67 : decode b_Mo_take 67 = .ok (.iload_n 1, 1) := by decide +kernel
theorem d_Mo_take_68 : decode b_Mo_take 68 = .ok (.dup2, 1) := by decide +kernel
theorem d_Mo_take_69 : decode b_Mo_take 69 = .ok (.iaload, 1) := by decide +kernel
theorem d_Mo_take_70 : decode b_Mo_take 70 = .ok (.iconst 1, 1) := by decide +kernel
theorem d_Mo_take_71 : decode b_Mo_take 71 = .ok (.iadd, 1) := by decide +kernel
theorem d_Mo_take_72 : decode b_Mo_take 72 = .ok (.iastore, 1) := by decide +kernel
theorem d_Mo_take_73 : decode b_Mo_take 73 = .ok (.iload 4, 2) := by decide +kernel
theorem d_Mo_take_75 : decode b_Mo_take 75 = .ok (.ifCond .eq 28, 3) := by decide +kernel
theorem d_Mo_take_78 : decode b_Mo_take 78 = .ok (.aload_n 0, 1) := by decide +kernel
theorem d_Mo_take_79 : decode b_Mo_take 79 = .ok (.getfield 17, 3) := by decide +kernel
theorem d_Mo_take_82 : decode b_Mo_take 82 = .ok (.iload_n 1, 1) := by decide +kernel
theorem d_Mo_take_83 : decode b_Mo_take 83 = .ok (.iload_n 2, 1) := by decide +kernel
theorem d_Mo_take_84 : decode b_Mo_take 84 = .ok (.ifCond .le 7, 3) := by decide +kernel
theorem d_Mo_take_87 : decode b_Mo_take 87 = .ok (.iconst 2, 1) := by decide +kernel
theorem d_Mo_take_88 : decode b_Mo_take 88 = .ok (.goto 4, 3) := by decide +kernel
theorem d_Mo_take_91 : decode b_Mo_take 91 = .ok (.iconst 3, 1) := by decide +kernel
theorem d_Mo_take_92 : decode b_Mo_take 92 = .ok (.iastore, 1) := by decide +kernel
theorem d_Mo_take_93 : decode b_Mo_take 93 = .ok (.aload_n 0, 1) := by decide +kernel
theorem d_Mo_take_94 : decode b_Mo_take 94 = .ok (.getfield 20, 3) := by decide +kernel
theorem d_Mo_take_97 : decode b_Mo_take 97 = .ok (.iload_n 1, 1) := by decide +kernel
theorem d_Mo_take_98 : decode b_Mo_take 98 = .ok (.iload_n 2, 1) := by decide +kernel
theorem d_Mo_take_99 : decode b_Mo_take 99 = .ok (.iastore, 1) := by decide +kernel
theorem d_Mo_take_100 : decode b_Mo_take 100 = .ok (.goto 15, 3) := by decide +kernel
theorem d_Mo_take_103 : decode b_Mo_take 103 = .ok (.iload_n 3, 1) := by decide +kernel
theorem d_Mo_take_104 : decode b_Mo_take 104 = .ok (.iconst 2, 1) := by decide +kernel
theorem d_Mo_take_105 : decode b_Mo_take 105 = .ok (.if_icmp .ne 10, 3) := by decide +kernel
theorem d_Mo_take_108 : decode b_Mo_take 108 = .ok (.aload_n 0, 1) := by decide +kernel
theorem d_Mo_take_109 : decode b_Mo_take 109 = .ok (.getfield 17, 3) := by decide +kernel
theorem d_Mo_take_112 : decode b_Mo_take 112 = .ok (.iload_n 1, 1) := by decide +kernel
theorem d_Mo_take_113 : decode b_Mo_take 113 = .ok (.iconst 3, 1) := by decide +kernel
theorem d_Mo_take_114 : decode b_Mo_take 114 = .ok (.iastore, 1) := by decide +kernel
theorem d_Mo_take_115 : decode b_Mo_take 115 = .ok (.return_, 1) := by decide +kernel
theorem d_Mo_stateOf_0 : decode b_Mo_stateOf 0 = .ok (.aload_n 0, 1) := by decide +kernel
theorem d_Mo_stateOf_1 : decode b_Mo_stateOf 1 = .ok (.getfield 17, 3) := by decide +kernel
theorem d_Mo_stateOf_4 : decode b_Mo_stateOf 4 = .ok (.iload_n 1, 1) := by decide +kernel
theorem d_Mo_stateOf_5 : decode b_Mo_stateOf 5 = .ok (.iaload, 1) := by decide +kernel
theorem d_Mo_stateOf_6 : decode b_Mo_stateOf 6 = .ok (.ifCond .eq 12, 3) := by decide +kernel
theorem d_Mo_stateOf_9 : decode b_Mo_stateOf 9 = .ok (.aload_n 0, 1) := by decide +kernel
theorem d_Mo_stateOf_10 : decode b_Mo_stateOf 10 = .ok (.getfield 17, 3) := by decide +kernel
theorem d_Mo_stateOf_13 : decode b_Mo_stateOf 13 = .ok (.iload_n 1, 1) := by decide +kernel
theorem d_Mo_stateOf_14 : decode b_Mo_stateOf 14 = .ok (.iaload, 1) := by decide +kernel
theorem d_Mo_stateOf_15 : decode b_Mo_stateOf 15 = .ok (.goto 16, 3) := by decide +kernel
theorem d_Mo_stateOf_18 : decode b_Mo_stateOf 18 = .ok (.aload_n 0, 1) := by decide +kernel
theorem d_Mo_stateOf_19 : decode b_Mo_stateOf 19 = .ok (.iload_n 1, 1) := by decide +kernel
theorem d_Mo_stateOf_20 : decode b_Mo_stateOf 20 = .ok (.invokevirtual 87, 3) := by decide +kernel
theorem d_Mo_stateOf_23 : decode b_Mo_stateOf 23 = .ok (.ifCond .eq 7, 3) := by decide +kernel
theorem d_Mo_stateOf_26 : decode b_Mo_stateOf 26 = .ok (.iconst 1, 1) := by decide +kernel
theorem d_Mo_stateOf_27 : decode b_Mo_stateOf 27 = .ok (.goto 4, 3) := by decide +kernel
theorem d_Mo_stateOf_30 : decode b_Mo_stateOf 30 = .ok (.iconst 0, 1) := by decide +kernel
theorem d_Mo_stateOf_31 : decode b_Mo_stateOf 31 = .ok (.ireturn, 1) := by decide +kernel
theorem d_Mo_office_0 : decode b_Mo_office 0 = .ok (.aload_n 0, 1) := by decide +kernel
theorem d_Mo_office_1 : decode b_Mo_office 1 = .ok (.iconst 0, 1) := by decide +kernel
theorem d_Mo_office_2 : decode b_Mo_office 2 = .ok (.putfield 52, 3) := by decide +kernel
theorem d_Mo_office_5 : decode b_Mo_office 5 = .ok (.iload_n 1, 1) := by decide +kernel
theorem d_Mo_office_6 : decode b_Mo_office 6 = .ok (.invokestatic 90, 3) := by decide +kernel
theorem d_Mo_office_9 : decode b_Mo_office 9 = .ok (.ifCond .ne 6, 3) := by decide +kernel
theorem d_Mo_office_12 : decode b_Mo_office 12 = .ok (.bipush (-101), 2) := by decide +kernel
theorem d_Mo_office_14 : decode b_Mo_office 14 = .ok (.ireturn, 1) := by decide +kernel
theorem d_Mo_office_15 : decode b_Mo_office 15 = .ok (.iload_n 2, 1) := by decide +kernel
theorem d_Mo_office_16 : decode b_Mo_office 16 = .ok (.i2l, 1) := by decide +kernel
theorem d_Mo_office_17 : decode b_Mo_office 17 = .ok (.lconst 0, 1) := by decide +kernel
theorem d_Mo_office_18 : decode b_Mo_office 18 = .ok (.ldc2_w 117, 3) := by decide +kernel
theorem d_Mo_office_21 : decode b_Mo_office 21 = .ok (.invokestatic 58, 3) := by decide +kernel
theorem d_Mo_office_24 : decode b_Mo_office 24 = .ok (.ifCond .eq 15, 3) := by decide +kernel
theorem d_Mo_office_27 : decode b_Mo_office 27 = .ok (.iload_n 3, 1) := by decide +kernel
theorem d_Mo_office_28 : decode b_Mo_office 28 = .ok (.i2l, 1) := by decide +kernel
theorem d_Mo_office_29 : decode b_Mo_office 29 = .ok (.lconst 0, 1) := by decide +kernel
theorem d_Mo_office_30 : decode b_Mo_office 30 = .ok (.ldc2_w 74, 3) := by decide +kernel
theorem d_Mo_office_33 : decode b_Mo_office 33 = .ok (.invokestatic 58, 3) := by decide +kernel
theorem d_Mo_office_36 : decode b_Mo_office 36 = .ok (.ifCond .ne 6, 3) := by decide +kernel
theorem d_Mo_office_39 : decode b_Mo_office 39 = .ok (.bipush (-102), 2) := by decide +kernel
theorem d_Mo_office_41 : decode b_Mo_office 41 = .ok (.ireturn, 1) := by decide +kernel
theorem d_Mo_office_42 : decode b_Mo_office 42 = .ok (.aload_n 0, 1) := by decide +kernel
theorem d_Mo_office_43 : decode b_Mo_office 43 = .ok (.getfield 38, 3) := by decide +kernel
theorem d_Mo_office_46 : decode b_Mo_office 46 = .ok (.iload_n 1, 1) := by decide +kernel
theorem d_Mo_office_47 : decode b_Mo_office 47 = .ok (.baload, 1) := by decide +kernel
theorem d_Mo_office_48 : decode b_Mo_office 48 = .ok (.ifCond .eq 27, 3) := by decide +kernel
theorem d_Mo_office_51 : decode b_Mo_office 51 = .ok (.aload_n 0, 1) := by decide +kernel
theorem d_Mo_office_52 : decode b_Mo_office 52 = .ok (.getfield 42, 3) := by decide +kernel
theorem d_Mo_office_55 : decode b_Mo_office 55 = .ok (.iload_n 1, 1) := by decide +kernel
theorem d_Mo_office_56 : decode b_Mo_office 56 = .ok (.iaload, 1) := by decide +kernel
theorem d_Mo_office_57 : decode b_Mo_office 57 = .ok (.iload_n 2, 1) := by decide +kernel
theorem d_Mo_office_58 : decode b_Mo_office 58 = .ok (.if_icmp .ne 17, 3) := by decide +kernel
theorem d_Mo_office_61 : decode b_Mo_office 61 = .ok (.aload_n 0, 1) := by decide +kernel
theorem d_Mo_office_62 : decode b_Mo_office 62 = .ok (.getfield 45, 3) := by decide +kernel
theorem d_Mo_office_65 : decode b_Mo_office 65 = .ok (.iload_n 1, 1) := by decide +kernel
theorem d_Mo_office_66 : decode b_Mo_office 66 = .ok (.iaload, 1) := by decide +kernel
theorem d_Mo_office_67 : decode b_Mo_office 67 = .ok (.iload_n 3, 1) := by decide +kernel
theorem d_Mo_office_68 : decode b_Mo_office 68 = .ok (.if_icmp .ne 7, 3) := by decide +kernel
theorem d_Mo_office_71 : decode b_Mo_office 71 = .ok (.iconst 1, 1) := by decide +kernel
theorem d_Mo_office_72 : decode b_Mo_office 72 = .ok (.goto 4, 3) := by decide +kernel
theorem d_Mo_office_75 : decode b_Mo_office 75 = .ok (.iconst 0, 1) := by decide +kernel
theorem d_Mo_office_76 : decode b_Mo_office 76 = .ok (.istore 4, 2) := by decide +kernel
theorem d_Mo_office_78 : decode b_Mo_office 78 = .ok (.aload_n 0, 1) := by decide +kernel
theorem d_Mo_office_79 : decode b_Mo_office 79 = .ok (.getfield 38, 3) := by decide +kernel
theorem d_Mo_office_82 : decode b_Mo_office 82 = .ok (.iload_n 1, 1) := by decide +kernel
theorem d_Mo_office_83 : decode b_Mo_office 83 = .ok (.iconst 1, 1) := by decide +kernel
theorem d_Mo_office_84 : decode b_Mo_office 84 = .ok (.bastore, 1) := by decide +kernel
theorem d_Mo_office_85 : decode b_Mo_office 85 = .ok (.aload_n 0, 1) := by decide +kernel
theorem d_Mo_office_86 : decode b_Mo_office 86 = .ok (.getfield 42, 3) := by decide +kernel
theorem d_Mo_office_89 : decode b_Mo_office 89 = .ok (.iload_n 1, 1) := by decide +kernel
theorem d_Mo_office_90 : decode b_Mo_office 90 = .ok (.iload_n 2, 1) := by decide +kernel
theorem d_Mo_office_91 : decode b_Mo_office 91 = .ok (.iastore, 1) := by decide +kernel
theorem d_Mo_office_92 : decode b_Mo_office 92 = .ok (.aload_n 0, 1) := by decide +kernel
theorem d_Mo_office_93 : decode b_Mo_office 93 = .ok (.getfield 45, 3) := by decide +kernel
theorem d_Mo_office_96 : decode b_Mo_office 96 = .ok (.iload_n 1, 1) := by decide +kernel
theorem d_Mo_office_97 : decode b_Mo_office 97 = .ok (.iload_n 3, 1) := by decide +kernel
theorem d_Mo_office_98 : decode b_Mo_office 98 = .ok (.iastore, 1) := by decide +kernel
theorem d_Mo_office_99 : decode b_Mo_office 99 = .ok (.iload 4, 2) := by decide +kernel
theorem d_Mo_office_101 : decode b_Mo_office 101 = .ok (.ifCond .eq 7, 3) := by decide +kernel
theorem d_Mo_office_104 : decode b_Mo_office 104 = .ok (.iconst 0, 1) := by decide +kernel
theorem d_Mo_office_105 : decode b_Mo_office 105 = .ok (.goto 4, 3) := by decide +kernel
theorem d_Mo_office_108 : decode b_Mo_office 108 = .ok (.iconst 1, 1) := by decide +kernel
theorem d_Mo_office_109 : decode b_Mo_office 109 = .ok (.ireturn, 1) := by decide +kernel
theorem d_Mo_leave_0 : decode b_Mo_leave 0 = .ok (.aload_n 0, 1) := by decide +kernel
theorem d_Mo_leave_1 : decode b_Mo_leave 1 = .ok (.iconst 0, 1) := by decide +kernel
theorem d_Mo_leave_2 : decode b_Mo_leave 2 = .ok (.putfield 52, 3) := by decide +kernel
theorem d_Mo_leave_5 : decode b_Mo_leave 5 = .ok (.iload_n 1, 1) := by decide +kernel
theorem d_Mo_leave_6 : decode b_Mo_leave 6 = .ok (.invokestatic 90, 3) := by decide +kernel
theorem d_Mo_leave_9 : decode b_Mo_leave 9 = .ok (.ifCond .ne 6, 3) := by decide +kernel
theorem d_Mo_leave_12 : decode b_Mo_leave 12 = .ok (.bipush (-101), 2) := by decide +kernel
theorem d_Mo_leave_14 : decode b_Mo_leave 14 = .ok (.ireturn, 1) := by decide +kernel
theorem d_Mo_leave_15 : decode b_Mo_leave 15 = .ok (.aload_n 0, 1) := by decide +kernel
theorem d_Mo_leave_16 : decode b_Mo_leave 16 = .ok (.getfield 38, 3) := by decide +kernel
theorem d_Mo_leave_19 : decode b_Mo_leave 19 = .ok (.iload_n 1, 1) := by decide +kernel
theorem d_Mo_leave_20 : decode b_Mo_leave 20 = .ok (.baload, 1) := by decide +kernel
theorem d_Mo_leave_21 : decode b_Mo_leave 21 = .ok (.ifCond .ne 6, 3) := by decide +kernel
theorem d_Mo_leave_24 : decode b_Mo_leave 24 = .ok (.bipush (-103), 2) := by decide +kernel
theorem d_Mo_leave_26 : decode b_Mo_leave 26 = .ok (.ireturn, 1) := by decide +kernel
theorem d_Mo_leave_27 : decode b_Mo_leave 27 = .ok (.aload_n 0, 1) := by decide +kernel
theorem d_Mo_leave_28 : decode b_Mo_leave 28 = .ok (.getfield 38, 3) := by decide +kernel
theorem d_Mo_leave_31 : decode b_Mo_leave 31 = .ok (.iload_n 1, 1) := by decide +kernel
theorem d_Mo_leave_32 : decode b_Mo_leave 32 = .ok (.iconst 0, 1) := by decide +kernel
theorem d_Mo_leave_33 : decode b_Mo_leave 33 = .ok (.bastore, 1) := by decide +kernel
theorem d_Mo_leave_34 : decode b_Mo_leave 34 = .ok (.aload_n 0, 1) := by decide +kernel
theorem d_Mo_leave_35 : decode b_Mo_leave 35 = .ok (.iload_n 1, 1) := by decide +kernel
theorem d_Mo_leave_36 : decode b_Mo_leave 36 = .ok (.invokevirtual 93, 3) := by decide +kernel
theorem d_Mo_leave_39 : decode b_Mo_leave 39 = .ok (.istore_n 2, 1) := by decide +kernel
theorem d_Mo_leave_40 : decode b_Mo_leave 40 = .ok (.iload_n 2, 1) := by decide +kernel
theorem d_Mo_leave_41 : decode b_Mo_leave 41 = .ok (.ifCond .le 18, 3) := by decide +kernel
theorem d_Mo_leave_44 : decode b_Mo_leave 44 = .ok (.aload_n 0, 1) := by decide +kernel
theorem d_Mo_leave_45 : decode b_Mo_leave 45 = .ok (.getfield 29, 3) := by decide +kernel
theorem d_Mo_leave_48 : decode b_Mo_leave 48 = .ok (.bipush 20, 2) := by decide +kernel
theorem d_Mo_leave_50 : decode b_Mo_leave 50 = .ok (.iload_n 2, 1) := by decide +kernel
theorem d_Mo_leave_51 : decode b_Mo_leave 51 = .ok (.imul, 1) := by decide +kernel
theorem d_Mo_leave_52 : decode b_Mo_leave 52 = .ok (.iload_n 1, 1) := by decide +kernel
theorem d_Mo_leave_53 : decode b_Mo_leave 53 = .ok (.iadd, 1) := by decide +kernel
theorem d_Mo_leave_54 : decode b_Mo_leave 54 = .ok (.bipush 20, 2) := by decide +kernel
theorem d_Mo_leave_56 : decode b_Mo_leave 56 = .ok (.isub, 1) := by decide +kernel
theorem d_Mo_leave_57 : decode b_Mo_leave 57 = .ok (.iconst 1, 1) := by decide +kernel
theorem d_Mo_leave_58 : decode b_Mo_leave 58 = .ok (.iastore, 1) := by decide +kernel
theorem d_Mo_leave_59 : decode b_Mo_leave 59 = .ok (.iload_n 2, 1) := by decide +kernel
theorem d_Mo_leave_60 : decode b_Mo_leave 60 = .ok (.ifCond .le 7, 3) := by decide +kernel
theorem d_Mo_leave_63 : decode b_Mo_leave 63 = .ok (.iconst 1, 1) := by decide +kernel
theorem d_Mo_leave_64 : decode b_Mo_leave 64 = .ok (.goto 4, 3) := by decide +kernel
theorem d_Mo_leave_67 : decode b_Mo_leave 67 = .ok (.iconst 0, 1) := by decide +kernel
theorem d_Mo_leave_68 : decode b_Mo_leave 68 = .ok (.ireturn, 1) := by decide +kernel
theorem d_Mo_tick_0 : decode b_Mo_tick 0 = .ok (.aload_n 0, 1) := by decide +kernel
theorem d_Mo_tick_1 : decode b_Mo_tick 1 = .ok (.iconst 0, 1) := by decide +kernel
theorem d_Mo_tick_2 : decode b_Mo_tick 2 = .ok (.putfield 52, 3) := by decide +kernel
theorem d_Mo_tick_5 : decode b_Mo_tick 5 = .ok (.aload_n 0, 1) := by decide +kernel
theorem d_Mo_tick_6 : decode b_Mo_tick 6 = .ok (.lload_n 1, 1) := by decide +kernel
theorem d_Mo_tick_7 : decode b_Mo_tick 7 = .ok (.invokevirtual 70, 3) := by decide +kernel
theorem d_Mo_tick_10 : decode b_Mo_tick 10 = .ok (.ifCond .ne 6, 3) := by decide +kernel
theorem d_Mo_tick_13 : decode b_Mo_tick 13 = .ok (.bipush (-102), 2) := by decide +kernel
theorem d_Mo_tick_15 : decode b_Mo_tick 15 = .ok (.ireturn, 1) := by decide +kernel
theorem d_Mo_tick_16 : decode b_Mo_tick 16 = .ok (.aload_n 0, 1) := by decide +kernel
theorem d_Mo_tick_17 : decode b_Mo_tick 17 = .ok (.lload_n 1, 1) := by decide +kernel
theorem d_Mo_tick_18 : decode b_Mo_tick 18 = .ok (.invokevirtual 97, 3) := by decide +kernel
theorem d_Mo_tick_21 : decode b_Mo_tick 21 = .ok (.aload_n 0, 1) := by decide +kernel
theorem d_Mo_tick_22 : decode b_Mo_tick 22 = .ok (.getfield 80, 3) := by decide +kernel
theorem d_Mo_tick_25 : decode b_Mo_tick 25 = .ok (.istore_n 3, 1) := by decide +kernel
theorem d_Mo_tick_26 : decode b_Mo_tick 26 = .ok (.aload_n 0, 1) := by decide +kernel
theorem d_Mo_tick_27 : decode b_Mo_tick 27 = .ok (.iconst 0, 1) := by decide +kernel
theorem d_Mo_tick_28 : decode b_Mo_tick 28 = .ok (.putfield 80, 3) := by decide +kernel
theorem d_Mo_tick_31 : decode b_Mo_tick 31 = .ok (.iload_n 3, 1) := by decide +kernel
theorem d_Mo_tick_32 : decode b_Mo_tick 32 = .ok (.ireturn, 1) := by decide +kernel
theorem d_Mo_settled_0 : decode b_Mo_settled 0 = .ok (.aload_n 0, 1) := by decide +kernel
theorem d_Mo_settled_1 : decode b_Mo_settled 1 = .ok (.iconst 0, 1) := by decide +kernel
theorem d_Mo_settled_2 : decode b_Mo_settled 2 = .ok (.putfield 52, 3) := by decide +kernel
theorem d_Mo_settled_5 : decode b_Mo_settled 5 = .ok (.aload_n 0, 1) := by decide +kernel
theorem d_Mo_settled_6 : decode b_Mo_settled 6 = .ok (.iload_n 1, 1) := by decide +kernel
theorem d_Mo_settled_7 : decode b_Mo_settled 7 = .ok (.invokevirtual 105, 3) := by decide +kernel
theorem d_Mo_settled_10 : decode b_Mo_settled 10 = .ok (.ifCond .ne 8, 3) := by decide +kernel
theorem d_Mo_settled_13 : decode b_Mo_settled 13 = .ok (.bipush (-101), 2) := by decide +kernel
theorem d_Mo_settled_15 : decode b_Mo_settled 15 = .ok (.goto 22, 3) := by decide +kernel
theorem d_Mo_settled_18 : decode b_Mo_settled 18 = .ok (.aload_n 0, 1) := by decide +kernel
theorem d_Mo_settled_19 : decode b_Mo_settled 19 = .ok (.getfield 17, 3) := by decide +kernel
theorem d_Mo_settled_22 : decode b_Mo_settled 22 = .ok (.iload_n 1, 1) := by decide +kernel
theorem d_Mo_settled_23 : decode b_Mo_settled 23 = .ok (.iaload, 1) := by decide +kernel
theorem d_Mo_settled_24 : decode b_Mo_settled 24 = .ok (.ifCond .ne 7, 3) := by decide +kernel
theorem d_Mo_settled_27 : decode b_Mo_settled 27 = .ok (.iconst (-1), 1) := by decide +kernel
theorem d_Mo_settled_28 : decode b_Mo_settled 28 = .ok (.goto 9, 3) := by decide +kernel
theorem d_Mo_settled_31 : decode b_Mo_settled 31 = .ok (.aload_n 0, 1) := by decide +kernel
theorem d_Mo_settled_32 : decode b_Mo_settled 32 = .ok (.getfield 20, 3) := by decide +kernel
theorem d_Mo_settled_35 : decode b_Mo_settled 35 = .ok (.iload_n 1, 1) := by decide +kernel
theorem d_Mo_settled_36 : decode b_Mo_settled 36 = .ok (.iaload, 1) := by decide +kernel
theorem d_Mo_settled_37 : decode b_Mo_settled 37 = .ok (.ireturn, 1) := by decide +kernel
theorem d_Mo_state_0 : decode b_Mo_state 0 = .ok (.aload_n 0, 1) := by decide +kernel
theorem d_Mo_state_1 : decode b_Mo_state 1 = .ok (.iconst 0, 1) := by decide +kernel
theorem d_Mo_state_2 : decode b_Mo_state 2 = .ok (.putfield 52, 3) := by decide +kernel
theorem d_Mo_state_5 : decode b_Mo_state 5 = .ok (.aload_n 0, 1) := by decide +kernel
theorem d_Mo_state_6 : decode b_Mo_state 6 = .ok (.iload_n 1, 1) := by decide +kernel
theorem d_Mo_state_7 : decode b_Mo_state 7 = .ok (.invokevirtual 105, 3) := by decide +kernel
theorem d_Mo_state_10 : decode b_Mo_state 10 = .ok (.ifCond .eq 11, 3) := by decide +kernel
theorem d_Mo_state_13 : decode b_Mo_state 13 = .ok (.aload_n 0, 1) := by decide +kernel
theorem d_Mo_state_14 : decode b_Mo_state 14 = .ok (.iload_n 1, 1) := by decide +kernel
theorem d_Mo_state_15 : decode b_Mo_state 15 = .ok (.invokevirtual 114, 3) := by decide +kernel
theorem d_Mo_state_18 : decode b_Mo_state 18 = .ok (.goto 5, 3) := by decide +kernel
theorem d_Mo_state_21 : decode b_Mo_state 21 = .ok (.bipush (-101), 2) := by decide +kernel
theorem d_Mo_state_23 : decode b_Mo_state 23 = .ok (.ireturn, 1) := by decide +kernel
theorem d_Mo_agreement_0 : decode b_Mo_agreement 0 = .ok (.aload_n 0, 1) := by decide +kernel
theorem d_Mo_agreement_1 : decode b_Mo_agreement 1 = .ok (.iconst 0, 1) := by decide +kernel
theorem d_Mo_agreement_2 : decode b_Mo_agreement 2 = .ok (.putfield 52, 3) := by decide +kernel
theorem d_Mo_agreement_5 : decode b_Mo_agreement 5 = .ok (.iload_n 1, 1) := by decide +kernel
theorem d_Mo_agreement_6 : decode b_Mo_agreement 6 = .ok (.invokestatic 90, 3) := by decide +kernel
theorem d_Mo_agreement_9 : decode b_Mo_agreement 9 = .ok (.ifCond .eq 10, 3) := by decide +kernel
theorem d_Mo_agreement_12 : decode b_Mo_agreement 12 = .ok (.iload_n 2, 1) := by decide +kernel
theorem d_Mo_agreement_13 : decode b_Mo_agreement 13 = .ok (.invokestatic 90, 3) := by decide +kernel
theorem d_Mo_agreement_16 : decode b_Mo_agreement 16 = .ok (.ifCond .ne 7, 3) := by decide +kernel
theorem d_Mo_agreement_19 : decode b_Mo_agreement 19 = .ok (.ldc2_w 119, 3) := by decide +kernel
theorem d_Mo_agreement_22 : decode b_Mo_agreement 22 = .ok (.lreturn, 1) := by decide +kernel
theorem d_Mo_agreement_23 : decode b_Mo_agreement 23 = .ok (.iload_n 3, 1) := by decide +kernel
theorem d_Mo_agreement_24 : decode b_Mo_agreement 24 = .ok (.ifCond .lt 13, 3) := by decide +kernel
theorem d_Mo_agreement_27 : decode b_Mo_agreement 27 = .ok (.iload_n 3, 1) := by decide +kernel
theorem d_Mo_agreement_28 : decode b_Mo_agreement 28 = .ok (.iconst 1, 1) := by decide +kernel
theorem d_Mo_agreement_29 : decode b_Mo_agreement 29 = .ok (.if_icmp .gt 8, 3) := by decide +kernel
theorem d_Mo_agreement_32 : decode b_Mo_agreement 32 = .ok (.iload_n 1, 1) := by decide +kernel
theorem d_Mo_agreement_33 : decode b_Mo_agreement 33 = .ok (.iload_n 2, 1) := by decide +kernel
theorem d_Mo_agreement_34 : decode b_Mo_agreement 34 = .ok (.if_icmp .ne 7, 3) := by decide +kernel
theorem d_Mo_agreement_37 : decode b_Mo_agreement 37 = .ok (.ldc2_w 121, 3) := by decide +kernel
theorem d_Mo_agreement_40 : decode b_Mo_agreement 40 = .ok (.lreturn, 1) := by decide +kernel
theorem d_Mo_agreement_41 : decode b_Mo_agreement 41 = .ok (.iconst 0, 1) := by decide +kernel
theorem d_Mo_agreement_42 : decode b_Mo_agreement 42 = .ok (.istore 4, 2) := by decide +kernel
theorem d_Mo_agreement_44 : decode b_Mo_agreement 44 = .ok (.iconst 1, 1) := by decide +kernel
theorem d_Mo_agreement_45 : decode b_Mo_agreement 45 = .ok (.istore 5, 2) := by decide +kernel
theorem d_Mo_agreement_47 : decode b_Mo_agreement 47 = .ok (.iload 5, 2) := by decide +kernel
theorem d_Mo_agreement_49 : decode b_Mo_agreement 49 = .ok (.aload_n 0, 1) := by decide +kernel
theorem d_Mo_agreement_50 : decode b_Mo_agreement 50 = .ok (.getfield 55, 3) := by decide +kernel
theorem d_Mo_agreement_53 : decode b_Mo_agreement 53 = .ok (.if_icmp .gt 76, 3) := by decide +kernel
theorem d_Mo_agreement_56 : decode b_Mo_agreement 56 = .ok (.aload_n 0, 1) := by decide +kernel
theorem d_Mo_agreement_57 : decode b_Mo_agreement 57 = .ok (.getfield 35, 3) := by decide +kernel
theorem d_Mo_agreement_60 : decode b_Mo_agreement 60 = .ok (.bipush 20, 2) := by decide +kernel
theorem d_Mo_agreement_62 : decode b_Mo_agreement 62 = .ok (.iload 5, 2) := by decide +kernel
theorem d_Mo_agreement_64 : decode b_Mo_agreement 64 = .ok (.imul, 1) := by decide +kernel
theorem d_Mo_agreement_65 : decode b_Mo_agreement 65 = .ok (.iload_n 1, 1) := by decide +kernel
theorem d_Mo_agreement_66 : decode b_Mo_agreement 66 = .ok (.iadd, 1) := by decide +kernel
theorem d_Mo_agreement_67 : decode b_Mo_agreement 67 = .ok (.bipush 20, 2) := by decide +kernel
theorem d_Mo_agreement_69 : decode b_Mo_agreement 69 = .ok (.isub, 1) := by decide +kernel
theorem d_Mo_agreement_70 : decode b_Mo_agreement 70 = .ok (.iaload, 1) := by decide +kernel
theorem d_Mo_agreement_71 : decode b_Mo_agreement 71 = .ok (.istore 6, 2) := by decide +kernel
theorem d_Mo_agreement_73 : decode b_Mo_agreement 73 = .ok (.aload_n 0, 1) := by decide +kernel
theorem d_Mo_agreement_74 : decode b_Mo_agreement 74 = .ok (.getfield 35, 3) := by decide +kernel
theorem d_Mo_agreement_77 : decode b_Mo_agreement 77 = .ok (.bipush 20, 2) := by decide +kernel
theorem d_Mo_agreement_79 : decode b_Mo_agreement 79 = .ok (.iload 5, 2) := by decide +kernel
theorem d_Mo_agreement_81 : decode b_Mo_agreement 81 = .ok (.imul, 1) := by decide +kernel
theorem d_Mo_agreement_82 : decode b_Mo_agreement 82 = .ok (.iload_n 2, 1) := by decide +kernel
theorem d_Mo_agreement_83 : decode b_Mo_agreement 83 = .ok (.iadd, 1) := by decide +kernel
theorem d_Mo_agreement_84 : decode b_Mo_agreement 84 = .ok (.bipush 20, 2) := by decide +kernel
theorem d_Mo_agreement_86 : decode b_Mo_agreement 86 = .ok (.isub, 1) := by decide +kernel
theorem d_Mo_agreement_87 : decode b_Mo_agreement 87 = .ok (.iaload, 1) := by decide +kernel
theorem d_Mo_agreement_88 : decode b_Mo_agreement 88 = .ok (.istore 7, 2) := by decide +kernel
theorem d_Mo_agreement_90 : decode b_Mo_agreement 90 = .ok (.iload 6, 2) := by decide +kernel
theorem d_Mo_agreement_92 : decode b_Mo_agreement 92 = .ok (.ifCond .lt 27, 3) := by decide +kernel
theorem d_Mo_agreement_95 : decode b_Mo_agreement 95 = .ok (.iload 7, 2) := by decide +kernel
theorem d_Mo_agreement_97 : decode b_Mo_agreement 97 = .ok (.ifCond .lt 22, 3) := by decide +kernel
theorem d_Mo_agreement_100 : decode b_Mo_agreement 100 = .ok (.iload_n 3, 1) := by decide +kernel
theorem d_Mo_agreement_101 : decode b_Mo_agreement 101 = .ok (.iconst 1, 1) := by decide +kernel
theorem d_Mo_agreement_102 : decode b_Mo_agreement 102 = .ok (.if_icmp .eq 10, 3) := by decide +kernel
theorem d_Mo_agreement_105 : decode b_Mo_agreement 105 = .ok (.iload 6, 2) := by decide +kernel
theorem d_Mo_agreement_107 : decode b_Mo_agreement 107 = .ok (.iload 7, 2) := by decide +kernel
theorem d_Mo_agreement_109 : decode b_Mo_agreement 109 = .ok (.if_icmp .ne 10, 3) := by decide +kernel
theorem d_Mo_agreement_112 : decode b_Mo_agreement 112 = .ok (.iload 4, 2) := by decide +kernel
theorem d_Mo_agreement_114 : decode b_Mo_agreement 114 = .ok (.iconst 1, 1) := by decide +kernel
theorem d_Mo_agreement_115 : decode b_Mo_agreement 115 = .ok (.iadd, 1) := by decide +kernel
theorem d_Mo_agreement_116 : decode b_Mo_agreement 116 = .ok (.goto 5, 3) := by decide +kernel
theorem d_Mo_agreement_119 : decode b_Mo_agreement 119 = .ok (.iload 4, 2) := by decide +kernel
theorem d_Mo_agreement_121 : decode b_Mo_agreement 121 = .ok (.istore 4, 2) := by decide +kernel
theorem d_Mo_agreement_123 : decode b_Mo_agreement 123 = .ok (.iinc 5 1, 3) := by decide +kernel
theorem d_Mo_agreement_126 : decode b_Mo_agreement 126 = .ok (.goto (-79), 3) := by decide +kernel
theorem d_Mo_agreement_129 : decode b_Mo_agreement 129 = .ok (.iload 4, 2) := by decide +kernel
theorem d_Mo_agreement_131 : decode b_Mo_agreement 131 = .ok (.i2l, 1) := by decide +kernel
theorem d_Mo_agreement_132 : decode b_Mo_agreement 132 = .ok (.lreturn, 1) := by decide +kernel
theorem d_Mo_waiting_0 : decode b_Mo_waiting 0 = .ok (.aload_n 0, 1) := by decide +kernel
theorem d_Mo_waiting_1 : decode b_Mo_waiting 1 = .ok (.iconst 0, 1) := by decide +kernel
theorem d_Mo_waiting_2 : decode b_Mo_waiting 2 = .ok (.putfield 52, 3) := by decide +kernel
theorem d_Mo_waiting_5 : decode b_Mo_waiting 5 = .ok (.aload_n 0, 1) := by decide +kernel
theorem d_Mo_waiting_6 : decode b_Mo_waiting 6 = .ok (.invokevirtual 76, 3) := by decide +kernel
theorem d_Mo_waiting_9 : decode b_Mo_waiting 9 = .ok (.ireturn, 1) := by decide +kernel
end
section
theorem d_La_law_0 : decode b_La_law 0 = .ok (.new 7, 3) := by decide +kernel
theorem d_La_law_3 : decode b_La_law 3 = .ok (.dup, 1) := by decide +kernel
theorem d_La_law_4 : decode b_La_law 4 = .ok (.aload_n 0, 1) := by decide +kernel
theorem d_La_law_5 : decode b_La_law 5 = .ok (.iconst 0, 1) := by decide +kernel
theorem d_La_law_6 : decode b_La_law 6 = .ok (.invokestatic 9, 3) := by decide +kernel
theorem d_La_law_9 : decode b_La_law 9 = .ok (.invokespecial 15, 3) := by decide +kernel
theorem d_La_law_12 : decode b_La_law 12 = .ok (.astore_n 1, 1) := by decide +kernel
theorem d_La_law_13 : decode b_La_law 13 = .ok (.new 18, 3) := by decide +kernel
theorem d_La_law_16 : decode b_La_law 16 = .ok (.dup, 1) := by decide +kernel
theorem d_La_law_17 : decode b_La_law 17 = .ok (.aload_n 0, 1) := by decide +kernel
theorem d_La_law_18 : decode b_La_law 18 = .ok (.iconst 0, 1) := by decide +kernel
theorem d_La_law_19 : decode b_La_law 19 = .ok (.invokestatic 9, 3) := by decide +kernel
theorem d_La_law_22 : decode b_La_law 22 = .ok (.invokespecial 20, 3) := by decide +kernel
theorem d_La_law_25 : decode b_La_law 25 = .ok (.astore_n 2, 1) := by decide +kernel
theorem d_La_law_26 : decode b_La_law 26 = .ok (.iconst 1, 1) := by decide +kernel
theorem d_La_law_27 : decode b_La_law 27 = .ok (.istore_n 3, 1) := by decide +kernel
theorem d_La_law_28 : decode b_La_law 28 = .ok (.iload_n 3, 1) := by decide +kernel
theorem d_La_law_29 : decode b_La_law 29 = .ok (.aload_n 0, 1) := by decide +kernel
theorem d_La_law_30 : decode b_La_law 30 = .ok (.arraylength, 1) := by decide +kernel
theorem d_La_law_31 : decode b_La_law 31 = .ok (.bipush 6, 2) := by decide +kernel
theorem d_La_law_33 : decode b_La_law 33 = .ok (.isub, 1) := by decide +kernel
theorem d_La_law_34 : decode b_La_law 34 = .ok (.if_icmp .gt 499, 3) := by decide +kernel
theorem d_La_law_37 : decode b_La_law 37 = .ok (.aload_n 0, 1) := by decide +kernel
theorem d_La_law_38 : decode b_La_law 38 = .ok (.iload_n 3, 1) := by decide +kernel
theorem d_La_law_39 : decode b_La_law 39 = .ok (.iaload, 1) := by decide +kernel
theorem d_La_law_40 : decode b_La_law 40 = .ok (.bipush 15, 2) := by decide +kernel
theorem d_La_law_42 : decode b_La_law 42 = .ok (.iand, 1) := by decide +kernel
theorem d_La_law_43 : decode b_La_law 43 = .ok (.tableswitch 484 0 9 #[53, 116, 179, 262, 305, 328, 381, 404, 427, 471], 53) := by decide +kernel
theorem d_La_law_96 : decode b_La_law 96 = .ok (.aload_n 1, 1) := by decide +kernel
theorem d_La_law_97 : decode b_La_law 97 = .ok (.aload_n 0, 1) := by decide +kernel
theorem d_La_law_98 : decode b_La_law 98 = .ok (.iload_n 3, 1) := by decide +kernel
theorem d_La_law_99 : decode b_La_law 99 = .ok (.iconst 1, 1) := by decide +kernel
theorem d_La_law_100 : decode b_La_law 100 = .ok (.iadd, 1) := by decide +kernel
theorem d_La_law_101 : decode b_La_law 101 = .ok (.iaload, 1) := by decide +kernel
theorem d_La_law_102 : decode b_La_law 102 = .ok (.i2l, 1) := by decide +kernel
theorem d_La_law_103 : decode b_La_law 103 = .ok (.bipush 32, 2) := by decide +kernel
theorem d_La_law_105 : decode b_La_law 105 = .ok (.lshl, 1) := by decide +kernel
theorem d_La_law_106 : decode b_La_law 106 = .ok (.aload_n 0, 1) := by decide +kernel
theorem d_La_law_107 : decode b_La_law 107 = .ok (.iload_n 3, 1) := by decide +kernel
theorem d_La_law_108 : decode b_La_law 108 = .ok (.iconst 2, 1) := by decide +kernel
theorem d_La_law_109 : decode b_La_law 109 = .ok (.iadd, 1) := by decide +kernel
theorem d_La_law_110 : decode b_La_law 110 = .ok (.iaload, 1) := by decide +kernel
theorem d_La_law_111 : decode b_La_law 111 = .ok (.i2l, 1) := by decide +kernel
theorem d_La_law_112 : decode b_La_law 112 = .ok (.ldc2_w 21, 3) := by decide +kernel
theorem d_La_law_115 : decode b_La_law 115 = .ok (.land, 1) := by decide +kernel
theorem d_La_law_116 : decode b_La_law 116 = .ok (.lor, 1) := by decide +kernel
theorem d_La_law_117 : decode b_La_law 117 = .ok (.aload_n 0, 1) := by decide +kernel
theorem d_La_law_118 : decode b_La_law 118 = .ok (.iload_n 3, 1) := by decide +kernel
theorem d_La_law_119 : decode b_La_law 119 = .ok (.iconst 3, 1) := by decide +kernel
theorem d_La_law_120 : decode b_La_law 120 = .ok (.iadd, 1) := by decide +kernel
theorem d_La_law_121 : decode b_La_law 121 = .ok (.iaload, 1) := by decide +kernel
theorem d_La_law_122 : decode b_La_law 122 = .ok (.invokevirtual 23, 3) := by decide +kernel
theorem d_La_law_125 : decode b_La_law 125 = .ok (.aload_n 2, 1) := by decide +kernel
theorem d_La_law_126 : decode b_La_law 126 = .ok (.aload_n 0, 1) := by decide +kernel
theorem d_La_law_127 : decode b_La_law 127 = .ok (.iload_n 3, 1) := by decide +kernel
theorem d_La_law_128 : decode b_La_law 128 = .ok (.iconst 1, 1) := by decide +kernel
theorem d_La_law_129 : decode b_La_law 129 = .ok (.iadd, 1) := by decide +kernel
theorem d_La_law_130 : decode b_La_law 130 = .ok (.iaload, 1) := by decide +kernel
theorem d_La_law_131 : decode b_La_law 131 = .ok (.i2l, 1) := by decide +kernel
theorem d_La_law_132 : decode b_La_law 132 = .ok (.bipush 32, 2) := by decide +kernel
theorem d_La_law_134 : decode b_La_law 134 = .ok (.lshl, 1) := by decide +kernel
theorem d_La_law_135 : decode b_La_law 135 = .ok (.aload_n 0, 1) := by decide +kernel
theorem d_La_law_136 : decode b_La_law 136 = .ok (.iload_n 3, 1) := by decide +kernel
theorem d_La_law_137 : decode b_La_law 137 = .ok (.iconst 2, 1) := by decide +kernel
theorem d_La_law_138 : decode b_La_law 138 = .ok (.iadd, 1) := by decide +kernel
theorem d_La_law_139 : decode b_La_law 139 = .ok (.iaload, 1) := by decide +kernel
theorem d_La_law_140 : decode b_La_law 140 = .ok (.i2l, 1) := by decide +kernel
theorem d_La_law_141 : decode b_La_law 141 = .ok (.ldc2_w 21, 3) := by decide +kernel
theorem d_La_law_144 : decode b_La_law 144 = .ok (.land, 1) := by decide +kernel
theorem d_La_law_145 : decode b_La_law 145 = .ok (.lor, 1) := by decide +kernel
theorem d_La_law_146 : decode b_La_law 146 = .ok (.aload_n 0, 1) := by decide +kernel
theorem d_La_law_147 : decode b_La_law 147 = .ok (.iload_n 3, 1) := by decide +kernel
theorem d_La_law_148 : decode b_La_law 148 = .ok (.iconst 3, 1) := by decide +kernel
theorem d_La_law_149 : decode b_La_law 149 = .ok (.iadd, 1) := by decide +kernel
theorem d_La_law_150 : decode b_La_law 150 = .ok (.iaload, 1) := by decide +kernel
theorem d_La_law_151 : decode b_La_law 151 = .ok (.invokevirtual 27, 3) := by decide +kernel
theorem d_La_law_154 : decode b_La_law 154 = .ok (.if_icmp .eq 373, 3) := by decide +kernel
theorem d_La_law_157 : decode b_La_law 157 = .ok (.iconst 0, 1) := by decide +kernel
theorem d_La_law_158 : decode b_La_law 158 = .ok (.ireturn, 1) := by decide +kernel
theorem d_La_law_159 : decode b_La_law 159 = .ok (.aload_n 1, 1) := by decide +kernel
theorem d_La_law_160 : decode b_La_law 160 = .ok (.aload_n 0, 1) := by decide +kernel
theorem d_La_law_161 : decode b_La_law 161 = .ok (.iload_n 3, 1) := by decide +kernel
theorem d_La_law_162 : decode b_La_law 162 = .ok (.iconst 1, 1) := by decide +kernel
theorem d_La_law_163 : decode b_La_law 163 = .ok (.iadd, 1) := by decide +kernel
theorem d_La_law_164 : decode b_La_law 164 = .ok (.iaload, 1) := by decide +kernel
theorem d_La_law_165 : decode b_La_law 165 = .ok (.aload_n 0, 1) := by decide +kernel
theorem d_La_law_166 : decode b_La_law 166 = .ok (.iload_n 3, 1) := by decide +kernel
theorem d_La_law_167 : decode b_La_law 167 = .ok (.iconst 2, 1) := by decide +kernel
theorem d_La_law_168 : decode b_La_law 168 = .ok (.iadd, 1) := by decide +kernel
theorem d_La_law_169 : decode b_La_law 169 = .ok (.iaload, 1) := by decide +kernel
theorem d_La_law_170 : decode b_La_law 170 = .ok (.i2l, 1) := by decide +kernel
theorem d_La_law_171 : decode b_La_law 171 = .ok (.bipush 32, 2) := by decide +kernel
theorem d_La_law_173 : decode b_La_law 173 = .ok (.lshl, 1) := by decide +kernel
theorem d_La_law_174 : decode b_La_law 174 = .ok (.aload_n 0, 1) := by decide +kernel
theorem d_La_law_175 : decode b_La_law 175 = .ok (.iload_n 3, 1) := by decide +kernel
theorem d_La_law_176 : decode b_La_law 176 = .ok (.iconst 3, 1) := by decide +kernel
theorem d_La_law_177 : decode b_La_law 177 = .ok (.iadd, 1) := by decide +kernel
theorem d_La_law_178 : decode b_La_law 178 = .ok (.iaload, 1) := by decide +kernel
theorem d_La_law_179 : decode b_La_law 179 = .ok (.i2l, 1) := by decide +kernel
theorem d_La_law_180 : decode b_La_law 180 = .ok (.ldc2_w 21, 3) := by decide +kernel
theorem d_La_law_183 : decode b_La_law 183 = .ok (.land, 1) := by decide +kernel
theorem d_La_law_184 : decode b_La_law 184 = .ok (.lor, 1) := by decide +kernel
theorem d_La_law_185 : decode b_La_law 185 = .ok (.invokevirtual 28, 3) := by decide +kernel
theorem d_La_law_188 : decode b_La_law 188 = .ok (.aload_n 2, 1) := by decide +kernel
theorem d_La_law_189 : decode b_La_law 189 = .ok (.aload_n 0, 1) := by decide +kernel
theorem d_La_law_190 : decode b_La_law 190 = .ok (.iload_n 3, 1) := by decide +kernel
theorem d_La_law_191 : decode b_La_law 191 = .ok (.iconst 1, 1) := by decide +kernel
theorem d_La_law_192 : decode b_La_law 192 = .ok (.iadd, 1) := by decide +kernel
theorem d_La_law_193 : decode b_La_law 193 = .ok (.iaload, 1) := by decide +kernel
theorem d_La_law_194 : decode b_La_law 194 = .ok (.aload_n 0, 1) := by decide +kernel
theorem d_La_law_195 : decode b_La_law 195 = .ok (.iload_n 3, 1) := by decide +kernel
theorem d_La_law_196 : decode b_La_law 196 = .ok (.iconst 2, 1) := by decide +kernel
theorem d_La_law_197 : decode b_La_law 197 = .ok (.iadd, 1) := by decide +kernel
theorem d_La_law_198 : decode b_La_law 198 = .ok (.iaload, 1) := by decide +kernel
theorem d_La_law_199 : decode b_La_law 199 = .ok (.i2l, 1) := by decide +kernel
theorem d_La_law_200 : decode b_La_law 200 = .ok (.bipush 32, 2) := by decide +kernel
theorem d_La_law_202 : decode b_La_law 202 = .ok (.lshl, 1) := by decide +kernel
theorem d_La_law_203 : decode b_La_law 203 = .ok (.aload_n 0, 1) := by decide +kernel
theorem d_La_law_204 : decode b_La_law 204 = .ok (.iload_n 3, 1) := by decide +kernel
theorem d_La_law_205 : decode b_La_law 205 = .ok (.iconst 3, 1) := by decide +kernel
theorem d_La_law_206 : decode b_La_law 206 = .ok (.iadd, 1) := by decide +kernel
theorem d_La_law_207 : decode b_La_law 207 = .ok (.iaload, 1) := by decide +kernel
theorem d_La_law_208 : decode b_La_law 208 = .ok (.i2l, 1) := by decide +kernel
theorem d_La_law_209 : decode b_La_law 209 = .ok (.ldc2_w 21, 3) := by decide +kernel
theorem d_La_law_212 : decode b_La_law 212 = .ok (.land, 1) := by decide +kernel
theorem d_La_law_213 : decode b_La_law 213 = .ok (.lor, 1) := by decide +kernel
theorem d_La_law_214 : decode b_La_law 214 = .ok (.invokevirtual 32, 3) := by decide +kernel
theorem d_La_law_217 : decode b_La_law 217 = .ok (.if_icmp .eq 310, 3) := by decide +kernel
theorem d_La_law_220 : decode b_La_law 220 = .ok (.iconst 0, 1) := by decide +kernel
theorem d_La_law_221 : decode b_La_law 221 = .ok (.ireturn, 1) := by decide +kernel
theorem d_La_law_222 : decode b_La_law 222 = .ok (.aload_n 1, 1) := by decide +kernel
theorem d_La_law_223 : decode b_La_law 223 = .ok (.aload_n 0, 1) := by decide +kernel
theorem d_La_law_224 : decode b_La_law 224 = .ok (.iload_n 3, 1) := by decide +kernel
theorem d_La_law_225 : decode b_La_law 225 = .ok (.iconst 1, 1) := by decide +kernel
theorem d_La_law_226 : decode b_La_law 226 = .ok (.iadd, 1) := by decide +kernel
theorem d_La_law_227 : decode b_La_law 227 = .ok (.iaload, 1) := by decide +kernel
theorem d_La_law_228 : decode b_La_law 228 = .ok (.aload_n 0, 1) := by decide +kernel
theorem d_La_law_229 : decode b_La_law 229 = .ok (.iload_n 3, 1) := by decide +kernel
theorem d_La_law_230 : decode b_La_law 230 = .ok (.iconst 2, 1) := by decide +kernel
theorem d_La_law_231 : decode b_La_law 231 = .ok (.iadd, 1) := by decide +kernel
theorem d_La_law_232 : decode b_La_law 232 = .ok (.iaload, 1) := by decide +kernel
theorem d_La_law_233 : decode b_La_law 233 = .ok (.aload_n 0, 1) := by decide +kernel
theorem d_La_law_234 : decode b_La_law 234 = .ok (.iload_n 3, 1) := by decide +kernel
theorem d_La_law_235 : decode b_La_law 235 = .ok (.iconst 3, 1) := by decide +kernel
theorem d_La_law_236 : decode b_La_law 236 = .ok (.iadd, 1) := by decide +kernel
theorem d_La_law_237 : decode b_La_law 237 = .ok (.iaload, 1) := by decide +kernel
theorem d_La_law_238 : decode b_La_law 238 = .ok (.aload_n 0, 1) := by decide +kernel
theorem d_La_law_239 : decode b_La_law 239 = .ok (.iload_n 3, 1) := by decide +kernel
theorem d_La_law_240 : decode b_La_law 240 = .ok (.iconst 4, 1) := by decide +kernel
theorem d_La_law_241 : decode b_La_law 241 = .ok (.iadd, 1) := by decide +kernel
theorem d_La_law_242 : decode b_La_law 242 = .ok (.iaload, 1) := by decide +kernel
theorem d_La_law_243 : decode b_La_law 243 = .ok (.i2l, 1) := by decide +kernel
theorem d_La_law_244 : decode b_La_law 244 = .ok (.bipush 32, 2) := by decide +kernel
theorem d_La_law_246 : decode b_La_law 246 = .ok (.lshl, 1) := by decide +kernel
theorem d_La_law_247 : decode b_La_law 247 = .ok (.aload_n 0, 1) := by decide +kernel
theorem d_La_law_248 : decode b_La_law 248 = .ok (.iload_n 3, 1) := by decide +kernel
theorem d_La_law_249 : decode b_La_law 249 = .ok (.iconst 5, 1) := by decide +kernel
theorem d_La_law_250 : decode b_La_law 250 = .ok (.iadd, 1) := by decide +kernel
theorem d_La_law_251 : decode b_La_law 251 = .ok (.iaload, 1) := by decide +kernel
theorem d_La_law_252 : decode b_La_law 252 = .ok (.i2l, 1) := by decide +kernel
theorem d_La_law_253 : decode b_La_law 253 = .ok (.ldc2_w 21, 3) := by decide +kernel
theorem d_La_law_256 : decode b_La_law 256 = .ok (.land, 1) := by decide +kernel
theorem d_La_law_257 : decode b_La_law 257 = .ok (.lor, 1) := by decide +kernel
theorem d_La_law_258 : decode b_La_law 258 = .ok (.invokevirtual 33, 3) := by decide +kernel
theorem d_La_law_261 : decode b_La_law 261 = .ok (.aload_n 2, 1) := by decide +kernel
theorem d_La_law_262 : decode b_La_law 262 = .ok (.aload_n 0, 1) := by decide +kernel
theorem d_La_law_263 : decode b_La_law 263 = .ok (.iload_n 3, 1) := by decide +kernel
theorem d_La_law_264 : decode b_La_law 264 = .ok (.iconst 1, 1) := by decide +kernel
theorem d_La_law_265 : decode b_La_law 265 = .ok (.iadd, 1) := by decide +kernel
theorem d_La_law_266 : decode b_La_law 266 = .ok (.iaload, 1) := by decide +kernel
theorem d_La_law_267 : decode b_La_law 267 = .ok (.aload_n 0, 1) := by decide +kernel
theorem d_La_law_268 : decode b_La_law 268 = .ok (.iload_n 3, 1) := by decide +kernel
theorem d_La_law_269 : decode b_La_law 269 = .ok (.iconst 2, 1) := by decide +kernel
theorem d_La_law_270 : decode b_La_law 270 = .ok (.iadd, 1) := by decide +kernel
theorem d_La_law_271 : decode b_La_law 271 = .ok (.iaload, 1) := by decide +kernel
theorem d_La_law_272 : decode b_La_law 272 = .ok (.aload_n 0, 1) := by decide +kernel
theorem d_La_law_273 : decode b_La_law 273 = .ok (.iload_n 3, 1) := by decide +kernel
theorem d_La_law_274 : decode b_La_law 274 = .ok (.iconst 3, 1) := by decide +kernel
theorem d_La_law_275 : decode b_La_law 275 = .ok (.iadd, 1) := by decide +kernel
theorem d_La_law_276 : decode b_La_law 276 = .ok (.iaload, 1) := by decide +kernel
theorem d_La_law_277 : decode b_La_law 277 = .ok (.aload_n 0, 1) := by decide +kernel
theorem d_La_law_278 : decode b_La_law 278 = .ok (.iload_n 3, 1) := by decide +kernel
theorem d_La_law_279 : decode b_La_law 279 = .ok (.iconst 4, 1) := by decide +kernel
theorem d_La_law_280 : decode b_La_law 280 = .ok (.iadd, 1) := by decide +kernel
theorem d_La_law_281 : decode b_La_law 281 = .ok (.iaload, 1) := by decide +kernel
theorem d_La_law_282 : decode b_La_law 282 = .ok (.i2l, 1) := by decide +kernel
theorem d_La_law_283 : decode b_La_law 283 = .ok (.bipush 32, 2) := by decide +kernel
theorem d_La_law_285 : decode b_La_law 285 = .ok (.lshl, 1) := by decide +kernel
theorem d_La_law_286 : decode b_La_law 286 = .ok (.aload_n 0, 1) := by decide +kernel
theorem d_La_law_287 : decode b_La_law 287 = .ok (.iload_n 3, 1) := by decide +kernel
theorem d_La_law_288 : decode b_La_law 288 = .ok (.iconst 5, 1) := by decide +kernel
theorem d_La_law_289 : decode b_La_law 289 = .ok (.iadd, 1) := by decide +kernel
theorem d_La_law_290 : decode b_La_law 290 = .ok (.iaload, 1) := by decide +kernel
theorem d_La_law_291 : decode b_La_law 291 = .ok (.i2l, 1) := by decide +kernel
theorem d_La_law_292 : decode b_La_law 292 = .ok (.ldc2_w 21, 3) := by decide +kernel
theorem d_La_law_295 : decode b_La_law 295 = .ok (.land, 1) := by decide +kernel
theorem d_La_law_296 : decode b_La_law 296 = .ok (.lor, 1) := by decide +kernel
theorem d_La_law_297 : decode b_La_law 297 = .ok (.invokevirtual 37, 3) := by decide +kernel
theorem d_La_law_300 : decode b_La_law 300 = .ok (.if_icmp .eq 227, 3) := by decide +kernel
theorem d_La_law_303 : decode b_La_law 303 = .ok (.iconst 0, 1) := by decide +kernel
theorem d_La_law_304 : decode b_La_law 304 = .ok (.ireturn, 1) := by decide +kernel
theorem d_La_law_305 : decode b_La_law 305 = .ok (.aload_n 1, 1) := by decide +kernel
theorem d_La_law_306 : decode b_La_law 306 = .ok (.aload_n 0, 1) := by decide +kernel
theorem d_La_law_307 : decode b_La_law 307 = .ok (.iload_n 3, 1) := by decide +kernel
theorem d_La_law_308 : decode b_La_law 308 = .ok (.iconst 1, 1) := by decide +kernel
theorem d_La_law_309 : decode b_La_law 309 = .ok (.iadd, 1) := by decide +kernel
theorem d_La_law_310 : decode b_La_law 310 = .ok (.iaload, 1) := by decide +kernel
theorem d_La_law_311 : decode b_La_law 311 = .ok (.aload_n 0, 1) := by decide +kernel
theorem d_La_law_312 : decode b_La_law 312 = .ok (.iload_n 3, 1) := by decide +kernel
theorem d_La_law_313 : decode b_La_law 313 = .ok (.iconst 2, 1) := by decide +kernel
theorem d_La_law_314 : decode b_La_law 314 = .ok (.iadd, 1) := by decide +kernel
theorem d_La_law_315 : decode b_La_law 315 = .ok (.iaload, 1) := by decide +kernel
theorem d_La_law_316 : decode b_La_law 316 = .ok (.aload_n 0, 1) := by decide +kernel
theorem d_La_law_317 : decode b_La_law 317 = .ok (.iload_n 3, 1) := by decide +kernel
theorem d_La_law_318 : decode b_La_law 318 = .ok (.iconst 3, 1) := by decide +kernel
theorem d_La_law_319 : decode b_La_law 319 = .ok (.iadd, 1) := by decide +kernel
theorem d_La_law_320 : decode b_La_law 320 = .ok (.iaload, 1) := by decide +kernel
theorem d_La_law_321 : decode b_La_law 321 = .ok (.invokevirtual 38, 3) := by decide +kernel
theorem d_La_law_324 : decode b_La_law 324 = .ok (.aload_n 2, 1) := by decide +kernel
theorem d_La_law_325 : decode b_La_law 325 = .ok (.aload_n 0, 1) := by decide +kernel
theorem d_La_law_326 : decode b_La_law 326 = .ok (.iload_n 3, 1) := by decide +kernel
theorem d_La_law_327 : decode b_La_law 327 = .ok (.iconst 1, 1) := by decide +kernel
theorem d_La_law_328 : decode b_La_law 328 = .ok (.iadd, 1) := by decide +kernel
theorem d_La_law_329 : decode b_La_law 329 = .ok (.iaload, 1) := by decide +kernel
theorem d_La_law_330 : decode b_La_law 330 = .ok (.aload_n 0, 1) := by decide +kernel
theorem d_La_law_331 : decode b_La_law 331 = .ok (.iload_n 3, 1) := by decide +kernel
theorem d_La_law_332 : decode b_La_law 332 = .ok (.iconst 2, 1) := by decide +kernel
theorem d_La_law_333 : decode b_La_law 333 = .ok (.iadd, 1) := by decide +kernel
theorem d_La_law_334 : decode b_La_law 334 = .ok (.iaload, 1) := by decide +kernel
theorem d_La_law_335 : decode b_La_law 335 = .ok (.aload_n 0, 1) := by decide +kernel
theorem d_La_law_336 : decode b_La_law 336 = .ok (.iload_n 3, 1) := by decide +kernel
theorem d_La_law_337 : decode b_La_law 337 = .ok (.iconst 3, 1) := by decide +kernel
theorem d_La_law_338 : decode b_La_law 338 = .ok (.iadd, 1) := by decide +kernel
theorem d_La_law_339 : decode b_La_law 339 = .ok (.iaload, 1) := by decide +kernel
theorem d_La_law_340 : decode b_La_law 340 = .ok (.invokevirtual 42, 3) := by decide +kernel
theorem d_La_law_343 : decode b_La_law 343 = .ok (.if_icmp .eq 184, 3) := by decide +kernel
theorem d_La_law_346 : decode b_La_law 346 = .ok (.iconst 0, 1) := by decide +kernel
theorem d_La_law_347 : decode b_La_law 347 = .ok (.ireturn, 1) := by decide +kernel
theorem d_La_law_348 : decode b_La_law 348 = .ok (.aload_n 1, 1) := by decide +kernel
theorem d_La_law_349 : decode b_La_law 349 = .ok (.aload_n 0, 1) := by decide +kernel
theorem d_La_law_350 : decode b_La_law 350 = .ok (.iload_n 3, 1) := by decide +kernel
theorem d_La_law_351 : decode b_La_law 351 = .ok (.iconst 1, 1) := by decide +kernel
theorem d_La_law_352 : decode b_La_law 352 = .ok (.iadd, 1) := by decide +kernel
theorem d_La_law_353 : decode b_La_law 353 = .ok (.iaload, 1) := by decide +kernel
theorem d_La_law_354 : decode b_La_law 354 = .ok (.invokevirtual 43, 3) := by decide +kernel
theorem d_La_law_357 : decode b_La_law 357 = .ok (.aload_n 2, 1) := by decide +kernel
theorem d_La_law_358 : decode b_La_law 358 = .ok (.aload_n 0, 1) := by decide +kernel
theorem d_La_law_359 : decode b_La_law 359 = .ok (.iload_n 3, 1) := by decide +kernel
theorem d_La_law_360 : decode b_La_law 360 = .ok (.iconst 1, 1) := by decide +kernel
theorem d_La_law_361 : decode b_La_law 361 = .ok (.iadd, 1) := by decide +kernel
theorem d_La_law_362 : decode b_La_law 362 = .ok (.iaload, 1) := by decide +kernel
theorem d_La_law_363 : decode b_La_law 363 = .ok (.invokevirtual 47, 3) := by decide +kernel
theorem d_La_law_366 : decode b_La_law 366 = .ok (.if_icmp .eq 161, 3) := by decide +kernel
theorem d_La_law_369 : decode b_La_law 369 = .ok (.iconst 0, 1) := by decide +kernel
theorem d_La_law_370 : decode b_La_law 370 = .ok (.ireturn, 1) := by decide +kernel
theorem d_La_law_371 : decode b_La_law 371 = .ok (.aload_n 1, 1) := by decide +kernel
theorem d_La_law_372 : decode b_La_law 372 = .ok (.aload_n 0, 1) := by decide +kernel
theorem d_La_law_373 : decode b_La_law 373 = .ok (.iload_n 3, 1) := by decide +kernel
theorem d_La_law_374 : decode b_La_law 374 = .ok (.iconst 1, 1) := by decide +kernel
theorem d_La_law_375 : decode b_La_law 375 = .ok (.iadd, 1) := by decide +kernel
theorem d_La_law_376 : decode b_La_law 376 = .ok (.iaload, 1) := by decide +kernel
theorem d_La_law_377 : decode b_La_law 377 = .ok (.i2l, 1) := by decide +kernel
theorem d_La_law_378 : decode b_La_law 378 = .ok (.bipush 32, 2) := by decide +kernel
theorem d_La_law_380 : decode b_La_law 380 = .ok (.lshl, 1) := by decide +kernel
theorem d_La_law_381 : decode b_La_law 381 = .ok (.aload_n 0, 1) := by decide +kernel
theorem d_La_law_382 : decode b_La_law 382 = .ok (.iload_n 3, 1) := by decide +kernel
theorem d_La_law_383 : decode b_La_law 383 = .ok (.iconst 2, 1) := by decide +kernel
theorem d_La_law_384 : decode b_La_law 384 = .ok (.iadd, 1) := by decide +kernel
theorem d_La_law_385 : decode b_La_law 385 = .ok (.iaload, 1) := by decide +kernel
theorem d_La_law_386 : decode b_La_law 386 = .ok (.i2l, 1) := by decide +kernel
theorem d_La_law_387 : decode b_La_law 387 = .ok (.ldc2_w 21, 3) := by decide +kernel
theorem d_La_law_390 : decode b_La_law 390 = .ok (.land, 1) := by decide +kernel
theorem d_La_law_391 : decode b_La_law 391 = .ok (.lor, 1) := by decide +kernel
theorem d_La_law_392 : decode b_La_law 392 = .ok (.invokevirtual 48, 3) := by decide +kernel
theorem d_La_law_395 : decode b_La_law 395 = .ok (.aload_n 2, 1) := by decide +kernel
theorem d_La_law_396 : decode b_La_law 396 = .ok (.aload_n 0, 1) := by decide +kernel
theorem d_La_law_397 : decode b_La_law 397 = .ok (.iload_n 3, 1) := by decide +kernel
theorem d_La_law_398 : decode b_La_law 398 = .ok (.iconst 1, 1) := by decide +kernel
theorem d_La_law_399 : decode b_La_law 399 = .ok (.iadd, 1) := by decide +kernel
theorem d_La_law_400 : decode b_La_law 400 = .ok (.iaload, 1) := by decide +kernel
theorem d_La_law_401 : decode b_La_law 401 = .ok (.i2l, 1) := by decide +kernel
theorem d_La_law_402 : decode b_La_law 402 = .ok (.bipush 32, 2) := by decide +kernel
theorem d_La_law_404 : decode b_La_law 404 = .ok (.lshl, 1) := by decide +kernel
theorem d_La_law_405 : decode b_La_law 405 = .ok (.aload_n 0, 1) := by decide +kernel
theorem d_La_law_406 : decode b_La_law 406 = .ok (.iload_n 3, 1) := by decide +kernel
theorem d_La_law_407 : decode b_La_law 407 = .ok (.iconst 2, 1) := by decide +kernel
theorem d_La_law_408 : decode b_La_law 408 = .ok (.iadd, 1) := by decide +kernel
theorem d_La_law_409 : decode b_La_law 409 = .ok (.iaload, 1) := by decide +kernel
theorem d_La_law_410 : decode b_La_law 410 = .ok (.i2l, 1) := by decide +kernel
theorem d_La_law_411 : decode b_La_law 411 = .ok (.ldc2_w 21, 3) := by decide +kernel
theorem d_La_law_414 : decode b_La_law 414 = .ok (.land, 1) := by decide +kernel
theorem d_La_law_415 : decode b_La_law 415 = .ok (.lor, 1) := by decide +kernel
theorem d_La_law_416 : decode b_La_law 416 = .ok (.invokevirtual 52, 3) := by decide +kernel
theorem d_La_law_419 : decode b_La_law 419 = .ok (.if_icmp .eq 108, 3) := by decide +kernel
theorem d_La_law_422 : decode b_La_law 422 = .ok (.iconst 0, 1) := by decide +kernel
theorem d_La_law_423 : decode b_La_law 423 = .ok (.ireturn, 1) := by decide +kernel
theorem d_La_law_424 : decode b_La_law 424 = .ok (.aload_n 1, 1) := by decide +kernel
theorem d_La_law_425 : decode b_La_law 425 = .ok (.aload_n 0, 1) := by decide +kernel
theorem d_La_law_426 : decode b_La_law 426 = .ok (.iload_n 3, 1) := by decide +kernel
theorem d_La_law_427 : decode b_La_law 427 = .ok (.iconst 1, 1) := by decide +kernel
theorem d_La_law_428 : decode b_La_law 428 = .ok (.iadd, 1) := by decide +kernel
theorem d_La_law_429 : decode b_La_law 429 = .ok (.iaload, 1) := by decide +kernel
theorem d_La_law_430 : decode b_La_law 430 = .ok (.invokevirtual 53, 3) := by decide +kernel
theorem d_La_law_433 : decode b_La_law 433 = .ok (.aload_n 2, 1) := by decide +kernel
theorem d_La_law_434 : decode b_La_law 434 = .ok (.aload_n 0, 1) := by decide +kernel
theorem d_La_law_435 : decode b_La_law 435 = .ok (.iload_n 3, 1) := by decide +kernel
theorem d_La_law_436 : decode b_La_law 436 = .ok (.iconst 1, 1) := by decide +kernel
theorem d_La_law_437 : decode b_La_law 437 = .ok (.iadd, 1) := by decide +kernel
theorem d_La_law_438 : decode b_La_law 438 = .ok (.iaload, 1) := by decide +kernel
theorem d_La_law_439 : decode b_La_law 439 = .ok (.invokevirtual 56, 3) := by decide +kernel
theorem d_La_law_442 : decode b_La_law 442 = .ok (.if_icmp .eq 85, 3) := by decide +kernel
theorem d_La_law_445 : decode b_La_law 445 = .ok (.iconst 0, 1) := by decide +kernel
theorem d_La_law_446 : decode b_La_law 446 = .ok (.ireturn, 1) := by decide +kernel
theorem d_La_law_447 : decode b_La_law 447 = .ok (.aload_n 1, 1) := by decide +kernel
theorem d_La_law_448 : decode b_La_law 448 = .ok (.aload_n 0, 1) := by decide +kernel
theorem d_La_law_449 : decode b_La_law 449 = .ok (.iload_n 3, 1) := by decide +kernel
theorem d_La_law_450 : decode b_La_law 450 = .ok (.iconst 1, 1) := by decide +kernel
theorem d_La_law_451 : decode b_La_law 451 = .ok (.iadd, 1) := by decide +kernel
theorem d_La_law_452 : decode b_La_law 452 = .ok (.iaload, 1) := by decide +kernel
theorem d_La_law_453 : decode b_La_law 453 = .ok (.invokevirtual 57, 3) := by decide +kernel
theorem d_La_law_456 : decode b_La_law 456 = .ok (.aload_n 2, 1) := by decide +kernel
theorem d_La_law_457 : decode b_La_law 457 = .ok (.aload_n 0, 1) := by decide +kernel
theorem d_La_law_458 : decode b_La_law 458 = .ok (.iload_n 3, 1) := by decide +kernel
theorem d_La_law_459 : decode b_La_law 459 = .ok (.iconst 1, 1) := by decide +kernel
theorem d_La_law_460 : decode b_La_law 460 = .ok (.iadd, 1) := by decide +kernel
theorem d_La_law_461 : decode b_La_law 461 = .ok (.iaload, 1) := by decide +kernel
theorem d_La_law_462 : decode b_La_law 462 = .ok (.invokevirtual 60, 3) := by decide +kernel
theorem d_La_law_465 : decode b_La_law 465 = .ok (.if_icmp .eq 62, 3) := by decide +kernel
theorem d_La_law_468 : decode b_La_law 468 = .ok (.iconst 0, 1) := by decide +kernel
theorem d_La_law_469 : decode b_La_law 469 = .ok (.ireturn, 1) := by decide +kernel
theorem d_La_law_470 : decode b_La_law 470 = .ok (.aload_n 1, 1) := by decide +kernel
theorem d_La_law_471 : decode b_La_law 471 = .ok (.aload_n 0, 1) := by decide +kernel
theorem d_La_law_472 : decode b_La_law 472 = .ok (.iload_n 3, 1) := by decide +kernel
theorem d_La_law_473 : decode b_La_law 473 = .ok (.iconst 1, 1) := by decide +kernel
theorem d_La_law_474 : decode b_La_law 474 = .ok (.iadd, 1) := by decide +kernel
theorem d_La_law_475 : decode b_La_law 475 = .ok (.iaload, 1) := by decide +kernel
theorem d_La_law_476 : decode b_La_law 476 = .ok (.aload_n 0, 1) := by decide +kernel
theorem d_La_law_477 : decode b_La_law 477 = .ok (.iload_n 3, 1) := by decide +kernel
theorem d_La_law_478 : decode b_La_law 478 = .ok (.iconst 2, 1) := by decide +kernel
theorem d_La_law_479 : decode b_La_law 479 = .ok (.iadd, 1) := by decide +kernel
theorem d_La_law_480 : decode b_La_law 480 = .ok (.iaload, 1) := by decide +kernel
theorem d_La_law_481 : decode b_La_law 481 = .ok (.aload_n 0, 1) := by decide +kernel
theorem d_La_law_482 : decode b_La_law 482 = .ok (.iload_n 3, 1) := by decide +kernel
theorem d_La_law_483 : decode b_La_law 483 = .ok (.iconst 3, 1) := by decide +kernel
theorem d_La_law_484 : decode b_La_law 484 = .ok (.iadd, 1) := by decide +kernel
theorem d_La_law_485 : decode b_La_law 485 = .ok (.iaload, 1) := by decide +kernel
theorem d_La_law_486 : decode b_La_law 486 = .ok (.invokevirtual 61, 3) := by decide +kernel
theorem d_La_law_489 : decode b_La_law 489 = .ok (.aload_n 2, 1) := by decide +kernel
theorem d_La_law_490 : decode b_La_law 490 = .ok (.aload_n 0, 1) := by decide +kernel
theorem d_La_law_491 : decode b_La_law 491 = .ok (.iload_n 3, 1) := by decide +kernel
theorem d_La_law_492 : decode b_La_law 492 = .ok (.iconst 1, 1) := by decide +kernel
theorem d_La_law_493 : decode b_La_law 493 = .ok (.iadd, 1) := by decide +kernel
theorem d_La_law_494 : decode b_La_law 494 = .ok (.iaload, 1) := by decide +kernel
theorem d_La_law_495 : decode b_La_law 495 = .ok (.aload_n 0, 1) := by decide +kernel
theorem d_La_law_496 : decode b_La_law 496 = .ok (.iload_n 3, 1) := by decide +kernel
theorem d_La_law_497 : decode b_La_law 497 = .ok (.iconst 2, 1) := by decide +kernel
theorem d_La_law_498 : decode b_La_law 498 = .ok (.iadd, 1) := by decide +kernel
theorem d_La_law_499 : decode b_La_law 499 = .ok (.iaload, 1) := by decide +kernel
theorem d_La_law_500 : decode b_La_law 500 = .ok (.aload_n 0, 1) := by decide +kernel
theorem d_La_law_501 : decode b_La_law 501 = .ok (.iload_n 3, 1) := by decide +kernel
theorem d_La_law_502 : decode b_La_law 502 = .ok (.iconst 3, 1) := by decide +kernel
theorem d_La_law_503 : decode b_La_law 503 = .ok (.iadd, 1) := by decide +kernel
theorem d_La_law_504 : decode b_La_law 504 = .ok (.iaload, 1) := by decide +kernel
theorem d_La_law_505 : decode b_La_law 505 = .ok (.invokevirtual 65, 3) := by decide +kernel
theorem d_La_law_508 : decode b_La_law 508 = .ok (.lcmp, 1) := by decide +kernel
theorem d_La_law_509 : decode b_La_law 509 = .ok (.ifCond .eq 18, 3) := by decide +kernel
theorem d_La_law_512 : decode b_La_law 512 = .ok (.iconst 0, 1) := by decide +kernel
theorem d_La_law_513 : decode b_La_law 513 = .ok (.ireturn, 1) := by decide +kernel
theorem d_La_law_514 : decode b_La_law 514 = .ok (.aload_n 1, 1) := by decide +kernel
theorem d_La_law_515 : decode b_La_law 515 = .ok (.invokevirtual 66, 3) := by decide +kernel
theorem d_La_law_518 : decode b_La_law 518 = .ok (.aload_n 2, 1) := by decide +kernel
theorem d_La_law_519 : decode b_La_law 519 = .ok (.invokevirtual 70, 3) := by decide +kernel
theorem d_La_law_522 : decode b_La_law 522 = .ok (.if_icmp .eq 5, 3) := by decide +kernel
theorem d_La_law_525 : decode b_La_law 525 = .ok (.iconst 0, 1) := by decide +kernel
theorem d_La_law_526 : decode b_La_law 526 = .ok (.ireturn, 1) := by decide +kernel
theorem d_La_law_527 : decode b_La_law 527 = .ok (.iinc 3 6, 3) := by decide +kernel
theorem d_La_law_530 : decode b_La_law 530 = .ok (.goto (-502), 3) := by decide +kernel
theorem d_La_law_533 : decode b_La_law 533 = .ok (.iconst 1, 1) := by decide +kernel
theorem d_La_law_534 : decode b_La_law 534 = .ok (.ireturn, 1) := by decide +kernel
end
section
/-! classes by their tables -/
def R_End : String := "ClerkRows$End"
def R_Clerk : String := "ClerkRows$Clerk"
def F_Clerk : u_T := fun k => match k with
  | 0 => ("ClerkRows$Clerk", "in", "Z", false)
  | 1 => ("ClerkRows$Clerk", "office", "I", false)
  | 2 => ("ClerkRows$Clerk", "skill", "I", false)
  | _ => ("ClerkRows$Clerk", "holds", "LClerkRows$Picture;", false)
def t_Clerk : Nat → FieldType := fun k => match k with
  | 0 => .boolean
  | 1 => .int
  | 2 => .int
  | _ => .object "ClerkRows$Picture"
def R_Picture : String := "ClerkRows$Picture"
def F_Picture : u_T := fun k => match k with
  | 0 => ("ClerkRows$Picture", "due", "J", true)
  | 1 => ("ClerkRows$Picture", "skill", "I", true)
  | 2 => ("ClerkRows$Picture", "had", "I", false)
  | 3 => ("ClerkRows$Picture", "said", "[I", true)
  | 4 => ("ClerkRows$Picture", "offices", "I", false)
  | 5 => ("ClerkRows$Picture", "entries", "[I", true)
  | 6 => ("ClerkRows$Picture", "count", "I", false)
  | 7 => ("ClerkRows$Picture", "holders", "I", false)
  | 8 => ("ClerkRows$Picture", "end", "LClerkRows$End;", false)
  | _ => ("ClerkRows$Picture", "entry", "I", false)
def t_Picture : Nat → FieldType := fun k => match k with
  | 0 => .long
  | 1 => .int
  | 2 => .int
  | 3 => .array .int
  | 4 => .int
  | 5 => .array .int
  | 6 => .int
  | 7 => .int
  | 8 => .object "ClerkRows$End"
  | _ => .int
def R_CR : String := "ClerkRows"
def F_CR : u_T := fun k => match k with
  | 0 => ("ClerkRows", "bound", "I", true)
  | 1 => ("ClerkRows", "pictures", "[LClerkRows$Picture;", true)
  | 2 => ("ClerkRows", "count", "I", false)
  | 3 => ("ClerkRows", "clerks", "[LClerkRows$Clerk;", true)
  | 4 => ("ClerkRows", "gotIn", "[I", true)
  | 5 => ("ClerkRows", "now", "J", false)
  | 6 => ("ClerkRows", "late", "I", false)
  | _ => ("ClerkRows", "open", "I", false)
def t_CR : Nat → FieldType := fun k => match k with
  | 0 => .int
  | 1 => .array (.object "ClerkRows$Picture")
  | 2 => .int
  | 3 => .array (.object "ClerkRows$Clerk")
  | 4 => .array .int
  | 5 => .long
  | 6 => .int
  | _ => .int
def R_Model : String := "ClerkRowsModel"
def F_Model : u_T := fun k => match k with
  | 0 => ("ClerkRowsModel", "thrown", "I", false)
  | 1 => ("ClerkRowsModel", "most", "I", true)
  | 2 => ("ClerkRowsModel", "count", "I", false)
  | 3 => ("ClerkRowsModel", "dues", "[J", true)
  | 4 => ("ClerkRowsModel", "skills", "[I", true)
  | 5 => ("ClerkRowsModel", "ends", "[I", true)
  | 6 => ("ClerkRowsModel", "settled", "[I", true)
  | 7 => ("ClerkRowsModel", "answers", "[I", true)
  | 8 => ("ClerkRowsModel", "entries", "[I", true)
  | 9 => ("ClerkRowsModel", "did", "[I", true)
  | 10 => ("ClerkRowsModel", "where", "[I", true)
  | 11 => ("ClerkRowsModel", "said", "[I", true)
  | 12 => ("ClerkRowsModel", "in", "[Z", true)
  | 13 => ("ClerkRowsModel", "offices", "[I", true)
  | 14 => ("ClerkRowsModel", "levels", "[I", true)
  | 15 => ("ClerkRowsModel", "now", "J", false)
  | _ => ("ClerkRowsModel", "late", "I", false)
def t_Model : Nat → FieldType := fun k => match k with
  | 0 => .int
  | 1 => .int
  | 2 => .int
  | 3 => .array .long
  | 4 => .array .int
  | 5 => .array .int
  | 6 => .array .int
  | 7 => .array .int
  | 8 => .array .int
  | 9 => .array .int
  | 10 => .array .int
  | 11 => .array .int
  | 12 => .array .boolean
  | 13 => .array .int
  | 14 => .array .int
  | 15 => .long
  | _ => .int
abbrev classes : List vw_C := [(R_Clerk, F_Clerk, 4), (R_Picture, F_Picture, 10), (R_CR, F_CR, 8), (R_Model, F_Model, 17)]
/-- what the words say of a made kind: its number, its table -/
def gC (ci : Nat) (C : String) (T : u_T) (N : Nat) (ty : Nat → FieldType) : Prop := classes[ci]? = some (C, T, N) ∧ (∀ w ∈ u_ws C T N, w ∈ gtb) ∧ (∀ k, k < N → parseFieldDescriptor (T k).2.2.1 = some (ty k)) ∧ (∀ a, a < N → ∀ b, b < N → a ≠ b → (T a).2.1 ≠ (T b).2.1) ∧ Cond.instantiable C N ∈ gtb ∧ Cond.initialized C ∈ gtb
theorem i_Clerk : ∀ w ∈ u_ws R_Clerk F_Clerk 4, w ∈ gtb := List.forall_mem_cons.mpr ⟨wd_58, List.forall_mem_cons.mpr ⟨wd_60, List.forall_mem_cons.mpr ⟨wd_62, List.forall_mem_cons.mpr ⟨wd_64, fun _ h => absurd h List.not_mem_nil⟩⟩⟩⟩
theorem gC_Clerk : gC 0 R_Clerk F_Clerk 4 t_Clerk := ⟨rfl, i_Clerk, by decide +kernel, by decide +kernel, wd_44, wd_21⟩
theorem i_Picture : ∀ w ∈ u_ws R_Picture F_Picture 10, w ∈ gtb := List.forall_mem_cons.mpr ⟨wd_126, List.forall_mem_cons.mpr ⟨wd_128, List.forall_mem_cons.mpr ⟨wd_130, List.forall_mem_cons.mpr ⟨wd_132, List.forall_mem_cons.mpr ⟨wd_134, List.forall_mem_cons.mpr ⟨wd_136, List.forall_mem_cons.mpr ⟨wd_138, List.forall_mem_cons.mpr ⟨wd_140, List.forall_mem_cons.mpr ⟨wd_142, List.forall_mem_cons.mpr ⟨wd_144, fun _ h => absurd h List.not_mem_nil⟩⟩⟩⟩⟩⟩⟩⟩⟩⟩
theorem gC_Picture : gC 1 R_Picture F_Picture 10 t_Picture := ⟨rfl, i_Picture, by decide +kernel, by decide +kernel, wd_102, wd_23⟩
theorem i_CR : ∀ w ∈ u_ws R_CR F_CR 8, w ∈ gtb := List.forall_mem_cons.mpr ⟨wd_76, List.forall_mem_cons.mpr ⟨wd_78, List.forall_mem_cons.mpr ⟨wd_80, List.forall_mem_cons.mpr ⟨wd_82, List.forall_mem_cons.mpr ⟨wd_84, List.forall_mem_cons.mpr ⟨wd_86, List.forall_mem_cons.mpr ⟨wd_88, List.forall_mem_cons.mpr ⟨wd_90, fun _ h => absurd h List.not_mem_nil⟩⟩⟩⟩⟩⟩⟩⟩
theorem gC_CR : gC 2 R_CR F_CR 8 t_CR := ⟨rfl, i_CR, by decide +kernel, by decide +kernel, wd_27, wd_19⟩
theorem i_Model : ∀ w ∈ u_ws R_Model F_Model 17, w ∈ gtb := List.forall_mem_cons.mpr ⟨wd_285, List.forall_mem_cons.mpr ⟨wd_287, List.forall_mem_cons.mpr ⟨wd_289, List.forall_mem_cons.mpr ⟨wd_291, List.forall_mem_cons.mpr ⟨wd_293, List.forall_mem_cons.mpr ⟨wd_295, List.forall_mem_cons.mpr ⟨wd_297, List.forall_mem_cons.mpr ⟨wd_299, List.forall_mem_cons.mpr ⟨wd_301, List.forall_mem_cons.mpr ⟨wd_303, List.forall_mem_cons.mpr ⟨wd_305, List.forall_mem_cons.mpr ⟨wd_307, List.forall_mem_cons.mpr ⟨wd_309, List.forall_mem_cons.mpr ⟨wd_311, List.forall_mem_cons.mpr ⟨wd_313, List.forall_mem_cons.mpr ⟨wd_315, List.forall_mem_cons.mpr ⟨wd_317, fun _ h => absurd h List.not_mem_nil⟩⟩⟩⟩⟩⟩⟩⟩⟩⟩⟩⟩⟩⟩⟩⟩⟩
theorem gC_Model : gC 3 R_Model F_Model 17 t_Model := ⟨rfl, i_Model, by decide +kernel, by decide +kernel, wd_263, wd_22⟩
def g_nest : List Cond := [Cond.methodLinkNest "ClerkRows" 38 y_Ck_init "ClerkRows", Cond.fieldLinkNest "ClerkRows" 91 "ClerkRows$Clerk" "in" "Z" "ClerkRows", Cond.fieldLinkNest "ClerkRows$Picture" 52 "ClerkRows$Clerk" "office" "I" "ClerkRows", Cond.fieldLinkNest "ClerkRows" 107 "ClerkRows$Clerk" "office" "I" "ClerkRows", Cond.fieldLinkNest "ClerkRows$Picture" 63 "ClerkRows$Clerk" "skill" "I" "ClerkRows", Cond.fieldLinkNest "ClerkRows" 141 "ClerkRows$Clerk" "skill" "I" "ClerkRows", Cond.fieldLinkNest "ClerkRows" 95 "ClerkRows$Clerk" "holds" "LClerkRows$Picture;" "ClerkRows", Cond.fieldLinkNest "ClerkRows" 56 "ClerkRows$Picture" "due" "J" "ClerkRows", Cond.fieldLinkNest "ClerkRows" 110 "ClerkRows$Picture" "had" "I" "ClerkRows", Cond.fieldLinkNest "ClerkRows" 124 "ClerkRows$Picture" "said" "[I" "ClerkRows", Cond.fieldLinkNest "ClerkRows" 113 "ClerkRows$Picture" "offices" "I" "ClerkRows", Cond.fieldLinkNest "ClerkRows" 116 "ClerkRows$Picture" "holders" "I" "ClerkRows", Cond.fieldLinkNest "ClerkRows" 65 "ClerkRows$Picture" "end" "LClerkRows$End;" "ClerkRows", Cond.fieldLinkNest "ClerkRows" 147 "ClerkRows$Picture" "entry" "I" "ClerkRows"]
theorem g_nest_warm {s U : State} (hW : s.WarmedH U.vm) (h : ∀ w ∈ g_nest, va_Nw w s) : ∀ w ∈ g_nest, va_Nw w U := List.forall_mem_cons.mpr ⟨va_Nw.warmM hW (h _ (List.mem_of_getElem? (i := 0) rfl)), List.forall_mem_cons.mpr ⟨va_Nw.warmF hW (h _ (List.mem_of_getElem? (i := 1) rfl)), List.forall_mem_cons.mpr ⟨va_Nw.warmF hW (h _ (List.mem_of_getElem? (i := 2) rfl)), List.forall_mem_cons.mpr ⟨va_Nw.warmF hW (h _ (List.mem_of_getElem? (i := 3) rfl)), List.forall_mem_cons.mpr ⟨va_Nw.warmF hW (h _ (List.mem_of_getElem? (i := 4) rfl)), List.forall_mem_cons.mpr ⟨va_Nw.warmF hW (h _ (List.mem_of_getElem? (i := 5) rfl)), List.forall_mem_cons.mpr ⟨va_Nw.warmF hW (h _ (List.mem_of_getElem? (i := 6) rfl)), List.forall_mem_cons.mpr ⟨va_Nw.warmF hW (h _ (List.mem_of_getElem? (i := 7) rfl)), List.forall_mem_cons.mpr ⟨va_Nw.warmF hW (h _ (List.mem_of_getElem? (i := 8) rfl)), List.forall_mem_cons.mpr ⟨va_Nw.warmF hW (h _ (List.mem_of_getElem? (i := 9) rfl)), List.forall_mem_cons.mpr ⟨va_Nw.warmF hW (h _ (List.mem_of_getElem? (i := 10) rfl)), List.forall_mem_cons.mpr ⟨va_Nw.warmF hW (h _ (List.mem_of_getElem? (i := 11) rfl)), List.forall_mem_cons.mpr ⟨va_Nw.warmF hW (h _ (List.mem_of_getElem? (i := 12) rfl)), List.forall_mem_cons.mpr ⟨va_Nw.warmF hW (h _ (List.mem_of_getElem? (i := 13) rfl)), fun _ h => absurd h List.not_mem_nil⟩⟩⟩⟩⟩⟩⟩⟩⟩⟩⟩⟩⟩⟩
/-! ===== the world: cell b + i is w i, for i < N; nothing below b is written ===== -/
/-- dC and dI; the array kinds (0 int, 1 long, 2 boolean, 3 Picture, 4 Clerk); b; the constants of End -/
abbrev gG : Type := va_G × (Nat → ClassId) × Nat × (Nat → Nat)
abbrev gB (G : gG) : Nat := G.2.2.1
abbrev gEa (G : gG) : Nat → Nat := G.2.2.2
abbrev gCa (G : gG) : Nat → ClassId := G.2.1
def gA (b : Nat) : Nat → Prop := fun q => b ≤ q
abbrev g_tys (cA : Nat → ClassId) : List (ClassId × FieldType) := [(cA 0, .int), (cA 1, .long), (cA 2, .boolean), (cA 3, .object R_Picture), (cA 4, .object R_Clerk)]
abbrev g_nm : List String := ["NOT", "SETTLED", "UNREADABLE", "LATE"]
abbrev g_fl : List (String × String × String × List Int32) := [("java/lang/Enum", "ordinal", "I", [0, 1, 2, 3])]
def gK (G : gG) (U : State) : Prop := va_K G.1 classes (g_tys (gCa G)) U ∧ (∀ w ∈ g_nest, va_Nw w U) ∧ va_AO R_Picture U ∧ va_AO R_Clerk U
theorem gK.moved {G : gG} {s U : State} (hW : s.WarmedH U.vm) (h : gK G s) : gK G U := ⟨va_K.moved hW.alike h.1, g_nest_warm hW h.2.1, h.2.2.1.moved hW.alike, h.2.2.2.moved hW.alike⟩
def gE (G : gG) (U : State) (H : Heap) : Prop := va_En R_End "LClerkRows$End;" g_nm g_fl (gEa G) (gA (gB G)) U H
def gw (b N : Nat) (w : Nat → va_E) : va_W := (List.range N).map (fun i => (b + i, w i))
theorem gw_get {b N : Nat} {w : Nat → va_E} {i : Nat} (hi : i < N) : (gw b N w)[i]? = some (b + i, w i) := by
  simp [gw, List.getElem?_map, List.getElem?_range hi]
theorem gw_len {b N : Nat} {w : Nat → va_E} : (gw b N w).length = N := by simp [gw]
theorem gw_of {b N : Nat} {w : Nat → va_E} {k : Nat} {q : Nat × va_E} (h : (gw b N w)[k]? = some q) : k < N ∧ q = (b + k, w k) := by
  have hk : k < N := by
    have h1 := (List.getElem?_eq_some_iff.mp h).1
    rwa [gw_len] at h1
  rw [gw_get hk] at h
  exact ⟨hk, (Option.some.inj h).symm⟩
theorem gw_D {b N : Nat} {w : Nat → va_E} : va_D (gA b) (gw b N w) := by
  refine ⟨fun i j p q h1 h2 h3 => ?_, fun k q h => ?_⟩
  · obtain ⟨-, rfl⟩ := gw_of h1
    obtain ⟨-, rfl⟩ := gw_of h2
    exact Nat.add_left_cancel h3
  · obtain ⟨-, rfl⟩ := gw_of h
    exact Nat.le_add_right _ _
theorem gw_set {b N : Nat} {w : Nat → va_E} {i : Nat} {e : va_E} (hi : i < N) : (gw b N w).set i (b + i, e) = gw b N (va_up w i e) := by
  refine List.ext_getElem? (fun k => ?_)
  by_cases hk : k < N
  · by_cases hki : k = i
    · subst hki
      rw [List.getElem?_set_self (by rw [gw_len]; exact hk), gw_get hk, va_up_self]
    · rw [List.getElem?_set_ne (Ne.symm hki), gw_get hk, gw_get hk, va_up_ne _ _ hki]
  · rw [List.getElem?_eq_none (by rw [List.length_set, gw_len]; omega), List.getElem?_eq_none (by rw [gw_len]; omega)]
theorem gw_push {b N : Nat} {w : Nat → va_E} {e : va_E} : gw b N w ++ [(b + N, e)] = gw b (N + 1) (va_up w N e) := by
  refine List.ext_getElem? (fun k => ?_)
  by_cases hk : k < N
  · rw [List.getElem?_append_left (by rw [gw_len]; exact hk), gw_get hk, gw_get (by omega), va_up_ne _ _ (by omega)]
  · by_cases hkn : k = N
    · subst hkn
      rw [List.getElem?_append_right (by rw [gw_len]; exact Nat.le_refl _), gw_get (by omega), gw_len, Nat.sub_self, va_up_self]
      rfl
    · rw [List.getElem?_eq_none (by rw [List.length_append, gw_len]; simp; omega), List.getElem?_eq_none (by rw [gw_len]; omega)]
def gP (G : gG) (N : Nat) (w : Nat → va_E) (H : Heap) : Prop := H.size = gB G + N ∧ va_P G.1 classes (gw (gB G) N w) H
def gU (G : gG) (N : Nat) (w : Nat → va_E) (U : State) : Prop := gK G U ∧ gE G U U.heap ∧ gP G N w U.heap
def gPc (G : gG) (av : List Value) (N : Nat) (w : Nat → va_E) : Array Value → State → Prop := va_Pc av (gU G N w)
def gQi (G : gG) (post : Int32 → Nat → (Nat → va_E) → Prop) : Array Value → State → Outcome → State → Prop := fun _ st oc t => ∃ (r : Int32) (N' : Nat) (w' : Nat → va_E), oc = .returned (some (.int r)) ∧ post r N' w' ∧ gP G N' w' t.heap ∧ va_F (gA (gB G)) st t
def gQl (G : gG) (post : Int64 → Nat → (Nat → va_E) → Prop) : Array Value → State → Outcome → State → Prop := fun _ st oc t => ∃ (r : Int64) (N' : Nat) (w' : Nat → va_E), oc = .returned (some (.long r)) ∧ post r N' w' ∧ gP G N' w' t.heap ∧ va_F (gA (gB G)) st t
def gQv (G : gG) (post : Nat → (Nat → va_E) → Prop) : Array Value → State → Outcome → State → Prop := fun _ st oc t => ∃ (N' : Nat) (w' : Nat → va_E), oc = .returned none ∧ post N' w' ∧ gP G N' w' t.heap ∧ va_F (gA (gB G)) st t
/-- what stays while a method runs -/
def gF (p : Program) (m : MethodId) (c : Code) (cc : ByteArray) (nL : Nat) (s : State) (args : Array Value) (own : String) (G : gG) : Prop := CallFix p m c cc nL s args gtb own ∧ gK G s ∧ gE G s s.heap ∧ gB G ≤ s.heap.size
/-- what moves -/
def gM (G : gG) (s : State) (N : Nat) (w : Nat → va_E) (H : Heap) (locs : List Loc) : Prop := gP G N w H ∧ va_S (gA (gB G)) s.heap H locs
def gFd (own : String) (idx ci k : Nat) (C : String) (T : u_T) (NN : Nat) (ty : Nat → FieldType) : Prop := gC ci C T NN ty ∧ k < NN ∧ Cond.fieldLink own idx (T k).1 (T k).2.1 (T k).2.2.1 ∈ gtb
def gFn (own : String) (idx ci k : Nat) (C : String) (T : u_T) (NN : Nat) (ty : Nat → FieldType) : Prop := gC ci C T NN ty ∧ k < NN ∧ Cond.fieldLinkNest own idx (T k).1 (T k).2.1 (T k).2.2.1 "ClerkRows" ∈ g_nest
def gKv (own : String) (idx : Nat) (C : String) (y : MethodName) (bytes : ByteArray) (maxL : Nat) (ret : Option FieldType) (n : Nat) : Prop := Cond.methodLink own idx y ∈ gtb ∧ Cond.instanceMethod y ∈ gtb ∧ Cond.selects C y y ∈ gtb ∧ Cond.initialized C ∈ gtb ∧ Cond.code y bytes maxL ret ∈ gtb ∧ (y.cls = C ∧ y.cls ≠ "java/lang/invoke/MethodHandle" ∧ y.cls ≠ "java/lang/invoke/VarHandle" ∧ (parseMethodDescriptor y.desc).map (fun d => d.parameters.length) = some n)
def gKs (own : String) (idx : Nat) (y : MethodName) (bytes : ByteArray) (maxL : Nat) (ret : Option FieldType) (n : Nat) : Prop := Cond.methodLink own idx y ∈ gtb ∧ Cond.static y ∈ gtb ∧ Cond.initialized own ∈ gtb ∧ Cond.code y bytes maxL ret ∈ gtb ∧ (y.cls = own ∧ y.cls ≠ "java/lang/invoke/MethodHandle" ∧ y.cls ≠ "java/lang/invoke/VarHandle" ∧ (parseMethodDescriptor y.desc).map (fun d => d.parameters.length) = some n)
def gKi (own : String) (idx : Nat) (y : MethodName) (bytes : ByteArray) (maxL : Nat) (n : Nat) : Prop := Cond.methodLink own idx y ∈ gtb ∧ Cond.instanceMethod y ∈ gtb ∧ Cond.initialized y.cls ∈ gtb ∧ Cond.code y bytes maxL none ∈ gtb ∧ y.name = "<init>" ∧ (y.cls ≠ "java/lang/invoke/MethodHandle" ∧ y.cls ≠ "java/lang/invoke/VarHandle" ∧ (parseMethodDescriptor y.desc).map (fun d => d.parameters.length) = some n)
theorem gd_ws {y : MethodName} {bytes : ByteArray} {maxL : Nat} {ret : Option FieldType} (h : Cond.code y bytes maxL ret ∈ gtb) : GoodIn gtb (Cond.code y bytes maxL ret :: gtb) := by
  intro w hw
  rcases List.mem_cons.mp hw with rfl | hw
  · exact ⟨h, gtb_good _ h⟩
  · exact ⟨hw, gtb_good _ hw⟩
theorem gd_app {ws ws' : List Cond} (h : ∀ w ∈ ws, w ∈ gtb) (h' : GoodIn gtb ws') : GoodIn gtb (ws ++ ws') := by
  intro w hw
  rcases List.mem_append.mp hw with hw | hw
  · exact ⟨h w hw, gtb_good _ (h w hw)⟩
  · exact h' w hw
theorem mem4 {P : Cond → Prop} {a b c d : Cond} (ha : P a) (hb : P b) (hc : P c) (hd : P d) : ∀ w ∈ [a, b, c, d], P w := List.forall_mem_cons.mpr ⟨ha, List.forall_mem_cons.mpr ⟨hb, List.forall_mem_cons.mpr ⟨hc, List.forall_mem_cons.mpr ⟨hd, fun _ h => absurd h List.not_mem_nil⟩⟩⟩⟩
theorem mem3 {P : Cond → Prop} {a b c : Cond} (ha : P a) (hb : P b) (hc : P c) : ∀ w ∈ [a, b, c], P w := List.forall_mem_cons.mpr ⟨ha, List.forall_mem_cons.mpr ⟨hb, List.forall_mem_cons.mpr ⟨hc, fun _ h => absurd h List.not_mem_nil⟩⟩⟩
theorem gP.set {G : gG} {N : Nat} {w w' : Nat → va_E} {H1 : Heap} {i : Nat} {e : va_E} (hi : i < N) (hz : H1.size = gB G + N) (h : va_P G.1 classes ((gw (gB G) N w).set i (gB G + i, e)) H1) (he : va_up w i e = w') : gP G N w' H1 := by
  rw [gw_set hi, he] at h
  exact ⟨hz, h⟩
/-! fields by the places that name them -/
theorem f_CR_11 : gFd "ClerkRows" 11 2 1 R_CR F_CR 8 t_CR := ⟨gC_CR, by decide, wd_69⟩
theorem f_CR_17 : gFd "ClerkRows" 17 2 3 R_CR F_CR 8 t_CR := ⟨gC_CR, by decide, wd_71⟩
theorem f_CR_21 : gFd "ClerkRows" 21 2 4 R_CR F_CR 8 t_CR := ⟨gC_CR, by decide, wd_72⟩
theorem f_CR_34 : gFd "ClerkRows" 34 2 0 R_CR F_CR 8 t_CR := ⟨gC_CR, by decide, wd_68⟩
theorem f_CR_39 : gFd "ClerkRows" 39 2 2 R_CR F_CR 8 t_CR := ⟨gC_CR, by decide, wd_70⟩
theorem f_CR_42 : gFd "ClerkRows" 42 2 5 R_CR F_CR 8 t_CR := ⟨gC_CR, by decide, wd_73⟩
theorem f_CR_56 : gFn "ClerkRows" 56 1 0 R_Picture F_Picture 10 t_Picture := ⟨gC_Picture, by decide, List.mem_of_getElem? (i := 7) rfl⟩
theorem f_CR_65 : gFn "ClerkRows" 65 1 8 R_Picture F_Picture 10 t_Picture := ⟨gC_Picture, by decide, List.mem_of_getElem? (i := 12) rfl⟩
theorem f_CR_68 : gFd "ClerkRows" 68 2 6 R_CR F_CR 8 t_CR := ⟨gC_CR, by decide, wd_74⟩
theorem f_CR_71 : gFd "ClerkRows" 71 2 7 R_CR F_CR 8 t_CR := ⟨gC_CR, by decide, wd_75⟩
theorem f_CR_91 : gFn "ClerkRows" 91 0 0 R_Clerk F_Clerk 4 t_Clerk := ⟨gC_Clerk, by decide, List.mem_of_getElem? (i := 1) rfl⟩
theorem f_CR_95 : gFn "ClerkRows" 95 0 3 R_Clerk F_Clerk 4 t_Clerk := ⟨gC_Clerk, by decide, List.mem_of_getElem? (i := 6) rfl⟩
theorem f_CR_107 : gFn "ClerkRows" 107 0 1 R_Clerk F_Clerk 4 t_Clerk := ⟨gC_Clerk, by decide, List.mem_of_getElem? (i := 3) rfl⟩
theorem f_CR_110 : gFn "ClerkRows" 110 1 2 R_Picture F_Picture 10 t_Picture := ⟨gC_Picture, by decide, List.mem_of_getElem? (i := 8) rfl⟩
theorem f_CR_113 : gFn "ClerkRows" 113 1 4 R_Picture F_Picture 10 t_Picture := ⟨gC_Picture, by decide, List.mem_of_getElem? (i := 10) rfl⟩
theorem f_CR_116 : gFn "ClerkRows" 116 1 7 R_Picture F_Picture 10 t_Picture := ⟨gC_Picture, by decide, List.mem_of_getElem? (i := 11) rfl⟩
theorem f_CR_124 : gFn "ClerkRows" 124 1 3 R_Picture F_Picture 10 t_Picture := ⟨gC_Picture, by decide, List.mem_of_getElem? (i := 9) rfl⟩
theorem f_CR_141 : gFn "ClerkRows" 141 0 2 R_Clerk F_Clerk 4 t_Clerk := ⟨gC_Clerk, by decide, List.mem_of_getElem? (i := 5) rfl⟩
theorem f_CR_147 : gFn "ClerkRows" 147 1 9 R_Picture F_Picture 10 t_Picture := ⟨gC_Picture, by decide, List.mem_of_getElem? (i := 13) rfl⟩
theorem f_Ck_7 : gFd "ClerkRows$Clerk" 7 0 0 R_Clerk F_Clerk 4 t_Clerk := ⟨gC_Clerk, by decide, wd_49⟩
theorem f_Ck_13 : gFd "ClerkRows$Clerk" 13 0 1 R_Clerk F_Clerk 4 t_Clerk := ⟨gC_Clerk, by decide, wd_51⟩
theorem f_Ck_17 : gFd "ClerkRows$Clerk" 17 0 2 R_Clerk F_Clerk 4 t_Clerk := ⟨gC_Clerk, by decide, wd_54⟩
theorem f_Pi_9 : gFd "ClerkRows$Picture" 9 1 3 R_Picture F_Picture 10 t_Picture := ⟨gC_Picture, by decide, wd_114⟩
theorem f_Pi_15 : gFd "ClerkRows$Picture" 15 1 5 R_Picture F_Picture 10 t_Picture := ⟨gC_Picture, by decide, wd_118⟩
theorem f_Pi_24 : gFd "ClerkRows$Picture" 24 1 8 R_Picture F_Picture 10 t_Picture := ⟨gC_Picture, by decide, wd_122⟩
theorem f_Pi_27 : gFd "ClerkRows$Picture" 27 1 0 R_Picture F_Picture 10 t_Picture := ⟨gC_Picture, by decide, wd_109⟩
theorem f_Pi_31 : gFd "ClerkRows$Picture" 31 1 1 R_Picture F_Picture 10 t_Picture := ⟨gC_Picture, by decide, wd_111⟩
theorem f_Pi_35 : gFd "ClerkRows$Picture" 35 1 6 R_Picture F_Picture 10 t_Picture := ⟨gC_Picture, by decide, wd_119⟩
theorem f_Pi_42 : gFd "ClerkRows$Picture" 42 1 7 R_Picture F_Picture 10 t_Picture := ⟨gC_Picture, by decide, wd_120⟩
theorem f_Pi_49 : gFd "ClerkRows$Picture" 49 1 4 R_Picture F_Picture 10 t_Picture := ⟨gC_Picture, by decide, wd_116⟩
theorem f_Pi_52 : gFn "ClerkRows$Picture" 52 0 1 R_Clerk F_Clerk 4 t_Clerk := ⟨gC_Clerk, by decide, List.mem_of_getElem? (i := 2) rfl⟩
theorem f_Pi_63 : gFn "ClerkRows$Picture" 63 0 2 R_Clerk F_Clerk 4 t_Clerk := ⟨gC_Clerk, by decide, List.mem_of_getElem? (i := 4) rfl⟩
theorem f_Pi_64 : gFd "ClerkRows$Picture" 64 1 2 R_Picture F_Picture 10 t_Picture := ⟨gC_Picture, by decide, wd_112⟩
theorem f_Pi_70 : gFd "ClerkRows$Picture" 70 1 9 R_Picture F_Picture 10 t_Picture := ⟨gC_Picture, by decide, wd_124⟩
theorem f_Mo_7 : gFd "ClerkRowsModel" 7 3 3 R_Model F_Model 17 t_Model := ⟨gC_Model, by decide, wd_271⟩
theorem f_Mo_13 : gFd "ClerkRowsModel" 13 3 4 R_Model F_Model 17 t_Model := ⟨gC_Model, by decide, wd_272⟩
theorem f_Mo_17 : gFd "ClerkRowsModel" 17 3 5 R_Model F_Model 17 t_Model := ⟨gC_Model, by decide, wd_273⟩
theorem f_Mo_20 : gFd "ClerkRowsModel" 20 3 6 R_Model F_Model 17 t_Model := ⟨gC_Model, by decide, wd_274⟩
theorem f_Mo_23 : gFd "ClerkRowsModel" 23 3 7 R_Model F_Model 17 t_Model := ⟨gC_Model, by decide, wd_275⟩
theorem f_Mo_26 : gFd "ClerkRowsModel" 26 3 8 R_Model F_Model 17 t_Model := ⟨gC_Model, by decide, wd_276⟩
theorem f_Mo_29 : gFd "ClerkRowsModel" 29 3 9 R_Model F_Model 17 t_Model := ⟨gC_Model, by decide, wd_277⟩
theorem f_Mo_32 : gFd "ClerkRowsModel" 32 3 10 R_Model F_Model 17 t_Model := ⟨gC_Model, by decide, wd_278⟩
theorem f_Mo_35 : gFd "ClerkRowsModel" 35 3 11 R_Model F_Model 17 t_Model := ⟨gC_Model, by decide, wd_279⟩
theorem f_Mo_38 : gFd "ClerkRowsModel" 38 3 12 R_Model F_Model 17 t_Model := ⟨gC_Model, by decide, wd_280⟩
theorem f_Mo_42 : gFd "ClerkRowsModel" 42 3 13 R_Model F_Model 17 t_Model := ⟨gC_Model, by decide, wd_281⟩
theorem f_Mo_45 : gFd "ClerkRowsModel" 45 3 14 R_Model F_Model 17 t_Model := ⟨gC_Model, by decide, wd_282⟩
theorem f_Mo_48 : gFd "ClerkRowsModel" 48 3 1 R_Model F_Model 17 t_Model := ⟨gC_Model, by decide, wd_269⟩
theorem f_Mo_52 : gFd "ClerkRowsModel" 52 3 0 R_Model F_Model 17 t_Model := ⟨gC_Model, by decide, wd_268⟩
theorem f_Mo_55 : gFd "ClerkRowsModel" 55 3 2 R_Model F_Model 17 t_Model := ⟨gC_Model, by decide, wd_270⟩
theorem f_Mo_64 : gFd "ClerkRowsModel" 64 3 15 R_Model F_Model 17 t_Model := ⟨gC_Model, by decide, wd_283⟩
theorem f_Mo_80 : gFd "ClerkRowsModel" 80 3 16 R_Model F_Model 17 t_Model := ⟨gC_Model, by decide, wd_284⟩
/-! calls by the places that name them -/
theorem k_CR_48 : gKs "ClerkRows" 48 y_CR_outside b_CR_outside 6 (some .boolean) 3 := ⟨wd_98, wd_99, wd_19, wd_100, by decide +kernel⟩
theorem k_CR_52 : gKv "ClerkRows" 52 "ClerkRows$Picture" y_Pi_isOver b_Pi_isOver 1 (some .boolean) 0 := ⟨wd_162, wd_163, wd_164, wd_23, wd_165, by decide +kernel⟩
theorem k_CR_76 : gKi "ClerkRows" 76 y_Pi_init b_Pi_init 5 2 := ⟨wd_103, wd_104, wd_23, wd_105, rfl, by decide +kernel⟩
theorem k_CR_79 : gKv "ClerkRows" 79 "ClerkRows$Picture" y_Pi_isFree b_Pi_isFree 4 (some .boolean) 2 := ⟨wd_172, wd_173, wd_174, wd_23, wd_175, by decide +kernel⟩
theorem k_CR_83 : gKs "ClerkRows" 83 y_CR_isClerk b_CR_isClerk 1 (some .boolean) 1 := ⟨wd_151, wd_152, wd_19, wd_153, by decide +kernel⟩
theorem k_CR_87 : gKv "ClerkRows" 87 "ClerkRows" y_CR_isNoTime b_CR_isNoTime 3 (some .boolean) 1 := ⟨wd_154, wd_156, wd_0, wd_19, wd_157, by decide +kernel⟩
theorem k_CR_99 : gKv "ClerkRows" 99 "ClerkRows" y_CR_pass b_CR_pass 4 none 1 := ⟨wd_158, wd_160, wd_1, wd_19, wd_161, by decide +kernel⟩
theorem k_CR_103 : gKv "ClerkRows" 103 "ClerkRows" y_CR_find b_CR_find 5 (some .int) 1 := ⟨wd_168, wd_170, wd_2, wd_19, wd_171, by decide +kernel⟩
theorem k_CR_119 : gKv "ClerkRows" 119 "ClerkRows" y_CR_isPicture b_CR_isPicture 2 (some .boolean) 1 := ⟨wd_193, wd_195, wd_5, wd_19, wd_196, by decide +kernel⟩
theorem k_CR_127 : gKv "ClerkRows" 127 "ClerkRows$Picture" y_Pi_add b_Pi_add 4 none 1 := ⟨wd_198, wd_199, wd_200, wd_23, wd_201, by decide +kernel⟩
theorem k_CR_131 : gKv "ClerkRows" 131 "ClerkRows$Picture" y_Pi_state b_Pi_state 1 (some .int) 0 := ⟨wd_210, wd_211, wd_212, wd_23, wd_213, by decide +kernel⟩
theorem k_CR_137 : gKv "ClerkRows" 137 "ClerkRows$Clerk" y_Ck_is b_Ck_is 3 (some .boolean) 2 := ⟨wd_225, wd_226, wd_227, wd_21, wd_228, by decide +kernel⟩
theorem k_CR_144 : gKv "ClerkRows" 144 "ClerkRows" y_CR_giveBack b_CR_giveBack 3 none 1 := ⟨wd_233, wd_235, wd_7, wd_19, wd_236, by decide +kernel⟩
theorem k_Pi_38 : gKv "ClerkRows$Picture" 38 "ClerkRows$Picture" y_Pi_differs b_Pi_differs 1 (some .boolean) 0 := ⟨wd_176, wd_178, wd_3, wd_23, wd_179, by decide +kernel⟩
theorem k_Pi_45 : gKv "ClerkRows$Picture" 45 "ClerkRows$Picture" y_Pi_wants b_Pi_wants 1 (some .int) 0 := ⟨wd_185, wd_186, wd_187, wd_23, wd_188, by decide +kernel⟩
theorem k_Pi_57 : gKv "ClerkRows$Picture" 57 "ClerkRows$Picture" y_Pi_isOver b_Pi_isOver 1 (some .boolean) 0 := ⟨wd_180, wd_163, wd_164, wd_23, wd_165, by decide +kernel⟩
theorem k_Pi_60 : gKv "ClerkRows$Picture" 60 "ClerkRows$Picture" y_Pi_isTaken b_Pi_isTaken 1 (some .boolean) 0 := ⟨wd_181, wd_183, wd_4, wd_23, wd_184, by decide +kernel⟩
theorem k_Pi_79 : gKv "ClerkRows$Picture" 79 "ClerkRows$Picture" y_Pi_finish b_Pi_finish 2 none 1 := ⟨wd_202, wd_204, wd_6, wd_23, wd_205, by decide +kernel⟩
theorem k_La_9 : gKs "ClerkRowsLaw" 9 y_La_cell b_La_cell 2 (some .int) 2 := ⟨wd_259, wd_260, wd_18, wd_261, by decide +kernel⟩
theorem k_La_15 : gKi "ClerkRowsLaw" 15 y_CR_init b_CR_init 3 1 := ⟨wd_28, wd_29, wd_19, wd_30, rfl, by decide +kernel⟩
theorem k_La_20 : gKi "ClerkRowsLaw" 20 y_Mo_init b_Mo_init 3 1 := ⟨wd_264, wd_265, wd_22, wd_266, rfl, by decide +kernel⟩
theorem k_La_23 : gKv "ClerkRowsLaw" 23 "ClerkRows" y_CR_picture b_CR_picture 4 (some .int) 2 := ⟨wd_93, wd_94, wd_95, wd_19, wd_96, by decide +kernel⟩
theorem k_La_27 : gKv "ClerkRowsLaw" 27 "ClerkRowsModel" y_Mo_picture b_Mo_picture 4 (some .int) 2 := ⟨wd_322, wd_323, wd_324, wd_22, wd_325, by decide +kernel⟩
theorem k_La_28 : gKv "ClerkRowsLaw" 28 "ClerkRows" y_CR_give b_CR_give 6 (some .int) 2 := ⟨wd_147, wd_148, wd_149, wd_19, wd_150, by decide +kernel⟩
theorem k_La_32 : gKv "ClerkRowsLaw" 32 "ClerkRowsModel" y_Mo_give b_Mo_give 6 (some .int) 2 := ⟨wd_339, wd_340, wd_341, wd_22, wd_342, by decide +kernel⟩
theorem k_La_33 : gKv "ClerkRowsLaw" 33 "ClerkRows" y_CR_answer b_CR_answer 9 (some .int) 4 := ⟨wd_189, wd_190, wd_191, wd_19, wd_192, by decide +kernel⟩
theorem k_La_37 : gKv "ClerkRowsLaw" 37 "ClerkRowsModel" y_Mo_answer b_Mo_answer 6 (some .int) 4 := ⟨wd_367, wd_368, wd_369, wd_22, wd_370, by decide +kernel⟩
theorem k_La_38 : gKv "ClerkRowsLaw" 38 "ClerkRows" y_CR_office b_CR_office 6 (some .int) 3 := ⟨wd_220, wd_221, wd_222, wd_19, wd_223, by decide +kernel⟩
theorem k_La_42 : gKv "ClerkRowsLaw" 42 "ClerkRowsModel" y_Mo_office b_Mo_office 5 (some .int) 3 := ⟨wd_384, wd_385, wd_386, wd_22, wd_387, by decide +kernel⟩
theorem k_La_43 : gKv "ClerkRowsLaw" 43 "ClerkRows" y_CR_leave b_CR_leave 3 (some .int) 1 := ⟨wd_229, wd_230, wd_231, wd_19, wd_232, by decide +kernel⟩
theorem k_La_47 : gKv "ClerkRowsLaw" 47 "ClerkRowsModel" y_Mo_leave b_Mo_leave 3 (some .int) 1 := ⟨wd_389, wd_390, wd_391, wd_22, wd_392, by decide +kernel⟩
theorem k_La_48 : gKv "ClerkRowsLaw" 48 "ClerkRows" y_CR_tick b_CR_tick 4 (some .int) 1 := ⟨wd_237, wd_238, wd_239, wd_19, wd_240, by decide +kernel⟩
theorem k_La_52 : gKv "ClerkRowsLaw" 52 "ClerkRowsModel" y_Mo_tick b_Mo_tick 4 (some .int) 1 := ⟨wd_393, wd_394, wd_395, wd_22, wd_396, by decide +kernel⟩
theorem k_La_53 : gKv "ClerkRowsLaw" 53 "ClerkRows" y_CR_settled b_CR_settled 3 (some .int) 1 := ⟨wd_241, wd_242, wd_243, wd_19, wd_244, by decide +kernel⟩
theorem k_La_56 : gKv "ClerkRowsLaw" 56 "ClerkRowsModel" y_Mo_settled b_Mo_settled 2 (some .int) 1 := ⟨wd_397, wd_398, wd_399, wd_22, wd_400, by decide +kernel⟩
theorem k_La_57 : gKv "ClerkRowsLaw" 57 "ClerkRows" y_CR_state b_CR_state 2 (some .int) 1 := ⟨wd_245, wd_246, wd_247, wd_19, wd_248, by decide +kernel⟩
theorem k_La_60 : gKv "ClerkRowsLaw" 60 "ClerkRowsModel" y_Mo_state b_Mo_state 2 (some .int) 1 := ⟨wd_401, wd_402, wd_403, wd_22, wd_404, by decide +kernel⟩
theorem k_La_61 : gKv "ClerkRowsLaw" 61 "ClerkRows" y_CR_agreement b_CR_agreement 8 (some .long) 3 := ⟨wd_249, wd_250, wd_251, wd_19, wd_252, by decide +kernel⟩
theorem k_La_65 : gKv "ClerkRowsLaw" 65 "ClerkRowsModel" y_Mo_agreement b_Mo_agreement 8 (some .long) 3 := ⟨wd_405, wd_406, wd_407, wd_22, wd_408, by decide +kernel⟩
theorem k_La_66 : gKv "ClerkRowsLaw" 66 "ClerkRows" y_CR_waiting b_CR_waiting 1 (some .int) 0 := ⟨wd_255, wd_256, wd_257, wd_19, wd_258, by decide +kernel⟩
theorem k_La_70 : gKv "ClerkRowsLaw" 70 "ClerkRowsModel" y_Mo_waiting b_Mo_waiting 1 (some .int) 0 := ⟨wd_411, wd_412, wd_413, wd_22, wd_414, by decide +kernel⟩
theorem k_Mo_58 : gKs "ClerkRowsModel" 58 y_Mo_isIn b_Mo_isIn 6 (some .boolean) 3 := ⟨wd_331, wd_332, wd_22, wd_333, by decide +kernel⟩
theorem k_Mo_70 : gKv "ClerkRowsModel" 70 "ClerkRowsModel" y_Mo_isTime b_Mo_isTime 3 (some .boolean) 1 := ⟨wd_326, wd_328, wd_8, wd_22, wd_329, by decide +kernel⟩
theorem k_Mo_76 : gKv "ClerkRowsModel" 76 "ClerkRowsModel" y_Mo_opn b_Mo_opn 3 (some .int) 0 := ⟨wd_335, wd_337, wd_9, wd_22, wd_338, by decide +kernel⟩
theorem k_Mo_83 : gKv "ClerkRowsModel" 83 "ClerkRowsModel" y_Mo_differ b_Mo_differ 2 (some .boolean) 1 := ⟨wd_363, wd_365, wd_14, wd_22, wd_366, by decide +kernel⟩
theorem k_Mo_87 : gKv "ClerkRowsModel" 87 "ClerkRowsModel" y_Mo_isTaken b_Mo_isTaken 4 (some .boolean) 1 := ⟨wd_359, wd_361, wd_13, wd_22, wd_362, by decide +kernel⟩
theorem k_Mo_90 : gKs "ClerkRowsModel" 90 y_Mo_isClerk b_Mo_isClerk 1 (some .boolean) 1 := ⟨wd_343, wd_344, wd_22, wd_345, by decide +kernel⟩
theorem k_Mo_93 : gKv "ClerkRowsModel" 93 "ClerkRowsModel" y_Mo_held b_Mo_held 4 (some .int) 1 := ⟨wd_347, wd_349, wd_10, wd_22, wd_350, by decide +kernel⟩
theorem k_Mo_97 : gKv "ClerkRowsModel" 97 "ClerkRowsModel" y_Mo_pass b_Mo_pass 4 none 1 := ⟨wd_351, wd_353, wd_11, wd_22, wd_354, by decide +kernel⟩
theorem k_Mo_101 : gKv "ClerkRowsModel" 101 "ClerkRowsModel" y_Mo_isFree b_Mo_isFree 6 (some .boolean) 2 := ⟨wd_355, wd_357, wd_12, wd_22, wd_358, by decide +kernel⟩
theorem k_Mo_105 : gKv "ClerkRowsModel" 105 "ClerkRowsModel" y_Mo_isPicture b_Mo_isPicture 2 (some .boolean) 1 := ⟨wd_371, wd_373, wd_15, wd_22, wd_374, by decide +kernel⟩
theorem k_Mo_110 : gKv "ClerkRowsModel" 110 "ClerkRowsModel" y_Mo_take b_Mo_take 6 none 2 := ⟨wd_376, wd_378, wd_16, wd_22, wd_379, by decide +kernel⟩
theorem k_Mo_114 : gKv "ClerkRowsModel" 114 "ClerkRowsModel" y_Mo_stateOf b_Mo_stateOf 2 (some .int) 1 := ⟨wd_380, wd_382, wd_17, wd_22, wd_383, by decide +kernel⟩
end
section
/-! ===== the rows over the world ===== -/
theorem gM.put {G : gG} {s : State} {N : Nat} {w w' : Nat → va_E} {H H1 : Heap} {locs : List Loc} {i k : Nat} {e : va_E} (M : gM G s N w H locs) (hi : i < N) (z : H1.size = H.size) (oq : ∀ q : Nat, q ≠ gB G + i → H1[q]? = H[q]?) (he : va_at G.1 classes (gB G + i, e) H1) (hw' : va_up w i e = w') : gM G s N w' H1 (locs ++ [⟨gB G + i, k⟩]) := by
  obtain ⟨⟨hz, hP⟩, hS⟩ := M
  have h1 := va_P.set (e := e) hP (gw_D (b := gB G)) (gw_get hi) he oq
  rw [gw_set hi, hw'] at h1
  exact ⟨⟨by rw [z]; exact hz, h1⟩, hS.put z oq (Nat.le_add_right _ _)⟩
theorem gM.push {G : gG} {s : State} {N : Nat} {w w' : Nat → va_E} {H H1 : Heap} {locs : List Loc} {e : va_E} (M : gM G s N w H locs) (z : H1.size = H.size + 1) (oq : ∀ q : Nat, q < H.size → H1[q]? = H[q]?) (he : va_at G.1 classes (gB G + N, e) H1) (hw' : va_up w N e = w') : gM G s (N + 1) w' H1 locs := by
  obtain ⟨⟨hz, hP⟩, hS⟩ := M
  have h0 : va_P G.1 classes (gw (gB G) N w) H1 := hP.kept (fun k x hx => oq x.1 ((hP k x hx).lt))
  have h1 : va_P G.1 classes (gw (gB G) N w ++ [(gB G + N, e)]) H1 := h0.app (fun k x hx => by
    have hk : k < 1 := (List.getElem?_eq_some_iff.mp hx).1
    rw [show k = 0 by omega] at hx
    cases hx
    exact he)
  rw [gw_push, hw'] at h1
  refine ⟨⟨by omega, h1⟩, ⟨Nat.le_trans hS.1 (by omega), fun q h2 h3 => (oq q (Nat.lt_of_lt_of_le h2 hS.1)).trans (hS.2.1 q h2 h3), hS.2.2⟩⟩
theorem gM.at {G : gG} {s : State} {N : Nat} {w : Nat → va_E} {H : Heap} {locs : List Loc} (M : gM G s N w H locs) {i : Nat} (hi : i < N) {e : va_E} (hw : w i = e) : va_at G.1 classes (gB G + i, e) H := by
  rw [← hw]
  exact M.1.2 i _ (gw_get hi)
section GR
variable {p : Program} {l : Launch} {e : Env} {R : Room} {s : State} {m : MethodId} {args : Array Value} {below : List Frame} {meth : Method} {c : Code} {H : Heap} {locs : List Loc} {cells slots : Nat} {Q : State → Prop}
variable {cc : ByteArray} {pc nL N : Nat} {ls : Array Slot} {rest : List Value} {G : gG} {own : String} {w : Nat → va_E}
theorem g_get (F : gF p m c cc nL s args own G) (M : gM G s N w H locs) {idx ci k i NN : Nat} {C : String} {T : u_T} {ty : Nat → FieldType} {fs : List Value} {v : Value} (hF : gFd own idx ci k C T NN ty) (hdg : decode cc pc = .ok (.getfield idx, 3)) (hi : i < N) (hw : w i = .inr (ci, fs)) (hv : fs[k]? = some v)
    (kk : W p l e R s m args below meth c H locs cells slots Q (F0 m (pc + 3) ls (v :: rest))) : W p l e R s m args below meth c H locs cells slots Q (F0 m pc ls (.ref (gB G + i) :: rest)) := by
  obtain ⟨⟨hc, hin, hty, hnm, -, -⟩, hk, hl⟩ := hF
  obtain ⟨⟨hx, hb, -, hown, hts⟩, ⟨hK, -⟩, -⟩ := F
  exact va_get (D := G.1) (ws := [(gB G + i, .inr (ci, fs))]) hx hb hts hin hown hK (fun k q hq => by
    have hk : k < 1 := (List.getElem?_eq_some_iff.mp hq).1
    rw [show k = 0 by omega] at hq
    cases hq
    exact M.at hi hw) 0 rfl hc k hk (hts _ hl) (fun _ h => h) hv hdg kk
theorem g_getN (F : gF p m c cc nL s args own G) (M : gM G s N w H locs) {idx ci k i NN : Nat} {C : String} {T : u_T} {ty : Nat → FieldType} {fs : List Value} {v : Value} (hF : gFn own idx ci k C T NN ty) (hdg : decode cc pc = .ok (.getfield idx, 3)) (hi : i < N) (hw : w i = .inr (ci, fs)) (hv : fs[k]? = some v)
    (kk : W p l e R s m args below meth c H locs cells slots Q (F0 m (pc + 3) ls (v :: rest))) : W p l e R s m args below meth c H locs cells slots Q (F0 m pc ls (.ref (gB G + i) :: rest)) := by
  obtain ⟨⟨hc, hin, hty, hnm, -, -⟩, hk, hl⟩ := hF
  obtain ⟨⟨hx, hb, -, hown, hts⟩, ⟨hK, hN, -⟩, -⟩ := F
  exact va_getN (D := G.1) (ws := [(gB G + i, .inr (ci, fs))]) hx hb hts hin hown hK (fun k q hq => by
    have hk : k < 1 := (List.getElem?_eq_some_iff.mp hq).1
    rw [show k = 0 by omega] at hq
    cases hq
    exact M.at hi hw) 0 rfl hc k hk (va_Nw.use rfl (hN _ hl)) (fun _ h => h) hv hdg kk
theorem g_put (F : gF p m c cc nL s args own G) (M : gM G s N w H locs) {idx ci k i NN : Nat} {C : String} {T : u_T} {ty : Nat → FieldType} {fs : List Value} {v : Value} {w' : Nat → va_E} (hF : gFd own idx ci k C T NN ty) (hdg : decode cc pc = .ok (.putfield idx, 3)) (hi : i < N) (hw : w i = .inr (ci, fs)) (hfin : (T k).2.2.2 = false) (hn : narrow (ty k) v = v) (hfit : fits (ty k) v = true) (hlen : k < fs.length) (hw' : va_up w i (.inr (ci, fs.set k v)) = w')
    (kk : ∀ (H1 : Heap) (locs1 : List Loc), gM G s N w' H1 locs1 → W p l e R s m args below meth c H1 locs1 cells slots Q (F0 m (pc + 3) ls rest)) : W p l e R s m args below meth c H locs cells slots Q (F0 m pc ls (v :: .ref (gB G + i) :: rest)) := by
  obtain ⟨⟨hc, hin, hty, hnm, -, -⟩, hk, hl⟩ := hF
  obtain ⟨⟨hx, hb, -, hown, hts⟩, ⟨hK, -⟩, -⟩ := F
  have hap := va_apart (own := own) hts hin ty hty hnm hK hc
  obtain ⟨r, h1, cell, q1, q2, q3, q4⟩ := M.at hi hw
  have hr : r = (C, T, NN) := Option.some.inj (h1.symm.trans hc)
  subst hr
  obtain ⟨hS, hfc, kC, hkC, hkind⟩ := hK.1 ci _ hc
  obtain ⟨cf, kf, fi, f, hif, hsl⟩ := hS k hk
  have hlay := hts _ (hin _ (u_in_lay hk))
  unfold u_lay at hlay
  rw [if_neg (by rw [hfin]; decide)] at hlay
  have hst := (u_facts hfc hkC (u_lays hts hin hk) hif).1
  have h6 := u_store hfc hkC hkind hlay hif (hty k hk) hn hfit
  refine W.putK hx hb (f := f) ⟨hown, hts _ hl, ⟨_, _, _, hif⟩, hst⟩ (by rw [q2]; exact h6) q1 q3 (by rw [hsl]; exact k2_hasslot (q4 k hk)) rfl rfl hdg fun H' e1 e2 e3 => ?_
  rw [hsl] at e1 ⊢
  exact kk H' _ (M.put (e := .inr (ci, fs.set k v)) hi e2 e3 ⟨_, hc, t_OB.to (V := updV (vp_V fs) k v) ⟨_, e1, q2, q3, t_set q4 hap hk v⟩ (fun j _ => vp_updV_set hlen v j)⟩ hw')
theorem g_putN (F : gF p m c cc nL s args own G) (M : gM G s N w H locs) {idx ci k i NN : Nat} {C : String} {T : u_T} {ty : Nat → FieldType} {fs : List Value} {v : Value} {w' : Nat → va_E} (hF : gFn own idx ci k C T NN ty) (hdg : decode cc pc = .ok (.putfield idx, 3)) (hi : i < N) (hw : w i = .inr (ci, fs)) (hfin : (T k).2.2.2 = false) (hn : narrow (ty k) v = v) (hfit : fits (ty k) v = true) (hlen : k < fs.length) (hw' : va_up w i (.inr (ci, fs.set k v)) = w')
    (kk : ∀ (H1 : Heap) (locs1 : List Loc), gM G s N w' H1 locs1 → W p l e R s m args below meth c H1 locs1 cells slots Q (F0 m (pc + 3) ls rest)) : W p l e R s m args below meth c H locs cells slots Q (F0 m pc ls (v :: .ref (gB G + i) :: rest)) := by
  obtain ⟨⟨hc, hin, hty, hnm, -, -⟩, hk, hl⟩ := hF
  obtain ⟨⟨hx, hb, -, hown, hts⟩, ⟨hK, hN, -⟩, -⟩ := F
  have hap := va_apart (own := own) hts hin ty hty hnm hK hc
  obtain ⟨r, h1, cell, q1, q2, q3, q4⟩ := M.at hi hw
  have hr : r = (C, T, NN) := Option.some.inj (h1.symm.trans hc)
  subst hr
  obtain ⟨hS, hfc, kC, hkC, hkind⟩ := hK.1 ci _ hc
  obtain ⟨cf, kf, fi, f, hif, hsl⟩ := hS k hk
  have hlay := hts _ (hin _ (u_in_lay hk))
  unfold u_lay at hlay
  rw [if_neg (by rw [hfin]; decide)] at hlay
  have hst := (u_facts hfc hkC (u_lays hts hin hk) hif).1
  have h6 := u_store hfc hkC hkind hlay hif (hty k hk) hn hfit
  refine va_WputK hx hb (f := f) hown (va_Nw.use rfl (hN _ hl)) hif hst (by rw [q2]; exact h6) q1 q3 (by rw [hsl]; exact k2_hasslot (q4 k hk)) rfl rfl hdg fun H' e1 e2 e3 => ?_
  rw [hsl] at e1 ⊢
  exact kk H' _ (M.put (e := .inr (ci, fs.set k v)) hi e2 e3 ⟨_, hc, t_OB.to (V := updV (vp_V fs) k v) ⟨_, e1, q2, q3, t_set q4 hap hk v⟩ (fun j _ => vp_updV_set hlen v j)⟩ hw')
theorem g_putF (F : gF p m c cc nL s args own G) (M : gM G s N w H locs) {idx ci k i NN : Nat} {C : String} {T : u_T} {ty : Nat → FieldType} {fs : List Value} {v : Value} {w' : Nat → va_E} (hF : gFd own idx ci k C T NN ty) (hdg : decode cc pc = .ok (.putfield idx, 3)) (hi : i < N) (hw : w i = .inr (ci, fs)) (hfin : (T k).2.2.2 = true) (hin2 : meth.name = "<init>") (hdecl : (T k).1 = own) (hn : narrow (ty k) v = v) (hfit : fits (ty k) v = true) (hlen : k < fs.length) (hw' : va_up w i (.inr (ci, fs.set k v)) = w')
    (kk : ∀ (H1 : Heap) (locs1 : List Loc), gM G s N w' H1 locs1 → W p l e R s m args below meth c H1 locs1 cells slots Q (F0 m (pc + 3) ls rest)) : W p l e R s m args below meth c H locs cells slots Q (F0 m pc ls (v :: .ref (gB G + i) :: rest)) := by
  obtain ⟨⟨hc, hin, hty, hnm, -, -⟩, hk, hl⟩ := hF
  obtain ⟨⟨hx, hb, -, hown, hts⟩, ⟨hK, -⟩, -⟩ := F
  have hap := va_apart (own := own) hts hin ty hty hnm hK hc
  obtain ⟨r, h1, cell, q1, q2, q3, q4⟩ := M.at hi hw
  have hr : r = (C, T, NN) := Option.some.inj (h1.symm.trans hc)
  subst hr
  obtain ⟨hS, hfc, kC, hkC, hkind⟩ := hK.1 ci _ hc
  obtain ⟨cf, kf, fi, f, hif, hsl⟩ := hS k hk
  have hlay := hts _ (hin _ (u_in_lay hk))
  unfold u_lay at hlay
  rw [if_pos hfin] at hlay
  have hst := (u_facts hfc hkC (u_lays hts hin hk) hif).1
  have hcf : m.cls = cf := by
    obtain ⟨_, _, c', _, _, _, -, -, hf', -, -, -, hown2, -⟩ := Cond.laysFinal_spec hlay
    have e1 : c' = cf := by have := hif.symm.trans hf'; simp at this; exact this.1.symm
    rw [hdecl] at hown2
    rw [← e1]; exact Option.some.inj (hown.symm.trans hown2)
  have h6 := u_fits hfc hkC hkind (Or.inr hlay) hif (hty k hk) hn hfit
  refine W.putFinK hx hb hown (hts _ hl) hif hst hcf hin2 (by rw [q2]; exact h6) q1 q3 (by rw [hsl]; exact k2_hasslot (q4 k hk)) rfl rfl hdg fun H' e1 e2 e3 => ?_
  rw [hsl] at e1 ⊢
  exact kk H' _ (M.put (e := .inr (ci, fs.set k v)) hi e2 e3 ⟨_, hc, t_OB.to (V := updV (vp_V fs) k v) ⟨_, e1, q2, q3, t_set q4 hap hk v⟩ (fun j _ => vp_updV_set hlen v j)⟩ hw')
/-! arrays -/
theorem g_iald (F : gF p m c cc nL s args own G) (M : gM G s N w H locs) {i x n : Nat} {f : Nat → Int32} (hdg : decode cc pc = .ok (.iaload, 1)) (hi : i < N) (hw : w i = .inl (gCa G 0, n, .inl f)) (hx : x < n) (hn : n < 2 ^ 31)
    (kk : W p l e R s m args below meth c H locs cells slots Q (F0 m (pc + 1) ls (.int (f x) :: rest))) : W p l e R s m args below meth c H locs cells slots Q (F0 m pc ls (.int (nI x) :: .ref (gB G + i) :: rest)) := by
  have hcl : (nI x).toNatClampNeg = x := nI_clamp (Nat.lt_trans hx hn)
  refine W.iald (v := .int (f x)) F.1.1 F.1.2.1 (M.at hi hw) ((F.2.1.1.2 0 _ rfl).1 n (fun j => .int (f j))) (fun q => by cases q) (by show ¬ (_ ∨ (arrV _ _ _).slots.size ≤ _); rw [arrV_size]; exact nI_in hx hn) (by show (arrV _ _ _).slots[_]? = _; rw [hcl, arrV_read _ _ hx]) rfl rfl hdg kk
theorem g_lald (F : gF p m c cc nL s args own G) (M : gM G s N w H locs) {i x n : Nat} {f : Nat → Int64} (hdg : decode cc pc = .ok (.laload, 1)) (hi : i < N) (hw : w i = .inl (gCa G 1, n, .inr (.inl f))) (hx : x < n) (hn : n < 2 ^ 31)
    (kk : W p l e R s m args below meth c H locs cells slots Q (F0 m (pc + 1) ls (.long (f x) :: rest))) : W p l e R s m args below meth c H locs cells slots Q (F0 m pc ls (.int (nI x) :: .ref (gB G + i) :: rest)) := by
  have hcl : (nI x).toNatClampNeg = x := nI_clamp (Nat.lt_trans hx hn)
  refine W.lald (v := .long (f x)) F.1.1 F.1.2.1 (M.at hi hw) ((F.2.1.1.2 1 _ rfl).1 n (fun j => .long (f j))) (fun q => by cases q) (by show ¬ (_ ∨ (arrV _ _ _).slots.size ≤ _); rw [arrV_size]; exact nI_in hx hn) (by show (arrV _ _ _).slots[_]? = _; rw [hcl, arrV_read _ _ hx]) rfl rfl hdg kk
theorem g_zald (F : gF p m c cc nL s args own G) (M : gM G s N w H locs) {i x n : Nat} {f : Nat → Int32} (hdg : decode cc pc = .ok (.baload, 1)) (hi : i < N) (hw : w i = .inl (gCa G 2, n, .inl f)) (hx : x < n) (hn : n < 2 ^ 31)
    (kk : W p l e R s m args below meth c H locs cells slots Q (F0 m (pc + 1) ls (.int (f x) :: rest))) : W p l e R s m args below meth c H locs cells slots Q (F0 m pc ls (.int (nI x) :: .ref (gB G + i) :: rest)) := by
  have hcl : (nI x).toNatClampNeg = x := nI_clamp (Nat.lt_trans hx hn)
  refine W.zald (v := .int (f x)) F.1.1 F.1.2.1 (M.at hi hw) ((F.2.1.1.2 2 _ rfl).1 n (fun j => .int (f j))) (fun q => by cases q) (by show ¬ (_ ∨ (arrV _ _ _).slots.size ≤ _); rw [arrV_size]; exact nI_in hx hn) (by show (arrV _ _ _).slots[_]? = _; rw [hcl, arrV_read _ _ hx]) rfl rfl hdg kk
theorem g_aald (F : gF p m c cc nL s args own G) (M : gM G s N w H locs) {i x n : Nat} {f : Nat → Option Nat} {C : String} (t : Nat) (ht : (g_tys (gCa G))[t]? = some (gCa G t, .object C)) (hdg : decode cc pc = .ok (.aaload, 1)) (hi : i < N) (hw : w i = .inl (gCa G t, n, .inr (.inr (.inr (.inr f))))) (hx : x < n) (hn : n < 2 ^ 31) {v : Value} (hv : va_rf (f x) = v)
    (kk : W p l e R s m args below meth c H locs cells slots Q (F0 m (pc + 1) ls (v :: rest))) : W p l e R s m args below meth c H locs cells slots Q (F0 m pc ls (.int (nI x) :: .ref (gB G + i) :: rest)) := by
  have hcl : (nI x).toNatClampNeg = x := nI_clamp (Nat.lt_trans hx hn)
  subst hv
  refine W.aald (v := va_rf (f x)) (ty := .object C) F.1.1 F.1.2.1 (M.at hi hw) ((F.2.1.1.2 t _ ht).1 n (fun j => va_rf (f j))) rfl (fun q => by cases q) (by show ¬ (_ ∨ (arrV _ _ _).slots.size ≤ _); rw [arrV_size]; exact nI_in hx hn) (by show (arrV _ _ _).slots[_]? = _; rw [hcl, arrV_read _ _ hx]) rfl rfl hdg kk
theorem g_iast (F : gF p m c cc nL s args own G) (M : gM G s N w H locs) {i x n : Nat} {f : Nat → Int32} {v : Int32} {w' : Nat → va_E} (hdg : decode cc pc = .ok (.iastore, 1)) (hi : i < N) (hw : w i = .inl (gCa G 0, n, .inl f)) (hx : x < n) (hn : n < 2 ^ 31) (hw' : va_up w i (.inl (gCa G 0, n, .inl (upd f x v))) = w')
    (kk : ∀ (H1 : Heap) (locs1 : List Loc), gM G s N w' H1 locs1 → W p l e R s m args below meth c H1 locs1 cells slots Q (F0 m (pc + 1) ls rest)) : W p l e R s m args below meth c H locs cells slots Q (F0 m pc ls (.int v :: .int (nI x) :: .ref (gB G + i) :: rest)) := by
  have hcl : (nI x).toNatClampNeg = x := nI_clamp (Nat.lt_trans hx hn)
  refine W.iast F.1.1 F.1.2.1 (M.at hi hw) ((F.2.1.1.2 0 _ rfl).1 n (fun j => .int (f j))) (fun q => by cases q) (by show ¬ (_ ∨ (arrV _ _ _).slots.size ≤ _); rw [arrV_size]; exact nI_in hx hn) rfl rfl hdg fun H1 e1 z oq => ?_
  refine kk H1 _ (M.put hi z oq ?_ hw')
  show H1[_]? = some (vp_cell _ _)
  rw [e1, hcl, vp_cell_i, vp_cell_i, arrV_store]
  congr 2
  funext q
  by_cases hq : q = x
  · subst hq; simp [updV, upd]
  · simp [updV, upd, hq]
theorem g_zast (F : gF p m c cc nL s args own G) (M : gM G s N w H locs) {i x n : Nat} {f : Nat → Int32} {v : Int32} {w' : Nat → va_E} (hdg : decode cc pc = .ok (.bastore, 1)) (hi : i < N) (hw : w i = .inl (gCa G 2, n, .inl f)) (hx : x < n) (hn : n < 2 ^ 31) (hnar : narrow .boolean (.int v) = .int v) (hw' : va_up w i (.inl (gCa G 2, n, .inl (upd f x v))) = w')
    (kk : ∀ (H1 : Heap) (locs1 : List Loc), gM G s N w' H1 locs1 → W p l e R s m args below meth c H1 locs1 cells slots Q (F0 m (pc + 1) ls rest)) : W p l e R s m args below meth c H locs cells slots Q (F0 m pc ls (.int v :: .int (nI x) :: .ref (gB G + i) :: rest)) := by
  have hcl : (nI x).toNatClampNeg = x := nI_clamp (Nat.lt_trans hx hn)
  refine W.zast F.1.1 F.1.2.1 (M.at hi hw) ((F.2.1.1.2 2 _ rfl).1 n (fun j => .int (f j))) (fun q => by cases q) (by show ¬ (_ ∨ (arrV _ _ _).slots.size ≤ _); rw [arrV_size]; exact nI_in hx hn) rfl rfl hdg fun H1 e1 z oq => ?_
  refine kk H1 _ (M.put hi z oq ?_ hw')
  show H1[_]? = some (vp_cell _ _)
  rw [e1, hcl, hnar, vp_cell_i, vp_cell_i, arrV_store]
  congr 2
  funext q
  by_cases hq : q = x
  · subst hq; simp [updV, upd]
  · simp [updV, upd, hq]
theorem g_last (F : gF p m c cc nL s args own G) (M : gM G s N w H locs) {i x n : Nat} {f : Nat → Int64} {v : Int64} {w' : Nat → va_E} (hdg : decode cc pc = .ok (.lastore, 1)) (hi : i < N) (hw : w i = .inl (gCa G 1, n, .inr (.inl f))) (hx : x < n) (hn : n < 2 ^ 31) (hw' : va_up w i (.inl (gCa G 1, n, .inr (.inl (vp_updL f x v)))) = w')
    (kk : ∀ (H1 : Heap) (locs1 : List Loc), gM G s N w' H1 locs1 → W p l e R s m args below meth c H1 locs1 cells slots Q (F0 m (pc + 1) ls rest)) : W p l e R s m args below meth c H locs cells slots Q (F0 m pc ls (.long v :: .int (nI x) :: .ref (gB G + i) :: rest)) := by
  have hcl : (nI x).toNatClampNeg = x := nI_clamp (Nat.lt_trans hx hn)
  refine W.last F.1.1 F.1.2.1 (M.at hi hw) ((F.2.1.1.2 1 _ rfl).1 n (fun j => .long (f j))) (fun q => by cases q) (by show ¬ (_ ∨ (arrV _ _ _).slots.size ≤ _); rw [arrV_size]; exact nI_in hx hn) rfl rfl hdg fun H1 e1 z oq => ?_
  refine kk H1 _ (M.put hi z oq ?_ hw')
  show H1[_]? = some (vp_cell _ _)
  rw [e1, hcl, vp_cell_l, vp_cell_l, arrV_store]
  congr 2
  funext q
  by_cases hq : q = x
  · subst hq; simp [updV, vp_updL]
  · simp [updV, vp_updL, hq]
theorem g_aast (F : gF p m c cc nL s args own G) (M : gM G s N w H locs) {i x n j ci : Nat} {f : Nat → Option Nat} {r : vw_C} {vs : List Value} {w' : Nat → va_E} (t : Nat) (ht : (g_tys (gCa G))[t]? = some (gCa G t, .object r.1)) (hdg : decode cc pc = .ok (.aastore, 1)) (hi : i < N) (hw : w i = .inl (gCa G t, n, .inr (.inr (.inr (.inr f))))) (hj : j < N) (hwj : w j = .inr (ci, vs)) (hc : classes[ci]? = some r) (hx : x < n) (hn : n < 2 ^ 31) (hw' : va_up w i (.inl (gCa G t, n, .inr (.inr (.inr (.inr (va_up f x (some (gB G + j)))))))) = w')
    (kk : ∀ (H1 : Heap) (locs1 : List Loc), gM G s N w' H1 locs1 → W p l e R s m args below meth c H1 locs1 cells slots Q (F0 m (pc + 1) ls rest)) : W p l e R s m args below meth c H locs cells slots Q (F0 m pc ls (.ref (gB G + j) :: .int (nI x) :: .ref (gB G + i) :: rest)) := by
  have hcl : (nI x).toNatClampNeg = x := nI_clamp (Nat.lt_trans hx hn)
  obtain ⟨r', hr', cellV, g1, g2, g3, -⟩ := M.at hj hwj
  have hcls := (F.2.1.1.1 ci r hc).2
  obtain ⟨kA, comp, k1, k2, k3, -⟩ := (F.2.1.1.2 t _ ht).2
  have hcomp : comp = G.1.1 ci := Option.some.inj (k3.symm.trans hcls.1)
  subst hcomp
  obtain ⟨kC, hkC, -⟩ := hcls.2
  refine W.aast F.1.1 F.1.2.1 (M.at hi hw) (fun q h => by cases h) (fun h => by cases h) k1 k2 rfl hkC ⟨nI_pos (Nat.lt_trans hx hn), by show _ < (arrV _ _ _).slots.size; rw [arrV_size, hcl]; exact hx⟩ g1 (fun q h => by rw [g3] at h; cases h) (by rw [g2]; exact hkC) (by rw [g2]; exact va_assign hcls) rfl rfl hdg fun H1 e1 z oq => ?_
  refine kk H1 _ (M.put hi z oq ?_ hw')
  show H1[_]? = some (vp_cell _ _)
  rw [e1, hcl, vp_cell_q, vp_cell_q, arrV_store]
  congr 2
  funext q
  by_cases hq : q = x
  · subst hq
    simp [updV, va_up, va_rf]
  · simp [updV, va_up, hq]
/-! new cells -/
theorem g_new (F : gF p m c cc nL s args own G) (M : gM G s N w H locs) {ci idx NN : Nat} {C : String} {T : u_T} {ty : Nat → FieldType} {fs : List Value} {w' : Nat → va_E} (hC : gC ci C T NN ty) (hcl : Cond.classLink own idx C ∈ gtb) (hfs : ∀ j, j < NN → defaultValue (ty j) = vp_V fs j) (hcells : cells + 1 ≤ R.cells) (hslots : slots + NN ≤ R.slots) (hdg : decode cc pc = .ok (.new idx, 3)) (hw' : va_up w N (.inr (ci, fs)) = w')
    (kk : ∀ (H1 : Heap), gM G s (N + 1) w' H1 locs → W p l e R s m args below meth c H1 locs (cells + 1) (slots + NN) Q (F0 m (pc + 3) ls (.ref (gB G + N) :: rest))) : W p l e R s m args below meth c H locs cells slots Q (F0 m pc ls rest) := by
  obtain ⟨hc, hin, hty, hnm, hins, hini⟩ := hC
  obtain ⟨⟨hx, hb, -, hown, hts⟩, ⟨hK, -⟩, -⟩ := F
  have hKn := hK.1 ci _ hc
  refine W.newcK hx hb hown (hts _ hcl) (hts _ hins) (hts _ hini) rfl hdg hcells hslots hKn.2.1 M.1.1 fun H1 kC hkC e1 z1 o1 => ?_
  exact kk H1 (M.push (e := .inr (ci, fs)) (by rw [z1, M.1.1]) (fun q hq => o1 q (by rw [← M.1.1]; exact hq)) ⟨_, hc, (u_born ty hts hin hKn hkC e1 hty).to hfs⟩ hw')
theorem g_newi (F : gF p m c cc nL s args own G) (M : gM G s N w H locs) {n : Int32} {n' : Nat} {w' : Nat → va_E} (hn : n = nI n') (hn' : n' < 2 ^ 24) (hcells : cells + 1 ≤ R.cells) (hslots : slots + n' ≤ R.slots) (hdg : decode cc pc = .ok (.newarray .int, 2)) (hw' : va_up w N (.inl (gCa G 0, n', .inl (fun _ => 0))) = w')
    (kk : ∀ (H1 : Heap), gM G s (N + 1) w' H1 locs → W p l e R s m args below meth c H1 locs (cells + 1) (slots + n') Q (F0 m (pc + 2) ls (.ref (gB G + N) :: rest))) : W p l e R s m args below meth c H locs cells slots Q (F0 m pc ls (.int n :: rest)) := by
  subst hn
  refine va_newaK (atype := .int) F.1.1 F.1.2.1 (F.1.2.2.2.2 (.arrayClass .int) wd_67) rfl hdg rfl (nI_pos (by omega)) (nI_clamp (by omega)) (show n' * 4 ≤ 536870912 by omega) hcells hslots M.1.1 fun H1 cA e1 z1 o1 hAr hNm => ?_
  have hcA : cA = gCa G 0 := Option.some.inj (hNm.symm.trans (F.2.1.1.2 0 _ rfl).2)
  subst hcA
  exact kk H1 (M.push (e := .inl (gCa G 0, n', .inl (fun _ => 0))) (by rw [z1, M.1.1]) (fun q hq => o1 q (by rw [← M.1.1]; exact hq)) e1 hw')
theorem g_newl (F : gF p m c cc nL s args own G) (M : gM G s N w H locs) {n : Int32} {n' : Nat} {w' : Nat → va_E} (hn : n = nI n') (hn' : n' < 2 ^ 24) (hcells : cells + 1 ≤ R.cells) (hslots : slots + n' ≤ R.slots) (hdg : decode cc pc = .ok (.newarray .long, 2)) (hw' : va_up w N (.inl (gCa G 1, n', .inr (.inl (fun _ => 0)))) = w')
    (kk : ∀ (H1 : Heap), gM G s (N + 1) w' H1 locs → W p l e R s m args below meth c H1 locs (cells + 1) (slots + n') Q (F0 m (pc + 2) ls (.ref (gB G + N) :: rest))) : W p l e R s m args below meth c H locs cells slots Q (F0 m pc ls (.int n :: rest)) := by
  subst hn
  refine va_newaK (atype := .long) F.1.1 F.1.2.1 (F.1.2.2.2.2 (.arrayClass .long) wd_320) rfl hdg rfl (nI_pos (by omega)) (nI_clamp (by omega)) (show n' * 8 ≤ 536870912 by omega) hcells hslots M.1.1 fun H1 cA e1 z1 o1 hAr hNm => ?_
  have hcA : cA = gCa G 1 := Option.some.inj (hNm.symm.trans (F.2.1.1.2 1 _ rfl).2)
  subst hcA
  exact kk H1 (M.push (e := .inl (gCa G 1, n', .inr (.inl (fun _ => 0)))) (by rw [z1, M.1.1]) (fun q hq => o1 q (by rw [← M.1.1]; exact hq)) e1 hw')
theorem g_newz (F : gF p m c cc nL s args own G) (M : gM G s N w H locs) {n : Int32} {n' : Nat} {w' : Nat → va_E} (hn : n = nI n') (hn' : n' < 2 ^ 24) (hcells : cells + 1 ≤ R.cells) (hslots : slots + n' ≤ R.slots) (hdg : decode cc pc = .ok (.newarray .boolean, 2)) (hw' : va_up w N (.inl (gCa G 2, n', .inl (fun _ => 0))) = w')
    (kk : ∀ (H1 : Heap), gM G s (N + 1) w' H1 locs → W p l e R s m args below meth c H1 locs (cells + 1) (slots + n') Q (F0 m (pc + 2) ls (.ref (gB G + N) :: rest))) : W p l e R s m args below meth c H locs cells slots Q (F0 m pc ls (.int n :: rest)) := by
  subst hn
  refine va_newaK (atype := .boolean) F.1.1 F.1.2.1 (F.1.2.2.2.2 (.arrayClass .boolean) wd_321) rfl hdg rfl (nI_pos (by omega)) (nI_clamp (by omega)) (show n' * 1 ≤ 536870912 by omega) hcells hslots M.1.1 fun H1 cA e1 z1 o1 hAr hNm => ?_
  have hcA : cA = gCa G 2 := Option.some.inj (hNm.symm.trans (F.2.1.1.2 2 _ rfl).2)
  subst hcA
  exact kk H1 (M.push (e := .inl (gCa G 2, n', .inl (fun _ => 0))) (by rw [z1, M.1.1]) (fun q hq => o1 q (by rw [← M.1.1]; exact hq)) e1 hw')
theorem g_anew (F : gF p m c cc nL s args own G) (M : gM G s N w H locs) {n : Int32} {n' idx : Nat} {C : String} {w' : Nat → va_E} (t : Nat) (ht : (g_tys (gCa G))[t]? = some (gCa G t, .object C)) (hAO : va_AO C s) (hcl : Cond.classLink own idx C ∈ gtb) (hn : n = nI n') (hn' : n' < 2 ^ 24) (hcells : cells + 1 ≤ R.cells) (hslots : slots + n' ≤ R.slots) (hdg : decode cc pc = .ok (.anewarray idx, 3)) (hw' : va_up w N (.inl (gCa G t, n', .inr (.inr (.inr (.inr (fun _ => none)))))) = w')
    (kk : ∀ (H1 : Heap), gM G s (N + 1) w' H1 locs → W p l e R s m args below meth c H1 locs (cells + 1) (slots + n') Q (F0 m (pc + 3) ls (.ref (gB G + N) :: rest))) : W p l e R s m args below meth c H locs cells slots Q (F0 m pc ls (.int n :: rest)) := by
  subst hn
  have hcl2 : (nI n').toNatClampNeg = n' := nI_clamp (by omega)
  refine W.anew F.1.1 F.1.2.1 F.1.2.2.2.1 (F.1.2.2.2.2 _ hcl) (va_AO.use hAO) rfl hdg rfl (nI_pos (by omega)) (by rw [hcl2]; omega) hcells (by rw [hcl2]; exact hslots) fun cA kA comp f1 f2 f3 f4 => ?_
  rw [hcl2]
  obtain ⟨kA', comp', -, -, -, k4⟩ := (F.2.1.1.2 t _ ht).2
  have hcA : cA = gCa G t := Option.some.inj (f1.symm.trans k4)
  subst hcA
  have hh : H.size = gB G + N := M.1.1
  refine W.eq (g2 := F0 m (pc + 3) ls (.ref (gB G + N) :: rest)) (by rw [hh]) ?_
  refine kk _ (M.push (by rw [Array.size_push]) (fun q hq => by rw [Array.getElem?_push, if_neg (Nat.ne_of_lt hq)]) ?_ hw')
  show _ = some (vp_cell _ _)
  rw [vp_cell_q, ← hh, Array.getElem?_push_size, ← arrV_new]
  rfl
/-! a constant of End -/
theorem g_gets (F : gF p m c cc nL s args own G) (M : gM G s N w H locs) {idx : Nat} (k : Nat) (hk : k < 4) (hl : Cond.fieldLink own idx R_End (g_nm.getD k "") "LClerkRows$End;" ∈ gtb) (hdg : decode cc pc = .ok (.getstatic idx, 3))
    (kk : W p l e R s m args below meth c H locs cells slots Q (F0 m (pc + 3) ls (.ref (gEa G k) :: rest))) : W p l e R s m args below meth c H locs cells slots Q (F0 m pc ls rest) := by
  exact va_gets F.1.1 F.1.2.1 (F.2.2.1.1 k hk).1 M.2 F.1.2.2.2.1 (F.1.2.2.2.2 _ hl) (fun _ h => h) hdg kk
end GR
end
section
/-! ===== contracts with a told end: the answer rv, the new world (N', w') ===== -/
def gR (d mc ms : Nat) : Room := { frames := d, cells := mc, slots := ms, locals := 28 * d }
def gQ1 (G : gG) (rv : Int32) (N' : Nat) (w' : Nat → va_E) : Array Value → State → Outcome → State → Prop := fun _ st oc t => oc = .returned (some (.int rv)) ∧ gP G N' w' t.heap ∧ va_F (gA (gB G)) st t
def gQ2 (G : gG) (rv : Int64) (N' : Nat) (w' : Nat → va_E) : Array Value → State → Outcome → State → Prop := fun _ st oc t => oc = .returned (some (.long rv)) ∧ gP G N' w' t.heap ∧ va_F (gA (gB G)) st t
def gQ0 (G : gG) (N' : Nat) (w' : Nat → va_E) : Array Value → State → Outcome → State → Prop := fun _ st oc t => oc = .returned none ∧ gP G N' w' t.heap ∧ va_F (gA (gB G)) st t
theorem gU.blind {G : gG} {N : Nat} {w : Nat → va_E} {U V : State} (h1 : U.vm = V.vm) (h2 : U.heap = V.heap) (h : gU G N w U) : gU G N w V := by
  obtain ⟨hK, hE, hP⟩ := h
  have hW : U.WarmedH V.vm := by rw [← h1]; exact State.WarmedH.refl U
  refine ⟨hK.moved hW, ?_, by rw [← h2]; exact hP⟩
  have h3 := va_En.moved hW.alike hE
  rw [h2] at h3
  exact h3
theorem gPc.blind {G : gG} {av : List Value} {N : Nat} {w : Nat → va_E} : FrameBlind (gPc G av N w) := fun a U g mk q => ⟨q.1, gU.blind (U := U) (V := U.calling g mk a) rfl rfl q.2⟩
theorem g_pre {p : Program} {s : State} {m : MethodId} {args : Array Value} {c : Code} {H : Heap} {locs : List Loc} {cc : ByteArray} {nL N : Nat} {G : gG} {own : String} {w : Nat → va_E} (F : gF p m c cc nL s args own G) (M : gM G s N w H locs) (U : State) (hU : U.heap = H) (hW : s.WarmedH U.vm) : gU G N w U := by
  refine ⟨F.2.1.moved hW, ?_, by rw [hU]; exact M.1⟩
  rw [hU]
  exact va_En.moved hW.alike (va_En.kept F.2.2.1 M.2.2.1)
/-- a method's entry -/
theorem g_met {l : Launch} {y : MethodName} {bytes : ByteArray} {maxL : Nat} {ret : Option FieldType} {rm : Room} {mc ms N : Nat} {av : List Value} {w : Nat → va_E} {Qc : Array Value → State → Outcome → State → Prop} {own : String} {G : gG} (hy : plainName y.cls = true) (hown : y.cls = own) (hlen : (lg_sl av).length ≤ maxL)
    (body : ∀ (p : Program) (e : Env) (s : State) (m : MethodId) (below : List Frame) (meth : Method) (c : Code), gF p m c bytes maxL s av.toArray own G → gM G s N w s.heap [] → meth.sig.returnType = ret → meth.locks = false → meth.name = y.name → ∀ ls : Array Slot, lv_has ls maxL (lv_args 0 av) → W p l e rm s m av.toArray below meth c s.heap [] 0 0 (MQ below Qc av.toArray s mc ms (gA (gB G))) (F0 m 0 ls [])) :
    Met l y (Cond.code y bytes maxL ret :: gtb) rm (gPc G av N w) Qc mc ms (gA (gB G)) := by
  refine Met.ofW (cc := bytes) (maxL := maxL) (ret := ret) hy rfl ?_
  intro p e s m args below meth c s₁ B hml hv
  obtain ⟨rfl, hK, hE, hP⟩ := hv
  have hts := atoms_spec (ws := Cond.code y bytes maxL ret :: gtb) B.pre
  have hl := lv_entry av hlen
  rw [lg_entry_eq]
  generalize (lg_sl av ++ List.replicate (maxL - (lg_sl av).length) Slot.unset).toArray = ls at hl ⊢
  exact body p e s m below meth c ⟨⟨B.exec, B.bytes, hml, by rw [← hown]; exact findClass_of_methodNamed B.named, fun w hw => hts w (List.mem_cons_of_mem _ hw)⟩, hK, hE, by rw [hP.1]; exact Nat.le_add_right _ _⟩ ⟨hP, va_S.rf⟩ B.returns B.notSynchronized (name_of_methodNamed B.named B.method).1 ls hl
/-- 1 for true, 0 for false -/
def bI (P : Prop) [Decidable P] : Int32 := if P then 1 else 0
theorem bI_t {P : Prop} [Decidable P] (h : P) : bI P = 1 := if_pos h
theorem bI_f {P : Prop} [Decidable P] (h : ¬ P) : bI P = 0 := if_neg h
theorem bI_nar (P : Prop) [Decidable P] : narrow .boolean (.int (bI P)) = .int (bI P) := by
  by_cases h : P
  · rw [bI_t h]; decide +kernel
  · rw [bI_f h]; decide +kernel
theorem bI_0 {P : Prop} [Decidable P] : bI P = 0 ↔ ¬ P := by
  by_cases h : P
  · rw [bI_t h]; exact ⟨fun q => absurd q (by decide), fun q => absurd h q⟩
  · rw [bI_f h]; exact ⟨fun _ => h, fun _ => rfl⟩
section GC
variable {p : Program} {l : Launch} {e : Env} {R : Room} {s : State} {m : MethodId} {args : Array Value} {below : List Frame} {meth : Method} {c : Code} {H : Heap} {locs : List Loc} {cells slots : Nat} {Q : State → Prop}
variable {cc : ByteArray} {pc nL N N' : Nat} {ls : Array Slot} {rest st0 : List Value} {G : gG} {own : String} {w w' : Nat → va_E} {mc ms : Nat} {a : Array Value}
theorem g_call1 {rv : Int32} (hr : va_Run p l e R s m args below meth c H locs cells slots mc ms (F0 m pc ls st0) rest (gQ1 G rv N' w' a) (gA (gB G))) (M : gM G s N w H locs)
    (kk : ∀ (H1 : Heap) (locs1 : List Loc), gM G s N' w' H1 locs1 → W p l e R s m args below meth c H1 locs1 (cells + mc) (slots + ms) Q (F0 m (pc + 3) ls (.int rv :: rest))) : W p l e R s m args below meth c H locs cells slots Q (F0 m pc ls st0) := by
  intro T hT X
  obtain ⟨v, st₀, t, T', L, h0, X', hL, e1, e2, ⟨hv, hP', hz, hk⟩, st⟩ := hr T hT X
  cases hv
  rw [h0] at hz hk
  obtain ⟨t2, a1, b1⟩ := kk T'.heap (locs ++ L) ⟨by rw [e1]; exact hP', Nat.le_trans M.2.1 (by rw [e1]; exact hz), fun q h1 h2 => by rw [e1, hk q (Nat.lt_of_lt_of_le h1 M.2.1) h2]; exact M.2.2.1 q h1 h2, fun q hq => by
      rcases List.mem_append.mp hq with h | h
      · exact M.2.2.2 q h
      · exact hL q h⟩ T' rfl X'
  exact ⟨t2, st t2 a1, b1⟩
theorem g_call2 {rv : Int64} (hr : va_Run p l e R s m args below meth c H locs cells slots mc ms (F0 m pc ls st0) rest (gQ2 G rv N' w' a) (gA (gB G))) (M : gM G s N w H locs)
    (kk : ∀ (H1 : Heap) (locs1 : List Loc), gM G s N' w' H1 locs1 → W p l e R s m args below meth c H1 locs1 (cells + mc) (slots + ms) Q (F0 m (pc + 3) ls (.long rv :: rest))) : W p l e R s m args below meth c H locs cells slots Q (F0 m pc ls st0) := by
  intro T hT X
  obtain ⟨v, st₀, t, T', L, h0, X', hL, e1, e2, ⟨hv, hP', hz, hk⟩, st⟩ := hr T hT X
  cases hv
  rw [h0] at hz hk
  obtain ⟨t2, a1, b1⟩ := kk T'.heap (locs ++ L) ⟨by rw [e1]; exact hP', Nat.le_trans M.2.1 (by rw [e1]; exact hz), fun q h1 h2 => by rw [e1, hk q (Nat.lt_of_lt_of_le h1 M.2.1) h2]; exact M.2.2.1 q h1 h2, fun q hq => by
      rcases List.mem_append.mp hq with h | h
      · exact M.2.2.2 q h
      · exact hL q h⟩ T' rfl X'
  exact ⟨t2, st t2 a1, b1⟩
theorem g_call0 (hr : va_Run p l e R s m args below meth c H locs cells slots mc ms (F0 m pc ls st0) rest (gQ0 G N' w' a) (gA (gB G))) (M : gM G s N w H locs)
    (kk : ∀ (H1 : Heap) (locs1 : List Loc), gM G s N' w' H1 locs1 → W p l e R s m args below meth c H1 locs1 (cells + mc) (slots + ms) Q (F0 m (pc + 3) ls rest)) : W p l e R s m args below meth c H locs cells slots Q (F0 m pc ls st0) := by
  intro T hT X
  obtain ⟨v, st₀, t, T', L, h0, X', hL, e1, e2, ⟨hv, hP', hz, hk⟩, st⟩ := hr T hT X
  cases hv
  rw [h0] at hz hk
  obtain ⟨t2, a1, b1⟩ := kk T'.heap (locs ++ L) ⟨by rw [e1]; exact hP', Nat.le_trans M.2.1 (by rw [e1]; exact hz), fun q h1 h2 => by rw [e1, hk q (Nat.lt_of_lt_of_le h1 M.2.1) h2]; exact M.2.2.1 q h1 h2, fun q hq => by
      rcases List.mem_append.mp hq with h | h
      · exact M.2.2.2 q h
      · exact hL q h⟩ T' rfl X'
  exact ⟨t2, st t2 a1, b1⟩
variable {y : MethodName} {bytes : ByteArray} {maxL n idx : Nat} {ret : Option FieldType} {rm : Room} {Qc : Array Value → State → Outcome → State → Prop} {C : String} {As : List Value}
/-- what a call asks of the room -/
abbrev gRm (rm R : Room) (maxL mc ms cells slots : Nat) : Prop := rm.cells = mc ∧ rm.slots = ms ∧ rm.frames + 1 ≤ R.frames ∧ 8 + (maxL + 11) + rm.locals ≤ R.locals ∧ cells + mc ≤ R.cells ∧ slots + ms ≤ R.slots
theorem g_recv (F : gF p m c cc nL s args own G) (M : gM G s N w H locs) {i ci : Nat} {fs : List Value} {r : vw_C} (hi : i < N) (hw : w i = .inr (ci, fs)) (hc : classes[ci]? = some r) : ∃ cell : Cell, H[gB G + i]? = some cell ∧ cell.vm.isStatics = false ∧ s.vm.findClass r.1 = some cell.cls := by
  obtain ⟨q', h1, cell, g1, g2, g3, -⟩ := M.at hi hw
  exact ⟨cell, g1, by rw [g3]; rfl, by rw [g2]; exact (F.2.1.1.1 ci r hc).2.1⟩
theorem g_rv (F : gF p m c cc nL s args own G) (M : gM G s N w H locs) {i ci : Nat} {fs : List Value} {r : vw_C} (hM : Met l y (Cond.code y bytes maxL ret :: gtb) rm (gPc G (.ref (gB G + i) :: As) N w) Qc mc ms (gA (gB G))) (hk : gKv own idx r.1 y bytes maxL ret n) (hdg : decode cc pc = .ok (.invokevirtual idx, 3)) (hrm : gRm rm R maxL mc ms cells slots) (hi : i < N) (hw : w i = .inr (ci, fs)) (hc : classes[ci]? = some r) (hn : As.length = n) (hsz : ls.size = nL) (hst : (rest.map fun v => v.category).sum ≤ 8) (hs0 : st0 = As.reverse ++ .ref (gB G + i) :: rest) :
    va_Run p l e R s m args below meth c H locs cells slots mc ms (F0 m pc ls st0) rest (Qc (Value.ref (gB G + i) :: As).toArray) (gA (gB G)) := by
  obtain ⟨k1, k2, k3, k4, k5, k6⟩ := hk
  obtain ⟨r1, r2, r3, r4, r5, r6⟩ := hrm
  exact va_runV F.1 hM (cwV n F.1.2.2.2.2 (gd_app (mem4 k1 k2 k3 k4) (gd_ws k5)) rfl r1 r2 k6 ⟨r3, r4⟩) ⟨gPc.blind, g_recv F M hi hw hc, fun U hU hW => ⟨rfl, g_pre F M U hU hW⟩⟩ rfl hn hsz hs0 (lv_room hst) hdg ⟨r5, r6⟩
theorem g_rs (F : gF p m c cc nL s args own G) (M : gM G s N w H locs) (hM : Met l y (Cond.code y bytes maxL ret :: gtb) rm (gPc G As N w) Qc mc ms (gA (gB G))) (hk : gKs own idx y bytes maxL ret n) (hdg : decode cc pc = .ok (.invokestatic idx, 3)) (hrm : gRm rm R maxL mc ms cells slots) (hn : As.length = n) (hsz : ls.size = nL) (hst : (rest.map fun v => v.category).sum ≤ 8) (hs0 : st0 = As.reverse ++ rest) :
    va_Run p l e R s m args below meth c H locs cells slots mc ms (F0 m pc ls st0) rest (Qc As.toArray) (gA (gB G)) := by
  obtain ⟨k1, k2, k3, k4, k5⟩ := hk
  obtain ⟨r1, r2, r3, r4, r5, r6⟩ := hrm
  exact va_runS F.1 hM (cwS n F.1.2.2.2.2 (gd_app (mem3 k1 k2 k3) (gd_ws k4)) rfl r1 r2 k5 ⟨r3, r4⟩) ⟨gPc.blind, fun U hU hW => ⟨rfl, g_pre F M U hU hW⟩⟩ rfl hn hsz hs0 (lv_room hst) hdg ⟨r5, r6⟩
theorem g_ri (F : gF p m c cc nL s args own G) (M : gM G s N w H locs) {i : Nat} (hM : Met l y (Cond.code y bytes maxL none :: gtb) rm (gPc G (.ref (gB G + i) :: As) N w) Qc mc ms (gA (gB G))) (hk : gKi own idx y bytes maxL n) (hdg : decode cc pc = .ok (.invokespecial idx, 3)) (hrm : gRm rm R maxL mc ms cells slots) (hn : As.length = n) (hsz : ls.size = nL) (hst : (rest.map fun v => v.category).sum ≤ 8) (hs0 : st0 = As.reverse ++ .ref (gB G + i) :: rest) :
    va_Run p l e R s m args below meth c H locs cells slots mc ms (F0 m pc ls st0) rest (Qc (Value.ref (gB G + i) :: As).toArray) (gA (gB G)) := by
  obtain ⟨k1, k2, k3, k4, k5, k6⟩ := hk
  obtain ⟨r1, r2, r3, r4, r5, r6⟩ := hrm
  have hts := F.1.2.2.2.2
  exact va_runI F.1 hM (cwI n hts (gd_ws k4) rfl r1 r2 (hts _ k3) (hts _ k1) (hts _ k2) k5 k6 ⟨r3, r4⟩) ⟨gPc.blind, fun U hU hW => ⟨rfl, g_pre F M U hU hW⟩⟩ rfl hn hsz hs0 (lv_room hst) hdg ⟨r5, r6⟩
/-- Clerk's own constructor, asked from its nest -/
theorem g_riN (F : gF p m c cc nL s args own G) (M : gM G s N w H locs) {i : Nat} (hM : Met l y (Cond.code y bytes maxL none :: gtb) rm (gPc G (.ref (gB G + i) :: As) N w) Qc mc ms (gA (gB G))) (hl : Cond.methodLinkNest own idx y "ClerkRows" ∈ g_nest) (hin : Cond.instanceMethod y ∈ gtb) (hini : Cond.initialized y.cls ∈ gtb) (hcode : Cond.code y bytes maxL none ∈ gtb) (hy1 : y.name = "<init>") (hd : y.cls ≠ "java/lang/invoke/MethodHandle" ∧ y.cls ≠ "java/lang/invoke/VarHandle" ∧ (parseMethodDescriptor y.desc).map (fun d => d.parameters.length) = some n) (hdg : decode cc pc = .ok (.invokespecial idx, 3)) (hrm : gRm rm R maxL mc ms cells slots) (hn : As.length = n) (hsz : ls.size = nL) (hst : (rest.map fun v => v.category).sum ≤ 8) (hs0 : st0 = As.reverse ++ .ref (gB G + i) :: rest) :
    va_Run p l e R s m args below meth c H locs cells slots mc ms (F0 m pc ls st0) rest (Qc (Value.ref (gB G + i) :: As).toArray) (gA (gB G)) := by
  obtain ⟨r1, r2, r3, r4, r5, r6⟩ := hrm
  have hts := F.1.2.2.2.2
  exact va_runIN F.1 hM ⟨va_cnB n hts (gd_ws hcode) rfl r1 r2 (F.2.1.2.1 _ hl) (hts _ hini) hd ⟨r3, r4⟩, hy1, hts _ hin⟩ ⟨gPc.blind, fun U hU hW => ⟨rfl, g_pre F M U hU hW⟩⟩ rfl hn hsz hs0 (lv_room hst) hdg ⟨r5, r6⟩
/-! ends -/
theorem g_iret (F : gF p m c cc nL s args own G) (M : gM G s N w H locs) {rv v : Int32} {mc ms : Nat} (hr : meth.sig.returnType = some .int) (hlocks : meth.locks = false) (hdg : decode cc pc = .ok (.ireturn, 1)) (hc : cells ≤ mc) (hs : slots ≤ ms) (hv : v = rv) (hN : N = N') (hw : w = w') : W p l e R s m args below meth c H locs cells slots (MQ below (gQ1 G rv N' w') args s mc ms (gA (gB G))) (F0 m pc ls [.int v]) := by
  subst hv; subst hN; subst hw
  exact W.widen hc hs (W.iret F.1.1 F.1.2.1 hr (fun t ht hW => ⟨rfl, by rw [ht]; exact M.1, M.2.F ht⟩) M.2.2.2 hdg hlocks)
theorem g_zret (F : gF p m c cc nL s args own G) (M : gM G s N w H locs) {rv v : Int32} {mc ms : Nat} (hr : meth.sig.returnType = some .boolean) (hlocks : meth.locks = false) (hdg : decode cc pc = .ok (.ireturn, 1)) (hc : cells ≤ mc) (hs : slots ≤ ms) (hb : narrow .boolean (.int v) = .int v) (hv : v = rv) (hN : N = N') (hw : w = w') : W p l e R s m args below meth c H locs cells slots (MQ below (gQ1 G rv N' w') args s mc ms (gA (gB G))) (F0 m pc ls [.int v]) := by
  subst hv; subst hN; subst hw
  exact W.widen hc hs (W.zret F.1.1 F.1.2.1 hr hb (fun t ht hW => ⟨rfl, by rw [ht]; exact M.1, M.2.F ht⟩) M.2.2.2 hdg hlocks)
theorem g_lret (F : gF p m c cc nL s args own G) (M : gM G s N w H locs) {rv v : Int64} {mc ms : Nat} (hr : meth.sig.returnType = some .long) (hlocks : meth.locks = false) (hdg : decode cc pc = .ok (.lreturn, 1)) (hc : cells ≤ mc) (hs : slots ≤ ms) (hv : v = rv) (hN : N = N') (hw : w = w') : W p l e R s m args below meth c H locs cells slots (MQ below (gQ2 G rv N' w') args s mc ms (gA (gB G))) (F0 m pc ls [.long v]) := by
  subst hv; subst hN; subst hw
  exact W.widen hc hs (W.lret F.1.1 F.1.2.1 hr (fun t ht hW => ⟨rfl, by rw [ht]; exact M.1, M.2.F ht⟩) M.2.2.2 hdg hlocks)
theorem g_vret (F : gF p m c cc nL s args own G) (M : gM G s N w H locs) {mc ms : Nat} (hr : meth.sig.returnType = none) (hlocks : meth.locks = false) (hdg : decode cc pc = .ok (.return_, 1)) (hc : cells ≤ mc) (hs : slots ≤ ms) (hN : N = N') (hw : w = w') : W p l e R s m args below meth c H locs cells slots (MQ below (gQ0 G N' w') args s mc ms (gA (gB G))) (F0 m pc ls []) := by
  subst hN; subst hw
  exact W.widen hc hs (W.vret F.1.1 F.1.2.1 hr (fun t ht hW => ⟨rfl, by rw [ht]; exact M.1, M.2.F ht⟩) M.2.2.2 hdg hlocks)
/-! values by another name -/
theorem g_top {v v' : Value} (h : v = v') (k : W p l e R s m args below meth c H locs cells slots Q (F0 m pc ls (v' :: rest))) : W p l e R s m args below meth c H locs cells slots Q (F0 m pc ls (v :: rest)) := by
  subst h; exact k
theorem g_topi {x x' : Int32} (h : x = x') (k : W p l e R s m args below meth c H locs cells slots Q (F0 m pc ls (.int x' :: rest))) : W p l e R s m args below meth c H locs cells slots Q (F0 m pc ls (.int x :: rest)) := by
  subst h; exact k
theorem g_sec {v v' u : Value} (h : v = v') (k : W p l e R s m args below meth c H locs cells slots Q (F0 m pc ls (u :: v' :: rest))) : W p l e R s m args below meth c H locs cells slots Q (F0 m pc ls (u :: v :: rest)) := by
  subst h; exact k
/-! branches over a truth value, and over a compare of longs -/
theorem g_ifeqB (hx : p.tables.exec = Jvm.exec) (hb : c.code = cc) {P : Prop} [Decidable P] {off : Int} {tgt : Nat} (hdg : decode cc pc = .ok (.ifCond .eq off, 3)) (ht : (pc : Int) + off = (tgt : Int)) (kt : ¬ P → W p l e R s m args below meth c H locs cells slots Q (F0 m tgt ls rest)) (kf : P → W p l e R s m args below meth c H locs cells slots Q (F0 m (pc + 3) ls rest)) : W p l e R s m args below meth c H locs cells slots Q (F0 m pc ls (.int (bI P) :: rest)) :=
  lv_if_eq hx hb hdg ht (fun h => kt (bI_0.mp h)) (fun h => kf (Decidable.byContradiction fun q => h (bI_0.mpr q)))
theorem g_ifneB (hx : p.tables.exec = Jvm.exec) (hb : c.code = cc) {P : Prop} [Decidable P] {off : Int} {tgt : Nat} (hdg : decode cc pc = .ok (.ifCond .ne off, 3)) (ht : (pc : Int) + off = (tgt : Int)) (kt : P → W p l e R s m args below meth c H locs cells slots Q (F0 m tgt ls rest)) (kf : ¬ P → W p l e R s m args below meth c H locs cells slots Q (F0 m (pc + 3) ls rest)) : W p l e R s m args below meth c H locs cells slots Q (F0 m pc ls (.int (bI P) :: rest)) :=
  lv_if_ne hx hb hdg ht (fun h => kt (Decidable.byContradiction fun q => h (bI_0.mpr q))) (fun h => kf (bI_0.mp h))
theorem g_i64 {x y : Int64} : x < y ∨ x = y ∨ y < x := by
  rcases Int.lt_trichotomy x.toInt y.toInt with h | h | h
  · exact Or.inl (Int64.lt_iff_toInt_lt.mpr h)
  · exact Or.inr (Or.inl (Int64.toInt_inj.mp h))
  · exact Or.inr (Or.inr (Int64.lt_iff_toInt_lt.mpr h))
theorem g_i64a {x y : Int64} (h : x < y) : ¬ y < x := fun q => by
  have h1 := Int64.lt_iff_toInt_lt.mp h
  have h2 := Int64.lt_iff_toInt_lt.mp q
  omega
theorem g_i64r {x : Int64} : ¬ x < x := fun q => by
  have h2 := Int64.lt_iff_toInt_lt.mp q
  omega
theorem g_cl {x y : Int64} (h : x < y) : lg_cmp x y = -1 := by
  have h1 := g_i64a h
  have h2 : ¬ x = y := fun q => by rw [q] at h; exact g_i64r h
  simp [lg_cmp, h1, h2]
theorem g_ce {x : Int64} : lg_cmp x x = 0 := by
  have h1 : ¬ x < x := g_i64r
  simp [lg_cmp, h1]
theorem g_cg {x y : Int64} (h : y < x) : lg_cmp x y = 1 := by
  simp [lg_cmp, h]
theorem g_lcmp_lt (hx : p.tables.exec = Jvm.exec) (hb : c.code = cc) {x y : Int64} {off : Int} {tgt : Nat} (hd1 : decode cc pc = .ok (.lcmp, 1)) (hdg : decode cc (pc + 1) = .ok (.ifCond .lt off, 3)) (ht : ((pc + 1 : Nat) : Int) + off = (tgt : Int)) (kt : x < y → W p l e R s m args below meth c H locs cells slots Q (F0 m tgt ls rest)) (kf : ¬ x < y → W p l e R s m args below meth c H locs cells slots Q (F0 m (pc + 4) ls rest)) : W p l e R s m args below meth c H locs cells slots Q (F0 m pc ls (.long y :: .long x :: rest)) := by
  refine W.lcmp hx hb hd1 (lv_if_lt hx hb hdg ht (fun h => kt ?_) (fun h => kf ?_))
  · rcases g_i64 (x := x) (y := y) with q | q | q
    · exact q
    · rw [q, g_ce] at h; exact absurd h (by decide)
    · rw [g_cg q] at h; exact absurd h (by decide)
  · intro q; rw [g_cl q] at h; exact h (by decide)
theorem g_lcmp_ge (hx : p.tables.exec = Jvm.exec) (hb : c.code = cc) {x y : Int64} {off : Int} {tgt : Nat} (hd1 : decode cc pc = .ok (.lcmp, 1)) (hdg : decode cc (pc + 1) = .ok (.ifCond .ge off, 3)) (ht : ((pc + 1 : Nat) : Int) + off = (tgt : Int)) (kt : ¬ x < y → W p l e R s m args below meth c H locs cells slots Q (F0 m tgt ls rest)) (kf : x < y → W p l e R s m args below meth c H locs cells slots Q (F0 m (pc + 4) ls rest)) : W p l e R s m args below meth c H locs cells slots Q (F0 m pc ls (.long y :: .long x :: rest)) := by
  refine W.lcmp hx hb hd1 (lv_if_ge hx hb hdg ht (fun h => kt ?_) (fun h => kf ?_))
  · intro q; rw [g_cl q] at h; exact absurd h (by decide)
  · rcases g_i64 (x := x) (y := y) with q | q | q
    · exact q
    · rw [q, g_ce] at h; exact absurd (by decide) h
    · rw [g_cg q] at h; exact absurd (by decide) h
theorem g_lcmp_gt (hx : p.tables.exec = Jvm.exec) (hb : c.code = cc) {x y : Int64} {off : Int} {tgt : Nat} (hd1 : decode cc pc = .ok (.lcmp, 1)) (hdg : decode cc (pc + 1) = .ok (.ifCond .gt off, 3)) (ht : ((pc + 1 : Nat) : Int) + off = (tgt : Int)) (kt : y < x → W p l e R s m args below meth c H locs cells slots Q (F0 m tgt ls rest)) (kf : ¬ y < x → W p l e R s m args below meth c H locs cells slots Q (F0 m (pc + 4) ls rest)) : W p l e R s m args below meth c H locs cells slots Q (F0 m pc ls (.long y :: .long x :: rest)) := by
  refine W.lcmp hx hb hd1 (lv_if_gt hx hb hdg ht (fun h => kt ?_) (fun h => kf ?_))
  · rcases g_i64 (x := x) (y := y) with q | q | q
    · rw [g_cl q] at h; exact absurd h (by decide)
    · rw [q, g_ce] at h; exact absurd h (by decide)
    · exact q
  · intro q; rw [g_cg q] at h; exact h (by decide)
theorem g_lcmp_le (hx : p.tables.exec = Jvm.exec) (hb : c.code = cc) {x y : Int64} {off : Int} {tgt : Nat} (hd1 : decode cc pc = .ok (.lcmp, 1)) (hdg : decode cc (pc + 1) = .ok (.ifCond .le off, 3)) (ht : ((pc + 1 : Nat) : Int) + off = (tgt : Int)) (kt : ¬ y < x → W p l e R s m args below meth c H locs cells slots Q (F0 m tgt ls rest)) (kf : y < x → W p l e R s m args below meth c H locs cells slots Q (F0 m (pc + 4) ls rest)) : W p l e R s m args below meth c H locs cells slots Q (F0 m pc ls (.long y :: .long x :: rest)) := by
  refine W.lcmp hx hb hd1 (lv_if_le hx hb hdg ht (fun h => kt ?_) (fun h => kf ?_))
  · intro q; rw [g_cg q] at h; exact absurd h (by decide)
  · rcases g_i64 (x := x) (y := y) with q | q | q
    · rw [g_cl q] at h; exact absurd (by decide) h
    · rw [q, g_ce] at h; exact absurd (by decide) h
    · exact q
theorem g_lcmp_eq (hx : p.tables.exec = Jvm.exec) (hb : c.code = cc) {x y : Int64} {off : Int} {tgt : Nat} (hd1 : decode cc pc = .ok (.lcmp, 1)) (hdg : decode cc (pc + 1) = .ok (.ifCond .eq off, 3)) (ht : ((pc + 1 : Nat) : Int) + off = (tgt : Int)) (kt : x = y → W p l e R s m args below meth c H locs cells slots Q (F0 m tgt ls rest)) (kf : ¬ x = y → W p l e R s m args below meth c H locs cells slots Q (F0 m (pc + 4) ls rest)) : W p l e R s m args below meth c H locs cells slots Q (F0 m pc ls (.long y :: .long x :: rest)) := by
  refine W.lcmp hx hb hd1 (lv_if_eq hx hb hdg ht (fun h => kt ?_) (fun h => kf ?_))
  · rcases g_i64 (x := x) (y := y) with q | q | q
    · rw [g_cl q] at h; exact absurd h (by decide)
    · exact q
    · rw [g_cg q] at h; exact absurd h (by decide)
  · intro q; rw [q, g_ce] at h; exact h rfl
end GC
end
section
/-! ===== the Model: cell 24, its arrays 25 .. 36 ===== -/
abbrev MSt : Type := (Nat → Int32) × Int64 × (Nat → Int64) × (Nat → Nat → Int32)
def mw (G : gG) (S : MSt) (w0 : Nat → va_E) : Nat → va_E := fun i => if i = 24 then .inr (3, [.int (S.1 0), .int (S.1 1), .int (S.1 2), .ref (gB G + 25), .ref (gB G + 26), .ref (gB G + 27), .ref (gB G + 28), .ref (gB G + 29), .ref (gB G + 30), .ref (gB G + 31), .ref (gB G + 32), .ref (gB G + 33), .ref (gB G + 34), .ref (gB G + 35), .ref (gB G + 36), .long S.2.1, .int (S.1 3)]) else if i = 25 then .inl (gCa G 1, 301, .inr (.inl S.2.2.1)) else if i = 26 then .inl (gCa G 0, 301, .inl (S.2.2.2 26)) else if i = 27 then .inl (gCa G 0, 301, .inl (S.2.2.2 27)) else if i = 28 then .inl (gCa G 0, 301, .inl (S.2.2.2 28)) else if i = 29 then .inl (gCa G 0, 301, .inl (S.2.2.2 29)) else if i = 30 then .inl (gCa G 0, 903, .inl (S.2.2.2 30)) else if i = 31 then .inl (gCa G 0, 6020, .inl (S.2.2.2 31)) else if i = 32 then .inl (gCa G 0, 6020, .inl (S.2.2.2 32)) else if i = 33 then .inl (gCa G 0, 6020, .inl (S.2.2.2 33)) else if i = 34 then .inl (gCa G 2, 20, .inl (S.2.2.2 34)) else if i = 35 then .inl (gCa G 0, 20, .inl (S.2.2.2 35)) else if i = 36 then .inl (gCa G 0, 20, .inl (S.2.2.2 36)) else w0 i
theorem mw_24 {G : gG} {sc : Nat → Int32} {now : Int64} {du : Nat → Int64} {a : Nat → Nat → Int32} {w0 : Nat → va_E} : mw G (sc, now, du, a) w0 24 = .inr (3, [.int (sc 0), .int (sc 1), .int (sc 2), .ref (gB G + 25), .ref (gB G + 26), .ref (gB G + 27), .ref (gB G + 28), .ref (gB G + 29), .ref (gB G + 30), .ref (gB G + 31), .ref (gB G + 32), .ref (gB G + 33), .ref (gB G + 34), .ref (gB G + 35), .ref (gB G + 36), .long now, .int (sc 3)]) := rfl
theorem mw_25 {G : gG} {sc : Nat → Int32} {now : Int64} {du : Nat → Int64} {a : Nat → Nat → Int32} {w0 : Nat → va_E} : mw G (sc, now, du, a) w0 25 = .inl (gCa G 1, 301, .inr (.inl du)) := rfl
theorem mw_26 {G : gG} {sc : Nat → Int32} {now : Int64} {du : Nat → Int64} {a : Nat → Nat → Int32} {w0 : Nat → va_E} : mw G (sc, now, du, a) w0 26 = .inl (gCa G 0, 301, .inl (a 26)) := rfl
theorem mw_27 {G : gG} {sc : Nat → Int32} {now : Int64} {du : Nat → Int64} {a : Nat → Nat → Int32} {w0 : Nat → va_E} : mw G (sc, now, du, a) w0 27 = .inl (gCa G 0, 301, .inl (a 27)) := rfl
theorem mw_28 {G : gG} {sc : Nat → Int32} {now : Int64} {du : Nat → Int64} {a : Nat → Nat → Int32} {w0 : Nat → va_E} : mw G (sc, now, du, a) w0 28 = .inl (gCa G 0, 301, .inl (a 28)) := rfl
theorem mw_29 {G : gG} {sc : Nat → Int32} {now : Int64} {du : Nat → Int64} {a : Nat → Nat → Int32} {w0 : Nat → va_E} : mw G (sc, now, du, a) w0 29 = .inl (gCa G 0, 301, .inl (a 29)) := rfl
theorem mw_30 {G : gG} {sc : Nat → Int32} {now : Int64} {du : Nat → Int64} {a : Nat → Nat → Int32} {w0 : Nat → va_E} : mw G (sc, now, du, a) w0 30 = .inl (gCa G 0, 903, .inl (a 30)) := rfl
theorem mw_31 {G : gG} {sc : Nat → Int32} {now : Int64} {du : Nat → Int64} {a : Nat → Nat → Int32} {w0 : Nat → va_E} : mw G (sc, now, du, a) w0 31 = .inl (gCa G 0, 6020, .inl (a 31)) := rfl
theorem mw_32 {G : gG} {sc : Nat → Int32} {now : Int64} {du : Nat → Int64} {a : Nat → Nat → Int32} {w0 : Nat → va_E} : mw G (sc, now, du, a) w0 32 = .inl (gCa G 0, 6020, .inl (a 32)) := rfl
theorem mw_33 {G : gG} {sc : Nat → Int32} {now : Int64} {du : Nat → Int64} {a : Nat → Nat → Int32} {w0 : Nat → va_E} : mw G (sc, now, du, a) w0 33 = .inl (gCa G 0, 6020, .inl (a 33)) := rfl
theorem mw_34 {G : gG} {sc : Nat → Int32} {now : Int64} {du : Nat → Int64} {a : Nat → Nat → Int32} {w0 : Nat → va_E} : mw G (sc, now, du, a) w0 34 = .inl (gCa G 2, 20, .inl (a 34)) := rfl
theorem mw_35 {G : gG} {sc : Nat → Int32} {now : Int64} {du : Nat → Int64} {a : Nat → Nat → Int32} {w0 : Nat → va_E} : mw G (sc, now, du, a) w0 35 = .inl (gCa G 0, 20, .inl (a 35)) := rfl
theorem mw_36 {G : gG} {sc : Nat → Int32} {now : Int64} {du : Nat → Int64} {a : Nat → Nat → Int32} {w0 : Nat → va_E} : mw G (sc, now, du, a) w0 36 = .inl (gCa G 0, 20, .inl (a 36)) := rfl
theorem mw_o {G : gG} {S : MSt} {w0 : Nat → va_E} {i : Nat} (h : i < 24 ∨ 36 < i) : mw G S w0 i = w0 i := by
  unfold mw
  rw [if_neg (by omega)]
  rw [if_neg (by omega)]
  rw [if_neg (by omega)]
  rw [if_neg (by omega)]
  rw [if_neg (by omega)]
  rw [if_neg (by omega)]
  rw [if_neg (by omega)]
  rw [if_neg (by omega)]
  rw [if_neg (by omega)]
  rw [if_neg (by omega)]
  rw [if_neg (by omega)]
  rw [if_neg (by omega)]
  rw [if_neg (by omega)]
theorem mw_p_thrown {G : gG} {sc : Nat → Int32} {now : Int64} {du : Nat → Int64} {a : Nat → Nat → Int32} {w0 : Nat → va_E} {x : Int32} : va_up (mw G (sc, now, du, a) w0) 24 (.inr (3, [.int x, .int (sc 1), .int (sc 2), .ref (gB G + 25), .ref (gB G + 26), .ref (gB G + 27), .ref (gB G + 28), .ref (gB G + 29), .ref (gB G + 30), .ref (gB G + 31), .ref (gB G + 32), .ref (gB G + 33), .ref (gB G + 34), .ref (gB G + 35), .ref (gB G + 36), .long now, .int (sc 3)])) = mw G (va_up sc 0 x, now, du, a) w0 := by
  funext i
  by_cases h24 : i = 24
  · subst h24; rfl
  by_cases h25 : i = 25
  · subst h25; rfl
  by_cases h26 : i = 26
  · subst h26; rfl
  by_cases h27 : i = 27
  · subst h27; rfl
  by_cases h28 : i = 28
  · subst h28; rfl
  by_cases h29 : i = 29
  · subst h29; rfl
  by_cases h30 : i = 30
  · subst h30; rfl
  by_cases h31 : i = 31
  · subst h31; rfl
  by_cases h32 : i = 32
  · subst h32; rfl
  by_cases h33 : i = 33
  · subst h33; rfl
  by_cases h34 : i = 34
  · subst h34; rfl
  by_cases h35 : i = 35
  · subst h35; rfl
  by_cases h36 : i = 36
  · subst h36; rfl
  rw [va_up_ne _ _ h24, mw_o (by omega), mw_o (by omega)]
theorem mw_p_most {G : gG} {sc : Nat → Int32} {now : Int64} {du : Nat → Int64} {a : Nat → Nat → Int32} {w0 : Nat → va_E} {x : Int32} : va_up (mw G (sc, now, du, a) w0) 24 (.inr (3, [.int (sc 0), .int x, .int (sc 2), .ref (gB G + 25), .ref (gB G + 26), .ref (gB G + 27), .ref (gB G + 28), .ref (gB G + 29), .ref (gB G + 30), .ref (gB G + 31), .ref (gB G + 32), .ref (gB G + 33), .ref (gB G + 34), .ref (gB G + 35), .ref (gB G + 36), .long now, .int (sc 3)])) = mw G (va_up sc 1 x, now, du, a) w0 := by
  funext i
  by_cases h24 : i = 24
  · subst h24; rfl
  by_cases h25 : i = 25
  · subst h25; rfl
  by_cases h26 : i = 26
  · subst h26; rfl
  by_cases h27 : i = 27
  · subst h27; rfl
  by_cases h28 : i = 28
  · subst h28; rfl
  by_cases h29 : i = 29
  · subst h29; rfl
  by_cases h30 : i = 30
  · subst h30; rfl
  by_cases h31 : i = 31
  · subst h31; rfl
  by_cases h32 : i = 32
  · subst h32; rfl
  by_cases h33 : i = 33
  · subst h33; rfl
  by_cases h34 : i = 34
  · subst h34; rfl
  by_cases h35 : i = 35
  · subst h35; rfl
  by_cases h36 : i = 36
  · subst h36; rfl
  rw [va_up_ne _ _ h24, mw_o (by omega), mw_o (by omega)]
theorem mw_p_count {G : gG} {sc : Nat → Int32} {now : Int64} {du : Nat → Int64} {a : Nat → Nat → Int32} {w0 : Nat → va_E} {x : Int32} : va_up (mw G (sc, now, du, a) w0) 24 (.inr (3, [.int (sc 0), .int (sc 1), .int x, .ref (gB G + 25), .ref (gB G + 26), .ref (gB G + 27), .ref (gB G + 28), .ref (gB G + 29), .ref (gB G + 30), .ref (gB G + 31), .ref (gB G + 32), .ref (gB G + 33), .ref (gB G + 34), .ref (gB G + 35), .ref (gB G + 36), .long now, .int (sc 3)])) = mw G (va_up sc 2 x, now, du, a) w0 := by
  funext i
  by_cases h24 : i = 24
  · subst h24; rfl
  by_cases h25 : i = 25
  · subst h25; rfl
  by_cases h26 : i = 26
  · subst h26; rfl
  by_cases h27 : i = 27
  · subst h27; rfl
  by_cases h28 : i = 28
  · subst h28; rfl
  by_cases h29 : i = 29
  · subst h29; rfl
  by_cases h30 : i = 30
  · subst h30; rfl
  by_cases h31 : i = 31
  · subst h31; rfl
  by_cases h32 : i = 32
  · subst h32; rfl
  by_cases h33 : i = 33
  · subst h33; rfl
  by_cases h34 : i = 34
  · subst h34; rfl
  by_cases h35 : i = 35
  · subst h35; rfl
  by_cases h36 : i = 36
  · subst h36; rfl
  rw [va_up_ne _ _ h24, mw_o (by omega), mw_o (by omega)]
theorem mw_p_late {G : gG} {sc : Nat → Int32} {now : Int64} {du : Nat → Int64} {a : Nat → Nat → Int32} {w0 : Nat → va_E} {x : Int32} : va_up (mw G (sc, now, du, a) w0) 24 (.inr (3, [.int (sc 0), .int (sc 1), .int (sc 2), .ref (gB G + 25), .ref (gB G + 26), .ref (gB G + 27), .ref (gB G + 28), .ref (gB G + 29), .ref (gB G + 30), .ref (gB G + 31), .ref (gB G + 32), .ref (gB G + 33), .ref (gB G + 34), .ref (gB G + 35), .ref (gB G + 36), .long now, .int x])) = mw G (va_up sc 3 x, now, du, a) w0 := by
  funext i
  by_cases h24 : i = 24
  · subst h24; rfl
  by_cases h25 : i = 25
  · subst h25; rfl
  by_cases h26 : i = 26
  · subst h26; rfl
  by_cases h27 : i = 27
  · subst h27; rfl
  by_cases h28 : i = 28
  · subst h28; rfl
  by_cases h29 : i = 29
  · subst h29; rfl
  by_cases h30 : i = 30
  · subst h30; rfl
  by_cases h31 : i = 31
  · subst h31; rfl
  by_cases h32 : i = 32
  · subst h32; rfl
  by_cases h33 : i = 33
  · subst h33; rfl
  by_cases h34 : i = 34
  · subst h34; rfl
  by_cases h35 : i = 35
  · subst h35; rfl
  by_cases h36 : i = 36
  · subst h36; rfl
  rw [va_up_ne _ _ h24, mw_o (by omega), mw_o (by omega)]
theorem mw_p_now {G : gG} {sc : Nat → Int32} {now : Int64} {du : Nat → Int64} {a : Nat → Nat → Int32} {w0 : Nat → va_E} {x : Int64} : va_up (mw G (sc, now, du, a) w0) 24 (.inr (3, [.int (sc 0), .int (sc 1), .int (sc 2), .ref (gB G + 25), .ref (gB G + 26), .ref (gB G + 27), .ref (gB G + 28), .ref (gB G + 29), .ref (gB G + 30), .ref (gB G + 31), .ref (gB G + 32), .ref (gB G + 33), .ref (gB G + 34), .ref (gB G + 35), .ref (gB G + 36), .long x, .int (sc 3)])) = mw G (sc, x, du, a) w0 := by
  funext i
  by_cases h24 : i = 24
  · subst h24; rfl
  by_cases h25 : i = 25
  · subst h25; rfl
  by_cases h26 : i = 26
  · subst h26; rfl
  by_cases h27 : i = 27
  · subst h27; rfl
  by_cases h28 : i = 28
  · subst h28; rfl
  by_cases h29 : i = 29
  · subst h29; rfl
  by_cases h30 : i = 30
  · subst h30; rfl
  by_cases h31 : i = 31
  · subst h31; rfl
  by_cases h32 : i = 32
  · subst h32; rfl
  by_cases h33 : i = 33
  · subst h33; rfl
  by_cases h34 : i = 34
  · subst h34; rfl
  by_cases h35 : i = 35
  · subst h35; rfl
  by_cases h36 : i = 36
  · subst h36; rfl
  rw [va_up_ne _ _ h24, mw_o (by omega), mw_o (by omega)]
theorem mw_s_25 {G : gG} {sc : Nat → Int32} {now : Int64} {du : Nat → Int64} {a : Nat → Nat → Int32} {w0 : Nat → va_E} {f : Nat → Int64} : va_up (mw G (sc, now, du, a) w0) 25 (.inl (gCa G 1, 301, .inr (.inl f))) = mw G (sc, now, f, a) w0 := by
  funext i
  by_cases h24 : i = 24
  · subst h24; rfl
  by_cases h25 : i = 25
  · subst h25; rfl
  by_cases h26 : i = 26
  · subst h26; rfl
  by_cases h27 : i = 27
  · subst h27; rfl
  by_cases h28 : i = 28
  · subst h28; rfl
  by_cases h29 : i = 29
  · subst h29; rfl
  by_cases h30 : i = 30
  · subst h30; rfl
  by_cases h31 : i = 31
  · subst h31; rfl
  by_cases h32 : i = 32
  · subst h32; rfl
  by_cases h33 : i = 33
  · subst h33; rfl
  by_cases h34 : i = 34
  · subst h34; rfl
  by_cases h35 : i = 35
  · subst h35; rfl
  by_cases h36 : i = 36
  · subst h36; rfl
  rw [va_up_ne _ _ h25, mw_o (by omega), mw_o (by omega)]
theorem mw_s_26 {G : gG} {sc : Nat → Int32} {now : Int64} {du : Nat → Int64} {a : Nat → Nat → Int32} {w0 : Nat → va_E} {f : Nat → Int32} : va_up (mw G (sc, now, du, a) w0) 26 (.inl (gCa G 0, 301, .inl f)) = mw G (sc, now, du, va_up a 26 f) w0 := by
  funext i
  by_cases h24 : i = 24
  · subst h24; rfl
  by_cases h25 : i = 25
  · subst h25; rfl
  by_cases h26 : i = 26
  · subst h26; rfl
  by_cases h27 : i = 27
  · subst h27; rfl
  by_cases h28 : i = 28
  · subst h28; rfl
  by_cases h29 : i = 29
  · subst h29; rfl
  by_cases h30 : i = 30
  · subst h30; rfl
  by_cases h31 : i = 31
  · subst h31; rfl
  by_cases h32 : i = 32
  · subst h32; rfl
  by_cases h33 : i = 33
  · subst h33; rfl
  by_cases h34 : i = 34
  · subst h34; rfl
  by_cases h35 : i = 35
  · subst h35; rfl
  by_cases h36 : i = 36
  · subst h36; rfl
  rw [va_up_ne _ _ h26, mw_o (by omega), mw_o (by omega)]
theorem mw_s_27 {G : gG} {sc : Nat → Int32} {now : Int64} {du : Nat → Int64} {a : Nat → Nat → Int32} {w0 : Nat → va_E} {f : Nat → Int32} : va_up (mw G (sc, now, du, a) w0) 27 (.inl (gCa G 0, 301, .inl f)) = mw G (sc, now, du, va_up a 27 f) w0 := by
  funext i
  by_cases h24 : i = 24
  · subst h24; rfl
  by_cases h25 : i = 25
  · subst h25; rfl
  by_cases h26 : i = 26
  · subst h26; rfl
  by_cases h27 : i = 27
  · subst h27; rfl
  by_cases h28 : i = 28
  · subst h28; rfl
  by_cases h29 : i = 29
  · subst h29; rfl
  by_cases h30 : i = 30
  · subst h30; rfl
  by_cases h31 : i = 31
  · subst h31; rfl
  by_cases h32 : i = 32
  · subst h32; rfl
  by_cases h33 : i = 33
  · subst h33; rfl
  by_cases h34 : i = 34
  · subst h34; rfl
  by_cases h35 : i = 35
  · subst h35; rfl
  by_cases h36 : i = 36
  · subst h36; rfl
  rw [va_up_ne _ _ h27, mw_o (by omega), mw_o (by omega)]
theorem mw_s_28 {G : gG} {sc : Nat → Int32} {now : Int64} {du : Nat → Int64} {a : Nat → Nat → Int32} {w0 : Nat → va_E} {f : Nat → Int32} : va_up (mw G (sc, now, du, a) w0) 28 (.inl (gCa G 0, 301, .inl f)) = mw G (sc, now, du, va_up a 28 f) w0 := by
  funext i
  by_cases h24 : i = 24
  · subst h24; rfl
  by_cases h25 : i = 25
  · subst h25; rfl
  by_cases h26 : i = 26
  · subst h26; rfl
  by_cases h27 : i = 27
  · subst h27; rfl
  by_cases h28 : i = 28
  · subst h28; rfl
  by_cases h29 : i = 29
  · subst h29; rfl
  by_cases h30 : i = 30
  · subst h30; rfl
  by_cases h31 : i = 31
  · subst h31; rfl
  by_cases h32 : i = 32
  · subst h32; rfl
  by_cases h33 : i = 33
  · subst h33; rfl
  by_cases h34 : i = 34
  · subst h34; rfl
  by_cases h35 : i = 35
  · subst h35; rfl
  by_cases h36 : i = 36
  · subst h36; rfl
  rw [va_up_ne _ _ h28, mw_o (by omega), mw_o (by omega)]
theorem mw_s_29 {G : gG} {sc : Nat → Int32} {now : Int64} {du : Nat → Int64} {a : Nat → Nat → Int32} {w0 : Nat → va_E} {f : Nat → Int32} : va_up (mw G (sc, now, du, a) w0) 29 (.inl (gCa G 0, 301, .inl f)) = mw G (sc, now, du, va_up a 29 f) w0 := by
  funext i
  by_cases h24 : i = 24
  · subst h24; rfl
  by_cases h25 : i = 25
  · subst h25; rfl
  by_cases h26 : i = 26
  · subst h26; rfl
  by_cases h27 : i = 27
  · subst h27; rfl
  by_cases h28 : i = 28
  · subst h28; rfl
  by_cases h29 : i = 29
  · subst h29; rfl
  by_cases h30 : i = 30
  · subst h30; rfl
  by_cases h31 : i = 31
  · subst h31; rfl
  by_cases h32 : i = 32
  · subst h32; rfl
  by_cases h33 : i = 33
  · subst h33; rfl
  by_cases h34 : i = 34
  · subst h34; rfl
  by_cases h35 : i = 35
  · subst h35; rfl
  by_cases h36 : i = 36
  · subst h36; rfl
  rw [va_up_ne _ _ h29, mw_o (by omega), mw_o (by omega)]
theorem mw_s_30 {G : gG} {sc : Nat → Int32} {now : Int64} {du : Nat → Int64} {a : Nat → Nat → Int32} {w0 : Nat → va_E} {f : Nat → Int32} : va_up (mw G (sc, now, du, a) w0) 30 (.inl (gCa G 0, 903, .inl f)) = mw G (sc, now, du, va_up a 30 f) w0 := by
  funext i
  by_cases h24 : i = 24
  · subst h24; rfl
  by_cases h25 : i = 25
  · subst h25; rfl
  by_cases h26 : i = 26
  · subst h26; rfl
  by_cases h27 : i = 27
  · subst h27; rfl
  by_cases h28 : i = 28
  · subst h28; rfl
  by_cases h29 : i = 29
  · subst h29; rfl
  by_cases h30 : i = 30
  · subst h30; rfl
  by_cases h31 : i = 31
  · subst h31; rfl
  by_cases h32 : i = 32
  · subst h32; rfl
  by_cases h33 : i = 33
  · subst h33; rfl
  by_cases h34 : i = 34
  · subst h34; rfl
  by_cases h35 : i = 35
  · subst h35; rfl
  by_cases h36 : i = 36
  · subst h36; rfl
  rw [va_up_ne _ _ h30, mw_o (by omega), mw_o (by omega)]
theorem mw_s_31 {G : gG} {sc : Nat → Int32} {now : Int64} {du : Nat → Int64} {a : Nat → Nat → Int32} {w0 : Nat → va_E} {f : Nat → Int32} : va_up (mw G (sc, now, du, a) w0) 31 (.inl (gCa G 0, 6020, .inl f)) = mw G (sc, now, du, va_up a 31 f) w0 := by
  funext i
  by_cases h24 : i = 24
  · subst h24; rfl
  by_cases h25 : i = 25
  · subst h25; rfl
  by_cases h26 : i = 26
  · subst h26; rfl
  by_cases h27 : i = 27
  · subst h27; rfl
  by_cases h28 : i = 28
  · subst h28; rfl
  by_cases h29 : i = 29
  · subst h29; rfl
  by_cases h30 : i = 30
  · subst h30; rfl
  by_cases h31 : i = 31
  · subst h31; rfl
  by_cases h32 : i = 32
  · subst h32; rfl
  by_cases h33 : i = 33
  · subst h33; rfl
  by_cases h34 : i = 34
  · subst h34; rfl
  by_cases h35 : i = 35
  · subst h35; rfl
  by_cases h36 : i = 36
  · subst h36; rfl
  rw [va_up_ne _ _ h31, mw_o (by omega), mw_o (by omega)]
theorem mw_s_32 {G : gG} {sc : Nat → Int32} {now : Int64} {du : Nat → Int64} {a : Nat → Nat → Int32} {w0 : Nat → va_E} {f : Nat → Int32} : va_up (mw G (sc, now, du, a) w0) 32 (.inl (gCa G 0, 6020, .inl f)) = mw G (sc, now, du, va_up a 32 f) w0 := by
  funext i
  by_cases h24 : i = 24
  · subst h24; rfl
  by_cases h25 : i = 25
  · subst h25; rfl
  by_cases h26 : i = 26
  · subst h26; rfl
  by_cases h27 : i = 27
  · subst h27; rfl
  by_cases h28 : i = 28
  · subst h28; rfl
  by_cases h29 : i = 29
  · subst h29; rfl
  by_cases h30 : i = 30
  · subst h30; rfl
  by_cases h31 : i = 31
  · subst h31; rfl
  by_cases h32 : i = 32
  · subst h32; rfl
  by_cases h33 : i = 33
  · subst h33; rfl
  by_cases h34 : i = 34
  · subst h34; rfl
  by_cases h35 : i = 35
  · subst h35; rfl
  by_cases h36 : i = 36
  · subst h36; rfl
  rw [va_up_ne _ _ h32, mw_o (by omega), mw_o (by omega)]
theorem mw_s_33 {G : gG} {sc : Nat → Int32} {now : Int64} {du : Nat → Int64} {a : Nat → Nat → Int32} {w0 : Nat → va_E} {f : Nat → Int32} : va_up (mw G (sc, now, du, a) w0) 33 (.inl (gCa G 0, 6020, .inl f)) = mw G (sc, now, du, va_up a 33 f) w0 := by
  funext i
  by_cases h24 : i = 24
  · subst h24; rfl
  by_cases h25 : i = 25
  · subst h25; rfl
  by_cases h26 : i = 26
  · subst h26; rfl
  by_cases h27 : i = 27
  · subst h27; rfl
  by_cases h28 : i = 28
  · subst h28; rfl
  by_cases h29 : i = 29
  · subst h29; rfl
  by_cases h30 : i = 30
  · subst h30; rfl
  by_cases h31 : i = 31
  · subst h31; rfl
  by_cases h32 : i = 32
  · subst h32; rfl
  by_cases h33 : i = 33
  · subst h33; rfl
  by_cases h34 : i = 34
  · subst h34; rfl
  by_cases h35 : i = 35
  · subst h35; rfl
  by_cases h36 : i = 36
  · subst h36; rfl
  rw [va_up_ne _ _ h33, mw_o (by omega), mw_o (by omega)]
theorem mw_s_34 {G : gG} {sc : Nat → Int32} {now : Int64} {du : Nat → Int64} {a : Nat → Nat → Int32} {w0 : Nat → va_E} {f : Nat → Int32} : va_up (mw G (sc, now, du, a) w0) 34 (.inl (gCa G 2, 20, .inl f)) = mw G (sc, now, du, va_up a 34 f) w0 := by
  funext i
  by_cases h24 : i = 24
  · subst h24; rfl
  by_cases h25 : i = 25
  · subst h25; rfl
  by_cases h26 : i = 26
  · subst h26; rfl
  by_cases h27 : i = 27
  · subst h27; rfl
  by_cases h28 : i = 28
  · subst h28; rfl
  by_cases h29 : i = 29
  · subst h29; rfl
  by_cases h30 : i = 30
  · subst h30; rfl
  by_cases h31 : i = 31
  · subst h31; rfl
  by_cases h32 : i = 32
  · subst h32; rfl
  by_cases h33 : i = 33
  · subst h33; rfl
  by_cases h34 : i = 34
  · subst h34; rfl
  by_cases h35 : i = 35
  · subst h35; rfl
  by_cases h36 : i = 36
  · subst h36; rfl
  rw [va_up_ne _ _ h34, mw_o (by omega), mw_o (by omega)]
theorem mw_s_35 {G : gG} {sc : Nat → Int32} {now : Int64} {du : Nat → Int64} {a : Nat → Nat → Int32} {w0 : Nat → va_E} {f : Nat → Int32} : va_up (mw G (sc, now, du, a) w0) 35 (.inl (gCa G 0, 20, .inl f)) = mw G (sc, now, du, va_up a 35 f) w0 := by
  funext i
  by_cases h24 : i = 24
  · subst h24; rfl
  by_cases h25 : i = 25
  · subst h25; rfl
  by_cases h26 : i = 26
  · subst h26; rfl
  by_cases h27 : i = 27
  · subst h27; rfl
  by_cases h28 : i = 28
  · subst h28; rfl
  by_cases h29 : i = 29
  · subst h29; rfl
  by_cases h30 : i = 30
  · subst h30; rfl
  by_cases h31 : i = 31
  · subst h31; rfl
  by_cases h32 : i = 32
  · subst h32; rfl
  by_cases h33 : i = 33
  · subst h33; rfl
  by_cases h34 : i = 34
  · subst h34; rfl
  by_cases h35 : i = 35
  · subst h35; rfl
  by_cases h36 : i = 36
  · subst h36; rfl
  rw [va_up_ne _ _ h35, mw_o (by omega), mw_o (by omega)]
theorem mw_s_36 {G : gG} {sc : Nat → Int32} {now : Int64} {du : Nat → Int64} {a : Nat → Nat → Int32} {w0 : Nat → va_E} {f : Nat → Int32} : va_up (mw G (sc, now, du, a) w0) 36 (.inl (gCa G 0, 20, .inl f)) = mw G (sc, now, du, va_up a 36 f) w0 := by
  funext i
  by_cases h24 : i = 24
  · subst h24; rfl
  by_cases h25 : i = 25
  · subst h25; rfl
  by_cases h26 : i = 26
  · subst h26; rfl
  by_cases h27 : i = 27
  · subst h27; rfl
  by_cases h28 : i = 28
  · subst h28; rfl
  by_cases h29 : i = 29
  · subst h29; rfl
  by_cases h30 : i = 30
  · subst h30; rfl
  by_cases h31 : i = 31
  · subst h31; rfl
  by_cases h32 : i = 32
  · subst h32; rfl
  by_cases h33 : i = 33
  · subst h33; rfl
  by_cases h34 : i = 34
  · subst h34; rfl
  by_cases h35 : i = 35
  · subst h35; rfl
  by_cases h36 : i = 36
  · subst h36; rfl
  rw [va_up_ne _ _ h36, mw_o (by omega), mw_o (by omega)]
end
section
/-! ===== what the Model's methods compute ===== -/
theorem va_up_id {α : Type} (f : Nat → α) (k : Nat) : va_up f k (f k) = f := by
  funext j; by_cases h : j = k
  · subst h; exact va_up_self _ _ _
  · exact va_up_ne _ _ h
theorem upd_s (f : Nat → Int32) (k : Nat) (x : Int32) : upd f k x k = x := by simp [upd]
theorem upd_n (f : Nat → Int32) {k j : Nat} (x : Int32) (h : j ≠ k) : upd f k x j = f j := by simp [upd, h]
/-- how many of the pictures 1 .. k have not ended -/
def mOpen (e : Nat → Int32) : Nat → Nat
  | 0 => 0
  | k + 1 => if e (k + 1) = 0 then mOpen e k + 1 else mOpen e k
theorem mOpen_le (e : Nat → Int32) (k : Nat) : mOpen e k ≤ k := by
  induction k with
  | zero => exact Nat.le_refl _
  | succ k ih => unfold mOpen; split <;> omega
/-- the last of the pictures 1 .. k that clerk c holds -/
def mHeld (f : Nat → Int32) (c : Nat) : Nat → Nat
  | 0 => 0
  | k + 1 => if f (20 * (k + 1) + c - 20) = 2 then k + 1 else mHeld f c k
theorem mHeld_le (f : Nat → Int32) (c k : Nat) : mHeld f c k ≤ k := by
  induction k with
  | zero => exact Nat.le_refl _
  | succ k ih => unfold mHeld; split <;> omega
/-- how many of the pictures 1 .. k come to be late at t -/
def mLate (e : Nat → Int32) (du : Nat → Int64) (t : Int64) : Nat → Nat
  | 0 => 0
  | k + 1 => if e (k + 1) = 0 ∧ du (k + 1) < t then mLate e du t k + 1 else mLate e du t k
theorem mLate_le (e : Nat → Int32) (du : Nat → Int64) (t : Int64) (k : Nat) : mLate e du t k ≤ k := by
  induction k with
  | zero => exact Nat.le_refl _
  | succ k ih => unfold mLate; split <;> omega
def mPassE (e : Nat → Int32) (du : Nat → Int64) (t : Int64) (k : Nat) : Nat → Int32 := fun p => if (1 ≤ p ∧ p ≤ k) ∧ e p = 0 ∧ du p < t then 4 else e p
theorem mPassE_0 (e : Nat → Int32) (du : Nat → Int64) (t : Int64) : mPassE e du t 0 = e := by
  funext p; unfold mPassE; rw [if_neg (by omega)]
theorem mPassE_at (e : Nat → Int32) (du : Nat → Int64) (t : Int64) (k : Nat) : mPassE e du t k (k + 1) = e (k + 1) := by
  unfold mPassE; rw [if_neg (by omega)]
theorem mPassE_t {e : Nat → Int32} {du : Nat → Int64} {t : Int64} {k : Nat} (h : e (k + 1) = 0 ∧ du (k + 1) < t) : upd (mPassE e du t k) (k + 1) 4 = mPassE e du t (k + 1) := by
  funext p; unfold mPassE
  by_cases hp : p = k + 1
  · subst hp; rw [upd_s, if_pos ⟨by omega, h⟩]
  · rw [upd_n _ _ hp]
    by_cases hq : (1 ≤ p ∧ p ≤ k) ∧ e p = 0 ∧ du p < t
    · rw [if_pos hq, if_pos ⟨by omega, hq.2⟩]
    · rw [if_neg hq, if_neg (fun z => hq ⟨by omega, z.2⟩)]
theorem mPassE_f {e : Nat → Int32} {du : Nat → Int64} {t : Int64} {k : Nat} (h : ¬ (e (k + 1) = 0 ∧ du (k + 1) < t)) : mPassE e du t k = mPassE e du t (k + 1) := by
  funext p; unfold mPassE
  by_cases hq : (1 ≤ p ∧ p ≤ k) ∧ e p = 0 ∧ du p < t
  · rw [if_pos hq, if_pos ⟨by omega, hq.2⟩]
  · rw [if_neg hq, if_neg (fun z => ?_)]
    by_cases hp : p = k + 1
    · subst hp; exact h z.2
    · exact hq ⟨by omega, z.2⟩
abbrev mDif (a : Nat → Nat → Int32) (p : Nat) : Prop := 1 < a 29 p ∧ ¬ a 30 (3 * p) = a 30 (3 * p + 1)
/-- how many of the clerks 0 .. k - 1 hold picture p -/
def mCnt (f : Nat → Int32) (p : Nat) : Nat → Nat
  | 0 => 0
  | k + 1 => if f (20 * p + k - 20) = 2 then mCnt f p k + 1 else mCnt f p k
abbrev mTak (a : Nat → Nat → Int32) (p : Nat) : Prop := ¬ a 29 p + nI (mCnt (a 31) p 20) < (if mDif a p then 3 else 2)
/-- none of the clerks 0 .. k - 1 holds or answered p from the office x -/
def mAl (f g : Nat → Int32) (p : Nat) (x : Int32) : Nat → Bool
  | 0 => true
  | k + 1 => mAl f g p x k && !(decide (1 < f (20 * p + k - 20)) && decide (g (20 * p + k - 20) = x))
abbrev mFre (a : Nat → Nat → Int32) (p c : Nat) : Prop := a 27 p = 0 ∧ ¬ mTak a p ∧ ¬ a 36 c < a 26 p ∧ a 31 (20 * p + c - 20) = 0 ∧ (mAl (a 31) (a 32) p (a 35 c) 20 = true ∨ mDif a p)
def mSta (a : Nat → Nat → Int32) (p : Nat) : Int32 := if a 27 p = 0 then bI (mTak a p) else a 27 p
set_option maxRecDepth 4000 in
theorem c_Mo_isIn (l : Launch) (G : gG) (N : Nat) (w : Nat → va_E) (v lo hi : Int64) : Met l y_Mo_isIn (Cond.code y_Mo_isIn b_Mo_isIn 6 (some .boolean) :: gtb) (gR 0 0 0) (gPc G [.long v, .long lo, .long hi] (N) (w)) (gQ1 G (bI (¬ v < lo ∧ ¬ hi < v)) (N) (w)) 0 0 (gA (gB G)) := by
  refine g_met (own := "ClerkRowsModel") (by decide) rfl (Nat.le_of_ble_eq_true rfl) ?_
  intro pg ev s0 mi below meth cd F M hr hlocks hnm ls hl
  have hx := F.1.1
  have hb := F.1.2.1
  have hl : lv_has ls 6 [(0, .long v), (2, .long lo), (4, .long hi)] := hl
  refine lv_lload_n hx hb d_Mo_isIn_0 rfl (lv_at hl 0 rfl) ?_
  refine lv_lload_n hx hb d_Mo_isIn_1 rfl (lv_at hl 1 rfl) ?_
  refine g_lcmp_lt (tgt := 17) hx hb d_Mo_isIn_2 d_Mo_isIn_3 (by decide) (fun c_3 => ?_) (fun c_3 => ?_)
  · refine lv_iconst (v := 0) hx hb d_Mo_isIn_17 (by decide) ?_
    exact g_zret F M hr hlocks d_Mo_isIn_18 (by decide) (by decide) (by decide +kernel) (by simp [bI, c_3]) rfl (rfl)
  · refine lv_lload_n hx hb d_Mo_isIn_6 rfl (lv_at hl 0 rfl) ?_
    refine lv_lload hx hb d_Mo_isIn_7 (lv_at hl 2 rfl) ?_
    refine g_lcmp_gt (tgt := 17) hx hb d_Mo_isIn_9 d_Mo_isIn_10 (by decide) (fun c_10 => ?_) (fun c_10 => ?_)
    · refine lv_iconst (v := 0) hx hb d_Mo_isIn_17 (by decide) ?_
      exact g_zret F M hr hlocks d_Mo_isIn_18 (by decide) (by decide) (by decide +kernel) (by simp [bI, c_3, c_10]) rfl (rfl)
    · refine lv_iconst (v := 1) hx hb d_Mo_isIn_13 (by decide) ?_
      refine lv_goto (tgt := 18) hx hb d_Mo_isIn_14 (by decide) ?_
      exact g_zret F M hr hlocks d_Mo_isIn_18 (by decide) (by decide) (by decide +kernel) (by simp [bI, c_3, c_10]) rfl (rfl)
set_option maxRecDepth 4000 in
theorem c_Mo_isClerk (l : Launch) (G : gG) (N : Nat) (w : Nat → va_E) (x : Int32) : Met l y_Mo_isClerk (Cond.code y_Mo_isClerk b_Mo_isClerk 1 (some .boolean) :: gtb) (gR 1 0 0) (gPc G [.int x] (N) (w)) (gQ1 G (bI (¬ x.toInt64 < 0 ∧ ¬ 19 < x.toInt64)) (N) (w)) 0 0 (gA (gB G)) := by
  refine g_met (own := "ClerkRowsModel") (by decide) rfl (Nat.le_of_ble_eq_true rfl) ?_
  intro pg ev s0 mi below meth cd F M hr hlocks hnm ls hl
  have hx := F.1.1
  have hb := F.1.2.1
  have hl : lv_has ls 1 [(0, .int x)] := hl
  refine lv_iload_n hx hb d_Mo_isClerk_0 rfl (lv_at hl 0 rfl) ?_
  refine lv_i2l hx hb d_Mo_isClerk_1 rfl ?_
  refine lv_lconst (v := 0) hx hb d_Mo_isClerk_2 (by decide) ?_
  refine lv_ldc2 (v := 19) hx hb F.1.2.2.2.1 (F.1.2.2.2.2 _ wd_346) d_Mo_isClerk_3 ?_
  refine g_call1 (g_rs (rest := []) F M (c_Mo_isIn l G (N) (w) x.toInt64 0 19) k_Mo_58 d_Mo_isClerk_6 ⟨rfl, rfl, by decide, by decide, by decide, by decide⟩ rfl hl.1 (Nat.le_of_ble_eq_true rfl) rfl) M (fun H locs M => ?_)
  exact g_zret F M hr hlocks d_Mo_isClerk_9 (by decide) (by decide) (bI_nar _) rfl rfl (rfl)
set_option maxRecDepth 4000 in
theorem c_Mo_isTime (l : Launch) (G : gG) (N n : Nat) (sc : Nat → Int32) (now : Int64) (du : Nat → Int64) (a : Nat → Nat → Int32) (w0 : Nat → va_E) (hN : 37 ≤ N) (hcn : sc 2 = nI n) (hn : n ≤ 300) (t : Int64) : Met l y_Mo_isTime (Cond.code y_Mo_isTime b_Mo_isTime 3 (some .boolean) :: gtb) (gR 1 0 0) (gPc G [.ref (gB G + 24), .long t] (N) (mw G (sc, now, du, a) w0)) (gQ1 G (bI (¬ t < now ∧ ¬ 1000000000 < t)) (N) (mw G (sc, now, du, a) w0)) 0 0 (gA (gB G)) := by
  refine g_met (own := "ClerkRowsModel") (by decide) rfl (Nat.le_of_ble_eq_true rfl) ?_
  intro pg ev s0 mi below meth cd F M hr hlocks hnm ls hl
  have hx := F.1.1
  have hb := F.1.2.1
  have hl : lv_has ls 3 [(0, .ref (gB G + 24)), (1, .long t)] := hl
  refine lv_lload_n hx hb d_Mo_isTime_0 rfl (lv_at hl 1 rfl) ?_
  refine lv_aload_n hx hb d_Mo_isTime_1 rfl (lv_at hl 0 rfl) ?_
  refine g_get (v := .long now) F M f_Mo_64 d_Mo_isTime_2 (by omega) mw_24 rfl ?_
  refine lv_ldc2 (v := 1000000000) hx hb F.1.2.2.2.1 (F.1.2.2.2.2 _ wd_330) d_Mo_isTime_5 ?_
  refine g_call1 (g_rs (rest := []) F M (c_Mo_isIn l G (N) (mw G (sc, now, du, a) w0) t now 1000000000) k_Mo_58 d_Mo_isTime_8 ⟨rfl, rfl, by decide, by decide, by decide, by decide⟩ rfl hl.1 (Nat.le_of_ble_eq_true rfl) rfl) M (fun H locs M => ?_)
  exact g_zret F M hr hlocks d_Mo_isTime_11 (by decide) (by decide) (bI_nar _) rfl rfl (rfl)
set_option maxRecDepth 4000 in
theorem c_Mo_isPicture (l : Launch) (G : gG) (N n : Nat) (sc : Nat → Int32) (now : Int64) (du : Nat → Int64) (a : Nat → Nat → Int32) (w0 : Nat → va_E) (hN : 37 ≤ N) (hcn : sc 2 = nI n) (hn : n ≤ 300) (x : Int32) : Met l y_Mo_isPicture (Cond.code y_Mo_isPicture b_Mo_isPicture 2 (some .boolean) :: gtb) (gR 1 0 0) (gPc G [.ref (gB G + 24), .int x] (N) (mw G (sc, now, du, a) w0)) (gQ1 G (bI (¬ x.toInt64 < 1 ∧ ¬ (nI n).toInt64 < x.toInt64)) (N) (mw G (sc, now, du, a) w0)) 0 0 (gA (gB G)) := by
  refine g_met (own := "ClerkRowsModel") (by decide) rfl (Nat.le_of_ble_eq_true rfl) ?_
  intro pg ev s0 mi below meth cd F M hr hlocks hnm ls hl
  have hx := F.1.1
  have hb := F.1.2.1
  have hl : lv_has ls 2 [(0, .ref (gB G + 24)), (1, .int x)] := hl
  refine lv_iload_n hx hb d_Mo_isPicture_0 rfl (lv_at hl 1 rfl) ?_
  refine lv_i2l hx hb d_Mo_isPicture_1 rfl ?_
  refine lv_lconst (v := 1) hx hb d_Mo_isPicture_2 (by decide) ?_
  refine lv_aload_n hx hb d_Mo_isPicture_3 rfl (lv_at hl 0 rfl) ?_
  refine g_get (v := .int (nI n)) F M f_Mo_55 d_Mo_isPicture_4 (by omega) mw_24 (congrArg (fun z => some (Value.int z)) hcn) ?_
  refine lv_i2l hx hb d_Mo_isPicture_7 rfl ?_
  refine g_call1 (g_rs (rest := []) F M (c_Mo_isIn l G (N) (mw G (sc, now, du, a) w0) x.toInt64 1 ((nI n).toInt64)) k_Mo_58 d_Mo_isPicture_8 ⟨rfl, rfl, by decide, by decide, by decide, by decide⟩ rfl hl.1 (Nat.le_of_ble_eq_true rfl) rfl) M (fun H locs M => ?_)
  exact g_zret F M hr hlocks d_Mo_isPicture_11 (by decide) (by decide) (bI_nar _) rfl rfl (rfl)
set_option maxRecDepth 4000 in
theorem c_Mo_opn (l : Launch) (G : gG) (N n : Nat) (sc : Nat → Int32) (now : Int64) (du : Nat → Int64) (a : Nat → Nat → Int32) (w0 : Nat → va_E) (hN : 37 ≤ N) (hcn : sc 2 = nI n) (hn : n ≤ 300) : Met l y_Mo_opn (Cond.code y_Mo_opn b_Mo_opn 3 (some .int) :: gtb) (gR 0 0 0) (gPc G [.ref (gB G + 24)] (N) (mw G (sc, now, du, a) w0)) (gQ1 G (nI (mOpen (a 27) n)) (N) (mw G (sc, now, du, a) w0)) 0 0 (gA (gB G)) := by
  refine g_met (own := "ClerkRowsModel") (by decide) rfl (Nat.le_of_ble_eq_true rfl) ?_
  intro pg ev s0 mi below meth cd F M hr hlocks hnm ls hl
  have hx := F.1.1
  have hb := F.1.2.1
  have hl : lv_has ls 3 [(0, .ref (gB G + 24))] := hl
  refine lv_iconst (v := 0) hx hb d_Mo_opn_0 (by decide) ?_
  refine lv_istore_n (lv' := [(1, .int 0), (0, .ref (gB G + 24))]) hx hb d_Mo_opn_1 rfl hl (by decide) rfl (fun ls hl => ?_)
  refine lv_iconst (v := 1) hx hb d_Mo_opn_2 (by decide) ?_
  refine lv_istore_n (lv' := [(2, .int 1), (1, .int 0), (0, .ref (gB G + 24))]) hx hb d_Mo_opn_3 rfl hl (by decide) rfl (fun ls hl => ?_)
  have loop_4 : ∀ (fuel k : Nat), n < k + fuel → k ≤ n → ∀ (z1 : Int32) (z2 : Int32), z1 = nI (mOpen (a 27) k) → z2 = nI (k + 1) → ∀ (wz : Nat → va_E), wz = mw G (sc, now, du, a) w0 → ∀ (H : Heap) (locs : List Loc) (ls : Array Slot), gM G s0 (N) wz H locs → lv_has ls 3 [(0, .ref (gB G + 24)), (1, .int z1), (2, .int z2)] → W pg l ev (gR 0 0 0) s0 mi ([.ref (gB G + 24)] : List Value).toArray below meth cd H locs 0 0 (MQ below (gQ1 G (nI (mOpen (a 27) n)) (N) (mw G (sc, now, du, a) w0)) ([.ref (gB G + 24)] : List Value).toArray s0 0 0 (gA (gB G))) (F0 mi 4 ls []) := by
    intro fuel
    induction fuel with
    | zero => intro k h1 h2; exact absurd h1 (by omega)
    | succ fuel ih =>
      intro k hk1 hk2 z1 z2 e1 e2 wz ew H locs ls M hl
      subst e1 e2 ew
      have hl : lv_has ls 3 [(0, .ref (gB G + 24)), (1, .int (nI (mOpen (a 27) k))), (2, .int (nI (k + 1)))] := hl
      refine lv_iload_n hx hb d_Mo_opn_4 rfl (lv_at hl 2 rfl) ?_
      refine lv_aload_n hx hb d_Mo_opn_5 rfl (lv_at hl 0 rfl) ?_
      refine g_get (v := .int (nI n)) F M f_Mo_55 d_Mo_opn_6 (by omega) mw_24 (congrArg (fun z => some (Value.int z)) hcn) ?_
      refine lv_icmp_gt (tgt := 35) hx hb d_Mo_opn_9 (by decide) (fun c_9 => ?_) (fun c_9 => ?_)
      · have c_9 : n < k + 1 := (nI_ltI (a := n) (b := k + 1) (by omega) (by omega)).mp c_9
        have hkn : n = k := by omega
        subst hkn
        refine lv_iload_n hx hb d_Mo_opn_35 rfl (lv_at hl 1 rfl) ?_
        exact g_iret F M hr hlocks d_Mo_opn_36 (by decide) (by decide) rfl rfl (rfl)
      · have c_9 : ¬ n < k + 1 := fun h => c_9 ((nI_ltI (a := n) (b := k + 1) (by omega) (by omega)).mpr h)
        refine lv_aload_n hx hb d_Mo_opn_12 rfl (lv_at hl 0 rfl) ?_
        refine g_get (v := .ref (gB G + 27)) F M f_Mo_17 d_Mo_opn_13 (by omega) mw_24 rfl ?_
        refine lv_iload_n hx hb d_Mo_opn_16 rfl (lv_at hl 2 rfl) ?_
        refine g_iald (f := (a 27)) F M d_Mo_opn_17 (by omega) mw_27 (by omega) (by decide) ?_
        refine lv_if_ne (tgt := 27) hx hb d_Mo_opn_18 (by decide) (fun c_18 => ?_) (fun c_18 => ?_)
        · refine lv_iload_n hx hb d_Mo_opn_27 rfl (lv_at hl 1 rfl) ?_
          refine lv_istore_n (lv' := [(1, .int (nI (mOpen (a 27) k))), (0, .ref (gB G + 24)), (2, .int (nI (k + 1)))]) hx hb d_Mo_opn_28 rfl hl (by decide) rfl (fun ls hl => ?_)
          refine lv_iinc (v := nI (k + 1 + 1)) (lv' := [(2, .int (nI (k + 1 + 1))), (1, .int (nI (mOpen (a 27) k))), (0, .ref (gB G + 24))]) hx hb d_Mo_opn_29 hl (k := 2) rfl (nI_1 _) (by decide) rfl (fun ls hl => ?_)
          refine lv_goto (tgt := 4) hx hb d_Mo_opn_32 (by decide) ?_
          exact ih (k + 1) (by omega) (by omega) _ _ (by simp [mOpen, c_18]) rfl _ rfl _ _ ls M (lv_sub hl [2, 1, 0] rfl)
        · refine lv_iload_n hx hb d_Mo_opn_21 rfl (lv_at hl 1 rfl) ?_
          refine lv_iconst (v := 1) hx hb d_Mo_opn_22 (by decide) ?_
          refine lv_iadd hx hb d_Mo_opn_23 ?_
          refine g_topi (x' := nI (mOpen (a 27) k + 1)) (nI_add (mOpen (a 27) k) (1)) ?_
          refine lv_goto (tgt := 28) hx hb d_Mo_opn_24 (by decide) ?_
          refine lv_istore_n (lv' := [(1, .int (nI (mOpen (a 27) k + 1))), (0, .ref (gB G + 24)), (2, .int (nI (k + 1)))]) hx hb d_Mo_opn_28 rfl hl (by decide) rfl (fun ls hl => ?_)
          refine lv_iinc (v := nI (k + 1 + 1)) (lv' := [(2, .int (nI (k + 1 + 1))), (1, .int (nI (mOpen (a 27) k + 1))), (0, .ref (gB G + 24))]) hx hb d_Mo_opn_29 hl (k := 2) rfl (nI_1 _) (by decide) rfl (fun ls hl => ?_)
          refine lv_goto (tgt := 4) hx hb d_Mo_opn_32 (by decide) ?_
          exact ih (k + 1) (by omega) (by omega) _ _ (by simp [mOpen, c_18]) rfl _ rfl _ _ ls M (lv_sub hl [2, 1, 0] rfl)
  exact loop_4 (n + 1) 0 (by omega) (by omega) _ _ rfl rfl _ rfl _ _ ls M (lv_sub hl [2, 1, 0] rfl)
set_option maxRecDepth 4000 in
theorem c_Mo_held (l : Launch) (G : gG) (N n : Nat) (sc : Nat → Int32) (now : Int64) (du : Nat → Int64) (a : Nat → Nat → Int32) (w0 : Nat → va_E) (hN : 37 ≤ N) (hcn : sc 2 = nI n) (hn : n ≤ 300) (c : Nat) (hc : c < 20) : Met l y_Mo_held (Cond.code y_Mo_held b_Mo_held 4 (some .int) :: gtb) (gR 0 0 0) (gPc G [.ref (gB G + 24), .int (nI c)] (N) (mw G (sc, now, du, a) w0)) (gQ1 G (nI (mHeld (a 31) c n)) (N) (mw G (sc, now, du, a) w0)) 0 0 (gA (gB G)) := by
  refine g_met (own := "ClerkRowsModel") (by decide) rfl (Nat.le_of_ble_eq_true rfl) ?_
  intro pg ev s0 mi below meth cd F M hr hlocks hnm ls hl
  have hx := F.1.1
  have hb := F.1.2.1
  have hl : lv_has ls 4 [(0, .ref (gB G + 24)), (1, .int (nI c))] := hl
  refine lv_iconst (v := 0) hx hb d_Mo_held_0 (by decide) ?_
  refine lv_istore_n (lv' := [(2, .int 0), (0, .ref (gB G + 24)), (1, .int (nI c))]) hx hb d_Mo_held_1 rfl hl (by decide) rfl (fun ls hl => ?_)
  refine lv_iconst (v := 1) hx hb d_Mo_held_2 (by decide) ?_
  refine lv_istore_n (lv' := [(3, .int 1), (2, .int 0), (0, .ref (gB G + 24)), (1, .int (nI c))]) hx hb d_Mo_held_3 rfl hl (by decide) rfl (fun ls hl => ?_)
  have loop_4 : ∀ (fuel k : Nat), n < k + fuel → k ≤ n → ∀ (z2 : Int32) (z3 : Int32), z2 = nI (mHeld (a 31) c k) → z3 = nI (k + 1) → ∀ (wz : Nat → va_E), wz = mw G (sc, now, du, a) w0 → ∀ (H : Heap) (locs : List Loc) (ls : Array Slot), gM G s0 (N) wz H locs → lv_has ls 4 [(0, .ref (gB G + 24)), (1, .int (nI c)), (2, .int z2), (3, .int z3)] → W pg l ev (gR 0 0 0) s0 mi ([.ref (gB G + 24), .int (nI c)] : List Value).toArray below meth cd H locs 0 0 (MQ below (gQ1 G (nI (mHeld (a 31) c n)) (N) (mw G (sc, now, du, a) w0)) ([.ref (gB G + 24), .int (nI c)] : List Value).toArray s0 0 0 (gA (gB G))) (F0 mi 4 ls []) := by
    intro fuel
    induction fuel with
    | zero => intro k h1 h2; exact absurd h1 (by omega)
    | succ fuel ih =>
      intro k hk1 hk2 z2 z3 e2 e3 wz ew H locs ls M hl
      subst e2 e3 ew
      have hl : lv_has ls 4 [(0, .ref (gB G + 24)), (1, .int (nI c)), (2, .int (nI (mHeld (a 31) c k))), (3, .int (nI (k + 1)))] := hl
      refine lv_iload_n hx hb d_Mo_held_4 rfl (lv_at hl 3 rfl) ?_
      refine lv_aload_n hx hb d_Mo_held_5 rfl (lv_at hl 0 rfl) ?_
      refine g_get (v := .int (nI n)) F M f_Mo_55 d_Mo_held_6 (by omega) mw_24 (congrArg (fun z => some (Value.int z)) hcn) ?_
      refine lv_icmp_gt (tgt := 42) hx hb d_Mo_held_9 (by decide) (fun c_9 => ?_) (fun c_9 => ?_)
      · have c_9 : n < k + 1 := (nI_ltI (a := n) (b := k + 1) (by omega) (by omega)).mp c_9
        have hkn : n = k := by omega
        subst hkn
        refine lv_iload_n hx hb d_Mo_held_42 rfl (lv_at hl 2 rfl) ?_
        exact g_iret F M hr hlocks d_Mo_held_43 (by decide) (by decide) rfl rfl (rfl)
      · have c_9 : ¬ n < k + 1 := fun h => c_9 ((nI_ltI (a := n) (b := k + 1) (by omega) (by omega)).mpr h)
        refine lv_aload_n hx hb d_Mo_held_12 rfl (lv_at hl 0 rfl) ?_
        refine g_get (v := .ref (gB G + 31)) F M f_Mo_29 d_Mo_held_13 (by omega) mw_24 rfl ?_
        refine lv_bipush (v := 20) hx hb d_Mo_held_16 (by decide) ?_
        refine lv_iload_n hx hb d_Mo_held_18 rfl (lv_at hl 3 rfl) ?_
        refine lv_imul hx hb d_Mo_held_19 ?_
        refine g_topi (x' := nI (20 * (k + 1))) (pk_mul (20) (k + 1)) ?_
        refine lv_iload_n hx hb d_Mo_held_20 rfl (lv_at hl 1 rfl) ?_
        refine lv_iadd hx hb d_Mo_held_21 ?_
        refine g_topi (x' := nI (20 * (k + 1) + c)) (nI_add (20 * (k + 1)) (c)) ?_
        refine lv_bipush (v := 20) hx hb d_Mo_held_22 (by decide) ?_
        refine lv_isub hx hb d_Mo_held_24 ?_
        refine g_topi (x' := nI (20 * (k + 1) + c - 20)) (pk_sub (a := 20 * (k + 1) + c) (b := 20) (by omega)) ?_
        refine g_iald (f := (a 31)) F M d_Mo_held_25 (by omega) mw_31 (by omega) (by decide) ?_
        refine lv_iconst (v := 2) hx hb d_Mo_held_26 (by decide) ?_
        refine lv_icmp_ne (tgt := 34) hx hb d_Mo_held_27 (by decide) (fun c_27 => ?_) (fun c_27 => ?_)
        · refine lv_iload_n hx hb d_Mo_held_34 rfl (lv_at hl 2 rfl) ?_
          refine lv_istore_n (lv' := [(2, .int (nI (mHeld (a 31) c k))), (0, .ref (gB G + 24)), (1, .int (nI c)), (3, .int (nI (k + 1)))]) hx hb d_Mo_held_35 rfl hl (by decide) rfl (fun ls hl => ?_)
          refine lv_iinc (v := nI (k + 1 + 1)) (lv' := [(3, .int (nI (k + 1 + 1))), (2, .int (nI (mHeld (a 31) c k))), (0, .ref (gB G + 24)), (1, .int (nI c))]) hx hb d_Mo_held_36 hl (k := 3) rfl (nI_1 _) (by decide) rfl (fun ls hl => ?_)
          refine lv_goto (tgt := 4) hx hb d_Mo_held_39 (by decide) ?_
          exact ih (k + 1) (by omega) (by omega) _ _ (by simp [mHeld, c_27]) rfl _ rfl _ _ ls M (lv_sub hl [2, 3, 1, 0] rfl)
        · refine lv_iload_n hx hb d_Mo_held_30 rfl (lv_at hl 3 rfl) ?_
          refine lv_goto (tgt := 35) hx hb d_Mo_held_31 (by decide) ?_
          refine lv_istore_n (lv' := [(2, .int (nI (k + 1))), (0, .ref (gB G + 24)), (1, .int (nI c)), (3, .int (nI (k + 1)))]) hx hb d_Mo_held_35 rfl hl (by decide) rfl (fun ls hl => ?_)
          refine lv_iinc (v := nI (k + 1 + 1)) (lv' := [(3, .int (nI (k + 1 + 1))), (2, .int (nI (k + 1))), (0, .ref (gB G + 24)), (1, .int (nI c))]) hx hb d_Mo_held_36 hl (k := 3) rfl (nI_1 _) (by decide) rfl (fun ls hl => ?_)
          refine lv_goto (tgt := 4) hx hb d_Mo_held_39 (by decide) ?_
          exact ih (k + 1) (by omega) (by omega) _ _ (by simp [mHeld, c_27]) rfl _ rfl _ _ ls M (lv_sub hl [2, 3, 1, 0] rfl)
  exact loop_4 (n + 1) 0 (by omega) (by omega) _ _ rfl rfl _ rfl _ _ ls M (lv_sub hl [2, 3, 1, 0] rfl)
end
section
theorem i32_nlt {x y : Int32} (h : x ≤ y) : ¬ y < x := fun q => by
  have h1 := Int32.le_iff_toInt_le.mp h
  have h2 := Int32.lt_iff_toInt_lt.mp q
  omega
theorem i32_lt {x y : Int32} (h : ¬ x ≤ y) : y < x := by
  rw [Int32.lt_iff_toInt_lt]
  have h1 : ¬ x.toInt ≤ y.toInt := fun q => h (Int32.le_iff_toInt_le.mpr q)
  omega
theorem nI_as (x : Int32) (k : Nat) : x + nI k + 1 = x + nI (k + 1) := by rw [← nI_1, Int32.add_assoc]
theorem mp_0 {G : gG} {sc : Nat → Int32} {t : Int64} {du : Nat → Int64} {a : Nat → Nat → Int32} {w0 : Nat → va_E} : mw G (sc, t, du, a) w0 = mw G (va_up sc 3 (sc 3 + nI (mLate (a 27) du t 0)), t, du, va_up a 27 (mPassE (a 27) du t 0)) w0 := by
  have h : sc 3 + nI (mLate (a 27) du t 0) = sc 3 := by
    show sc 3 + nI 0 = sc 3
    rw [nI_0, Int32.add_zero]
  rw [mPassE_0, va_up_id, h, va_up_id]
theorem mp_t {G : gG} {sc : Nat → Int32} {t : Int64} {du : Nat → Int64} {a : Nat → Nat → Int32} {w0 : Nat → va_E} {k : Nat} (h : a 27 (k + 1) = 0 ∧ du (k + 1) < t) : mw G (va_up (va_up sc 3 (sc 3 + nI (mLate (a 27) du t k))) 3 (sc 3 + nI (mLate (a 27) du t k) + 1), t, du, va_up (va_up a 27 (mPassE (a 27) du t k)) 27 (upd (mPassE (a 27) du t k) (k + 1) 4)) w0 = mw G (va_up sc 3 (sc 3 + nI (mLate (a 27) du t (k + 1))), t, du, va_up a 27 (mPassE (a 27) du t (k + 1))) w0 := by
  have h1 : mLate (a 27) du t (k + 1) = mLate (a 27) du t k + 1 := by
    show (if _ then _ else _) = _
    rw [if_pos h]
  rw [bx_uu, bx_uu, mPassE_t h, h1, nI_as]
theorem mp_f {G : gG} {sc : Nat → Int32} {t : Int64} {du : Nat → Int64} {a : Nat → Nat → Int32} {w0 : Nat → va_E} {k : Nat} (h : ¬ (a 27 (k + 1) = 0 ∧ du (k + 1) < t)) : mw G (va_up sc 3 (sc 3 + nI (mLate (a 27) du t k)), t, du, va_up a 27 (mPassE (a 27) du t k)) w0 = mw G (va_up sc 3 (sc 3 + nI (mLate (a 27) du t (k + 1))), t, du, va_up a 27 (mPassE (a 27) du t (k + 1))) w0 := by
  have h1 : mLate (a 27) du t (k + 1) = mLate (a 27) du t k := by
    show (if _ then _ else _) = _
    rw [if_neg h]
  rw [h1, ← mPassE_f h]
theorem tk_t {a : Nat → Nat → Int32} {p : Nat} (h : mDif a p) : mTak a p ↔ ¬ a 29 p + nI (mCnt (a 31) p 20) < 3 := by unfold mTak; rw [if_pos h]
theorem tk_f {a : Nat → Nat → Int32} {p : Nat} (h : ¬ mDif a p) : mTak a p ↔ ¬ a 29 p + nI (mCnt (a 31) p 20) < 2 := by unfold mTak; rw [if_neg h]
theorem mCnt_t {f : Nat → Int32} {p k : Nat} (h : f (20 * p + k - 20) = 2) : mCnt f p (k + 1) = mCnt f p k + 1 := by
  show (if _ then _ else _) = _
  rw [if_pos h]
theorem mCnt_f {f : Nat → Int32} {p k : Nat} (h : ¬ f (20 * p + k - 20) = 2) : mCnt f p (k + 1) = mCnt f p k := by
  show (if _ then _ else _) = _
  rw [if_neg h]
/-- whether v is among the first k answers of p -/
def mLike (f : Nat → Int32) (p : Nat) (v : Int32) : Nat → Bool
  | 0 => false
  | k + 1 => mLike f p v k || decide (f (3 * p + k) = v)
def mTake0 (a : Nat → Nat → Int32) (p q : Nat) (v : Int32) : Nat → Nat → Int32 := va_up (va_up a 30 (upd (a 30) (3 * p + q) v)) 29 (upd (a 29) p (nI (q + 1)))
def mTakeA (a : Nat → Nat → Int32) (p q : Nat) (v : Int32) : Nat → Nat → Int32 :=
  if mLike (a 30) p v q = true then va_up (va_up (mTake0 a p q v) 27 (upd (a 27) p (if 0 < v then 2 else 3))) 28 (upd (a 28) p v)
  else if q = 2 then va_up (mTake0 a p q v) 27 (upd (a 27) p 3) else mTake0 a p q v
set_option maxRecDepth 4000 in
theorem c_Mo_pass (l : Launch) (G : gG) (N n : Nat) (sc : Nat → Int32) (now : Int64) (du : Nat → Int64) (a : Nat → Nat → Int32) (w0 : Nat → va_E) (hN : 37 ≤ N) (hcn : sc 2 = nI n) (hn : n ≤ 300) (t : Int64) : Met l y_Mo_pass (Cond.code y_Mo_pass b_Mo_pass 4 none :: gtb) (gR 0 0 0) (gPc G [.ref (gB G + 24), .long t] (N) (mw G (sc, now, du, a) w0)) (gQ0 G (N) (mw G (va_up sc 3 (sc 3 + nI (mLate (a 27) du t n)), t, du, va_up a 27 (mPassE (a 27) du t n)) w0)) 0 0 (gA (gB G)) := by
  refine g_met (own := "ClerkRowsModel") (by decide) rfl (Nat.le_of_ble_eq_true rfl) ?_
  intro pg ev s0 mi below meth cd F M hr hlocks hnm ls hl
  have hx := F.1.1
  have hb := F.1.2.1
  have hl : lv_has ls 4 [(0, .ref (gB G + 24)), (1, .long t)] := hl
  refine lv_aload_n hx hb d_Mo_pass_0 rfl (lv_at hl 0 rfl) ?_
  refine lv_lload_n hx hb d_Mo_pass_1 rfl (lv_at hl 1 rfl) ?_
  refine g_put F M f_Mo_64 d_Mo_pass_2 (by omega) mw_24 rfl rfl rfl (Nat.le_of_ble_eq_true rfl) mw_p_now (fun H locs M => ?_)
  refine lv_iconst (v := 1) hx hb d_Mo_pass_5 (by decide) ?_
  refine lv_istore_n (lv' := [(3, .int 1), (0, .ref (gB G + 24)), (1, .long t)]) hx hb d_Mo_pass_6 rfl hl (by decide) rfl (fun ls hl => ?_)
  have loop_7 : ∀ (fuel k : Nat), n < k + fuel → k ≤ n → ∀ (z3 : Int32), z3 = nI (k + 1) → ∀ (wz : Nat → va_E), wz = mw G (va_up sc 3 (sc 3 + nI (mLate (a 27) du t k)), t, du, va_up a 27 (mPassE (a 27) du t k)) w0 → ∀ (H : Heap) (locs : List Loc) (ls : Array Slot), gM G s0 (N) wz H locs → lv_has ls 4 [(0, .ref (gB G + 24)), (1, .long t), (3, .int z3)] → W pg l ev (gR 0 0 0) s0 mi ([.ref (gB G + 24), .long t] : List Value).toArray below meth cd H locs 0 0 (MQ below (gQ0 G (N) (mw G (va_up sc 3 (sc 3 + nI (mLate (a 27) du t n)), t, du, va_up a 27 (mPassE (a 27) du t n)) w0)) ([.ref (gB G + 24), .long t] : List Value).toArray s0 0 0 (gA (gB G))) (F0 mi 7 ls []) := by
    intro fuel
    induction fuel with
    | zero => intro k h1 h2; exact absurd h1 (by omega)
    | succ fuel ih =>
      intro k hk1 hk2 z3 e3 wz ew H locs ls M hl
      subst e3 ew
      have hl : lv_has ls 4 [(0, .ref (gB G + 24)), (1, .long t), (3, .int (nI (k + 1)))] := hl
      refine lv_iload_n hx hb d_Mo_pass_7 rfl (lv_at hl 2 rfl) ?_
      refine lv_aload_n hx hb d_Mo_pass_8 rfl (lv_at hl 0 rfl) ?_
      refine g_get (v := .int (nI n)) F M f_Mo_55 d_Mo_pass_9 (by omega) mw_24 (congrArg (fun z => some (Value.int z)) hcn) ?_
      refine lv_icmp_gt (tgt := 58) hx hb d_Mo_pass_12 (by decide) (fun c_12 => ?_) (fun c_12 => ?_)
      · have c_12 : n < k + 1 := (nI_ltI (a := n) (b := k + 1) (by omega) (by omega)).mp c_12
        have hkn : n = k := by omega
        subst hkn
        exact g_vret F M hr hlocks d_Mo_pass_58 (by decide) (by decide) rfl (rfl)
      · have c_12 : ¬ n < k + 1 := fun h => c_12 ((nI_ltI (a := n) (b := k + 1) (by omega) (by omega)).mpr h)
        refine lv_aload_n hx hb d_Mo_pass_15 rfl (lv_at hl 0 rfl) ?_
        refine g_get (v := .ref (gB G + 27)) F M f_Mo_17 d_Mo_pass_16 (by omega) mw_24 rfl ?_
        refine lv_iload_n hx hb d_Mo_pass_19 rfl (lv_at hl 2 rfl) ?_
        refine g_iald (f := (mPassE (a 27) du t k)) F M d_Mo_pass_20 (by omega) mw_27 (by omega) (by decide) ?_
        refine lv_if_ne (tgt := 52) hx hb d_Mo_pass_21 (by decide) (fun c_21 => ?_) (fun c_21 => ?_)
        · rw [mPassE_at] at c_21
          refine lv_iinc (v := nI (k + 1 + 1)) (lv' := [(3, .int (nI (k + 1 + 1))), (0, .ref (gB G + 24)), (1, .long t)]) hx hb d_Mo_pass_52 hl (k := 2) rfl (nI_1 _) (by decide) rfl (fun ls hl => ?_)
          refine lv_goto (tgt := 7) hx hb d_Mo_pass_55 (by decide) ?_
          exact ih (k + 1) (by omega) (by omega) _ rfl _ (mp_f (fun h => c_21 h.1)) _ _ ls M (lv_sub hl [1, 2, 0] rfl)
        · rw [mPassE_at] at c_21
          refine lv_aload_n hx hb d_Mo_pass_24 rfl (lv_at hl 0 rfl) ?_
          refine g_get (v := .ref (gB G + 25)) F M f_Mo_7 d_Mo_pass_25 (by omega) mw_24 rfl ?_
          refine lv_iload_n hx hb d_Mo_pass_28 rfl (lv_at hl 2 rfl) ?_
          refine g_lald (f := du) F M d_Mo_pass_29 (by omega) mw_25 (by omega) (by decide) ?_
          refine lv_lload_n hx hb d_Mo_pass_30 rfl (lv_at hl 1 rfl) ?_
          refine g_lcmp_ge (tgt := 52) hx hb d_Mo_pass_31 d_Mo_pass_32 (by decide) (fun c_32 => ?_) (fun c_32 => ?_)
          · refine lv_iinc (v := nI (k + 1 + 1)) (lv' := [(3, .int (nI (k + 1 + 1))), (0, .ref (gB G + 24)), (1, .long t)]) hx hb d_Mo_pass_52 hl (k := 2) rfl (nI_1 _) (by decide) rfl (fun ls hl => ?_)
            refine lv_goto (tgt := 7) hx hb d_Mo_pass_55 (by decide) ?_
            exact ih (k + 1) (by omega) (by omega) _ rfl _ (mp_f (fun h => c_32 h.2)) _ _ ls M (lv_sub hl [1, 2, 0] rfl)
          · refine lv_aload_n hx hb d_Mo_pass_35 rfl (lv_at hl 0 rfl) ?_
            refine g_get (v := .ref (gB G + 27)) F M f_Mo_17 d_Mo_pass_36 (by omega) mw_24 rfl ?_
            refine lv_iload_n hx hb d_Mo_pass_39 rfl (lv_at hl 2 rfl) ?_
            refine lv_iconst (v := 4) hx hb d_Mo_pass_40 (by decide) ?_
            refine g_iast (f := (mPassE (a 27) du t k)) F M d_Mo_pass_41 (by omega) mw_27 (by omega) (by decide) mw_s_27 (fun H locs M => ?_)
            refine lv_aload_n hx hb d_Mo_pass_42 rfl (lv_at hl 0 rfl) ?_
            refine lv_dup hx hb d_Mo_pass_43 rfl ?_
            refine g_get (v := .int (sc 3 + nI (mLate (a 27) du t k))) F M f_Mo_80 d_Mo_pass_44 (by omega) mw_24 rfl ?_
            refine lv_iconst (v := 1) hx hb d_Mo_pass_47 (by decide) ?_
            refine lv_iadd hx hb d_Mo_pass_48 ?_
            refine g_put F M f_Mo_80 d_Mo_pass_49 (by omega) mw_24 rfl rfl rfl (Nat.le_of_ble_eq_true rfl) mw_p_late (fun H locs M => ?_)
            refine lv_iinc (v := nI (k + 1 + 1)) (lv' := [(3, .int (nI (k + 1 + 1))), (0, .ref (gB G + 24)), (1, .long t)]) hx hb d_Mo_pass_52 hl (k := 2) rfl (nI_1 _) (by decide) rfl (fun ls hl => ?_)
            refine lv_goto (tgt := 7) hx hb d_Mo_pass_55 (by decide) ?_
            exact ih (k + 1) (by omega) (by omega) _ rfl _ (mp_t ⟨c_21, c_32⟩) _ _ ls M (lv_sub hl [1, 2, 0] rfl)
  exact loop_7 (n + 1) 0 (by omega) (by omega) _ rfl _ mp_0 _ _ ls M (lv_sub hl [1, 2, 0] rfl)
set_option maxRecDepth 4000 in
theorem c_Mo_differ (l : Launch) (G : gG) (N n : Nat) (sc : Nat → Int32) (now : Int64) (du : Nat → Int64) (a : Nat → Nat → Int32) (w0 : Nat → va_E) (hN : 37 ≤ N) (hcn : sc 2 = nI n) (hn : n ≤ 300) (p : Nat) (hp1 : 1 ≤ p) (hp2 : p ≤ 300) : Met l y_Mo_differ (Cond.code y_Mo_differ b_Mo_differ 2 (some .boolean) :: gtb) (gR 0 0 0) (gPc G [.ref (gB G + 24), .int (nI p)] (N) (mw G (sc, now, du, a) w0)) (gQ1 G (bI (mDif a p)) (N) (mw G (sc, now, du, a) w0)) 0 0 (gA (gB G)) := by
  refine g_met (own := "ClerkRowsModel") (by decide) rfl (Nat.le_of_ble_eq_true rfl) ?_
  intro pg ev s0 mi below meth cd F M hr hlocks hnm ls hl
  have hx := F.1.1
  have hb := F.1.2.1
  have hl : lv_has ls 2 [(0, .ref (gB G + 24)), (1, .int (nI p))] := hl
  refine lv_aload_n hx hb d_Mo_differ_0 rfl (lv_at hl 0 rfl) ?_
  refine g_get (v := .ref (gB G + 29)) F M f_Mo_23 d_Mo_differ_1 (by omega) mw_24 rfl ?_
  refine lv_iload_n hx hb d_Mo_differ_4 rfl (lv_at hl 1 rfl) ?_
  refine g_iald (f := (a 29)) F M d_Mo_differ_5 (by omega) mw_29 (by omega) (by decide) ?_
  refine lv_iconst (v := 1) hx hb d_Mo_differ_6 (by decide) ?_
  refine lv_icmp_le (tgt := 35) hx hb d_Mo_differ_7 (by decide) (fun c_7 => ?_) (fun c_7 => ?_)
  · have c_7 := i32_nlt c_7
    refine lv_iconst (v := 0) hx hb d_Mo_differ_35 (by decide) ?_
    exact g_zret F M hr hlocks d_Mo_differ_36 (by decide) (by decide) (by decide +kernel) (by simp [bI, c_7]) rfl (rfl)
  · have c_7 := i32_lt c_7
    refine lv_aload_n hx hb d_Mo_differ_10 rfl (lv_at hl 0 rfl) ?_
    refine g_get (v := .ref (gB G + 30)) F M f_Mo_26 d_Mo_differ_11 (by omega) mw_24 rfl ?_
    refine lv_iconst (v := 3) hx hb d_Mo_differ_14 (by decide) ?_
    refine lv_iload_n hx hb d_Mo_differ_15 rfl (lv_at hl 1 rfl) ?_
    refine lv_imul hx hb d_Mo_differ_16 ?_
    refine g_topi (x' := nI (3 * p)) (pk_mul (3) (p)) ?_
    refine g_iald (f := (a 30)) F M d_Mo_differ_17 (by omega) mw_30 (by omega) (by decide) ?_
    refine lv_aload_n hx hb d_Mo_differ_18 rfl (lv_at hl 0 rfl) ?_
    refine g_get (v := .ref (gB G + 30)) F M f_Mo_26 d_Mo_differ_19 (by omega) mw_24 rfl ?_
    refine lv_iconst (v := 3) hx hb d_Mo_differ_22 (by decide) ?_
    refine lv_iload_n hx hb d_Mo_differ_23 rfl (lv_at hl 1 rfl) ?_
    refine lv_imul hx hb d_Mo_differ_24 ?_
    refine g_topi (x' := nI (3 * p)) (pk_mul (3) (p)) ?_
    refine lv_iconst (v := 1) hx hb d_Mo_differ_25 (by decide) ?_
    refine lv_iadd hx hb d_Mo_differ_26 ?_
    refine g_topi (x' := nI (3 * p + 1)) (nI_add (3 * p) (1)) ?_
    refine g_iald (f := (a 30)) F M d_Mo_differ_27 (by omega) mw_30 (by omega) (by decide) ?_
    refine lv_icmp_eq (tgt := 35) hx hb d_Mo_differ_28 (by decide) (fun c_28 => ?_) (fun c_28 => ?_)
    · refine lv_iconst (v := 0) hx hb d_Mo_differ_35 (by decide) ?_
      exact g_zret F M hr hlocks d_Mo_differ_36 (by decide) (by decide) (by decide +kernel) (by simp [bI, c_7, c_28]) rfl (rfl)
    · refine lv_iconst (v := 1) hx hb d_Mo_differ_31 (by decide) ?_
      refine lv_goto (tgt := 36) hx hb d_Mo_differ_32 (by decide) ?_
      exact g_zret F M hr hlocks d_Mo_differ_36 (by decide) (by decide) (by decide +kernel) (by simp [bI, c_7, c_28]) rfl (rfl)
set_option maxRecDepth 4000 in
theorem c_Mo_isTaken (l : Launch) (G : gG) (N n : Nat) (sc : Nat → Int32) (now : Int64) (du : Nat → Int64) (a : Nat → Nat → Int32) (w0 : Nat → va_E) (hN : 37 ≤ N) (hcn : sc 2 = nI n) (hn : n ≤ 300) (p : Nat) (hp1 : 1 ≤ p) (hp2 : p ≤ 300) : Met l y_Mo_isTaken (Cond.code y_Mo_isTaken b_Mo_isTaken 4 (some .boolean) :: gtb) (gR 1 0 0) (gPc G [.ref (gB G + 24), .int (nI p)] (N) (mw G (sc, now, du, a) w0)) (gQ1 G (bI (mTak a p)) (N) (mw G (sc, now, du, a) w0)) 0 0 (gA (gB G)) := by
  refine g_met (own := "ClerkRowsModel") (by decide) rfl (Nat.le_of_ble_eq_true rfl) ?_
  intro pg ev s0 mi below meth cd F M hr hlocks hnm ls hl
  have hx := F.1.1
  have hb := F.1.2.1
  have hl : lv_has ls 4 [(0, .ref (gB G + 24)), (1, .int (nI p))] := hl
  refine lv_aload_n hx hb d_Mo_isTaken_0 rfl (lv_at hl 0 rfl) ?_
  refine g_get (v := .ref (gB G + 29)) F M f_Mo_23 d_Mo_isTaken_1 (by omega) mw_24 rfl ?_
  refine lv_iload_n hx hb d_Mo_isTaken_4 rfl (lv_at hl 1 rfl) ?_
  refine g_iald (f := (a 29)) F M d_Mo_isTaken_5 (by omega) mw_29 (by omega) (by decide) ?_
  refine lv_istore_n (lv' := [(2, .int (a 29 p)), (0, .ref (gB G + 24)), (1, .int (nI p))]) hx hb d_Mo_isTaken_6 rfl hl (by decide) rfl (fun ls hl => ?_)
  refine lv_iconst (v := 0) hx hb d_Mo_isTaken_7 (by decide) ?_
  refine lv_istore_n (lv' := [(3, .int 0), (2, .int (a 29 p)), (0, .ref (gB G + 24)), (1, .int (nI p))]) hx hb d_Mo_isTaken_8 rfl hl (by decide) rfl (fun ls hl => ?_)
  have loop_9 : ∀ (fuel k : Nat), 20 < k + fuel → k ≤ 20 → ∀ (z2 : Int32) (z3 : Int32), z2 = a 29 p + nI (mCnt (a 31) p k) → z3 = nI k → ∀ (wz : Nat → va_E), wz = mw G (sc, now, du, a) w0 → ∀ (H : Heap) (locs : List Loc) (ls : Array Slot), gM G s0 (N) wz H locs → lv_has ls 4 [(0, .ref (gB G + 24)), (1, .int (nI p)), (2, .int z2), (3, .int z3)] → W pg l ev (gR 1 0 0) s0 mi ([.ref (gB G + 24), .int (nI p)] : List Value).toArray below meth cd H locs 0 0 (MQ below (gQ1 G (bI (mTak a p)) (N) (mw G (sc, now, du, a) w0)) ([.ref (gB G + 24), .int (nI p)] : List Value).toArray s0 0 0 (gA (gB G))) (F0 mi 9 ls []) := by
    intro fuel
    induction fuel with
    | zero => intro k h1 h2; exact absurd h1 (by omega)
    | succ fuel ih =>
      intro k hk1 hk2 z2 z3 e2 e3 wz ew H locs ls M hl
      subst e2 e3 ew
      have hl : lv_has ls 4 [(0, .ref (gB G + 24)), (1, .int (nI p)), (2, .int (a 29 p + nI (mCnt (a 31) p k))), (3, .int (nI k))] := hl
      refine lv_iload_n hx hb d_Mo_isTaken_9 rfl (lv_at hl 3 rfl) ?_
      refine lv_bipush (v := 20) hx hb d_Mo_isTaken_10 (by decide) ?_
      refine lv_icmp_ge (tgt := 47) hx hb d_Mo_isTaken_12 (by decide) (fun c_12 => ?_) (fun c_12 => ?_)
      · have c_12 : 20 ≤ k := (nI_leI (a := 20) (b := k) (by omega) (by omega)).mp c_12
        have hkn : 20 = k := by omega
        subst hkn
        refine lv_iload_n hx hb d_Mo_isTaken_47 rfl (lv_at hl 2 rfl) ?_
        refine lv_aload_n hx hb d_Mo_isTaken_48 rfl (lv_at hl 0 rfl) ?_
        refine lv_iload_n hx hb d_Mo_isTaken_49 rfl (lv_at hl 1 rfl) ?_
        refine g_call1 (g_rv (rest := [.int (a 29 p + nI (mCnt (a 31) p 20))]) F M (c_Mo_differ l G (N) n sc now du a w0 hN hcn hn p (by omega) (by omega)) k_Mo_83 d_Mo_isTaken_50 ⟨rfl, rfl, by decide, by decide, by decide, by decide⟩ (by omega) mw_24 rfl rfl hl.1 (Nat.le_of_ble_eq_true rfl) rfl) M (fun H locs M => ?_)
        refine g_ifeqB (tgt := 60) hx hb d_Mo_isTaken_53 (by decide) (fun c_53 => ?_) (fun c_53 => ?_)
        · refine lv_iconst (v := 2) hx hb d_Mo_isTaken_60 (by decide) ?_
          refine lv_icmp_lt (tgt := 68) hx hb d_Mo_isTaken_61 (by decide) (fun c_61 => ?_) (fun c_61 => ?_)
          · refine lv_iconst (v := 0) hx hb d_Mo_isTaken_68 (by decide) ?_
            exact g_zret F M hr hlocks d_Mo_isTaken_69 (by decide) (by decide) (by decide +kernel) (bI_f (fun h => (tk_f c_53).mp h c_61)).symm rfl (rfl)
          · refine lv_iconst (v := 1) hx hb d_Mo_isTaken_64 (by decide) ?_
            refine lv_goto (tgt := 69) hx hb d_Mo_isTaken_65 (by decide) ?_
            exact g_zret F M hr hlocks d_Mo_isTaken_69 (by decide) (by decide) (by decide +kernel) (bI_t ((tk_f c_53).mpr c_61)).symm rfl (rfl)
        · refine lv_iconst (v := 3) hx hb d_Mo_isTaken_56 (by decide) ?_
          refine lv_goto (tgt := 61) hx hb d_Mo_isTaken_57 (by decide) ?_
          refine lv_icmp_lt (tgt := 68) hx hb d_Mo_isTaken_61 (by decide) (fun c_61 => ?_) (fun c_61 => ?_)
          · refine lv_iconst (v := 0) hx hb d_Mo_isTaken_68 (by decide) ?_
            exact g_zret F M hr hlocks d_Mo_isTaken_69 (by decide) (by decide) (by decide +kernel) (bI_f (fun h => (tk_t c_53).mp h c_61)).symm rfl (rfl)
          · refine lv_iconst (v := 1) hx hb d_Mo_isTaken_64 (by decide) ?_
            refine lv_goto (tgt := 69) hx hb d_Mo_isTaken_65 (by decide) ?_
            exact g_zret F M hr hlocks d_Mo_isTaken_69 (by decide) (by decide) (by decide +kernel) (bI_t ((tk_t c_53).mpr c_61)).symm rfl (rfl)
      · have c_12 : ¬ 20 ≤ k := fun h => c_12 ((nI_leI (a := 20) (b := k) (by omega) (by omega)).mpr h)
        refine lv_aload_n hx hb d_Mo_isTaken_15 rfl (lv_at hl 0 rfl) ?_
        refine g_get (v := .ref (gB G + 31)) F M f_Mo_29 d_Mo_isTaken_16 (by omega) mw_24 rfl ?_
        refine lv_bipush (v := 20) hx hb d_Mo_isTaken_19 (by decide) ?_
        refine lv_iload_n hx hb d_Mo_isTaken_21 rfl (lv_at hl 1 rfl) ?_
        refine lv_imul hx hb d_Mo_isTaken_22 ?_
        refine g_topi (x' := nI (20 * p)) (pk_mul (20) (p)) ?_
        refine lv_iload_n hx hb d_Mo_isTaken_23 rfl (lv_at hl 3 rfl) ?_
        refine lv_iadd hx hb d_Mo_isTaken_24 ?_
        refine g_topi (x' := nI (20 * p + k)) (nI_add (20 * p) (k)) ?_
        refine lv_bipush (v := 20) hx hb d_Mo_isTaken_25 (by decide) ?_
        refine lv_isub hx hb d_Mo_isTaken_27 ?_
        refine g_topi (x' := nI (20 * p + k - 20)) (pk_sub (a := 20 * p + k) (b := 20) (by omega)) ?_
        refine g_iald (f := (a 31)) F M d_Mo_isTaken_28 (by omega) mw_31 (by omega) (by decide) ?_
        refine lv_iconst (v := 2) hx hb d_Mo_isTaken_29 (by decide) ?_
        refine lv_icmp_ne (tgt := 39) hx hb d_Mo_isTaken_30 (by decide) (fun c_30 => ?_) (fun c_30 => ?_)
        · refine lv_iload_n hx hb d_Mo_isTaken_39 rfl (lv_at hl 2 rfl) ?_
          refine lv_istore_n (lv' := [(2, .int (a 29 p + nI (mCnt (a 31) p k))), (0, .ref (gB G + 24)), (1, .int (nI p)), (3, .int (nI k))]) hx hb d_Mo_isTaken_40 rfl hl (by decide) rfl (fun ls hl => ?_)
          refine lv_iinc (v := nI (k + 1)) (lv' := [(3, .int (nI (k + 1))), (2, .int (a 29 p + nI (mCnt (a 31) p k))), (0, .ref (gB G + 24)), (1, .int (nI p))]) hx hb d_Mo_isTaken_41 hl (k := 3) rfl (nI_1 _) (by decide) rfl (fun ls hl => ?_)
          refine lv_goto (tgt := 9) hx hb d_Mo_isTaken_44 (by decide) ?_
          exact ih (k + 1) (by omega) (by omega) _ _ (by rw [mCnt_f c_30]) rfl _ rfl _ _ ls M (lv_sub hl [2, 3, 1, 0] rfl)
        · refine lv_iload_n hx hb d_Mo_isTaken_33 rfl (lv_at hl 2 rfl) ?_
          refine lv_iconst (v := 1) hx hb d_Mo_isTaken_34 (by decide) ?_
          refine lv_iadd hx hb d_Mo_isTaken_35 ?_
          refine lv_goto (tgt := 40) hx hb d_Mo_isTaken_36 (by decide) ?_
          refine lv_istore_n (lv' := [(2, .int ((a 29 p + nI (mCnt (a 31) p k)) + 1)), (0, .ref (gB G + 24)), (1, .int (nI p)), (3, .int (nI k))]) hx hb d_Mo_isTaken_40 rfl hl (by decide) rfl (fun ls hl => ?_)
          refine lv_iinc (v := nI (k + 1)) (lv' := [(3, .int (nI (k + 1))), (2, .int ((a 29 p + nI (mCnt (a 31) p k)) + 1)), (0, .ref (gB G + 24)), (1, .int (nI p))]) hx hb d_Mo_isTaken_41 hl (k := 3) rfl (nI_1 _) (by decide) rfl (fun ls hl => ?_)
          refine lv_goto (tgt := 9) hx hb d_Mo_isTaken_44 (by decide) ?_
          exact ih (k + 1) (by omega) (by omega) _ _ (by rw [mCnt_t c_30, nI_as]) rfl _ rfl _ _ ls M (lv_sub hl [2, 3, 1, 0] rfl)
  exact loop_9 (20 + 1) 0 (by omega) (by omega) _ _ (by show _ = _ + nI 0; rw [nI_0, Int32.add_zero]) rfl _ rfl _ _ ls M (lv_sub hl [2, 3, 1, 0] rfl)
set_option maxRecDepth 4000 in
theorem c_Mo_isFree (l : Launch) (G : gG) (N n : Nat) (sc : Nat → Int32) (now : Int64) (du : Nat → Int64) (a : Nat → Nat → Int32) (w0 : Nat → va_E) (hN : 37 ≤ N) (hcn : sc 2 = nI n) (hn : n ≤ 300) (p : Nat) (hp1 : 1 ≤ p) (hp2 : p ≤ 300) (c : Nat) (hc : c < 20) : Met l y_Mo_isFree (Cond.code y_Mo_isFree b_Mo_isFree 6 (some .boolean) :: gtb) (gR 2 0 0) (gPc G [.ref (gB G + 24), .int (nI p), .int (nI c)] (N) (mw G (sc, now, du, a) w0)) (gQ1 G (bI (mFre a p c)) (N) (mw G (sc, now, du, a) w0)) 0 0 (gA (gB G)) := by
  refine g_met (own := "ClerkRowsModel") (by decide) rfl (Nat.le_of_ble_eq_true rfl) ?_
  intro pg ev s0 mi below meth cd F M hr hlocks hnm ls hl
  have hx := F.1.1
  have hb := F.1.2.1
  have hl : lv_has ls 6 [(0, .ref (gB G + 24)), (1, .int (nI p)), (2, .int (nI c))] := hl
  refine lv_aload_n hx hb d_Mo_isFree_0 rfl (lv_at hl 0 rfl) ?_
  refine g_get (v := .ref (gB G + 27)) F M f_Mo_17 d_Mo_isFree_1 (by omega) mw_24 rfl ?_
  refine lv_iload_n hx hb d_Mo_isFree_4 rfl (lv_at hl 1 rfl) ?_
  refine g_iald (f := (a 27)) F M d_Mo_isFree_5 (by omega) mw_27 (by omega) (by decide) ?_
  refine lv_if_ne (tgt := 49) hx hb d_Mo_isFree_6 (by decide) (fun c_6 => ?_) (fun c_6 => ?_)
  · refine lv_iconst (v := 0) hx hb d_Mo_isFree_49 (by decide) ?_
    exact g_zret F M hr hlocks d_Mo_isFree_50 (by decide) (by decide) (by decide +kernel) (bI_f (fun h => c_6 h.1)).symm rfl (rfl)
  · refine lv_aload_n hx hb d_Mo_isFree_9 rfl (lv_at hl 0 rfl) ?_
    refine lv_iload_n hx hb d_Mo_isFree_10 rfl (lv_at hl 1 rfl) ?_
    refine g_call1 (g_rv (rest := []) F M (c_Mo_isTaken l G (N) n sc now du a w0 hN hcn hn p (by omega) (by omega)) k_Mo_87 d_Mo_isFree_11 ⟨rfl, rfl, by decide, by decide, by decide, by decide⟩ (by omega) mw_24 rfl rfl hl.1 (Nat.le_of_ble_eq_true rfl) rfl) M (fun H locs M => ?_)
    refine g_ifneB (tgt := 49) hx hb d_Mo_isFree_14 (by decide) (fun c_14 => ?_) (fun c_14 => ?_)
    · refine lv_iconst (v := 0) hx hb d_Mo_isFree_49 (by decide) ?_
      exact g_zret F M hr hlocks d_Mo_isFree_50 (by decide) (by decide) (by decide +kernel) (bI_f (fun h => h.2.1 c_14)).symm rfl (rfl)
    · refine lv_aload_n hx hb d_Mo_isFree_17 rfl (lv_at hl 0 rfl) ?_
      refine g_get (v := .ref (gB G + 26)) F M f_Mo_13 d_Mo_isFree_18 (by omega) mw_24 rfl ?_
      refine lv_iload_n hx hb d_Mo_isFree_21 rfl (lv_at hl 1 rfl) ?_
      refine g_iald (f := (a 26)) F M d_Mo_isFree_22 (by omega) mw_26 (by omega) (by decide) ?_
      refine lv_aload_n hx hb d_Mo_isFree_23 rfl (lv_at hl 0 rfl) ?_
      refine g_get (v := .ref (gB G + 36)) F M f_Mo_45 d_Mo_isFree_24 (by omega) mw_24 rfl ?_
      refine lv_iload_n hx hb d_Mo_isFree_27 rfl (lv_at hl 2 rfl) ?_
      refine g_iald (f := (a 36)) F M d_Mo_isFree_28 (by omega) mw_36 (by omega) (by decide) ?_
      refine lv_icmp_gt (tgt := 49) hx hb d_Mo_isFree_29 (by decide) (fun c_29 => ?_) (fun c_29 => ?_)
      · refine lv_iconst (v := 0) hx hb d_Mo_isFree_49 (by decide) ?_
        exact g_zret F M hr hlocks d_Mo_isFree_50 (by decide) (by decide) (by decide +kernel) (bI_f (fun h => h.2.2.1 c_29)).symm rfl (rfl)
      · refine lv_aload_n hx hb d_Mo_isFree_32 rfl (lv_at hl 0 rfl) ?_
        refine g_get (v := .ref (gB G + 31)) F M f_Mo_29 d_Mo_isFree_33 (by omega) mw_24 rfl ?_
        refine lv_bipush (v := 20) hx hb d_Mo_isFree_36 (by decide) ?_
        refine lv_iload_n hx hb d_Mo_isFree_38 rfl (lv_at hl 1 rfl) ?_
        refine lv_imul hx hb d_Mo_isFree_39 ?_
        refine g_topi (x' := nI (20 * p)) (pk_mul (20) (p)) ?_
        refine lv_iload_n hx hb d_Mo_isFree_40 rfl (lv_at hl 2 rfl) ?_
        refine lv_iadd hx hb d_Mo_isFree_41 ?_
        refine g_topi (x' := nI (20 * p + c)) (nI_add (20 * p) (c)) ?_
        refine lv_bipush (v := 20) hx hb d_Mo_isFree_42 (by decide) ?_
        refine lv_isub hx hb d_Mo_isFree_44 ?_
        refine g_topi (x' := nI (20 * p + c - 20)) (pk_sub (a := 20 * p + c) (b := 20) (by omega)) ?_
        refine g_iald (f := (a 31)) F M d_Mo_isFree_45 (by omega) mw_31 (by omega) (by decide) ?_
        refine lv_if_eq (tgt := 51) hx hb d_Mo_isFree_46 (by decide) (fun c_46 => ?_) (fun c_46 => ?_)
        · refine lv_iconst (v := 1) hx hb d_Mo_isFree_51 (by decide) ?_
          refine lv_istore_n (lv' := [(3, .int 1), (0, .ref (gB G + 24)), (1, .int (nI p)), (2, .int (nI c))]) hx hb d_Mo_isFree_52 rfl hl (by decide) rfl (fun ls hl => ?_)
          refine lv_iconst (v := 0) hx hb d_Mo_isFree_53 (by decide) ?_
          refine lv_istore (lv' := [(4, .int 0), (3, .int 1), (0, .ref (gB G + 24)), (1, .int (nI p)), (2, .int (nI c))]) hx hb d_Mo_isFree_54 hl (by decide) rfl (fun ls hl => ?_)
          have loop_56 : ∀ (fuel k : Nat), 20 < k + fuel → k ≤ 20 → ∀ (z3 : Int32) (z4 : Int32), z3 = bI (mAl (a 31) (a 32) p (a 35 c) k = true) → z4 = nI k → ∀ (wz : Nat → va_E), wz = mw G (sc, now, du, a) w0 → ∀ (H : Heap) (locs : List Loc) (ls : Array Slot), gM G s0 (N) wz H locs → lv_has ls 6 [(0, .ref (gB G + 24)), (1, .int (nI p)), (2, .int (nI c)), (3, .int z3), (4, .int z4)] → W pg l ev (gR 2 0 0) s0 mi ([.ref (gB G + 24), .int (nI p), .int (nI c)] : List Value).toArray below meth cd H locs 0 0 (MQ below (gQ1 G (bI (mFre a p c)) (N) (mw G (sc, now, du, a) w0)) ([.ref (gB G + 24), .int (nI p), .int (nI c)] : List Value).toArray s0 0 0 (gA (gB G))) (F0 mi 56 ls []) := by
            intro fuel
            induction fuel with
            | zero => intro k h1 h2; exact absurd h1 (by omega)
            | succ fuel ih =>
              intro k hk1 hk2 z3 z4 e3 e4 wz ew H locs ls M hl
              subst e3 e4 ew
              have hl : lv_has ls 6 [(0, .ref (gB G + 24)), (1, .int (nI p)), (2, .int (nI c)), (3, .int (bI (mAl (a 31) (a 32) p (a 35 c) k = true))), (4, .int (nI k))] := hl
              refine lv_iload hx hb d_Mo_isFree_56 (lv_at hl 4 rfl) ?_
              refine lv_bipush (v := 20) hx hb d_Mo_isFree_58 (by decide) ?_
              refine lv_icmp_ge (tgt := 118) hx hb d_Mo_isFree_60 (by decide) (fun c_60 => ?_) (fun c_60 => ?_)
              · have c_60 : 20 ≤ k := (nI_leI (a := 20) (b := k) (by omega) (by omega)).mp c_60
                have hkn : 20 = k := by omega
                subst hkn
                refine lv_iload_n hx hb d_Mo_isFree_118 rfl (lv_at hl 3 rfl) ?_
                refine g_ifneB (tgt := 130) hx hb d_Mo_isFree_119 (by decide) (fun c_119 => ?_) (fun c_119 => ?_)
                · refine lv_iconst (v := 1) hx hb d_Mo_isFree_130 (by decide) ?_
                  refine lv_goto (tgt := 135) hx hb d_Mo_isFree_131 (by decide) ?_
                  exact g_zret F M hr hlocks d_Mo_isFree_135 (by decide) (by decide) (by decide +kernel) (bI_t ⟨c_6, c_14, c_29, c_46, Or.inl c_119⟩).symm rfl (rfl)
                · refine lv_aload_n hx hb d_Mo_isFree_122 rfl (lv_at hl 0 rfl) ?_
                  refine lv_iload_n hx hb d_Mo_isFree_123 rfl (lv_at hl 1 rfl) ?_
                  refine g_call1 (g_rv (rest := []) F M (c_Mo_differ l G (N) n sc now du a w0 hN hcn hn p (by omega) (by omega)) k_Mo_83 d_Mo_isFree_124 ⟨rfl, rfl, by decide, by decide, by decide, by decide⟩ (by omega) mw_24 rfl rfl hl.1 (Nat.le_of_ble_eq_true rfl) rfl) M (fun H locs M => ?_)
                  refine g_ifeqB (tgt := 134) hx hb d_Mo_isFree_127 (by decide) (fun c_127 => ?_) (fun c_127 => ?_)
                  · refine lv_iconst (v := 0) hx hb d_Mo_isFree_134 (by decide) ?_
                    exact g_zret F M hr hlocks d_Mo_isFree_135 (by decide) (by decide) (by decide +kernel) (bI_f (fun h => h.2.2.2.2.elim c_119 c_127)).symm rfl (rfl)
                  · refine lv_iconst (v := 1) hx hb d_Mo_isFree_130 (by decide) ?_
                    refine lv_goto (tgt := 135) hx hb d_Mo_isFree_131 (by decide) ?_
                    exact g_zret F M hr hlocks d_Mo_isFree_135 (by decide) (by decide) (by decide +kernel) (bI_t ⟨c_6, c_14, c_29, c_46, Or.inr c_127⟩).symm rfl (rfl)
              · have c_60 : ¬ 20 ≤ k := fun h => c_60 ((nI_leI (a := 20) (b := k) (by omega) (by omega)).mpr h)
                refine lv_bipush (v := 20) hx hb d_Mo_isFree_63 (by decide) ?_
                refine lv_iload_n hx hb d_Mo_isFree_65 rfl (lv_at hl 1 rfl) ?_
                refine lv_imul hx hb d_Mo_isFree_66 ?_
                refine g_topi (x' := nI (20 * p)) (pk_mul (20) (p)) ?_
                refine lv_iload hx hb d_Mo_isFree_67 (lv_at hl 4 rfl) ?_
                refine lv_iadd hx hb d_Mo_isFree_69 ?_
                refine g_topi (x' := nI (20 * p + k)) (nI_add (20 * p) (k)) ?_
                refine lv_bipush (v := 20) hx hb d_Mo_isFree_70 (by decide) ?_
                refine lv_isub hx hb d_Mo_isFree_72 ?_
                refine g_topi (x' := nI (20 * p + k - 20)) (pk_sub (a := 20 * p + k) (b := 20) (by omega)) ?_
                refine lv_istore (lv' := [(5, .int (nI (20 * p + k - 20))), (0, .ref (gB G + 24)), (1, .int (nI p)), (2, .int (nI c)), (3, .int (bI (mAl (a 31) (a 32) p (a 35 c) k = true))), (4, .int (nI k))]) hx hb d_Mo_isFree_73 hl (by decide) rfl (fun ls hl => ?_)
                refine lv_iload_n hx hb d_Mo_isFree_75 rfl (lv_at hl 4 rfl) ?_
                refine g_ifeqB (tgt := 110) hx hb d_Mo_isFree_76 (by decide) (fun c_76 => ?_) (fun c_76 => ?_)
                · refine lv_iconst (v := 0) hx hb d_Mo_isFree_110 (by decide) ?_
                  refine lv_istore_n (lv' := [(3, .int 0), (5, .int (nI (20 * p + k - 20))), (0, .ref (gB G + 24)), (1, .int (nI p)), (2, .int (nI c)), (4, .int (nI k))]) hx hb d_Mo_isFree_111 rfl hl (by decide) rfl (fun ls hl => ?_)
                  refine lv_iinc (v := nI (k + 1)) (lv' := [(4, .int (nI (k + 1))), (3, .int 0), (5, .int (nI (20 * p + k - 20))), (0, .ref (gB G + 24)), (1, .int (nI p)), (2, .int (nI c))]) hx hb d_Mo_isFree_112 hl (k := 5) rfl (nI_1 _) (by decide) rfl (fun ls hl => ?_)
                  refine lv_goto (tgt := 56) hx hb d_Mo_isFree_115 (by decide) ?_
                  exact ih (k + 1) (by omega) (by omega) _ _ (by simp [bI, mAl, c_76]) rfl _ rfl _ _ ls M (lv_sub hl [3, 4, 5, 1, 0] rfl)
                · refine lv_aload_n hx hb d_Mo_isFree_79 rfl (lv_at hl 1 rfl) ?_
                  refine g_get (v := .ref (gB G + 31)) F M f_Mo_29 d_Mo_isFree_80 (by omega) mw_24 rfl ?_
                  refine lv_iload hx hb d_Mo_isFree_83 (lv_at hl 0 rfl) ?_
                  refine g_iald (f := (a 31)) F M d_Mo_isFree_85 (by omega) mw_31 (by omega) (by decide) ?_
                  refine lv_iconst (v := 1) hx hb d_Mo_isFree_86 (by decide) ?_
                  refine lv_icmp_le (tgt := 106) hx hb d_Mo_isFree_87 (by decide) (fun c_87 => ?_) (fun c_87 => ?_)
                  · have c_87 := i32_nlt c_87
                    refine lv_iconst (v := 1) hx hb d_Mo_isFree_106 (by decide) ?_
                    refine lv_goto (tgt := 111) hx hb d_Mo_isFree_107 (by decide) ?_
                    refine lv_istore_n (lv' := [(3, .int 1), (5, .int (nI (20 * p + k - 20))), (0, .ref (gB G + 24)), (1, .int (nI p)), (2, .int (nI c)), (4, .int (nI k))]) hx hb d_Mo_isFree_111 rfl hl (by decide) rfl (fun ls hl => ?_)
                    refine lv_iinc (v := nI (k + 1)) (lv' := [(4, .int (nI (k + 1))), (3, .int 1), (5, .int (nI (20 * p + k - 20))), (0, .ref (gB G + 24)), (1, .int (nI p)), (2, .int (nI c))]) hx hb d_Mo_isFree_112 hl (k := 5) rfl (nI_1 _) (by decide) rfl (fun ls hl => ?_)
                    refine lv_goto (tgt := 56) hx hb d_Mo_isFree_115 (by decide) ?_
                    exact ih (k + 1) (by omega) (by omega) _ _ (by simp [bI, mAl, c_76, c_87]) rfl _ rfl _ _ ls M (lv_sub hl [3, 4, 5, 1, 0] rfl)
                  · have c_87 := i32_lt c_87
                    refine lv_aload_n hx hb d_Mo_isFree_90 rfl (lv_at hl 1 rfl) ?_
                    refine g_get (v := .ref (gB G + 32)) F M f_Mo_32 d_Mo_isFree_91 (by omega) mw_24 rfl ?_
                    refine lv_iload hx hb d_Mo_isFree_94 (lv_at hl 0 rfl) ?_
                    refine g_iald (f := (a 32)) F M d_Mo_isFree_96 (by omega) mw_32 (by omega) (by decide) ?_
                    refine lv_aload_n hx hb d_Mo_isFree_97 rfl (lv_at hl 1 rfl) ?_
                    refine g_get (v := .ref (gB G + 35)) F M f_Mo_42 d_Mo_isFree_98 (by omega) mw_24 rfl ?_
                    refine lv_iload_n hx hb d_Mo_isFree_101 rfl (lv_at hl 3 rfl) ?_
                    refine g_iald (f := (a 35)) F M d_Mo_isFree_102 (by omega) mw_35 (by omega) (by decide) ?_
                    refine lv_icmp_eq (tgt := 110) hx hb d_Mo_isFree_103 (by decide) (fun c_103 => ?_) (fun c_103 => ?_)
                    · refine lv_iconst (v := 0) hx hb d_Mo_isFree_110 (by decide) ?_
                      refine lv_istore_n (lv' := [(3, .int 0), (5, .int (nI (20 * p + k - 20))), (0, .ref (gB G + 24)), (1, .int (nI p)), (2, .int (nI c)), (4, .int (nI k))]) hx hb d_Mo_isFree_111 rfl hl (by decide) rfl (fun ls hl => ?_)
                      refine lv_iinc (v := nI (k + 1)) (lv' := [(4, .int (nI (k + 1))), (3, .int 0), (5, .int (nI (20 * p + k - 20))), (0, .ref (gB G + 24)), (1, .int (nI p)), (2, .int (nI c))]) hx hb d_Mo_isFree_112 hl (k := 5) rfl (nI_1 _) (by decide) rfl (fun ls hl => ?_)
                      refine lv_goto (tgt := 56) hx hb d_Mo_isFree_115 (by decide) ?_
                      exact ih (k + 1) (by omega) (by omega) _ _ (by simp [bI, mAl, c_76, c_87, c_103]) rfl _ rfl _ _ ls M (lv_sub hl [3, 4, 5, 1, 0] rfl)
                    · refine lv_iconst (v := 1) hx hb d_Mo_isFree_106 (by decide) ?_
                      refine lv_goto (tgt := 111) hx hb d_Mo_isFree_107 (by decide) ?_
                      refine lv_istore_n (lv' := [(3, .int 1), (5, .int (nI (20 * p + k - 20))), (0, .ref (gB G + 24)), (1, .int (nI p)), (2, .int (nI c)), (4, .int (nI k))]) hx hb d_Mo_isFree_111 rfl hl (by decide) rfl (fun ls hl => ?_)
                      refine lv_iinc (v := nI (k + 1)) (lv' := [(4, .int (nI (k + 1))), (3, .int 1), (5, .int (nI (20 * p + k - 20))), (0, .ref (gB G + 24)), (1, .int (nI p)), (2, .int (nI c))]) hx hb d_Mo_isFree_112 hl (k := 5) rfl (nI_1 _) (by decide) rfl (fun ls hl => ?_)
                      refine lv_goto (tgt := 56) hx hb d_Mo_isFree_115 (by decide) ?_
                      exact ih (k + 1) (by omega) (by omega) _ _ (by simp [bI, mAl, c_76, c_87, c_103]) rfl _ rfl _ _ ls M (lv_sub hl [3, 4, 5, 1, 0] rfl)
          exact loop_56 (20 + 1) 0 (by omega) (by omega) _ _ (by simp [bI, mAl]) rfl _ rfl _ _ ls M (lv_sub hl [2, 3, 4, 1, 0] rfl)
        · refine lv_iconst (v := 0) hx hb d_Mo_isFree_49 (by decide) ?_
          exact g_zret F M hr hlocks d_Mo_isFree_50 (by decide) (by decide) (by decide +kernel) (bI_f (fun h => c_46 h.2.2.2.1)).symm rfl (rfl)
set_option maxRecDepth 4000 in
theorem c_Mo_stateOf (l : Launch) (G : gG) (N n : Nat) (sc : Nat → Int32) (now : Int64) (du : Nat → Int64) (a : Nat → Nat → Int32) (w0 : Nat → va_E) (hN : 37 ≤ N) (hcn : sc 2 = nI n) (hn : n ≤ 300) (p : Nat) (hp1 : 1 ≤ p) (hp2 : p ≤ 300) : Met l y_Mo_stateOf (Cond.code y_Mo_stateOf b_Mo_stateOf 2 (some .int) :: gtb) (gR 2 0 0) (gPc G [.ref (gB G + 24), .int (nI p)] (N) (mw G (sc, now, du, a) w0)) (gQ1 G (mSta a p) (N) (mw G (sc, now, du, a) w0)) 0 0 (gA (gB G)) := by
  refine g_met (own := "ClerkRowsModel") (by decide) rfl (Nat.le_of_ble_eq_true rfl) ?_
  intro pg ev s0 mi below meth cd F M hr hlocks hnm ls hl
  have hx := F.1.1
  have hb := F.1.2.1
  have hl : lv_has ls 2 [(0, .ref (gB G + 24)), (1, .int (nI p))] := hl
  refine lv_aload_n hx hb d_Mo_stateOf_0 rfl (lv_at hl 0 rfl) ?_
  refine g_get (v := .ref (gB G + 27)) F M f_Mo_17 d_Mo_stateOf_1 (by omega) mw_24 rfl ?_
  refine lv_iload_n hx hb d_Mo_stateOf_4 rfl (lv_at hl 1 rfl) ?_
  refine g_iald (f := (a 27)) F M d_Mo_stateOf_5 (by omega) mw_27 (by omega) (by decide) ?_
  refine lv_if_eq (tgt := 18) hx hb d_Mo_stateOf_6 (by decide) (fun c_6 => ?_) (fun c_6 => ?_)
  · refine lv_aload_n hx hb d_Mo_stateOf_18 rfl (lv_at hl 0 rfl) ?_
    refine lv_iload_n hx hb d_Mo_stateOf_19 rfl (lv_at hl 1 rfl) ?_
    refine g_call1 (g_rv (rest := []) F M (c_Mo_isTaken l G (N) n sc now du a w0 hN hcn hn p (by omega) (by omega)) k_Mo_87 d_Mo_stateOf_20 ⟨rfl, rfl, by decide, by decide, by decide, by decide⟩ (by omega) mw_24 rfl rfl hl.1 (Nat.le_of_ble_eq_true rfl) rfl) M (fun H locs M => ?_)
    refine g_ifeqB (tgt := 30) hx hb d_Mo_stateOf_23 (by decide) (fun c_23 => ?_) (fun c_23 => ?_)
    · refine lv_iconst (v := 0) hx hb d_Mo_stateOf_30 (by decide) ?_
      exact g_iret F M hr hlocks d_Mo_stateOf_31 (by decide) (by decide) (by unfold mSta; rw [if_pos c_6, bI_f c_23]) rfl (rfl)
    · refine lv_iconst (v := 1) hx hb d_Mo_stateOf_26 (by decide) ?_
      refine lv_goto (tgt := 31) hx hb d_Mo_stateOf_27 (by decide) ?_
      exact g_iret F M hr hlocks d_Mo_stateOf_31 (by decide) (by decide) (by unfold mSta; rw [if_pos c_6, bI_t c_23]) rfl (rfl)
  · refine lv_aload_n hx hb d_Mo_stateOf_9 rfl (lv_at hl 0 rfl) ?_
    refine g_get (v := .ref (gB G + 27)) F M f_Mo_17 d_Mo_stateOf_10 (by omega) mw_24 rfl ?_
    refine lv_iload_n hx hb d_Mo_stateOf_13 rfl (lv_at hl 1 rfl) ?_
    refine g_iald (f := (a 27)) F M d_Mo_stateOf_14 (by omega) mw_27 (by omega) (by decide) ?_
    refine lv_goto (tgt := 31) hx hb d_Mo_stateOf_15 (by decide) ?_
    exact g_iret F M hr hlocks d_Mo_stateOf_31 (by decide) (by decide) (by unfold mSta; rw [if_neg c_6]) rfl (rfl)
set_option maxRecDepth 4000 in
theorem c_Mo_take (l : Launch) (G : gG) (N n : Nat) (sc : Nat → Int32) (now : Int64) (du : Nat → Int64) (a : Nat → Nat → Int32) (w0 : Nat → va_E) (hN : 37 ≤ N) (hcn : sc 2 = nI n) (hn : n ≤ 300) (p : Nat) (hp1 : 1 ≤ p) (hp2 : p ≤ 300) (v : Int32) (q : Nat) (haq : a 29 p = nI q) (hq : q ≤ 2) : Met l y_Mo_take (Cond.code y_Mo_take b_Mo_take 6 none :: gtb) (gR 0 0 0) (gPc G [.ref (gB G + 24), .int (nI p), .int v] (N) (mw G (sc, now, du, a) w0)) (gQ0 G (N) (mw G (sc, now, du, mTakeA a p q v) w0)) 0 0 (gA (gB G)) := by
  refine g_met (own := "ClerkRowsModel") (by decide) rfl (Nat.le_of_ble_eq_true rfl) ?_
  intro pg ev s0 mi below meth cd F M hr hlocks hnm ls hl
  have hx := F.1.1
  have hb := F.1.2.1
  have hl : lv_has ls 6 [(0, .ref (gB G + 24)), (1, .int (nI p)), (2, .int v)] := hl
  refine lv_aload_n hx hb d_Mo_take_0 rfl (lv_at hl 0 rfl) ?_
  refine g_get (v := .ref (gB G + 29)) F M f_Mo_23 d_Mo_take_1 (by omega) mw_24 rfl ?_
  refine lv_iload_n hx hb d_Mo_take_4 rfl (lv_at hl 1 rfl) ?_
  refine g_iald (f := (a 29)) F M d_Mo_take_5 (by omega) mw_29 (by omega) (by decide) ?_
  refine g_topi (x' := nI q) haq ?_
  refine lv_istore_n (lv' := [(3, .int (nI q)), (0, .ref (gB G + 24)), (1, .int (nI p)), (2, .int v)]) hx hb d_Mo_take_6 rfl hl (by decide) rfl (fun ls hl => ?_)
  refine lv_iconst (v := 0) hx hb d_Mo_take_7 (by decide) ?_
  refine lv_istore (lv' := [(4, .int 0), (3, .int (nI q)), (0, .ref (gB G + 24)), (1, .int (nI p)), (2, .int v)]) hx hb d_Mo_take_8 hl (by decide) rfl (fun ls hl => ?_)
  refine lv_iconst (v := 0) hx hb d_Mo_take_10 (by decide) ?_
  refine lv_istore (lv' := [(5, .int 0), (4, .int 0), (3, .int (nI q)), (0, .ref (gB G + 24)), (1, .int (nI p)), (2, .int v)]) hx hb d_Mo_take_11 hl (by decide) rfl (fun ls hl => ?_)
  have loop_13 : ∀ (fuel k : Nat), q < k + fuel → k ≤ q → ∀ (z4 : Int32) (z5 : Int32), z4 = bI (mLike (a 30) p v k = true) → z5 = nI k → ∀ (wz : Nat → va_E), wz = mw G (sc, now, du, a) w0 → ∀ (H : Heap) (locs : List Loc) (ls : Array Slot), gM G s0 (N) wz H locs → lv_has ls 6 [(0, .ref (gB G + 24)), (1, .int (nI p)), (2, .int v), (3, .int (nI q)), (4, .int z4), (5, .int z5)] → W pg l ev (gR 0 0 0) s0 mi ([.ref (gB G + 24), .int (nI p), .int v] : List Value).toArray below meth cd H locs 0 0 (MQ below (gQ0 G (N) (mw G (sc, now, du, mTakeA a p q v) w0)) ([.ref (gB G + 24), .int (nI p), .int v] : List Value).toArray s0 0 0 (gA (gB G))) (F0 mi 13 ls []) := by
    intro fuel
    induction fuel with
    | zero => intro k h1 h2; exact absurd h1 (by omega)
    | succ fuel ih =>
      intro k hk1 hk2 z4 z5 e4 e5 wz ew H locs ls M hl
      subst e4 e5 ew
      have hl : lv_has ls 6 [(0, .ref (gB G + 24)), (1, .int (nI p)), (2, .int v), (3, .int (nI q)), (4, .int (bI (mLike (a 30) p v k = true))), (5, .int (nI k))] := hl
      refine lv_iload hx hb d_Mo_take_13 (lv_at hl 5 rfl) ?_
      refine lv_iload_n hx hb d_Mo_take_15 rfl (lv_at hl 3 rfl) ?_
      refine lv_icmp_ge (tgt := 52) hx hb d_Mo_take_16 (by decide) (fun c_16 => ?_) (fun c_16 => ?_)
      · have c_16 : q ≤ k := (nI_leI (a := q) (b := k) (by omega) (by omega)).mp c_16
        have hkn : q = k := by omega
        subst hkn
        refine lv_aload_n hx hb d_Mo_take_52 rfl (lv_at hl 0 rfl) ?_
        refine g_get (v := .ref (gB G + 30)) F M f_Mo_26 d_Mo_take_53 (by omega) mw_24 rfl ?_
        refine lv_iconst (v := 3) hx hb d_Mo_take_56 (by decide) ?_
        refine lv_iload_n hx hb d_Mo_take_57 rfl (lv_at hl 1 rfl) ?_
        refine lv_imul hx hb d_Mo_take_58 ?_
        refine g_topi (x' := nI (3 * p)) (pk_mul (3) (p)) ?_
        refine lv_iload_n hx hb d_Mo_take_59 rfl (lv_at hl 3 rfl) ?_
        refine lv_iadd hx hb d_Mo_take_60 ?_
        refine g_topi (x' := nI (3 * p + q)) (nI_add (3 * p) (q)) ?_
        refine lv_iload_n hx hb d_Mo_take_61 rfl (lv_at hl 2 rfl) ?_
        refine g_iast (f := (a 30)) F M d_Mo_take_62 (by omega) mw_30 (by omega) (by decide) mw_s_30 (fun H locs M => ?_)
        refine lv_aload_n hx hb d_Mo_take_63 rfl (lv_at hl 0 rfl) ?_
        refine g_get (v := .ref (gB G + 29)) F M f_Mo_23 d_Mo_take_64 (by omega) mw_24 rfl ?_
        refine lv_iload_n hx hb d_Mo_take_67 rfl (lv_at hl 1 rfl) ?_
        refine lv_dup2_11 hx hb d_Mo_take_68 rfl rfl ?_
        refine g_iald (f := (a 29)) F M d_Mo_take_69 (by omega) mw_29 (by omega) (by decide) ?_
        refine g_topi (x' := nI q) haq ?_
        refine lv_iconst (v := 1) hx hb d_Mo_take_70 (by decide) ?_
        refine lv_iadd hx hb d_Mo_take_71 ?_
        refine g_topi (x' := nI (q + 1)) (nI_add (q) (1)) ?_
        refine g_iast (f := (a 29)) F M d_Mo_take_72 (by omega) mw_29 (by omega) (by decide) mw_s_29 (fun H locs M => ?_)
        refine lv_iload hx hb d_Mo_take_73 (lv_at hl 4 rfl) ?_
        refine g_ifeqB (tgt := 103) hx hb d_Mo_take_75 (by decide) (fun c_75 => ?_) (fun c_75 => ?_)
        · refine lv_iload_n hx hb d_Mo_take_103 rfl (lv_at hl 3 rfl) ?_
          refine lv_iconst (v := 2) hx hb d_Mo_take_104 (by decide) ?_
          refine lv_icmp_ne (tgt := 115) hx hb d_Mo_take_105 (by decide) (fun c_105 => ?_) (fun c_105 => ?_)
          · have c_105 : ¬ q = 2 := fun h => c_105 ((nI_eq (a := q) (b := 2) (by omega) (by omega)).mpr h)
            exact g_vret F M hr hlocks d_Mo_take_115 (by decide) (by decide) rfl (by unfold mTakeA mTake0; rw [if_neg c_75, if_neg c_105])
          · have c_105 : q = 2 := (nI_eq (a := q) (b := 2) (by omega) (by omega)).mp c_105
            refine lv_aload_n hx hb d_Mo_take_108 rfl (lv_at hl 0 rfl) ?_
            refine g_get (v := .ref (gB G + 27)) F M f_Mo_17 d_Mo_take_109 (by omega) mw_24 rfl ?_
            refine lv_iload_n hx hb d_Mo_take_112 rfl (lv_at hl 1 rfl) ?_
            refine lv_iconst (v := 3) hx hb d_Mo_take_113 (by decide) ?_
            refine g_iast (f := (a 27)) F M d_Mo_take_114 (by omega) mw_27 (by omega) (by decide) mw_s_27 (fun H locs M => ?_)
            exact g_vret F M hr hlocks d_Mo_take_115 (by decide) (by decide) rfl (by unfold mTakeA mTake0; rw [if_neg c_75, if_pos c_105])
        · refine lv_aload_n hx hb d_Mo_take_78 rfl (lv_at hl 0 rfl) ?_
          refine g_get (v := .ref (gB G + 27)) F M f_Mo_17 d_Mo_take_79 (by omega) mw_24 rfl ?_
          refine lv_iload_n hx hb d_Mo_take_82 rfl (lv_at hl 1 rfl) ?_
          refine lv_iload_n hx hb d_Mo_take_83 rfl (lv_at hl 2 rfl) ?_
          refine lv_if_le (tgt := 91) hx hb d_Mo_take_84 (by decide) (fun c_84 => ?_) (fun c_84 => ?_)
          · have c_84 := i32_nlt c_84
            refine lv_iconst (v := 3) hx hb d_Mo_take_91 (by decide) ?_
            refine g_iast (f := (a 27)) F M d_Mo_take_92 (by omega) mw_27 (by omega) (by decide) mw_s_27 (fun H locs M => ?_)
            refine lv_aload_n hx hb d_Mo_take_93 rfl (lv_at hl 0 rfl) ?_
            refine g_get (v := .ref (gB G + 28)) F M f_Mo_20 d_Mo_take_94 (by omega) mw_24 rfl ?_
            refine lv_iload_n hx hb d_Mo_take_97 rfl (lv_at hl 1 rfl) ?_
            refine lv_iload_n hx hb d_Mo_take_98 rfl (lv_at hl 2 rfl) ?_
            refine g_iast (f := (a 28)) F M d_Mo_take_99 (by omega) mw_28 (by omega) (by decide) mw_s_28 (fun H locs M => ?_)
            refine lv_goto (tgt := 115) hx hb d_Mo_take_100 (by decide) ?_
            exact g_vret F M hr hlocks d_Mo_take_115 (by decide) (by decide) rfl (by unfold mTakeA mTake0; rw [if_pos c_75, if_neg c_84])
          · have c_84 := i32_lt c_84
            refine lv_iconst (v := 2) hx hb d_Mo_take_87 (by decide) ?_
            refine lv_goto (tgt := 92) hx hb d_Mo_take_88 (by decide) ?_
            refine g_iast (f := (a 27)) F M d_Mo_take_92 (by omega) mw_27 (by omega) (by decide) mw_s_27 (fun H locs M => ?_)
            refine lv_aload_n hx hb d_Mo_take_93 rfl (lv_at hl 0 rfl) ?_
            refine g_get (v := .ref (gB G + 28)) F M f_Mo_20 d_Mo_take_94 (by omega) mw_24 rfl ?_
            refine lv_iload_n hx hb d_Mo_take_97 rfl (lv_at hl 1 rfl) ?_
            refine lv_iload_n hx hb d_Mo_take_98 rfl (lv_at hl 2 rfl) ?_
            refine g_iast (f := (a 28)) F M d_Mo_take_99 (by omega) mw_28 (by omega) (by decide) mw_s_28 (fun H locs M => ?_)
            refine lv_goto (tgt := 115) hx hb d_Mo_take_100 (by decide) ?_
            exact g_vret F M hr hlocks d_Mo_take_115 (by decide) (by decide) rfl (by unfold mTakeA mTake0; rw [if_pos c_75, if_pos c_84])
      · have c_16 : ¬ q ≤ k := fun h => c_16 ((nI_leI (a := q) (b := k) (by omega) (by omega)).mpr h)
        refine lv_iload hx hb d_Mo_take_19 (lv_at hl 4 rfl) ?_
        refine g_ifneB (tgt := 39) hx hb d_Mo_take_21 (by decide) (fun c_21 => ?_) (fun c_21 => ?_)
        · refine lv_iconst (v := 1) hx hb d_Mo_take_39 (by decide) ?_
          refine lv_goto (tgt := 44) hx hb d_Mo_take_40 (by decide) ?_
          refine lv_istore (lv' := [(4, .int 1), (0, .ref (gB G + 24)), (1, .int (nI p)), (2, .int v), (3, .int (nI q)), (5, .int (nI k))]) hx hb d_Mo_take_44 hl (by decide) rfl (fun ls hl => ?_)
          refine lv_iinc (v := nI (k + 1)) (lv' := [(5, .int (nI (k + 1))), (4, .int 1), (0, .ref (gB G + 24)), (1, .int (nI p)), (2, .int v), (3, .int (nI q))]) hx hb d_Mo_take_46 hl (k := 5) rfl (nI_1 _) (by decide) rfl (fun ls hl => ?_)
          refine lv_goto (tgt := 13) hx hb d_Mo_take_49 (by decide) ?_
          exact ih (k + 1) (by omega) (by omega) _ _ (by simp [bI, mLike, c_21]) rfl _ rfl _ _ ls M (lv_sub hl [2, 3, 4, 5, 1, 0] rfl)
        · refine lv_aload_n hx hb d_Mo_take_24 rfl (lv_at hl 0 rfl) ?_
          refine g_get (v := .ref (gB G + 30)) F M f_Mo_26 d_Mo_take_25 (by omega) mw_24 rfl ?_
          refine lv_iconst (v := 3) hx hb d_Mo_take_28 (by decide) ?_
          refine lv_iload_n hx hb d_Mo_take_29 rfl (lv_at hl 1 rfl) ?_
          refine lv_imul hx hb d_Mo_take_30 ?_
          refine g_topi (x' := nI (3 * p)) (pk_mul (3) (p)) ?_
          refine lv_iload hx hb d_Mo_take_31 (lv_at hl 5 rfl) ?_
          refine lv_iadd hx hb d_Mo_take_33 ?_
          refine g_topi (x' := nI (3 * p + k)) (nI_add (3 * p) (k)) ?_
          refine g_iald (f := (a 30)) F M d_Mo_take_34 (by omega) mw_30 (by omega) (by decide) ?_
          refine lv_iload_n hx hb d_Mo_take_35 rfl (lv_at hl 2 rfl) ?_
          refine lv_icmp_ne (tgt := 43) hx hb d_Mo_take_36 (by decide) (fun c_36 => ?_) (fun c_36 => ?_)
          · refine lv_iconst (v := 0) hx hb d_Mo_take_43 (by decide) ?_
            refine lv_istore (lv' := [(4, .int 0), (0, .ref (gB G + 24)), (1, .int (nI p)), (2, .int v), (3, .int (nI q)), (5, .int (nI k))]) hx hb d_Mo_take_44 hl (by decide) rfl (fun ls hl => ?_)
            refine lv_iinc (v := nI (k + 1)) (lv' := [(5, .int (nI (k + 1))), (4, .int 0), (0, .ref (gB G + 24)), (1, .int (nI p)), (2, .int v), (3, .int (nI q))]) hx hb d_Mo_take_46 hl (k := 5) rfl (nI_1 _) (by decide) rfl (fun ls hl => ?_)
            refine lv_goto (tgt := 13) hx hb d_Mo_take_49 (by decide) ?_
            exact ih (k + 1) (by omega) (by omega) _ _ (by simp [bI, mLike, c_21, c_36]) rfl _ rfl _ _ ls M (lv_sub hl [2, 3, 4, 5, 1, 0] rfl)
          · refine lv_iconst (v := 1) hx hb d_Mo_take_39 (by decide) ?_
            refine lv_goto (tgt := 44) hx hb d_Mo_take_40 (by decide) ?_
            refine lv_istore (lv' := [(4, .int 1), (0, .ref (gB G + 24)), (1, .int (nI p)), (2, .int v), (3, .int (nI q)), (5, .int (nI k))]) hx hb d_Mo_take_44 hl (by decide) rfl (fun ls hl => ?_)
            refine lv_iinc (v := nI (k + 1)) (lv' := [(5, .int (nI (k + 1))), (4, .int 1), (0, .ref (gB G + 24)), (1, .int (nI p)), (2, .int v), (3, .int (nI q))]) hx hb d_Mo_take_46 hl (k := 5) rfl (nI_1 _) (by decide) rfl (fun ls hl => ?_)
            refine lv_goto (tgt := 13) hx hb d_Mo_take_49 (by decide) ?_
            exact ih (k + 1) (by omega) (by omega) _ _ (by simp [bI, mLike, c_21, c_36]) rfl _ rfl _ _ ls M (lv_sub hl [2, 3, 4, 5, 1, 0] rfl)
  exact loop_13 (q + 1) 0 (by omega) (by omega) _ _ (by simp [bI, mLike]) rfl _ rfl _ _ ls M (lv_sub hl [3, 4, 5, 2, 1, 0] rfl)
end
section
/-! ===== the Model's face ===== -/
abbrev okC (x : Int32) : Prop := ¬ x.toInt64 < 0 ∧ ¬ 19 < x.toInt64
abbrev okT (t now : Int64) : Prop := ¬ t < now ∧ ¬ 1000000000 < t
abbrev okP (n : Nat) (x : Int32) : Prop := ¬ x.toInt64 < 1 ∧ ¬ (nI n).toInt64 < x.toInt64
abbrev okR (x : Int32) (y : Int64) : Prop := ¬ x.toInt64 < 0 ∧ ¬ y < x.toInt64
theorem i2l_toInt (x : Int32) : x.toInt64.toInt = x.toInt := Int32.toInt_toInt64 x
theorem okR_nat {x : Int32} {y : Int64} {k : Nat} (hy : y.toInt = k) (hk : k < 1000000) (h : okR x y) : ∃ j, j ≤ k ∧ x = nI j := by
  obtain ⟨h1, h2⟩ := h
  have a1 : ¬ x.toInt < 0 := fun q => h1 (Int64.lt_iff_toInt_lt.mpr (by rw [i2l_toInt]; exact q))
  have a2 : ¬ (k : Int) < x.toInt := fun q => h2 (Int64.lt_iff_toInt_lt.mpr (by rw [i2l_toInt, hy]; exact q))
  obtain ⟨j, hj, rfl⟩ := nI_of (x := x) (fun q => a1 (by have := Int32.lt_iff_toInt_lt.mp q; exact this))
  rw [nI_toInt hj] at a2
  exact ⟨j, by omega, rfl⟩
theorem okC_nat {x : Int32} (h : okC x) : ∃ k, k < 20 ∧ x = nI k := by
  obtain ⟨j, h1, h2⟩ := okR_nat (k := 19) (by decide +kernel) (by decide) (show okR x 19 from h)
  exact ⟨j, by omega, h2⟩
theorem okP_nat {n : Nat} {x : Int32} (hn : n ≤ 300) (h : okP n x) : ∃ k, 1 ≤ k ∧ k ≤ n ∧ x = nI k := by
  obtain ⟨h1, h2⟩ := h
  have a1 : ¬ x.toInt < 1 := fun q => h1 (Int64.lt_iff_toInt_lt.mpr (by rw [i2l_toInt]; exact q))
  have a2 : ¬ (n : Int) < x.toInt := fun q => h2 (Int64.lt_iff_toInt_lt.mpr (by rw [i2l_toInt, i2l_toInt, nI_toInt (by omega)]; exact q))
  obtain ⟨j, hj, rfl⟩ := nI_of (x := x) (fun q => a1 (by have := Int32.lt_iff_toInt_lt.mp q; rw [Int32.toInt_zero] at this; omega))
  rw [nI_toInt hj] at a1 a2
  exact ⟨j, by omega, by omega, rfl⟩
def mThr (S : MSt) : MSt := (va_up S.1 0 0, S.2)
def mPassS (n : Nat) (t : Int64) (S : MSt) : MSt := (va_up S.1 3 (S.1 3 + nI (mLate (S.2.2.2 27) S.2.2.1 t n)), t, S.2.2.1, va_up S.2.2.2 27 (mPassE (S.2.2.2 27) S.2.2.1 t n))
def mPic (n : Nat) (t : Int64) (x : Int32) (S : MSt) : Int32 × Nat × MSt :=
  if okT t S.2.1 ∧ okR x 3 then if n = 300 then (-104, n, mThr S) else if nI (mOpen (S.2.2.2 27) n) = S.1 1 then (0, n, mThr S) else (nI (n + 1), n + 1, (va_up (va_up S.1 0 0) 2 (nI (n + 1)), S.2.1, vp_updL S.2.2.1 (n + 1) t, va_up S.2.2.2 26 (upd (S.2.2.2 26) (n + 1) x)))
  else (-102, n, mThr S)
/-- the first of the free pictures n, n - 1, .. (k of them) that are due soonest; 0 -/
def mB (a : Nat → Nat → Int32) (du : Nat → Int64) (c n : Nat) : Nat → Nat
  | 0 => 0
  | k + 1 => if mFre a (n - k) c ∧ (mB a du c n k = 0 ∨ ¬ du (mB a du c n k) < du (n - k)) then n - k else mB a du c n k
theorem mB_le (a : Nat → Nat → Int32) (du : Nat → Int64) (c n k : Nat) : mB a du c n k ≤ n := by
  induction k with
  | zero => exact Nat.zero_le _
  | succ k ih => unfold mB; split <;> omega
theorem mB_t {a : Nat → Nat → Int32} {du : Nat → Int64} {c n k : Nat} (h : mFre a (n - k) c ∧ (mB a du c n k = 0 ∨ ¬ du (mB a du c n k) < du (n - k))) : mB a du c n (k + 1) = n - k := by
  show (if _ then _ else _) = _
  rw [if_pos h]
theorem mB_f {a : Nat → Nat → Int32} {du : Nat → Int64} {c n k : Nat} (h : ¬ (mFre a (n - k) c ∧ (mB a du c n k = 0 ∨ ¬ du (mB a du c n k) < du (n - k)))) : mB a du c n (k + 1) = mB a du c n k := by
  show (if _ then _ else _) = _
  rw [if_neg h]
theorem iinc_m1 {n k : Nat} (h : k < n) : nI (n - k) + Int32.ofInt (-1) = nI (n - (k + 1)) := by
  obtain ⟨j, hj⟩ : ∃ j, n - k = j + 1 := ⟨n - k - 1, by omega⟩
  have e1 : n - (k + 1) = j := by omega
  rw [hj, e1]
  exact pk_m1 j
def mGiv1 (n c : Nat) (S : MSt) : Int32 × MSt :=
  (nI (mB S.2.2.2 S.2.2.1 c n n), if 0 < mB S.2.2.2 S.2.2.1 c n n then (S.1, S.2.1, S.2.2.1, va_up (va_up S.2.2.2 31 (upd (S.2.2.2 31) (20 * mB S.2.2.2 S.2.2.1 c n n + c - 20) 2)) 32 (upd (S.2.2.2 32) (20 * mB S.2.2.2 S.2.2.1 c n n + c - 20) (S.2.2.2 35 c))) else S)
def mGiv (n : Nat) (x : Int32) (t : Int64) (S : MSt) : Int32 × MSt :=
  if okC x then if okT t S.2.1 then if ¬ S.2.2.2 34 x.toNatClampNeg = 0 ∧ mHeld (S.2.2.2 31) x.toNatClampNeg n = 0 then mGiv1 n x.toNatClampNeg (mPassS n t (mThr S)) else (-103, mThr S) else (-102, mThr S) else (-101, mThr S)
def mAns2 (a : Nat → Nat → Int32) (c p : Nat) (v : Int32) : Nat → Nat → Int32 := va_up (va_up a 31 (upd (a 31) (20 * p + c - 20) 3)) 33 (upd (a 33) (20 * p + c - 20) v)
def mAns3 (a : Nat → Nat → Int32) (p : Nat) (v : Int32) : Nat → Nat → Int32 := if a 27 p = 0 then mTakeA a p (a 29 p).toNatClampNeg v else a
def mAns1 (c p : Nat) (v : Int32) (S : MSt) : Int32 × MSt := (mSta (mAns3 (mAns2 S.2.2.2 c p v) p v) p, (S.1, S.2.1, S.2.2.1, mAns3 (mAns2 S.2.2.2 c p v) p v))
def mAns (n : Nat) (x1 x2 x3 : Int32) (t : Int64) (S : MSt) : Int32 × MSt :=
  if okC x1 ∧ okP n x2 then if okR x3 9999 ∧ okT t S.2.1 then if mHeld (S.2.2.2 31) x1.toNatClampNeg n = x2.toNatClampNeg then mAns1 x1.toNatClampNeg x2.toNatClampNeg x3 (mPassS n t (mThr S)) else (-103, mThr S) else (-102, mThr S) else (-101, mThr S)
abbrev mSame (a : Nat → Nat → Int32) (c : Nat) (x2 x3 : Int32) : Prop := ¬ a 34 c = 0 ∧ a 35 c = x2 ∧ a 36 c = x3
def mOff1 (c : Nat) (x2 x3 : Int32) (S : MSt) : Int32 × MSt := (bI (¬ mSame S.2.2.2 c x2 x3), (S.1, S.2.1, S.2.2.1, va_up (va_up (va_up S.2.2.2 34 (upd (S.2.2.2 34) c 1)) 35 (upd (S.2.2.2 35) c x2)) 36 (upd (S.2.2.2 36) c x3)))
def mOff (x1 x2 x3 : Int32) (S : MSt) : Int32 × MSt :=
  if okC x1 then if okR x2 4 ∧ okR x3 3 then mOff1 x1.toNatClampNeg x2 x3 (mThr S) else (-102, mThr S) else (-101, mThr S)
def mLea1 (n c : Nat) (S : MSt) : Int32 × MSt := (bI (0 < mHeld (S.2.2.2 31) c n), (S.1, S.2.1, S.2.2.1, if 0 < mHeld (S.2.2.2 31) c n then va_up (va_up S.2.2.2 34 (upd (S.2.2.2 34) c 0)) 31 (upd (S.2.2.2 31) (20 * mHeld (S.2.2.2 31) c n + c - 20) 1) else va_up S.2.2.2 34 (upd (S.2.2.2 34) c 0)))
def mLea (n : Nat) (x : Int32) (S : MSt) : Int32 × MSt :=
  if okC x then if ¬ S.2.2.2 34 x.toNatClampNeg = 0 then mLea1 n x.toNatClampNeg (mThr S) else (-103, mThr S) else (-101, mThr S)
def mTic1 (S : MSt) : Int32 × MSt := (S.1 3, (va_up S.1 3 0, S.2))
def mTic (n : Nat) (t : Int64) (S : MSt) : Int32 × MSt := if okT t S.2.1 then mTic1 (mPassS n t (mThr S)) else (-102, mThr S)
def mSet (n : Nat) (x : Int32) (S : MSt) : Int32 := if okP n x then if S.2.2.2 27 x.toNatClampNeg = 0 then -1 else S.2.2.2 28 x.toNatClampNeg else -101
def mStt (n : Nat) (x : Int32) (S : MSt) : Int32 := if okP n x then mSta S.2.2.2 x.toNatClampNeg else -101
/-- of how many of the pictures 1 .. k both c and d said something (side 1), or the same (side 0) -/
def mAg (f : Nat → Int32) (c d : Nat) (x : Int32) : Nat → Nat
  | 0 => 0
  | k + 1 => if ¬ f (20 * (k + 1) + c - 20) < 0 ∧ ¬ f (20 * (k + 1) + d - 20) < 0 ∧ (x = 1 ∨ f (20 * (k + 1) + c - 20) = f (20 * (k + 1) + d - 20)) then mAg f c d x k + 1 else mAg f c d x k
theorem mAg_le (f : Nat → Int32) (c d : Nat) (x : Int32) (k : Nat) : mAg f c d x k ≤ k := by
  induction k with
  | zero => exact Nat.le_refl _
  | succ k ih => unfold mAg; split <;> omega
theorem mAg_t {f : Nat → Int32} {c d k : Nat} {x : Int32} (h : ¬ f (20 * (k + 1) + c - 20) < 0 ∧ ¬ f (20 * (k + 1) + d - 20) < 0 ∧ (x = 1 ∨ f (20 * (k + 1) + c - 20) = f (20 * (k + 1) + d - 20))) : mAg f c d x (k + 1) = mAg f c d x k + 1 := by
  show (if _ then _ else _) = _
  rw [if_pos h]
theorem mAg_f {f : Nat → Int32} {c d k : Nat} {x : Int32} (h : ¬ (¬ f (20 * (k + 1) + c - 20) < 0 ∧ ¬ f (20 * (k + 1) + d - 20) < 0 ∧ (x = 1 ∨ f (20 * (k + 1) + c - 20) = f (20 * (k + 1) + d - 20)))) : mAg f c d x (k + 1) = mAg f c d x k := by
  show (if _ then _ else _) = _
  rw [if_neg h]
def mAgr (n : Nat) (x1 x2 x3 : Int32) (S : MSt) : Int64 :=
  if okC x1 ∧ okC x2 then if ¬ x3 < 0 ∧ ¬ 1 < x3 ∧ ¬ x1 = x2 then (nI (mAg (S.2.2.2 33) x1.toNatClampNeg x2.toNatClampNeg x3 n)).toInt64 else -102 else -101
set_option maxRecDepth 4000 in
theorem c_Mo_waiting (l : Launch) (G : gG) (N n : Nat) (sc : Nat → Int32) (now : Int64) (du : Nat → Int64) (a : Nat → Nat → Int32) (w0 : Nat → va_E) (hN : 37 ≤ N) (hcn : sc 2 = nI n) (hn : n ≤ 300) : Met l y_Mo_waiting (Cond.code y_Mo_waiting b_Mo_waiting 1 (some .int) :: gtb) (gR 1 0 0) (gPc G [.ref (gB G + 24)] (N) (mw G (sc, now, du, a) w0)) (gQ1 G (nI (mOpen (a 27) n)) (N) (mw G (mThr (sc, now, du, a)) w0)) 0 0 (gA (gB G)) := by
  refine g_met (own := "ClerkRowsModel") (by decide) rfl (Nat.le_of_ble_eq_true rfl) ?_
  intro pg ev s0 mi below meth cd F M hr hlocks hnm ls hl
  have hx := F.1.1
  have hb := F.1.2.1
  have hl : lv_has ls 1 [(0, .ref (gB G + 24))] := hl
  refine lv_aload_n hx hb d_Mo_waiting_0 rfl (lv_at hl 0 rfl) ?_
  refine lv_iconst (v := 0) hx hb d_Mo_waiting_1 (by decide) ?_
  refine g_put F M f_Mo_52 d_Mo_waiting_2 (by omega) mw_24 rfl rfl rfl (Nat.le_of_ble_eq_true rfl) mw_p_thrown (fun H locs M => ?_)
  refine lv_aload_n hx hb d_Mo_waiting_5 rfl (lv_at hl 0 rfl) ?_
  refine g_call1 (g_rv (rest := []) F M (c_Mo_opn l G (N) n (va_up sc 0 0) now du a w0 hN hcn hn) k_Mo_76 d_Mo_waiting_6 ⟨rfl, rfl, by decide, by decide, by decide, by decide⟩ (by omega) mw_24 rfl rfl hl.1 (Nat.le_of_ble_eq_true rfl) rfl) M (fun H locs M => ?_)
  exact g_iret F M hr hlocks d_Mo_waiting_9 (by decide) (by decide) rfl rfl (rfl)
set_option maxRecDepth 4000 in
theorem c_Mo_tick (l : Launch) (G : gG) (N n : Nat) (sc : Nat → Int32) (now : Int64) (du : Nat → Int64) (a : Nat → Nat → Int32) (w0 : Nat → va_E) (t : Int64) (hN : 37 ≤ N) (hcn : sc 2 = nI n) (hn : n ≤ 300) : Met l y_Mo_tick (Cond.code y_Mo_tick b_Mo_tick 4 (some .int) :: gtb) (gR 2 0 0) (gPc G [.ref (gB G + 24), .long t] (N) (mw G (sc, now, du, a) w0)) (gQ1 G ((mTic n t (sc, now, du, a)).1) (N) (mw G (mTic n t (sc, now, du, a)).2 w0)) 0 0 (gA (gB G)) := by
  refine g_met (own := "ClerkRowsModel") (by decide) rfl (Nat.le_of_ble_eq_true rfl) ?_
  intro pg ev s0 mi below meth cd F M hr hlocks hnm ls hl
  have hx := F.1.1
  have hb := F.1.2.1
  have hl : lv_has ls 4 [(0, .ref (gB G + 24)), (1, .long t)] := hl
  refine lv_aload_n hx hb d_Mo_tick_0 rfl (lv_at hl 0 rfl) ?_
  refine lv_iconst (v := 0) hx hb d_Mo_tick_1 (by decide) ?_
  refine g_put F M f_Mo_52 d_Mo_tick_2 (by omega) mw_24 rfl rfl rfl (Nat.le_of_ble_eq_true rfl) mw_p_thrown (fun H locs M => ?_)
  refine lv_aload_n hx hb d_Mo_tick_5 rfl (lv_at hl 0 rfl) ?_
  refine lv_lload_n hx hb d_Mo_tick_6 rfl (lv_at hl 1 rfl) ?_
  refine g_call1 (g_rv (rest := []) F M (c_Mo_isTime l G (N) n (va_up sc 0 0) now du a w0 hN hcn hn t) k_Mo_70 d_Mo_tick_7 ⟨rfl, rfl, by decide, by decide, by decide, by decide⟩ (by omega) mw_24 rfl rfl hl.1 (Nat.le_of_ble_eq_true rfl) rfl) M (fun H locs M => ?_)
  refine g_ifneB (tgt := 16) hx hb d_Mo_tick_10 (by decide) (fun c_10 => ?_) (fun c_10 => ?_)
  · refine lv_aload_n hx hb d_Mo_tick_16 rfl (lv_at hl 0 rfl) ?_
    refine lv_lload_n hx hb d_Mo_tick_17 rfl (lv_at hl 1 rfl) ?_
    refine g_call0 (g_rv (rest := []) F M (c_Mo_pass l G (N) n (va_up sc 0 0) now du a w0 hN hcn hn t) k_Mo_97 d_Mo_tick_18 ⟨rfl, rfl, by decide, by decide, by decide, by decide⟩ (by omega) mw_24 rfl rfl hl.1 (Nat.le_of_ble_eq_true rfl) rfl) M (fun H locs M => ?_)
    refine lv_aload_n hx hb d_Mo_tick_21 rfl (lv_at hl 0 rfl) ?_
    refine g_get (v := .int (sc 3 + nI (mLate (a 27) du t n))) F M f_Mo_80 d_Mo_tick_22 (by omega) mw_24 rfl ?_
    refine lv_istore_n (lv' := [(3, .int (sc 3 + nI (mLate (a 27) du t n))), (0, .ref (gB G + 24)), (1, .long t)]) hx hb d_Mo_tick_25 rfl hl (by decide) rfl (fun ls hl => ?_)
    refine lv_aload_n hx hb d_Mo_tick_26 rfl (lv_at hl 1 rfl) ?_
    refine lv_iconst (v := 0) hx hb d_Mo_tick_27 (by decide) ?_
    refine g_put F M f_Mo_80 d_Mo_tick_28 (by omega) mw_24 rfl rfl rfl (Nat.le_of_ble_eq_true rfl) mw_p_late (fun H locs M => ?_)
    refine lv_iload_n hx hb d_Mo_tick_31 rfl (lv_at hl 0 rfl) ?_
    exact g_iret F M hr hlocks d_Mo_tick_32 (by decide) (by decide) (by unfold mTic; rw [if_pos c_10]; try rfl) rfl (by unfold mTic; rw [if_pos c_10]; try rfl)
  · refine lv_bipush (v := (-102)) hx hb d_Mo_tick_13 (by decide) ?_
    exact g_iret F M hr hlocks d_Mo_tick_15 (by decide) (by decide) (by unfold mTic; rw [if_neg c_10]; try rfl) rfl (by unfold mTic; rw [if_neg c_10]; try rfl)
set_option maxRecDepth 4000 in
theorem c_Mo_settled (l : Launch) (G : gG) (N n : Nat) (sc : Nat → Int32) (now : Int64) (du : Nat → Int64) (a : Nat → Nat → Int32) (w0 : Nat → va_E) (x : Int32) (hN : 37 ≤ N) (hcn : sc 2 = nI n) (hn : n ≤ 300) : Met l y_Mo_settled (Cond.code y_Mo_settled b_Mo_settled 2 (some .int) :: gtb) (gR 2 0 0) (gPc G [.ref (gB G + 24), .int x] (N) (mw G (sc, now, du, a) w0)) (gQ1 G (mSet n x (sc, now, du, a)) (N) (mw G (mThr (sc, now, du, a)) w0)) 0 0 (gA (gB G)) := by
  refine g_met (own := "ClerkRowsModel") (by decide) rfl (Nat.le_of_ble_eq_true rfl) ?_
  intro pg ev s0 mi below meth cd F M hr hlocks hnm ls hl
  have hx := F.1.1
  have hb := F.1.2.1
  have hl : lv_has ls 2 [(0, .ref (gB G + 24)), (1, .int x)] := hl
  refine lv_aload_n hx hb d_Mo_settled_0 rfl (lv_at hl 0 rfl) ?_
  refine lv_iconst (v := 0) hx hb d_Mo_settled_1 (by decide) ?_
  refine g_put F M f_Mo_52 d_Mo_settled_2 (by omega) mw_24 rfl rfl rfl (Nat.le_of_ble_eq_true rfl) mw_p_thrown (fun H locs M => ?_)
  refine lv_aload_n hx hb d_Mo_settled_5 rfl (lv_at hl 0 rfl) ?_
  refine lv_iload_n hx hb d_Mo_settled_6 rfl (lv_at hl 1 rfl) ?_
  refine g_call1 (g_rv (rest := []) F M (c_Mo_isPicture l G (N) n (va_up sc 0 0) now du a w0 hN hcn hn x) k_Mo_105 d_Mo_settled_7 ⟨rfl, rfl, by decide, by decide, by decide, by decide⟩ (by omega) mw_24 rfl rfl hl.1 (Nat.le_of_ble_eq_true rfl) rfl) M (fun H locs M => ?_)
  refine g_ifneB (tgt := 18) hx hb d_Mo_settled_10 (by decide) (fun c_10 => ?_) (fun c_10 => ?_)
  · obtain ⟨kp, hkp1, hkp2, rfl⟩ := okP_nat hn c_10
    have cl_kp : (nI kp).toNatClampNeg = kp := nI_clamp (by omega)
    refine lv_aload_n hx hb d_Mo_settled_18 rfl (lv_at hl 0 rfl) ?_
    refine g_get (v := .ref (gB G + 27)) F M f_Mo_17 d_Mo_settled_19 (by omega) mw_24 rfl ?_
    refine lv_iload_n hx hb d_Mo_settled_22 rfl (lv_at hl 1 rfl) ?_
    refine g_iald (f := (a 27)) F M d_Mo_settled_23 (by omega) mw_27 (by omega) (by decide) ?_
    refine lv_if_ne (tgt := 31) hx hb d_Mo_settled_24 (by decide) (fun c_24 => ?_) (fun c_24 => ?_)
    · refine lv_aload_n hx hb d_Mo_settled_31 rfl (lv_at hl 0 rfl) ?_
      refine g_get (v := .ref (gB G + 28)) F M f_Mo_20 d_Mo_settled_32 (by omega) mw_24 rfl ?_
      refine lv_iload_n hx hb d_Mo_settled_35 rfl (lv_at hl 1 rfl) ?_
      refine g_iald (f := (a 28)) F M d_Mo_settled_36 (by omega) mw_28 (by omega) (by decide) ?_
      exact g_iret F M hr hlocks d_Mo_settled_37 (by decide) (by decide) (by unfold mSet; rw [if_pos c_10, cl_kp, if_neg c_24]; try rfl) rfl (rfl)
    · refine lv_iconst (v := (-1)) hx hb d_Mo_settled_27 (by decide) ?_
      refine lv_goto (tgt := 37) hx hb d_Mo_settled_28 (by decide) ?_
      exact g_iret F M hr hlocks d_Mo_settled_37 (by decide) (by decide) (by unfold mSet; rw [if_pos c_10, cl_kp, if_pos c_24]; try rfl) rfl (rfl)
  · refine lv_bipush (v := (-101)) hx hb d_Mo_settled_13 (by decide) ?_
    refine lv_goto (tgt := 37) hx hb d_Mo_settled_15 (by decide) ?_
    exact g_iret F M hr hlocks d_Mo_settled_37 (by decide) (by decide) (by unfold mSet; rw [if_neg c_10]; try rfl) rfl (rfl)
set_option maxRecDepth 4000 in
theorem c_Mo_state (l : Launch) (G : gG) (N n : Nat) (sc : Nat → Int32) (now : Int64) (du : Nat → Int64) (a : Nat → Nat → Int32) (w0 : Nat → va_E) (x : Int32) (hN : 37 ≤ N) (hcn : sc 2 = nI n) (hn : n ≤ 300) : Met l y_Mo_state (Cond.code y_Mo_state b_Mo_state 2 (some .int) :: gtb) (gR 3 0 0) (gPc G [.ref (gB G + 24), .int x] (N) (mw G (sc, now, du, a) w0)) (gQ1 G (mStt n x (sc, now, du, a)) (N) (mw G (mThr (sc, now, du, a)) w0)) 0 0 (gA (gB G)) := by
  refine g_met (own := "ClerkRowsModel") (by decide) rfl (Nat.le_of_ble_eq_true rfl) ?_
  intro pg ev s0 mi below meth cd F M hr hlocks hnm ls hl
  have hx := F.1.1
  have hb := F.1.2.1
  have hl : lv_has ls 2 [(0, .ref (gB G + 24)), (1, .int x)] := hl
  refine lv_aload_n hx hb d_Mo_state_0 rfl (lv_at hl 0 rfl) ?_
  refine lv_iconst (v := 0) hx hb d_Mo_state_1 (by decide) ?_
  refine g_put F M f_Mo_52 d_Mo_state_2 (by omega) mw_24 rfl rfl rfl (Nat.le_of_ble_eq_true rfl) mw_p_thrown (fun H locs M => ?_)
  refine lv_aload_n hx hb d_Mo_state_5 rfl (lv_at hl 0 rfl) ?_
  refine lv_iload_n hx hb d_Mo_state_6 rfl (lv_at hl 1 rfl) ?_
  refine g_call1 (g_rv (rest := []) F M (c_Mo_isPicture l G (N) n (va_up sc 0 0) now du a w0 hN hcn hn x) k_Mo_105 d_Mo_state_7 ⟨rfl, rfl, by decide, by decide, by decide, by decide⟩ (by omega) mw_24 rfl rfl hl.1 (Nat.le_of_ble_eq_true rfl) rfl) M (fun H locs M => ?_)
  refine g_ifeqB (tgt := 21) hx hb d_Mo_state_10 (by decide) (fun c_10 => ?_) (fun c_10 => ?_)
  · refine lv_bipush (v := (-101)) hx hb d_Mo_state_21 (by decide) ?_
    exact g_iret F M hr hlocks d_Mo_state_23 (by decide) (by decide) (by unfold mStt; rw [if_neg c_10]; try rfl) rfl (rfl)
  · obtain ⟨kp, hkp1, hkp2, rfl⟩ := okP_nat hn c_10
    have cl_kp : (nI kp).toNatClampNeg = kp := nI_clamp (by omega)
    refine lv_aload_n hx hb d_Mo_state_13 rfl (lv_at hl 0 rfl) ?_
    refine lv_iload_n hx hb d_Mo_state_14 rfl (lv_at hl 1 rfl) ?_
    refine g_call1 (g_rv (rest := []) F M (c_Mo_stateOf l G (N) n (va_up sc 0 0) now du a w0 hN hcn hn kp (by omega) (by omega)) k_Mo_114 d_Mo_state_15 ⟨rfl, rfl, by decide, by decide, by decide, by decide⟩ (by omega) mw_24 rfl rfl hl.1 (Nat.le_of_ble_eq_true rfl) rfl) M (fun H locs M => ?_)
    refine lv_goto (tgt := 23) hx hb d_Mo_state_18 (by decide) ?_
    exact g_iret F M hr hlocks d_Mo_state_23 (by decide) (by decide) (by unfold mStt; rw [if_pos c_10, cl_kp]; try rfl) rfl (rfl)
set_option maxRecDepth 4000 in
theorem c_Mo_office (l : Launch) (G : gG) (N n : Nat) (sc : Nat → Int32) (now : Int64) (du : Nat → Int64) (a : Nat → Nat → Int32) (w0 : Nat → va_E) (x1 x2 x3 : Int32) (hN : 37 ≤ N) (hcn : sc 2 = nI n) (hn : n ≤ 300) : Met l y_Mo_office (Cond.code y_Mo_office b_Mo_office 5 (some .int) :: gtb) (gR 2 0 0) (gPc G [.ref (gB G + 24), .int x1, .int x2, .int x3] (N) (mw G (sc, now, du, a) w0)) (gQ1 G ((mOff x1 x2 x3 (sc, now, du, a)).1) (N) (mw G (mOff x1 x2 x3 (sc, now, du, a)).2 w0)) 0 0 (gA (gB G)) := by
  refine g_met (own := "ClerkRowsModel") (by decide) rfl (Nat.le_of_ble_eq_true rfl) ?_
  intro pg ev s0 mi below meth cd F M hr hlocks hnm ls hl
  have hx := F.1.1
  have hb := F.1.2.1
  have hl : lv_has ls 5 [(0, .ref (gB G + 24)), (1, .int x1), (2, .int x2), (3, .int x3)] := hl
  refine lv_aload_n hx hb d_Mo_office_0 rfl (lv_at hl 0 rfl) ?_
  refine lv_iconst (v := 0) hx hb d_Mo_office_1 (by decide) ?_
  refine g_put F M f_Mo_52 d_Mo_office_2 (by omega) mw_24 rfl rfl rfl (Nat.le_of_ble_eq_true rfl) mw_p_thrown (fun H locs M => ?_)
  refine lv_iload_n hx hb d_Mo_office_5 rfl (lv_at hl 1 rfl) ?_
  refine g_call1 (g_rs (rest := []) F M (c_Mo_isClerk l G (N) (mw G (va_up sc 0 0, now, du, a) w0) x1) k_Mo_90 d_Mo_office_6 ⟨rfl, rfl, by decide, by decide, by decide, by decide⟩ rfl hl.1 (Nat.le_of_ble_eq_true rfl) rfl) M (fun H locs M => ?_)
  refine g_ifneB (tgt := 15) hx hb d_Mo_office_9 (by decide) (fun c_9 => ?_) (fun c_9 => ?_)
  · obtain ⟨kc, hkc, rfl⟩ := okC_nat c_9
    have cl_kc : (nI kc).toNatClampNeg = kc := nI_clamp (by omega)
    refine lv_iload_n hx hb d_Mo_office_15 rfl (lv_at hl 2 rfl) ?_
    refine lv_i2l hx hb d_Mo_office_16 rfl ?_
    refine lv_lconst (v := 0) hx hb d_Mo_office_17 (by decide) ?_
    refine lv_ldc2 (v := 4) hx hb F.1.2.2.2.1 (F.1.2.2.2.2 _ wd_388) d_Mo_office_18 ?_
    refine g_call1 (g_rs (rest := []) F M (c_Mo_isIn l G (N) (mw G (va_up sc 0 0, now, du, a) w0) x2.toInt64 0 4) k_Mo_58 d_Mo_office_21 ⟨rfl, rfl, by decide, by decide, by decide, by decide⟩ rfl hl.1 (Nat.le_of_ble_eq_true rfl) rfl) M (fun H locs M => ?_)
    refine g_ifeqB (tgt := 39) hx hb d_Mo_office_24 (by decide) (fun c_24 => ?_) (fun c_24 => ?_)
    · refine lv_bipush (v := (-102)) hx hb d_Mo_office_39 (by decide) ?_
      exact g_iret F M hr hlocks d_Mo_office_41 (by decide) (by decide) (by unfold mOff; rw [if_pos c_9, if_neg (fun h => c_24 h.1)]; try rfl) rfl (by unfold mOff; rw [if_pos c_9, if_neg (fun h => c_24 h.1)]; try rfl)
    · refine lv_iload_n hx hb d_Mo_office_27 rfl (lv_at hl 3 rfl) ?_
      refine lv_i2l hx hb d_Mo_office_28 rfl ?_
      refine lv_lconst (v := 0) hx hb d_Mo_office_29 (by decide) ?_
      refine lv_ldc2 (v := 3) hx hb F.1.2.2.2.1 (F.1.2.2.2.2 _ wd_334) d_Mo_office_30 ?_
      refine g_call1 (g_rs (rest := []) F M (c_Mo_isIn l G (N) (mw G (va_up sc 0 0, now, du, a) w0) x3.toInt64 0 3) k_Mo_58 d_Mo_office_33 ⟨rfl, rfl, by decide, by decide, by decide, by decide⟩ rfl hl.1 (Nat.le_of_ble_eq_true rfl) rfl) M (fun H locs M => ?_)
      refine g_ifneB (tgt := 42) hx hb d_Mo_office_36 (by decide) (fun c_36 => ?_) (fun c_36 => ?_)
      · refine lv_aload_n hx hb d_Mo_office_42 rfl (lv_at hl 0 rfl) ?_
        refine g_get (v := .ref (gB G + 34)) F M f_Mo_38 d_Mo_office_43 (by omega) mw_24 rfl ?_
        refine lv_iload_n hx hb d_Mo_office_46 rfl (lv_at hl 1 rfl) ?_
        refine g_zald (f := (a 34)) F M d_Mo_office_47 (by omega) mw_34 (by omega) (by decide) ?_
        refine lv_if_eq (tgt := 75) hx hb d_Mo_office_48 (by decide) (fun c_48 => ?_) (fun c_48 => ?_)
        · refine lv_iconst (v := 0) hx hb d_Mo_office_75 (by decide) ?_
          refine lv_istore (lv' := [(4, .int 0), (0, .ref (gB G + 24)), (1, .int (nI kc)), (2, .int x2), (3, .int x3)]) hx hb d_Mo_office_76 hl (by decide) rfl (fun ls hl => ?_)
          refine lv_aload_n hx hb d_Mo_office_78 rfl (lv_at hl 1 rfl) ?_
          refine g_get (v := .ref (gB G + 34)) F M f_Mo_38 d_Mo_office_79 (by omega) mw_24 rfl ?_
          refine lv_iload_n hx hb d_Mo_office_82 rfl (lv_at hl 2 rfl) ?_
          refine lv_iconst (v := 1) hx hb d_Mo_office_83 (by decide) ?_
          refine g_zast (f := (a 34)) F M d_Mo_office_84 (by omega) mw_34 (by omega) (by decide) (by decide +kernel) mw_s_34 (fun H locs M => ?_)
          refine lv_aload_n hx hb d_Mo_office_85 rfl (lv_at hl 1 rfl) ?_
          refine g_get (v := .ref (gB G + 35)) F M f_Mo_42 d_Mo_office_86 (by omega) mw_24 rfl ?_
          refine lv_iload_n hx hb d_Mo_office_89 rfl (lv_at hl 2 rfl) ?_
          refine lv_iload_n hx hb d_Mo_office_90 rfl (lv_at hl 3 rfl) ?_
          refine g_iast (f := (a 35)) F M d_Mo_office_91 (by omega) mw_35 (by omega) (by decide) mw_s_35 (fun H locs M => ?_)
          refine lv_aload_n hx hb d_Mo_office_92 rfl (lv_at hl 1 rfl) ?_
          refine g_get (v := .ref (gB G + 36)) F M f_Mo_45 d_Mo_office_93 (by omega) mw_24 rfl ?_
          refine lv_iload_n hx hb d_Mo_office_96 rfl (lv_at hl 2 rfl) ?_
          refine lv_iload_n hx hb d_Mo_office_97 rfl (lv_at hl 4 rfl) ?_
          refine g_iast (f := (a 36)) F M d_Mo_office_98 (by omega) mw_36 (by omega) (by decide) mw_s_36 (fun H locs M => ?_)
          refine lv_iload hx hb d_Mo_office_99 (lv_at hl 0 rfl) ?_
          refine lv_if_eq (tgt := 108) hx hb d_Mo_office_101 (by decide) (fun _ => ?_) (fun h => absurd h (by decide))
          refine lv_iconst (v := 1) hx hb d_Mo_office_108 (by decide) ?_
          exact g_iret F M hr hlocks d_Mo_office_109 (by decide) (by decide) (by unfold mOff; rw [if_pos c_9, if_pos ⟨c_24, c_36⟩, cl_kc]; exact (bI_t (P := ¬ mSame a kc x2 x3) (fun h => h.1 c_48)).symm) rfl (by unfold mOff; rw [if_pos c_9, if_pos ⟨c_24, c_36⟩, cl_kc]; rfl)
        · refine lv_aload_n hx hb d_Mo_office_51 rfl (lv_at hl 0 rfl) ?_
          refine g_get (v := .ref (gB G + 35)) F M f_Mo_42 d_Mo_office_52 (by omega) mw_24 rfl ?_
          refine lv_iload_n hx hb d_Mo_office_55 rfl (lv_at hl 1 rfl) ?_
          refine g_iald (f := (a 35)) F M d_Mo_office_56 (by omega) mw_35 (by omega) (by decide) ?_
          refine lv_iload_n hx hb d_Mo_office_57 rfl (lv_at hl 2 rfl) ?_
          refine lv_icmp_ne (tgt := 75) hx hb d_Mo_office_58 (by decide) (fun c_58 => ?_) (fun c_58 => ?_)
          · refine lv_iconst (v := 0) hx hb d_Mo_office_75 (by decide) ?_
            refine lv_istore (lv' := [(4, .int 0), (0, .ref (gB G + 24)), (1, .int (nI kc)), (2, .int x2), (3, .int x3)]) hx hb d_Mo_office_76 hl (by decide) rfl (fun ls hl => ?_)
            refine lv_aload_n hx hb d_Mo_office_78 rfl (lv_at hl 1 rfl) ?_
            refine g_get (v := .ref (gB G + 34)) F M f_Mo_38 d_Mo_office_79 (by omega) mw_24 rfl ?_
            refine lv_iload_n hx hb d_Mo_office_82 rfl (lv_at hl 2 rfl) ?_
            refine lv_iconst (v := 1) hx hb d_Mo_office_83 (by decide) ?_
            refine g_zast (f := (a 34)) F M d_Mo_office_84 (by omega) mw_34 (by omega) (by decide) (by decide +kernel) mw_s_34 (fun H locs M => ?_)
            refine lv_aload_n hx hb d_Mo_office_85 rfl (lv_at hl 1 rfl) ?_
            refine g_get (v := .ref (gB G + 35)) F M f_Mo_42 d_Mo_office_86 (by omega) mw_24 rfl ?_
            refine lv_iload_n hx hb d_Mo_office_89 rfl (lv_at hl 2 rfl) ?_
            refine lv_iload_n hx hb d_Mo_office_90 rfl (lv_at hl 3 rfl) ?_
            refine g_iast (f := (a 35)) F M d_Mo_office_91 (by omega) mw_35 (by omega) (by decide) mw_s_35 (fun H locs M => ?_)
            refine lv_aload_n hx hb d_Mo_office_92 rfl (lv_at hl 1 rfl) ?_
            refine g_get (v := .ref (gB G + 36)) F M f_Mo_45 d_Mo_office_93 (by omega) mw_24 rfl ?_
            refine lv_iload_n hx hb d_Mo_office_96 rfl (lv_at hl 2 rfl) ?_
            refine lv_iload_n hx hb d_Mo_office_97 rfl (lv_at hl 4 rfl) ?_
            refine g_iast (f := (a 36)) F M d_Mo_office_98 (by omega) mw_36 (by omega) (by decide) mw_s_36 (fun H locs M => ?_)
            refine lv_iload hx hb d_Mo_office_99 (lv_at hl 0 rfl) ?_
            refine lv_if_eq (tgt := 108) hx hb d_Mo_office_101 (by decide) (fun _ => ?_) (fun h => absurd h (by decide))
            refine lv_iconst (v := 1) hx hb d_Mo_office_108 (by decide) ?_
            exact g_iret F M hr hlocks d_Mo_office_109 (by decide) (by decide) (by unfold mOff; rw [if_pos c_9, if_pos ⟨c_24, c_36⟩, cl_kc]; exact (bI_t (P := ¬ mSame a kc x2 x3) (fun h => c_58 h.2.1)).symm) rfl (by unfold mOff; rw [if_pos c_9, if_pos ⟨c_24, c_36⟩, cl_kc]; rfl)
          · refine lv_aload_n hx hb d_Mo_office_61 rfl (lv_at hl 0 rfl) ?_
            refine g_get (v := .ref (gB G + 36)) F M f_Mo_45 d_Mo_office_62 (by omega) mw_24 rfl ?_
            refine lv_iload_n hx hb d_Mo_office_65 rfl (lv_at hl 1 rfl) ?_
            refine g_iald (f := (a 36)) F M d_Mo_office_66 (by omega) mw_36 (by omega) (by decide) ?_
            refine lv_iload_n hx hb d_Mo_office_67 rfl (lv_at hl 3 rfl) ?_
            refine lv_icmp_ne (tgt := 75) hx hb d_Mo_office_68 (by decide) (fun c_68 => ?_) (fun c_68 => ?_)
            · refine lv_iconst (v := 0) hx hb d_Mo_office_75 (by decide) ?_
              refine lv_istore (lv' := [(4, .int 0), (0, .ref (gB G + 24)), (1, .int (nI kc)), (2, .int x2), (3, .int x3)]) hx hb d_Mo_office_76 hl (by decide) rfl (fun ls hl => ?_)
              refine lv_aload_n hx hb d_Mo_office_78 rfl (lv_at hl 1 rfl) ?_
              refine g_get (v := .ref (gB G + 34)) F M f_Mo_38 d_Mo_office_79 (by omega) mw_24 rfl ?_
              refine lv_iload_n hx hb d_Mo_office_82 rfl (lv_at hl 2 rfl) ?_
              refine lv_iconst (v := 1) hx hb d_Mo_office_83 (by decide) ?_
              refine g_zast (f := (a 34)) F M d_Mo_office_84 (by omega) mw_34 (by omega) (by decide) (by decide +kernel) mw_s_34 (fun H locs M => ?_)
              refine lv_aload_n hx hb d_Mo_office_85 rfl (lv_at hl 1 rfl) ?_
              refine g_get (v := .ref (gB G + 35)) F M f_Mo_42 d_Mo_office_86 (by omega) mw_24 rfl ?_
              refine lv_iload_n hx hb d_Mo_office_89 rfl (lv_at hl 2 rfl) ?_
              refine lv_iload_n hx hb d_Mo_office_90 rfl (lv_at hl 3 rfl) ?_
              refine g_iast (f := (a 35)) F M d_Mo_office_91 (by omega) mw_35 (by omega) (by decide) mw_s_35 (fun H locs M => ?_)
              refine lv_aload_n hx hb d_Mo_office_92 rfl (lv_at hl 1 rfl) ?_
              refine g_get (v := .ref (gB G + 36)) F M f_Mo_45 d_Mo_office_93 (by omega) mw_24 rfl ?_
              refine lv_iload_n hx hb d_Mo_office_96 rfl (lv_at hl 2 rfl) ?_
              refine lv_iload_n hx hb d_Mo_office_97 rfl (lv_at hl 4 rfl) ?_
              refine g_iast (f := (a 36)) F M d_Mo_office_98 (by omega) mw_36 (by omega) (by decide) mw_s_36 (fun H locs M => ?_)
              refine lv_iload hx hb d_Mo_office_99 (lv_at hl 0 rfl) ?_
              refine lv_if_eq (tgt := 108) hx hb d_Mo_office_101 (by decide) (fun _ => ?_) (fun h => absurd h (by decide))
              refine lv_iconst (v := 1) hx hb d_Mo_office_108 (by decide) ?_
              exact g_iret F M hr hlocks d_Mo_office_109 (by decide) (by decide) (by unfold mOff; rw [if_pos c_9, if_pos ⟨c_24, c_36⟩, cl_kc]; exact (bI_t (P := ¬ mSame a kc x2 x3) (fun h => c_68 h.2.2)).symm) rfl (by unfold mOff; rw [if_pos c_9, if_pos ⟨c_24, c_36⟩, cl_kc]; rfl)
            · refine lv_iconst (v := 1) hx hb d_Mo_office_71 (by decide) ?_
              refine lv_goto (tgt := 76) hx hb d_Mo_office_72 (by decide) ?_
              refine lv_istore (lv' := [(4, .int 1), (0, .ref (gB G + 24)), (1, .int (nI kc)), (2, .int x2), (3, .int x3)]) hx hb d_Mo_office_76 hl (by decide) rfl (fun ls hl => ?_)
              refine lv_aload_n hx hb d_Mo_office_78 rfl (lv_at hl 1 rfl) ?_
              refine g_get (v := .ref (gB G + 34)) F M f_Mo_38 d_Mo_office_79 (by omega) mw_24 rfl ?_
              refine lv_iload_n hx hb d_Mo_office_82 rfl (lv_at hl 2 rfl) ?_
              refine lv_iconst (v := 1) hx hb d_Mo_office_83 (by decide) ?_
              refine g_zast (f := (a 34)) F M d_Mo_office_84 (by omega) mw_34 (by omega) (by decide) (by decide +kernel) mw_s_34 (fun H locs M => ?_)
              refine lv_aload_n hx hb d_Mo_office_85 rfl (lv_at hl 1 rfl) ?_
              refine g_get (v := .ref (gB G + 35)) F M f_Mo_42 d_Mo_office_86 (by omega) mw_24 rfl ?_
              refine lv_iload_n hx hb d_Mo_office_89 rfl (lv_at hl 2 rfl) ?_
              refine lv_iload_n hx hb d_Mo_office_90 rfl (lv_at hl 3 rfl) ?_
              refine g_iast (f := (a 35)) F M d_Mo_office_91 (by omega) mw_35 (by omega) (by decide) mw_s_35 (fun H locs M => ?_)
              refine lv_aload_n hx hb d_Mo_office_92 rfl (lv_at hl 1 rfl) ?_
              refine g_get (v := .ref (gB G + 36)) F M f_Mo_45 d_Mo_office_93 (by omega) mw_24 rfl ?_
              refine lv_iload_n hx hb d_Mo_office_96 rfl (lv_at hl 2 rfl) ?_
              refine lv_iload_n hx hb d_Mo_office_97 rfl (lv_at hl 4 rfl) ?_
              refine g_iast (f := (a 36)) F M d_Mo_office_98 (by omega) mw_36 (by omega) (by decide) mw_s_36 (fun H locs M => ?_)
              refine lv_iload hx hb d_Mo_office_99 (lv_at hl 0 rfl) ?_
              refine lv_if_eq (tgt := 108) hx hb d_Mo_office_101 (by decide) (fun h => absurd h (by decide)) (fun _ => ?_)
              refine lv_iconst (v := 0) hx hb d_Mo_office_104 (by decide) ?_
              refine lv_goto (tgt := 109) hx hb d_Mo_office_105 (by decide) ?_
              exact g_iret F M hr hlocks d_Mo_office_109 (by decide) (by decide) (by unfold mOff; rw [if_pos c_9, if_pos ⟨c_24, c_36⟩, cl_kc]; exact (bI_f (P := ¬ mSame a kc x2 x3) (fun h => h ⟨c_48, c_58, c_68⟩)).symm) rfl (by unfold mOff; rw [if_pos c_9, if_pos ⟨c_24, c_36⟩, cl_kc]; rfl)
      · refine lv_bipush (v := (-102)) hx hb d_Mo_office_39 (by decide) ?_
        exact g_iret F M hr hlocks d_Mo_office_41 (by decide) (by decide) (by unfold mOff; rw [if_pos c_9, if_neg (fun h => c_36 h.2)]; try rfl) rfl (by unfold mOff; rw [if_pos c_9, if_neg (fun h => c_36 h.2)]; try rfl)
  · refine lv_bipush (v := (-101)) hx hb d_Mo_office_12 (by decide) ?_
    exact g_iret F M hr hlocks d_Mo_office_14 (by decide) (by decide) (by unfold mOff; rw [if_neg c_9]; try rfl) rfl (by unfold mOff; rw [if_neg c_9]; try rfl)
set_option maxRecDepth 4000 in
theorem c_Mo_leave (l : Launch) (G : gG) (N n : Nat) (sc : Nat → Int32) (now : Int64) (du : Nat → Int64) (a : Nat → Nat → Int32) (w0 : Nat → va_E) (x1 : Int32) (hN : 37 ≤ N) (hcn : sc 2 = nI n) (hn : n ≤ 300) : Met l y_Mo_leave (Cond.code y_Mo_leave b_Mo_leave 3 (some .int) :: gtb) (gR 2 0 0) (gPc G [.ref (gB G + 24), .int x1] (N) (mw G (sc, now, du, a) w0)) (gQ1 G ((mLea n x1 (sc, now, du, a)).1) (N) (mw G (mLea n x1 (sc, now, du, a)).2 w0)) 0 0 (gA (gB G)) := by
  refine g_met (own := "ClerkRowsModel") (by decide) rfl (Nat.le_of_ble_eq_true rfl) ?_
  intro pg ev s0 mi below meth cd F M hr hlocks hnm ls hl
  have hx := F.1.1
  have hb := F.1.2.1
  have hl : lv_has ls 3 [(0, .ref (gB G + 24)), (1, .int x1)] := hl
  refine lv_aload_n hx hb d_Mo_leave_0 rfl (lv_at hl 0 rfl) ?_
  refine lv_iconst (v := 0) hx hb d_Mo_leave_1 (by decide) ?_
  refine g_put F M f_Mo_52 d_Mo_leave_2 (by omega) mw_24 rfl rfl rfl (Nat.le_of_ble_eq_true rfl) mw_p_thrown (fun H locs M => ?_)
  refine lv_iload_n hx hb d_Mo_leave_5 rfl (lv_at hl 1 rfl) ?_
  refine g_call1 (g_rs (rest := []) F M (c_Mo_isClerk l G (N) (mw G (va_up sc 0 0, now, du, a) w0) x1) k_Mo_90 d_Mo_leave_6 ⟨rfl, rfl, by decide, by decide, by decide, by decide⟩ rfl hl.1 (Nat.le_of_ble_eq_true rfl) rfl) M (fun H locs M => ?_)
  refine g_ifneB (tgt := 15) hx hb d_Mo_leave_9 (by decide) (fun c_9 => ?_) (fun c_9 => ?_)
  · obtain ⟨kc, hkc, rfl⟩ := okC_nat c_9
    have cl_kc : (nI kc).toNatClampNeg = kc := nI_clamp (by omega)
    have hhl := mHeld_le (a 31) kc n
    refine lv_aload_n hx hb d_Mo_leave_15 rfl (lv_at hl 0 rfl) ?_
    refine g_get (v := .ref (gB G + 34)) F M f_Mo_38 d_Mo_leave_16 (by omega) mw_24 rfl ?_
    refine lv_iload_n hx hb d_Mo_leave_19 rfl (lv_at hl 1 rfl) ?_
    refine g_zald (f := (a 34)) F M d_Mo_leave_20 (by omega) mw_34 (by omega) (by decide) ?_
    refine lv_if_ne (tgt := 27) hx hb d_Mo_leave_21 (by decide) (fun c_21 => ?_) (fun c_21 => ?_)
    · refine lv_aload_n hx hb d_Mo_leave_27 rfl (lv_at hl 0 rfl) ?_
      refine g_get (v := .ref (gB G + 34)) F M f_Mo_38 d_Mo_leave_28 (by omega) mw_24 rfl ?_
      refine lv_iload_n hx hb d_Mo_leave_31 rfl (lv_at hl 1 rfl) ?_
      refine lv_iconst (v := 0) hx hb d_Mo_leave_32 (by decide) ?_
      refine g_zast (f := (a 34)) F M d_Mo_leave_33 (by omega) mw_34 (by omega) (by decide) (by decide +kernel) mw_s_34 (fun H locs M => ?_)
      refine lv_aload_n hx hb d_Mo_leave_34 rfl (lv_at hl 0 rfl) ?_
      refine lv_iload_n hx hb d_Mo_leave_35 rfl (lv_at hl 1 rfl) ?_
      refine g_call1 (g_rv (rest := []) F M (c_Mo_held l G (N) n (va_up sc 0 0) now du (va_up a 34 (upd (a 34) kc 0)) w0 hN hcn hn kc (by omega)) k_Mo_93 d_Mo_leave_36 ⟨rfl, rfl, by decide, by decide, by decide, by decide⟩ (by omega) mw_24 rfl rfl hl.1 (Nat.le_of_ble_eq_true rfl) rfl) M (fun H locs M => ?_)
      refine lv_istore_n (lv' := [(2, .int (nI (mHeld (a 31) kc n))), (0, .ref (gB G + 24)), (1, .int (nI kc))]) hx hb d_Mo_leave_39 rfl hl (by decide) rfl (fun ls hl => ?_)
      refine lv_iload_n hx hb d_Mo_leave_40 rfl (lv_at hl 0 rfl) ?_
      refine lv_if_le (tgt := 59) hx hb d_Mo_leave_41 (by decide) (fun c_41 => ?_) (fun c_41 => ?_)
      · have c_41 : mHeld (a 31) kc n ≤ 0 := (nI_leI (a := mHeld (a 31) kc n) (b := 0) (by omega) (by omega)).mp c_41
        refine lv_iload_n hx hb d_Mo_leave_59 rfl (lv_at hl 0 rfl) ?_
        refine lv_if_le (tgt := 67) hx hb d_Mo_leave_60 (by decide) (fun c_60 => ?_) (fun c_60 => ?_)
        · have c_60 : mHeld (a 31) kc n ≤ 0 := (nI_leI (a := mHeld (a 31) kc n) (b := 0) (by omega) (by omega)).mp c_60
          refine lv_iconst (v := 0) hx hb d_Mo_leave_67 (by decide) ?_
          exact g_iret F M hr hlocks d_Mo_leave_68 (by decide) (by decide) (by unfold mLea mLea1; rw [if_pos c_9, cl_kc, if_pos c_21]; exact (bI_f (P := 0 < mHeld (a 31) kc n) (by omega)).symm) rfl (by unfold mLea mLea1; rw [if_pos c_9, cl_kc, if_pos c_21]; show _ = mw G (_, _, _, if 0 < mHeld (a 31) kc n then _ else _) w0; rw [if_neg (by omega)]; rfl)
        · have c_60 : ¬ mHeld (a 31) kc n ≤ 0 := fun h => c_60 ((nI_leI (a := mHeld (a 31) kc n) (b := 0) (by omega) (by omega)).mpr h)
          exact absurd c_60 (by omega)
      · have c_41 : ¬ mHeld (a 31) kc n ≤ 0 := fun h => c_41 ((nI_leI (a := mHeld (a 31) kc n) (b := 0) (by omega) (by omega)).mpr h)
        refine lv_aload_n hx hb d_Mo_leave_44 rfl (lv_at hl 1 rfl) ?_
        refine g_get (v := .ref (gB G + 31)) F M f_Mo_29 d_Mo_leave_45 (by omega) mw_24 rfl ?_
        refine lv_bipush (v := 20) hx hb d_Mo_leave_48 (by decide) ?_
        refine lv_iload_n hx hb d_Mo_leave_50 rfl (lv_at hl 0 rfl) ?_
        refine lv_imul hx hb d_Mo_leave_51 ?_
        refine g_topi (x' := nI (20 * (mHeld (a 31) kc n))) (pk_mul (20) (mHeld (a 31) kc n)) ?_
        refine lv_iload_n hx hb d_Mo_leave_52 rfl (lv_at hl 2 rfl) ?_
        refine lv_iadd hx hb d_Mo_leave_53 ?_
        refine g_topi (x' := nI (20 * (mHeld (a 31) kc n) + kc)) (nI_add (20 * (mHeld (a 31) kc n)) (kc)) ?_
        refine lv_bipush (v := 20) hx hb d_Mo_leave_54 (by decide) ?_
        refine lv_isub hx hb d_Mo_leave_56 ?_
        refine g_topi (x' := nI (20 * (mHeld (a 31) kc n) + kc - 20)) (pk_sub (a := 20 * (mHeld (a 31) kc n) + kc) (b := 20) (by omega)) ?_
        refine lv_iconst (v := 1) hx hb d_Mo_leave_57 (by decide) ?_
        refine g_iast (f := (a 31)) F M d_Mo_leave_58 (by omega) mw_31 (by omega) (by decide) mw_s_31 (fun H locs M => ?_)
        refine lv_iload_n hx hb d_Mo_leave_59 rfl (lv_at hl 0 rfl) ?_
        refine lv_if_le (tgt := 67) hx hb d_Mo_leave_60 (by decide) (fun c_60 => ?_) (fun c_60 => ?_)
        · have c_60 : mHeld (a 31) kc n ≤ 0 := (nI_leI (a := mHeld (a 31) kc n) (b := 0) (by omega) (by omega)).mp c_60
          exact absurd c_60 (by omega)
        · have c_60 : ¬ mHeld (a 31) kc n ≤ 0 := fun h => c_60 ((nI_leI (a := mHeld (a 31) kc n) (b := 0) (by omega) (by omega)).mpr h)
          refine lv_iconst (v := 1) hx hb d_Mo_leave_63 (by decide) ?_
          refine lv_goto (tgt := 68) hx hb d_Mo_leave_64 (by decide) ?_
          exact g_iret F M hr hlocks d_Mo_leave_68 (by decide) (by decide) (by unfold mLea mLea1; rw [if_pos c_9, cl_kc, if_pos c_21]; exact (bI_t (P := 0 < mHeld (a 31) kc n) (by omega)).symm) rfl (by unfold mLea mLea1; rw [if_pos c_9, cl_kc, if_pos c_21]; show _ = mw G (_, _, _, if 0 < mHeld (a 31) kc n then _ else _) w0; rw [if_pos (by omega)]; rfl)
    · refine lv_bipush (v := (-103)) hx hb d_Mo_leave_24 (by decide) ?_
      exact g_iret F M hr hlocks d_Mo_leave_26 (by decide) (by decide) (by unfold mLea; rw [if_pos c_9, cl_kc, if_neg (fun h => h c_21)]; try rfl) rfl (by unfold mLea; rw [if_pos c_9, cl_kc, if_neg (fun h => h c_21)]; try rfl)
  · refine lv_bipush (v := (-101)) hx hb d_Mo_leave_12 (by decide) ?_
    exact g_iret F M hr hlocks d_Mo_leave_14 (by decide) (by decide) (by unfold mLea; rw [if_neg c_9]; try rfl) rfl (by unfold mLea; rw [if_neg c_9]; try rfl)
set_option maxRecDepth 4000 in
theorem c_Mo_picture (l : Launch) (G : gG) (N n : Nat) (sc : Nat → Int32) (now : Int64) (du : Nat → Int64) (a : Nat → Nat → Int32) (w0 : Nat → va_E) (t : Int64) (x : Int32) (hN : 37 ≤ N) (hcn : sc 2 = nI n) (hn : n ≤ 300) : Met l y_Mo_picture (Cond.code y_Mo_picture b_Mo_picture 4 (some .int) :: gtb) (gR 2 0 0) (gPc G [.ref (gB G + 24), .long t, .int x] (N) (mw G (sc, now, du, a) w0)) (gQ1 G ((mPic n t x (sc, now, du, a)).1) (N) (mw G (mPic n t x (sc, now, du, a)).2.2 w0)) 0 0 (gA (gB G)) := by
  refine g_met (own := "ClerkRowsModel") (by decide) rfl (Nat.le_of_ble_eq_true rfl) ?_
  intro pg ev s0 mi below meth cd F M hr hlocks hnm ls hl
  have hx := F.1.1
  have hb := F.1.2.1
  have hl : lv_has ls 4 [(0, .ref (gB G + 24)), (1, .long t), (3, .int x)] := hl
  refine lv_aload_n hx hb d_Mo_picture_0 rfl (lv_at hl 0 rfl) ?_
  refine lv_iconst (v := 0) hx hb d_Mo_picture_1 (by decide) ?_
  refine g_put F M f_Mo_52 d_Mo_picture_2 (by omega) mw_24 rfl rfl rfl (Nat.le_of_ble_eq_true rfl) mw_p_thrown (fun H locs M => ?_)
  refine lv_aload_n hx hb d_Mo_picture_5 rfl (lv_at hl 0 rfl) ?_
  refine lv_lload_n hx hb d_Mo_picture_6 rfl (lv_at hl 1 rfl) ?_
  refine g_call1 (g_rv (rest := []) F M (c_Mo_isTime l G (N) n (va_up sc 0 0) now du a w0 hN hcn hn t) k_Mo_70 d_Mo_picture_7 ⟨rfl, rfl, by decide, by decide, by decide, by decide⟩ (by omega) mw_24 rfl rfl hl.1 (Nat.le_of_ble_eq_true rfl) rfl) M (fun H locs M => ?_)
  refine g_ifeqB (tgt := 25) hx hb d_Mo_picture_10 (by decide) (fun c_10 => ?_) (fun c_10 => ?_)
  · refine lv_bipush (v := (-102)) hx hb d_Mo_picture_25 (by decide) ?_
    exact g_iret F M hr hlocks d_Mo_picture_27 (by decide) (by decide) (by unfold mPic; rw [if_neg (fun h => c_10 h.1)]; try rfl) rfl (by unfold mPic; rw [if_neg (fun h => c_10 h.1)]; try rfl)
  · refine lv_iload_n hx hb d_Mo_picture_13 rfl (lv_at hl 2 rfl) ?_
    refine lv_i2l hx hb d_Mo_picture_14 rfl ?_
    refine lv_lconst (v := 0) hx hb d_Mo_picture_15 (by decide) ?_
    refine lv_ldc2 (v := 3) hx hb F.1.2.2.2.1 (F.1.2.2.2.2 _ wd_334) d_Mo_picture_16 ?_
    refine g_call1 (g_rs (rest := []) F M (c_Mo_isIn l G (N) (mw G (va_up sc 0 0, now, du, a) w0) x.toInt64 0 3) k_Mo_58 d_Mo_picture_19 ⟨rfl, rfl, by decide, by decide, by decide, by decide⟩ rfl hl.1 (Nat.le_of_ble_eq_true rfl) rfl) M (fun H locs M => ?_)
    refine g_ifneB (tgt := 28) hx hb d_Mo_picture_22 (by decide) (fun c_22 => ?_) (fun c_22 => ?_)
    · refine lv_aload_n hx hb d_Mo_picture_28 rfl (lv_at hl 0 rfl) ?_
      refine g_get (v := .int (nI n)) F M f_Mo_55 d_Mo_picture_29 (by omega) mw_24 (congrArg (fun z => some (Value.int z)) hcn) ?_
      refine lv_sipush (v := 300) hx hb d_Mo_picture_32 (by decide) ?_
      refine lv_icmp_ne (tgt := 41) hx hb d_Mo_picture_35 (by decide) (fun c_35 => ?_) (fun c_35 => ?_)
      · have c_35 : ¬ n = 300 := fun h => c_35 ((nI_eq (a := n) (b := 300) (by omega) (by omega)).mpr h)
        refine lv_aload_n hx hb d_Mo_picture_41 rfl (lv_at hl 0 rfl) ?_
        refine g_call1 (g_rv (rest := []) F M (c_Mo_opn l G (N) n (va_up sc 0 0) now du a w0 hN hcn hn) k_Mo_76 d_Mo_picture_42 ⟨rfl, rfl, by decide, by decide, by decide, by decide⟩ (by omega) mw_24 rfl rfl hl.1 (Nat.le_of_ble_eq_true rfl) rfl) M (fun H locs M => ?_)
        refine lv_aload_n hx hb d_Mo_picture_45 rfl (lv_at hl 0 rfl) ?_
        refine g_get (v := .int (sc 1)) F M f_Mo_48 d_Mo_picture_46 (by omega) mw_24 rfl ?_
        refine lv_icmp_ne (tgt := 54) hx hb d_Mo_picture_49 (by decide) (fun c_49 => ?_) (fun c_49 => ?_)
        · refine lv_aload_n hx hb d_Mo_picture_54 rfl (lv_at hl 0 rfl) ?_
          refine lv_dup hx hb d_Mo_picture_55 rfl ?_
          refine g_get (v := .int (nI n)) F M f_Mo_55 d_Mo_picture_56 (by omega) mw_24 (congrArg (fun z => some (Value.int z)) hcn) ?_
          refine lv_iconst (v := 1) hx hb d_Mo_picture_59 (by decide) ?_
          refine lv_iadd hx hb d_Mo_picture_60 ?_
          refine g_topi (x' := nI (n + 1)) (nI_add (n) (1)) ?_
          refine g_put F M f_Mo_55 d_Mo_picture_61 (by omega) mw_24 rfl rfl rfl (Nat.le_of_ble_eq_true rfl) mw_p_count (fun H locs M => ?_)
          refine lv_aload_n hx hb d_Mo_picture_64 rfl (lv_at hl 0 rfl) ?_
          refine g_get (v := .ref (gB G + 25)) F M f_Mo_7 d_Mo_picture_65 (by omega) mw_24 rfl ?_
          refine lv_aload_n hx hb d_Mo_picture_68 rfl (lv_at hl 0 rfl) ?_
          refine g_get (v := .int (nI (n + 1))) F M f_Mo_55 d_Mo_picture_69 (by omega) mw_24 rfl ?_
          refine lv_lload_n hx hb d_Mo_picture_72 rfl (lv_at hl 1 rfl) ?_
          refine g_last (f := du) F M d_Mo_picture_73 (by omega) mw_25 (by omega) (by decide) mw_s_25 (fun H locs M => ?_)
          refine lv_aload_n hx hb d_Mo_picture_74 rfl (lv_at hl 0 rfl) ?_
          refine g_get (v := .ref (gB G + 26)) F M f_Mo_13 d_Mo_picture_75 (by omega) mw_24 rfl ?_
          refine lv_aload_n hx hb d_Mo_picture_78 rfl (lv_at hl 0 rfl) ?_
          refine g_get (v := .int (nI (n + 1))) F M f_Mo_55 d_Mo_picture_79 (by omega) mw_24 rfl ?_
          refine lv_iload_n hx hb d_Mo_picture_82 rfl (lv_at hl 2 rfl) ?_
          refine g_iast (f := (a 26)) F M d_Mo_picture_83 (by omega) mw_26 (by omega) (by decide) mw_s_26 (fun H locs M => ?_)
          refine lv_aload_n hx hb d_Mo_picture_84 rfl (lv_at hl 0 rfl) ?_
          refine g_get (v := .int (nI (n + 1))) F M f_Mo_55 d_Mo_picture_85 (by omega) mw_24 rfl ?_
          exact g_iret F M hr hlocks d_Mo_picture_88 (by decide) (by decide) (by unfold mPic; rw [if_pos ⟨c_10, c_22⟩, if_neg c_35, if_neg c_49]; try rfl) rfl (by unfold mPic; rw [if_pos ⟨c_10, c_22⟩, if_neg c_35, if_neg c_49]; try rfl)
        · refine lv_iconst (v := 0) hx hb d_Mo_picture_52 (by decide) ?_
          exact g_iret F M hr hlocks d_Mo_picture_53 (by decide) (by decide) (by unfold mPic; rw [if_pos ⟨c_10, c_22⟩, if_neg c_35, if_pos c_49]; try rfl) rfl (by unfold mPic; rw [if_pos ⟨c_10, c_22⟩, if_neg c_35, if_pos c_49]; try rfl)
      · have c_35 : n = 300 := (nI_eq (a := n) (b := 300) (by omega) (by omega)).mp c_35
        refine lv_bipush (v := (-104)) hx hb d_Mo_picture_38 (by decide) ?_
        exact g_iret F M hr hlocks d_Mo_picture_40 (by decide) (by decide) (by unfold mPic; rw [if_pos ⟨c_10, c_22⟩, if_pos c_35]; try rfl) rfl (by unfold mPic; rw [if_pos ⟨c_10, c_22⟩, if_pos c_35]; try rfl)
    · refine lv_bipush (v := (-102)) hx hb d_Mo_picture_25 (by decide) ?_
      exact g_iret F M hr hlocks d_Mo_picture_27 (by decide) (by decide) (by unfold mPic; rw [if_neg (fun h => c_22 h.2)]; try rfl) rfl (by unfold mPic; rw [if_neg (fun h => c_22 h.2)]; try rfl)
set_option maxRecDepth 4000 in
theorem c_Mo_agreement (l : Launch) (G : gG) (N n : Nat) (sc : Nat → Int32) (now : Int64) (du : Nat → Int64) (a : Nat → Nat → Int32) (w0 : Nat → va_E) (x1 x2 x3 : Int32) (hN : 37 ≤ N) (hcn : sc 2 = nI n) (hn : n ≤ 300) : Met l y_Mo_agreement (Cond.code y_Mo_agreement b_Mo_agreement 8 (some .long) :: gtb) (gR 2 0 0) (gPc G [.ref (gB G + 24), .int x1, .int x2, .int x3] (N) (mw G (sc, now, du, a) w0)) (gQ2 G (mAgr n x1 x2 x3 (sc, now, du, a)) (N) (mw G (mThr (sc, now, du, a)) w0)) 0 0 (gA (gB G)) := by
  refine g_met (own := "ClerkRowsModel") (by decide) rfl (Nat.le_of_ble_eq_true rfl) ?_
  intro pg ev s0 mi below meth cd F M hr hlocks hnm ls hl
  have hx := F.1.1
  have hb := F.1.2.1
  have hl : lv_has ls 8 [(0, .ref (gB G + 24)), (1, .int x1), (2, .int x2), (3, .int x3)] := hl
  refine lv_aload_n hx hb d_Mo_agreement_0 rfl (lv_at hl 0 rfl) ?_
  refine lv_iconst (v := 0) hx hb d_Mo_agreement_1 (by decide) ?_
  refine g_put F M f_Mo_52 d_Mo_agreement_2 (by omega) mw_24 rfl rfl rfl (Nat.le_of_ble_eq_true rfl) mw_p_thrown (fun H locs M => ?_)
  refine lv_iload_n hx hb d_Mo_agreement_5 rfl (lv_at hl 1 rfl) ?_
  refine g_call1 (g_rs (rest := []) F M (c_Mo_isClerk l G (N) (mw G (va_up sc 0 0, now, du, a) w0) x1) k_Mo_90 d_Mo_agreement_6 ⟨rfl, rfl, by decide, by decide, by decide, by decide⟩ rfl hl.1 (Nat.le_of_ble_eq_true rfl) rfl) M (fun H locs M => ?_)
  refine g_ifeqB (tgt := 19) hx hb d_Mo_agreement_9 (by decide) (fun c_9 => ?_) (fun c_9 => ?_)
  · refine lv_ldc2 (v := (-101)) hx hb F.1.2.2.2.1 (F.1.2.2.2.2 _ wd_409) d_Mo_agreement_19 ?_
    exact g_lret F M hr hlocks d_Mo_agreement_22 (by decide) (by decide) (by unfold mAgr; rw [if_neg (fun h => c_9 h.1)]; try rfl) rfl (rfl)
  · refine lv_iload_n hx hb d_Mo_agreement_12 rfl (lv_at hl 2 rfl) ?_
    refine g_call1 (g_rs (rest := []) F M (c_Mo_isClerk l G (N) (mw G (va_up sc 0 0, now, du, a) w0) x2) k_Mo_90 d_Mo_agreement_13 ⟨rfl, rfl, by decide, by decide, by decide, by decide⟩ rfl hl.1 (Nat.le_of_ble_eq_true rfl) rfl) M (fun H locs M => ?_)
    refine g_ifneB (tgt := 23) hx hb d_Mo_agreement_16 (by decide) (fun c_16 => ?_) (fun c_16 => ?_)
    · refine lv_iload_n hx hb d_Mo_agreement_23 rfl (lv_at hl 3 rfl) ?_
      refine lv_if_lt (tgt := 37) hx hb d_Mo_agreement_24 (by decide) (fun c_24 => ?_) (fun c_24 => ?_)
      · refine lv_ldc2 (v := (-102)) hx hb F.1.2.2.2.1 (F.1.2.2.2.2 _ wd_410) d_Mo_agreement_37 ?_
        exact g_lret F M hr hlocks d_Mo_agreement_40 (by decide) (by decide) (by unfold mAgr; rw [if_pos ⟨c_9, c_16⟩, if_neg (fun h => h.1 c_24)]; try rfl) rfl (rfl)
      · refine lv_iload_n hx hb d_Mo_agreement_27 rfl (lv_at hl 3 rfl) ?_
        refine lv_iconst (v := 1) hx hb d_Mo_agreement_28 (by decide) ?_
        refine lv_icmp_gt (tgt := 37) hx hb d_Mo_agreement_29 (by decide) (fun c_29 => ?_) (fun c_29 => ?_)
        · refine lv_ldc2 (v := (-102)) hx hb F.1.2.2.2.1 (F.1.2.2.2.2 _ wd_410) d_Mo_agreement_37 ?_
          exact g_lret F M hr hlocks d_Mo_agreement_40 (by decide) (by decide) (by unfold mAgr; rw [if_pos ⟨c_9, c_16⟩, if_neg (fun h => h.2.1 c_29)]; try rfl) rfl (rfl)
        · refine lv_iload_n hx hb d_Mo_agreement_32 rfl (lv_at hl 1 rfl) ?_
          refine lv_iload_n hx hb d_Mo_agreement_33 rfl (lv_at hl 2 rfl) ?_
          refine lv_icmp_ne (tgt := 41) hx hb d_Mo_agreement_34 (by decide) (fun c_34 => ?_) (fun c_34 => ?_)
          · obtain ⟨kc, hkc, rfl⟩ := okC_nat c_9
            have cl_kc : (nI kc).toNatClampNeg = kc := nI_clamp (by omega)
            obtain ⟨kd, hkd, rfl⟩ := okC_nat c_16
            have cl_kd : (nI kd).toNatClampNeg = kd := nI_clamp (by omega)
            refine lv_iconst (v := 0) hx hb d_Mo_agreement_41 (by decide) ?_
            refine lv_istore (lv' := [(4, .int 0), (0, .ref (gB G + 24)), (1, .int (nI kc)), (2, .int (nI kd)), (3, .int x3)]) hx hb d_Mo_agreement_42 hl (by decide) rfl (fun ls hl => ?_)
            refine lv_iconst (v := 1) hx hb d_Mo_agreement_44 (by decide) ?_
            refine lv_istore (lv' := [(5, .int 1), (4, .int 0), (0, .ref (gB G + 24)), (1, .int (nI kc)), (2, .int (nI kd)), (3, .int x3)]) hx hb d_Mo_agreement_45 hl (by decide) rfl (fun ls hl => ?_)
            have loop_47 : ∀ (fuel k : Nat), n < k + fuel → k ≤ n → ∀ (z4 : Int32) (z5 : Int32), z4 = nI (mAg (a 33) kc kd x3 k) → z5 = nI (k + 1) → ∀ (wz : Nat → va_E), wz = mw G (va_up sc 0 0, now, du, a) w0 → ∀ (H : Heap) (locs : List Loc) (ls : Array Slot), gM G s0 (N) wz H locs → lv_has ls 8 [(0, .ref (gB G + 24)), (1, .int (nI kc)), (2, .int (nI kd)), (3, .int x3), (4, .int z4), (5, .int z5)] → W pg l ev (gR 2 0 0) s0 mi ([.ref (gB G + 24), .int (nI kc), .int (nI kd), .int x3] : List Value).toArray below meth cd H locs 0 0 (MQ below (gQ2 G (mAgr n (nI kc) (nI kd) x3 (sc, now, du, a)) (N) (mw G (mThr (sc, now, du, a)) w0)) ([.ref (gB G + 24), .int (nI kc), .int (nI kd), .int x3] : List Value).toArray s0 0 0 (gA (gB G))) (F0 mi 47 ls []) := by
              intro fuel
              induction fuel with
              | zero => intro k h1 h2; exact absurd h1 (by omega)
              | succ fuel ih =>
                intro k hk1 hk2 z4 z5 e4 e5 wz ew H locs ls M hl
                subst e4 e5 ew
                have hl : lv_has ls 8 [(0, .ref (gB G + 24)), (1, .int (nI kc)), (2, .int (nI kd)), (3, .int x3), (4, .int (nI (mAg (a 33) kc kd x3 k))), (5, .int (nI (k + 1)))] := hl
                refine lv_iload hx hb d_Mo_agreement_47 (lv_at hl 5 rfl) ?_
                refine lv_aload_n hx hb d_Mo_agreement_49 rfl (lv_at hl 0 rfl) ?_
                refine g_get (v := .int (nI n)) F M f_Mo_55 d_Mo_agreement_50 (by omega) mw_24 (congrArg (fun z => some (Value.int z)) hcn) ?_
                refine lv_icmp_gt (tgt := 129) hx hb d_Mo_agreement_53 (by decide) (fun c_53 => ?_) (fun c_53 => ?_)
                · have c_53 : n < k + 1 := (nI_ltI (a := n) (b := k + 1) (by omega) (by omega)).mp c_53
                  have hkn : n = k := by omega
                  subst hkn
                  refine lv_iload hx hb d_Mo_agreement_129 (lv_at hl 4 rfl) ?_
                  refine lv_i2l hx hb d_Mo_agreement_131 rfl ?_
                  exact g_lret F M hr hlocks d_Mo_agreement_132 (by decide) (by decide) (by unfold mAgr; rw [if_pos ⟨c_9, c_16⟩, if_pos ⟨c_24, c_29, c_34⟩, cl_kc, cl_kd]; try rfl) rfl (rfl)
                · have c_53 : ¬ n < k + 1 := fun h => c_53 ((nI_ltI (a := n) (b := k + 1) (by omega) (by omega)).mpr h)
                  have hag := mAg_le (a 33) kc kd x3 k
                  refine lv_aload_n hx hb d_Mo_agreement_56 rfl (lv_at hl 0 rfl) ?_
                  refine g_get (v := .ref (gB G + 33)) F M f_Mo_35 d_Mo_agreement_57 (by omega) mw_24 rfl ?_
                  refine lv_bipush (v := 20) hx hb d_Mo_agreement_60 (by decide) ?_
                  refine lv_iload hx hb d_Mo_agreement_62 (lv_at hl 5 rfl) ?_
                  refine lv_imul hx hb d_Mo_agreement_64 ?_
                  refine g_topi (x' := nI (20 * (k + 1))) (pk_mul (20) (k + 1)) ?_
                  refine lv_iload_n hx hb d_Mo_agreement_65 rfl (lv_at hl 1 rfl) ?_
                  refine lv_iadd hx hb d_Mo_agreement_66 ?_
                  refine g_topi (x' := nI (20 * (k + 1) + kc)) (nI_add (20 * (k + 1)) (kc)) ?_
                  refine lv_bipush (v := 20) hx hb d_Mo_agreement_67 (by decide) ?_
                  refine lv_isub hx hb d_Mo_agreement_69 ?_
                  refine g_topi (x' := nI (20 * (k + 1) + kc - 20)) (pk_sub (a := 20 * (k + 1) + kc) (b := 20) (by omega)) ?_
                  refine g_iald (f := (a 33)) F M d_Mo_agreement_70 (by omega) mw_33 (by omega) (by decide) ?_
                  refine lv_istore (lv' := [(6, .int (a 33 (20 * (k + 1) + kc - 20))), (0, .ref (gB G + 24)), (1, .int (nI kc)), (2, .int (nI kd)), (3, .int x3), (4, .int (nI (mAg (a 33) kc kd x3 k))), (5, .int (nI (k + 1)))]) hx hb d_Mo_agreement_71 hl (by decide) rfl (fun ls hl => ?_)
                  refine lv_aload_n hx hb d_Mo_agreement_73 rfl (lv_at hl 1 rfl) ?_
                  refine g_get (v := .ref (gB G + 33)) F M f_Mo_35 d_Mo_agreement_74 (by omega) mw_24 rfl ?_
                  refine lv_bipush (v := 20) hx hb d_Mo_agreement_77 (by decide) ?_
                  refine lv_iload hx hb d_Mo_agreement_79 (lv_at hl 6 rfl) ?_
                  refine lv_imul hx hb d_Mo_agreement_81 ?_
                  refine g_topi (x' := nI (20 * (k + 1))) (pk_mul (20) (k + 1)) ?_
                  refine lv_iload_n hx hb d_Mo_agreement_82 rfl (lv_at hl 3 rfl) ?_
                  refine lv_iadd hx hb d_Mo_agreement_83 ?_
                  refine g_topi (x' := nI (20 * (k + 1) + kd)) (nI_add (20 * (k + 1)) (kd)) ?_
                  refine lv_bipush (v := 20) hx hb d_Mo_agreement_84 (by decide) ?_
                  refine lv_isub hx hb d_Mo_agreement_86 ?_
                  refine g_topi (x' := nI (20 * (k + 1) + kd - 20)) (pk_sub (a := 20 * (k + 1) + kd) (b := 20) (by omega)) ?_
                  refine g_iald (f := (a 33)) F M d_Mo_agreement_87 (by omega) mw_33 (by omega) (by decide) ?_
                  refine lv_istore (lv' := [(7, .int (a 33 (20 * (k + 1) + kd - 20))), (6, .int (a 33 (20 * (k + 1) + kc - 20))), (0, .ref (gB G + 24)), (1, .int (nI kc)), (2, .int (nI kd)), (3, .int x3), (4, .int (nI (mAg (a 33) kc kd x3 k))), (5, .int (nI (k + 1)))]) hx hb d_Mo_agreement_88 hl (by decide) rfl (fun ls hl => ?_)
                  refine lv_iload hx hb d_Mo_agreement_90 (lv_at hl 1 rfl) ?_
                  refine lv_if_lt (tgt := 119) hx hb d_Mo_agreement_92 (by decide) (fun c_92 => ?_) (fun c_92 => ?_)
                  · refine lv_iload hx hb d_Mo_agreement_119 (lv_at hl 6 rfl) ?_
                    refine lv_istore (lv' := [(4, .int (nI (mAg (a 33) kc kd x3 k))), (7, .int (a 33 (20 * (k + 1) + kd - 20))), (6, .int (a 33 (20 * (k + 1) + kc - 20))), (0, .ref (gB G + 24)), (1, .int (nI kc)), (2, .int (nI kd)), (3, .int x3), (5, .int (nI (k + 1)))]) hx hb d_Mo_agreement_121 hl (by decide) rfl (fun ls hl => ?_)
                    refine lv_iinc (v := nI (k + 1 + 1)) (lv' := [(5, .int (nI (k + 1 + 1))), (4, .int (nI (mAg (a 33) kc kd x3 k))), (7, .int (a 33 (20 * (k + 1) + kd - 20))), (6, .int (a 33 (20 * (k + 1) + kc - 20))), (0, .ref (gB G + 24)), (1, .int (nI kc)), (2, .int (nI kd)), (3, .int x3)]) hx hb d_Mo_agreement_123 hl (k := 7) rfl (nI_1 _) (by decide) rfl (fun ls hl => ?_)
                    refine lv_goto (tgt := 47) hx hb d_Mo_agreement_126 (by decide) ?_
                    exact ih (k + 1) (by omega) (by omega) _ _ (by rw [mAg_f (fun h => h.1 c_92)]) rfl _ rfl _ _ ls M (lv_sub hl [4, 5, 6, 7, 1, 0] rfl)
                  · refine lv_iload hx hb d_Mo_agreement_95 (lv_at hl 0 rfl) ?_
                    refine lv_if_lt (tgt := 119) hx hb d_Mo_agreement_97 (by decide) (fun c_97 => ?_) (fun c_97 => ?_)
                    · refine lv_iload hx hb d_Mo_agreement_119 (lv_at hl 6 rfl) ?_
                      refine lv_istore (lv' := [(4, .int (nI (mAg (a 33) kc kd x3 k))), (7, .int (a 33 (20 * (k + 1) + kd - 20))), (6, .int (a 33 (20 * (k + 1) + kc - 20))), (0, .ref (gB G + 24)), (1, .int (nI kc)), (2, .int (nI kd)), (3, .int x3), (5, .int (nI (k + 1)))]) hx hb d_Mo_agreement_121 hl (by decide) rfl (fun ls hl => ?_)
                      refine lv_iinc (v := nI (k + 1 + 1)) (lv' := [(5, .int (nI (k + 1 + 1))), (4, .int (nI (mAg (a 33) kc kd x3 k))), (7, .int (a 33 (20 * (k + 1) + kd - 20))), (6, .int (a 33 (20 * (k + 1) + kc - 20))), (0, .ref (gB G + 24)), (1, .int (nI kc)), (2, .int (nI kd)), (3, .int x3)]) hx hb d_Mo_agreement_123 hl (k := 7) rfl (nI_1 _) (by decide) rfl (fun ls hl => ?_)
                      refine lv_goto (tgt := 47) hx hb d_Mo_agreement_126 (by decide) ?_
                      exact ih (k + 1) (by omega) (by omega) _ _ (by rw [mAg_f (fun h => h.2.1 c_97)]) rfl _ rfl _ _ ls M (lv_sub hl [4, 5, 6, 7, 1, 0] rfl)
                    · refine lv_iload_n hx hb d_Mo_agreement_100 rfl (lv_at hl 5 rfl) ?_
                      refine lv_iconst (v := 1) hx hb d_Mo_agreement_101 (by decide) ?_
                      refine lv_icmp_eq (tgt := 112) hx hb d_Mo_agreement_102 (by decide) (fun c_102 => ?_) (fun c_102 => ?_)
                      · refine lv_iload hx hb d_Mo_agreement_112 (lv_at hl 6 rfl) ?_
                        refine lv_iconst (v := 1) hx hb d_Mo_agreement_114 (by decide) ?_
                        refine lv_iadd hx hb d_Mo_agreement_115 ?_
                        refine g_topi (x' := nI (mAg (a 33) kc kd x3 k + 1)) (nI_add (mAg (a 33) kc kd x3 k) (1)) ?_
                        refine lv_goto (tgt := 121) hx hb d_Mo_agreement_116 (by decide) ?_
                        refine lv_istore (lv' := [(4, .int (nI (mAg (a 33) kc kd x3 k + 1))), (7, .int (a 33 (20 * (k + 1) + kd - 20))), (6, .int (a 33 (20 * (k + 1) + kc - 20))), (0, .ref (gB G + 24)), (1, .int (nI kc)), (2, .int (nI kd)), (3, .int x3), (5, .int (nI (k + 1)))]) hx hb d_Mo_agreement_121 hl (by decide) rfl (fun ls hl => ?_)
                        refine lv_iinc (v := nI (k + 1 + 1)) (lv' := [(5, .int (nI (k + 1 + 1))), (4, .int (nI (mAg (a 33) kc kd x3 k + 1))), (7, .int (a 33 (20 * (k + 1) + kd - 20))), (6, .int (a 33 (20 * (k + 1) + kc - 20))), (0, .ref (gB G + 24)), (1, .int (nI kc)), (2, .int (nI kd)), (3, .int x3)]) hx hb d_Mo_agreement_123 hl (k := 7) rfl (nI_1 _) (by decide) rfl (fun ls hl => ?_)
                        refine lv_goto (tgt := 47) hx hb d_Mo_agreement_126 (by decide) ?_
                        exact ih (k + 1) (by omega) (by omega) _ _ (by rw [mAg_t ⟨c_92, c_97, Or.inl c_102⟩]) rfl _ rfl _ _ ls M (lv_sub hl [4, 5, 6, 7, 1, 0] rfl)
                      · refine lv_iload hx hb d_Mo_agreement_105 (lv_at hl 1 rfl) ?_
                        refine lv_iload hx hb d_Mo_agreement_107 (lv_at hl 0 rfl) ?_
                        refine lv_icmp_ne (tgt := 119) hx hb d_Mo_agreement_109 (by decide) (fun c_109 => ?_) (fun c_109 => ?_)
                        · refine lv_iload hx hb d_Mo_agreement_119 (lv_at hl 6 rfl) ?_
                          refine lv_istore (lv' := [(4, .int (nI (mAg (a 33) kc kd x3 k))), (7, .int (a 33 (20 * (k + 1) + kd - 20))), (6, .int (a 33 (20 * (k + 1) + kc - 20))), (0, .ref (gB G + 24)), (1, .int (nI kc)), (2, .int (nI kd)), (3, .int x3), (5, .int (nI (k + 1)))]) hx hb d_Mo_agreement_121 hl (by decide) rfl (fun ls hl => ?_)
                          refine lv_iinc (v := nI (k + 1 + 1)) (lv' := [(5, .int (nI (k + 1 + 1))), (4, .int (nI (mAg (a 33) kc kd x3 k))), (7, .int (a 33 (20 * (k + 1) + kd - 20))), (6, .int (a 33 (20 * (k + 1) + kc - 20))), (0, .ref (gB G + 24)), (1, .int (nI kc)), (2, .int (nI kd)), (3, .int x3)]) hx hb d_Mo_agreement_123 hl (k := 7) rfl (nI_1 _) (by decide) rfl (fun ls hl => ?_)
                          refine lv_goto (tgt := 47) hx hb d_Mo_agreement_126 (by decide) ?_
                          exact ih (k + 1) (by omega) (by omega) _ _ (by rw [mAg_f (fun h => h.2.2.elim c_102 c_109)]) rfl _ rfl _ _ ls M (lv_sub hl [4, 5, 6, 7, 1, 0] rfl)
                        · refine lv_iload hx hb d_Mo_agreement_112 (lv_at hl 6 rfl) ?_
                          refine lv_iconst (v := 1) hx hb d_Mo_agreement_114 (by decide) ?_
                          refine lv_iadd hx hb d_Mo_agreement_115 ?_
                          refine g_topi (x' := nI (mAg (a 33) kc kd x3 k + 1)) (nI_add (mAg (a 33) kc kd x3 k) (1)) ?_
                          refine lv_goto (tgt := 121) hx hb d_Mo_agreement_116 (by decide) ?_
                          refine lv_istore (lv' := [(4, .int (nI (mAg (a 33) kc kd x3 k + 1))), (7, .int (a 33 (20 * (k + 1) + kd - 20))), (6, .int (a 33 (20 * (k + 1) + kc - 20))), (0, .ref (gB G + 24)), (1, .int (nI kc)), (2, .int (nI kd)), (3, .int x3), (5, .int (nI (k + 1)))]) hx hb d_Mo_agreement_121 hl (by decide) rfl (fun ls hl => ?_)
                          refine lv_iinc (v := nI (k + 1 + 1)) (lv' := [(5, .int (nI (k + 1 + 1))), (4, .int (nI (mAg (a 33) kc kd x3 k + 1))), (7, .int (a 33 (20 * (k + 1) + kd - 20))), (6, .int (a 33 (20 * (k + 1) + kc - 20))), (0, .ref (gB G + 24)), (1, .int (nI kc)), (2, .int (nI kd)), (3, .int x3)]) hx hb d_Mo_agreement_123 hl (k := 7) rfl (nI_1 _) (by decide) rfl (fun ls hl => ?_)
                          refine lv_goto (tgt := 47) hx hb d_Mo_agreement_126 (by decide) ?_
                          exact ih (k + 1) (by omega) (by omega) _ _ (by rw [mAg_t ⟨c_92, c_97, Or.inr c_109⟩]) rfl _ rfl _ _ ls M (lv_sub hl [4, 5, 6, 7, 1, 0] rfl)
            exact loop_47 (n + 1) 0 (by omega) (by omega) _ _ rfl rfl _ rfl _ _ ls M (lv_sub hl [2, 3, 4, 5, 1, 0] rfl)
          · refine lv_ldc2 (v := (-102)) hx hb F.1.2.2.2.1 (F.1.2.2.2.2 _ wd_410) d_Mo_agreement_37 ?_
            exact g_lret F M hr hlocks d_Mo_agreement_40 (by decide) (by decide) (by unfold mAgr; rw [if_pos ⟨c_9, c_16⟩, if_neg (fun h => h.2.2 c_34)]; try rfl) rfl (rfl)
    · refine lv_ldc2 (v := (-101)) hx hb F.1.2.2.2.1 (F.1.2.2.2.2 _ wd_409) d_Mo_agreement_19 ?_
      exact g_lret F M hr hlocks d_Mo_agreement_22 (by decide) (by decide) (by unfold mAgr; rw [if_neg (fun h => c_16 h.2)]; try rfl) rfl (rfl)
set_option maxRecDepth 4000 in
theorem c_Mo_give (l : Launch) (G : gG) (N n : Nat) (sc : Nat → Int32) (now : Int64) (du : Nat → Int64) (a : Nat → Nat → Int32) (w0 : Nat → va_E) (x1 : Int32) (t : Int64) (hN : 37 ≤ N) (hcn : sc 2 = nI n) (hn : n ≤ 300) : Met l y_Mo_give (Cond.code y_Mo_give b_Mo_give 6 (some .int) :: gtb) (gR 3 0 0) (gPc G [.ref (gB G + 24), .int x1, .long t] (N) (mw G (sc, now, du, a) w0)) (gQ1 G ((mGiv n x1 t (sc, now, du, a)).1) (N) (mw G (mGiv n x1 t (sc, now, du, a)).2 w0)) 0 0 (gA (gB G)) := by
  refine g_met (own := "ClerkRowsModel") (by decide) rfl (Nat.le_of_ble_eq_true rfl) ?_
  intro pg ev s0 mi below meth cd F M hr hlocks hnm ls hl
  have hx := F.1.1
  have hb := F.1.2.1
  have hl : lv_has ls 6 [(0, .ref (gB G + 24)), (1, .int x1), (2, .long t)] := hl
  refine lv_aload_n hx hb d_Mo_give_0 rfl (lv_at hl 0 rfl) ?_
  refine lv_iconst (v := 0) hx hb d_Mo_give_1 (by decide) ?_
  refine g_put F M f_Mo_52 d_Mo_give_2 (by omega) mw_24 rfl rfl rfl (Nat.le_of_ble_eq_true rfl) mw_p_thrown (fun H locs M => ?_)
  refine lv_iload_n hx hb d_Mo_give_5 rfl (lv_at hl 1 rfl) ?_
  refine g_call1 (g_rs (rest := []) F M (c_Mo_isClerk l G (N) (mw G (va_up sc 0 0, now, du, a) w0) x1) k_Mo_90 d_Mo_give_6 ⟨rfl, rfl, by decide, by decide, by decide, by decide⟩ rfl hl.1 (Nat.le_of_ble_eq_true rfl) rfl) M (fun H locs M => ?_)
  refine g_ifneB (tgt := 15) hx hb d_Mo_give_9 (by decide) (fun c_9 => ?_) (fun c_9 => ?_)
  · obtain ⟨kc, hkc, rfl⟩ := okC_nat c_9
    have cl_kc : (nI kc).toNatClampNeg = kc := nI_clamp (by omega)
    have hhl := mHeld_le (a 31) kc n
    refine lv_aload_n hx hb d_Mo_give_15 rfl (lv_at hl 0 rfl) ?_
    refine lv_lload_n hx hb d_Mo_give_16 rfl (lv_at hl 2 rfl) ?_
    refine g_call1 (g_rv (rest := []) F M (c_Mo_isTime l G (N) n (va_up sc 0 0) now du a w0 hN hcn hn t) k_Mo_70 d_Mo_give_17 ⟨rfl, rfl, by decide, by decide, by decide, by decide⟩ (by omega) mw_24 rfl rfl hl.1 (Nat.le_of_ble_eq_true rfl) rfl) M (fun H locs M => ?_)
    refine g_ifneB (tgt := 26) hx hb d_Mo_give_20 (by decide) (fun c_20 => ?_) (fun c_20 => ?_)
    · refine lv_aload_n hx hb d_Mo_give_26 rfl (lv_at hl 0 rfl) ?_
      refine g_get (v := .ref (gB G + 34)) F M f_Mo_38 d_Mo_give_27 (by omega) mw_24 rfl ?_
      refine lv_iload_n hx hb d_Mo_give_30 rfl (lv_at hl 1 rfl) ?_
      refine g_zald (f := (a 34)) F M d_Mo_give_31 (by omega) mw_34 (by omega) (by decide) ?_
      refine lv_if_eq (tgt := 43) hx hb d_Mo_give_32 (by decide) (fun c_32 => ?_) (fun c_32 => ?_)
      · refine lv_bipush (v := (-103)) hx hb d_Mo_give_43 (by decide) ?_
        exact g_iret F M hr hlocks d_Mo_give_45 (by decide) (by decide) (by unfold mGiv; rw [if_pos c_9, if_pos c_20, cl_kc, if_neg (fun h => h.1 c_32)]; try rfl) rfl (by unfold mGiv; rw [if_pos c_9, if_pos c_20, cl_kc, if_neg (fun h => h.1 c_32)]; try rfl)
      · refine lv_aload_n hx hb d_Mo_give_35 rfl (lv_at hl 0 rfl) ?_
        refine lv_iload_n hx hb d_Mo_give_36 rfl (lv_at hl 1 rfl) ?_
        refine g_call1 (g_rv (rest := []) F M (c_Mo_held l G (N) n (va_up sc 0 0) now du a w0 hN hcn hn kc (by omega)) k_Mo_93 d_Mo_give_37 ⟨rfl, rfl, by decide, by decide, by decide, by decide⟩ (by omega) mw_24 rfl rfl hl.1 (Nat.le_of_ble_eq_true rfl) rfl) M (fun H locs M => ?_)
        refine lv_if_le (tgt := 46) hx hb d_Mo_give_40 (by decide) (fun c_40 => ?_) (fun c_40 => ?_)
        · have c_40 : mHeld (a 31) kc n ≤ 0 := (nI_leI (a := mHeld (a 31) kc n) (b := 0) (by omega) (by omega)).mp c_40
          refine lv_aload_n hx hb d_Mo_give_46 rfl (lv_at hl 0 rfl) ?_
          refine lv_lload_n hx hb d_Mo_give_47 rfl (lv_at hl 2 rfl) ?_
          refine g_call0 (g_rv (rest := []) F M (c_Mo_pass l G (N) n (va_up sc 0 0) now du a w0 hN hcn hn t) k_Mo_97 d_Mo_give_48 ⟨rfl, rfl, by decide, by decide, by decide, by decide⟩ (by omega) mw_24 rfl rfl hl.1 (Nat.le_of_ble_eq_true rfl) rfl) M (fun H locs M => ?_)
          refine lv_iconst (v := 0) hx hb d_Mo_give_51 (by decide) ?_
          refine lv_istore (lv' := [(4, .int 0), (0, .ref (gB G + 24)), (1, .int (nI kc)), (2, .long t)]) hx hb d_Mo_give_52 hl (by decide) rfl (fun ls hl => ?_)
          refine lv_aload_n hx hb d_Mo_give_54 rfl (lv_at hl 1 rfl) ?_
          refine g_get (v := .int (nI n)) F M f_Mo_55 d_Mo_give_55 (by omega) mw_24 (congrArg (fun z => some (Value.int z)) hcn) ?_
          refine lv_istore (lv' := [(5, .int (nI n)), (4, .int 0), (0, .ref (gB G + 24)), (1, .int (nI kc)), (2, .long t)]) hx hb d_Mo_give_58 hl (by decide) rfl (fun ls hl => ?_)
          have loop_60 : ∀ (fuel k : Nat), n < k + fuel → k ≤ n → ∀ (z4 : Int32) (z5 : Int32), z4 = nI (mB (va_up a 27 (mPassE (a 27) du t n)) du kc n k) → z5 = nI (n - k) → ∀ (wz : Nat → va_E), wz = mw G (va_up (va_up sc 0 0) 3 (sc 3 + nI (mLate (a 27) du t n)), t, du, va_up a 27 (mPassE (a 27) du t n)) w0 → ∀ (H : Heap) (locs : List Loc) (ls : Array Slot), gM G s0 (N) wz H locs → lv_has ls 6 [(0, .ref (gB G + 24)), (1, .int (nI kc)), (2, .long t), (4, .int z4), (5, .int z5)] → W pg l ev (gR 3 0 0) s0 mi ([.ref (gB G + 24), .int (nI kc), .long t] : List Value).toArray below meth cd H locs 0 0 (MQ below (gQ1 G ((mGiv n (nI kc) t (sc, now, du, a)).1) (N) (mw G (mGiv n (nI kc) t (sc, now, du, a)).2 w0)) ([.ref (gB G + 24), .int (nI kc), .long t] : List Value).toArray s0 0 0 (gA (gB G))) (F0 mi 60 ls []) := by
            intro fuel
            induction fuel with
            | zero => intro k h1 h2; exact absurd h1 (by omega)
            | succ fuel ih =>
              intro k hk1 hk2 z4 z5 e4 e5 wz ew H locs ls M hl
              subst e4 e5 ew
              have hl : lv_has ls 6 [(0, .ref (gB G + 24)), (1, .int (nI kc)), (2, .long t), (4, .int (nI (mB (va_up a 27 (mPassE (a 27) du t n)) du kc n k))), (5, .int (nI (n - k)))] := hl
              refine lv_iload hx hb d_Mo_give_60 (lv_at hl 4 rfl) ?_
              refine lv_if_le (tgt := 113) hx hb d_Mo_give_62 (by decide) (fun c_62 => ?_) (fun c_62 => ?_)
              · have c_62 : n - k ≤ 0 := (nI_leI (a := n - k) (b := 0) (by omega) (by omega)).mp c_62
                have hkn : n = k := by omega
                subst hkn
                have hB := mB_le (va_up a 27 (mPassE (a 27) du t n)) du kc n n
                refine lv_iload hx hb d_Mo_give_113 (lv_at hl 3 rfl) ?_
                refine lv_if_le (tgt := 155) hx hb d_Mo_give_115 (by decide) (fun c_115 => ?_) (fun c_115 => ?_)
                · have c_115 : mB (va_up a 27 (mPassE (a 27) du t n)) du kc n n ≤ 0 := (nI_leI (a := mB (va_up a 27 (mPassE (a 27) du t n)) du kc n n) (b := 0) (by omega) (by omega)).mp c_115
                  refine lv_iload hx hb d_Mo_give_155 (lv_at hl 3 rfl) ?_
                  exact g_iret F M hr hlocks d_Mo_give_157 (by decide) (by decide) (by unfold mGiv; rw [if_pos c_9, if_pos c_20, cl_kc, if_pos ⟨c_32, (show mHeld (a 31) kc n = 0 by omega)⟩]; rfl) rfl (by unfold mGiv mGiv1; rw [if_pos c_9, if_pos c_20, cl_kc, if_pos ⟨c_32, (show mHeld (a 31) kc n = 0 by omega)⟩]; show _ = mw G (if 0 < mB (va_up a 27 (mPassE (a 27) du t n)) du kc n n then _ else _) w0; rw [if_neg (by omega)]; rfl)
                · have c_115 : ¬ mB (va_up a 27 (mPassE (a 27) du t n)) du kc n n ≤ 0 := fun h => c_115 ((nI_leI (a := mB (va_up a 27 (mPassE (a 27) du t n)) du kc n n) (b := 0) (by omega) (by omega)).mpr h)
                  refine lv_aload_n hx hb d_Mo_give_118 rfl (lv_at hl 0 rfl) ?_
                  refine g_get (v := .ref (gB G + 31)) F M f_Mo_29 d_Mo_give_119 (by omega) mw_24 rfl ?_
                  refine lv_bipush (v := 20) hx hb d_Mo_give_122 (by decide) ?_
                  refine lv_iload hx hb d_Mo_give_124 (lv_at hl 3 rfl) ?_
                  refine lv_imul hx hb d_Mo_give_126 ?_
                  refine g_topi (x' := nI (20 * (mB (va_up a 27 (mPassE (a 27) du t n)) du kc n n))) (pk_mul (20) (mB (va_up a 27 (mPassE (a 27) du t n)) du kc n n)) ?_
                  refine lv_iload_n hx hb d_Mo_give_127 rfl (lv_at hl 1 rfl) ?_
                  refine lv_iadd hx hb d_Mo_give_128 ?_
                  refine g_topi (x' := nI (20 * (mB (va_up a 27 (mPassE (a 27) du t n)) du kc n n) + kc)) (nI_add (20 * (mB (va_up a 27 (mPassE (a 27) du t n)) du kc n n)) (kc)) ?_
                  refine lv_bipush (v := 20) hx hb d_Mo_give_129 (by decide) ?_
                  refine lv_isub hx hb d_Mo_give_131 ?_
                  refine g_topi (x' := nI (20 * (mB (va_up a 27 (mPassE (a 27) du t n)) du kc n n) + kc - 20)) (pk_sub (a := 20 * (mB (va_up a 27 (mPassE (a 27) du t n)) du kc n n) + kc) (b := 20) (by omega)) ?_
                  refine lv_iconst (v := 2) hx hb d_Mo_give_132 (by decide) ?_
                  refine g_iast (f := (a 31)) F M d_Mo_give_133 (by omega) mw_31 (by omega) (by decide) mw_s_31 (fun H locs M => ?_)
                  refine lv_aload_n hx hb d_Mo_give_134 rfl (lv_at hl 0 rfl) ?_
                  refine g_get (v := .ref (gB G + 32)) F M f_Mo_32 d_Mo_give_135 (by omega) mw_24 rfl ?_
                  refine lv_bipush (v := 20) hx hb d_Mo_give_138 (by decide) ?_
                  refine lv_iload hx hb d_Mo_give_140 (lv_at hl 3 rfl) ?_
                  refine lv_imul hx hb d_Mo_give_142 ?_
                  refine g_topi (x' := nI (20 * (mB (va_up a 27 (mPassE (a 27) du t n)) du kc n n))) (pk_mul (20) (mB (va_up a 27 (mPassE (a 27) du t n)) du kc n n)) ?_
                  refine lv_iload_n hx hb d_Mo_give_143 rfl (lv_at hl 1 rfl) ?_
                  refine lv_iadd hx hb d_Mo_give_144 ?_
                  refine g_topi (x' := nI (20 * (mB (va_up a 27 (mPassE (a 27) du t n)) du kc n n) + kc)) (nI_add (20 * (mB (va_up a 27 (mPassE (a 27) du t n)) du kc n n)) (kc)) ?_
                  refine lv_bipush (v := 20) hx hb d_Mo_give_145 (by decide) ?_
                  refine lv_isub hx hb d_Mo_give_147 ?_
                  refine g_topi (x' := nI (20 * (mB (va_up a 27 (mPassE (a 27) du t n)) du kc n n) + kc - 20)) (pk_sub (a := 20 * (mB (va_up a 27 (mPassE (a 27) du t n)) du kc n n) + kc) (b := 20) (by omega)) ?_
                  refine lv_aload_n hx hb d_Mo_give_148 rfl (lv_at hl 0 rfl) ?_
                  refine g_get (v := .ref (gB G + 35)) F M f_Mo_42 d_Mo_give_149 (by omega) mw_24 rfl ?_
                  refine lv_iload_n hx hb d_Mo_give_152 rfl (lv_at hl 1 rfl) ?_
                  refine g_iald (f := (a 35)) F M d_Mo_give_153 (by omega) mw_35 (by omega) (by decide) ?_
                  refine g_iast (f := (a 32)) F M d_Mo_give_154 (by omega) mw_32 (by omega) (by decide) mw_s_32 (fun H locs M => ?_)
                  refine lv_iload hx hb d_Mo_give_155 (lv_at hl 3 rfl) ?_
                  exact g_iret F M hr hlocks d_Mo_give_157 (by decide) (by decide) (by unfold mGiv; rw [if_pos c_9, if_pos c_20, cl_kc, if_pos ⟨c_32, (show mHeld (a 31) kc n = 0 by omega)⟩]; rfl) rfl (by unfold mGiv mGiv1; rw [if_pos c_9, if_pos c_20, cl_kc, if_pos ⟨c_32, (show mHeld (a 31) kc n = 0 by omega)⟩]; show _ = mw G (if 0 < mB (va_up a 27 (mPassE (a 27) du t n)) du kc n n then _ else _) w0; rw [if_pos (by omega)]; rfl)
              · have c_62 : ¬ n - k ≤ 0 := fun h => c_62 ((nI_leI (a := n - k) (b := 0) (by omega) (by omega)).mpr h)
                have hB := mB_le (va_up a 27 (mPassE (a 27) du t n)) du kc n k
                refine lv_aload_n hx hb d_Mo_give_65 rfl (lv_at hl 0 rfl) ?_
                refine lv_iload hx hb d_Mo_give_66 (lv_at hl 4 rfl) ?_
                refine lv_iload_n hx hb d_Mo_give_68 rfl (lv_at hl 1 rfl) ?_
                refine g_call1 (g_rv (rest := []) F M (c_Mo_isFree l G (N) n (va_up (va_up sc 0 0) 3 (sc 3 + nI (mLate (a 27) du t n))) t du (va_up a 27 (mPassE (a 27) du t n)) w0 hN hcn hn (n - k) (by omega) (by omega) kc (by omega)) k_Mo_101 d_Mo_give_69 ⟨rfl, rfl, by decide, by decide, by decide, by decide⟩ (by omega) mw_24 rfl rfl hl.1 (Nat.le_of_ble_eq_true rfl) rfl) M (fun H locs M => ?_)
                refine g_ifeqB (tgt := 103) hx hb d_Mo_give_72 (by decide) (fun c_72 => ?_) (fun c_72 => ?_)
                · refine lv_iload hx hb d_Mo_give_103 (lv_at hl 3 rfl) ?_
                  refine lv_istore (lv' := [(4, .int (nI (mB (va_up a 27 (mPassE (a 27) du t n)) du kc n k))), (0, .ref (gB G + 24)), (1, .int (nI kc)), (2, .long t), (5, .int (nI (n - k)))]) hx hb d_Mo_give_105 hl (by decide) rfl (fun ls hl => ?_)
                  refine lv_iinc (v := nI (n - (k + 1))) (lv' := [(5, .int (nI (n - (k + 1)))), (4, .int (nI (mB (va_up a 27 (mPassE (a 27) du t n)) du kc n k))), (0, .ref (gB G + 24)), (1, .int (nI kc)), (2, .long t)]) hx hb d_Mo_give_107 hl (k := 4) rfl (iinc_m1 (by omega)) (by decide) rfl (fun ls hl => ?_)
                  refine lv_goto (tgt := 60) hx hb d_Mo_give_110 (by decide) ?_
                  exact ih (k + 1) (by omega) (by omega) _ _ (by rw [mB_f (fun h => c_72 h.1)]) rfl _ rfl _ _ ls M (lv_sub hl [2, 3, 4, 1, 0] rfl)
                · refine lv_iload hx hb d_Mo_give_75 (lv_at hl 3 rfl) ?_
                  refine lv_if_eq (tgt := 98) hx hb d_Mo_give_77 (by decide) (fun c_77 => ?_) (fun c_77 => ?_)
                  · have c_77 : mB (va_up a 27 (mPassE (a 27) du t n)) du kc n k = 0 := (nI_eq (a := mB (va_up a 27 (mPassE (a 27) du t n)) du kc n k) (b := 0) (by omega) (by omega)).mp c_77
                    refine lv_iload hx hb d_Mo_give_98 (lv_at hl 4 rfl) ?_
                    refine lv_goto (tgt := 105) hx hb d_Mo_give_100 (by decide) ?_
                    refine lv_istore (lv' := [(4, .int (nI (n - k))), (0, .ref (gB G + 24)), (1, .int (nI kc)), (2, .long t), (5, .int (nI (n - k)))]) hx hb d_Mo_give_105 hl (by decide) rfl (fun ls hl => ?_)
                    refine lv_iinc (v := nI (n - (k + 1))) (lv' := [(5, .int (nI (n - (k + 1)))), (4, .int (nI (n - k))), (0, .ref (gB G + 24)), (1, .int (nI kc)), (2, .long t)]) hx hb d_Mo_give_107 hl (k := 4) rfl (iinc_m1 (by omega)) (by decide) rfl (fun ls hl => ?_)
                    refine lv_goto (tgt := 60) hx hb d_Mo_give_110 (by decide) ?_
                    exact ih (k + 1) (by omega) (by omega) _ _ (by rw [mB_t ⟨c_72, Or.inl c_77⟩]) rfl _ rfl _ _ ls M (lv_sub hl [2, 3, 4, 1, 0] rfl)
                  · have c_77 : ¬ mB (va_up a 27 (mPassE (a 27) du t n)) du kc n k = 0 := fun h => c_77 ((nI_eq (a := mB (va_up a 27 (mPassE (a 27) du t n)) du kc n k) (b := 0) (by omega) (by omega)).mpr h)
                    refine lv_aload_n hx hb d_Mo_give_80 rfl (lv_at hl 0 rfl) ?_
                    refine g_get (v := .ref (gB G + 25)) F M f_Mo_7 d_Mo_give_81 (by omega) mw_24 rfl ?_
                    refine lv_iload hx hb d_Mo_give_84 (lv_at hl 4 rfl) ?_
                    refine g_lald (f := du) F M d_Mo_give_86 (by omega) mw_25 (by omega) (by decide) ?_
                    refine lv_aload_n hx hb d_Mo_give_87 rfl (lv_at hl 0 rfl) ?_
                    refine g_get (v := .ref (gB G + 25)) F M f_Mo_7 d_Mo_give_88 (by omega) mw_24 rfl ?_
                    refine lv_iload hx hb d_Mo_give_91 (lv_at hl 3 rfl) ?_
                    refine g_lald (f := du) F M d_Mo_give_93 (by omega) mw_25 (by omega) (by decide) ?_
                    refine g_lcmp_gt (tgt := 103) hx hb d_Mo_give_94 d_Mo_give_95 (by decide) (fun c_95 => ?_) (fun c_95 => ?_)
                    · refine lv_iload hx hb d_Mo_give_103 (lv_at hl 3 rfl) ?_
                      refine lv_istore (lv' := [(4, .int (nI (mB (va_up a 27 (mPassE (a 27) du t n)) du kc n k))), (0, .ref (gB G + 24)), (1, .int (nI kc)), (2, .long t), (5, .int (nI (n - k)))]) hx hb d_Mo_give_105 hl (by decide) rfl (fun ls hl => ?_)
                      refine lv_iinc (v := nI (n - (k + 1))) (lv' := [(5, .int (nI (n - (k + 1)))), (4, .int (nI (mB (va_up a 27 (mPassE (a 27) du t n)) du kc n k))), (0, .ref (gB G + 24)), (1, .int (nI kc)), (2, .long t)]) hx hb d_Mo_give_107 hl (k := 4) rfl (iinc_m1 (by omega)) (by decide) rfl (fun ls hl => ?_)
                      refine lv_goto (tgt := 60) hx hb d_Mo_give_110 (by decide) ?_
                      exact ih (k + 1) (by omega) (by omega) _ _ (by rw [mB_f (fun h => h.2.elim c_77 (fun q => q c_95))]) rfl _ rfl _ _ ls M (lv_sub hl [2, 3, 4, 1, 0] rfl)
                    · refine lv_iload hx hb d_Mo_give_98 (lv_at hl 4 rfl) ?_
                      refine lv_goto (tgt := 105) hx hb d_Mo_give_100 (by decide) ?_
                      refine lv_istore (lv' := [(4, .int (nI (n - k))), (0, .ref (gB G + 24)), (1, .int (nI kc)), (2, .long t), (5, .int (nI (n - k)))]) hx hb d_Mo_give_105 hl (by decide) rfl (fun ls hl => ?_)
                      refine lv_iinc (v := nI (n - (k + 1))) (lv' := [(5, .int (nI (n - (k + 1)))), (4, .int (nI (n - k))), (0, .ref (gB G + 24)), (1, .int (nI kc)), (2, .long t)]) hx hb d_Mo_give_107 hl (k := 4) rfl (iinc_m1 (by omega)) (by decide) rfl (fun ls hl => ?_)
                      refine lv_goto (tgt := 60) hx hb d_Mo_give_110 (by decide) ?_
                      exact ih (k + 1) (by omega) (by omega) _ _ (by rw [mB_t ⟨c_72, Or.inr c_95⟩]) rfl _ rfl _ _ ls M (lv_sub hl [2, 3, 4, 1, 0] rfl)
          exact loop_60 (n + 1) 0 (by omega) (by omega) _ _ rfl rfl _ rfl _ _ ls M (lv_sub hl [2, 3, 4, 1, 0] rfl)
        · have c_40 : ¬ mHeld (a 31) kc n ≤ 0 := fun h => c_40 ((nI_leI (a := mHeld (a 31) kc n) (b := 0) (by omega) (by omega)).mpr h)
          refine lv_bipush (v := (-103)) hx hb d_Mo_give_43 (by decide) ?_
          exact g_iret F M hr hlocks d_Mo_give_45 (by decide) (by decide) (by unfold mGiv; rw [if_pos c_9, if_pos c_20, cl_kc, if_neg (fun h => absurd h.2 (show ¬ mHeld (a 31) kc n = 0 by omega))]; try rfl) rfl (by unfold mGiv; rw [if_pos c_9, if_pos c_20, cl_kc, if_neg (fun h => absurd h.2 (show ¬ mHeld (a 31) kc n = 0 by omega))]; try rfl)
    · refine lv_bipush (v := (-102)) hx hb d_Mo_give_23 (by decide) ?_
      exact g_iret F M hr hlocks d_Mo_give_25 (by decide) (by decide) (by unfold mGiv; rw [if_pos c_9, if_neg c_20]; try rfl) rfl (by unfold mGiv; rw [if_pos c_9, if_neg c_20]; try rfl)
  · refine lv_bipush (v := (-101)) hx hb d_Mo_give_12 (by decide) ?_
    exact g_iret F M hr hlocks d_Mo_give_14 (by decide) (by decide) (by unfold mGiv; rw [if_neg c_9]; try rfl) rfl (by unfold mGiv; rw [if_neg c_9]; try rfl)
theorem mPassE_z {e : Nat → Int32} {du : Nat → Int64} {t : Int64} {k p : Nat} (h : mPassE e du t k p = 0) : e p = 0 := by
  unfold mPassE at h
  split at h
  · exact absurd h (by decide)
  · exact h
set_option maxRecDepth 4000 in
theorem c_Mo_answer (l : Launch) (G : gG) (N n : Nat) (sc : Nat → Int32) (now : Int64) (du : Nat → Int64) (a : Nat → Nat → Int32) (w0 : Nat → va_E) (x1 x2 x3 : Int32) (t : Int64) (hN : 37 ≤ N) (hcn : sc 2 = nI n) (hn : n ≤ 300) (hQ : ∀ p, 1 ≤ p → p ≤ n → a 27 p = 0 → ∃ q, q ≤ 2 ∧ a 29 p = nI q) : Met l y_Mo_answer (Cond.code y_Mo_answer b_Mo_answer 6 (some .int) :: gtb) (gR 3 0 0) (gPc G [.ref (gB G + 24), .int x1, .int x2, .int x3, .long t] (N) (mw G (sc, now, du, a) w0)) (gQ1 G ((mAns n x1 x2 x3 t (sc, now, du, a)).1) (N) (mw G (mAns n x1 x2 x3 t (sc, now, du, a)).2 w0)) 0 0 (gA (gB G)) := by
  refine g_met (own := "ClerkRowsModel") (by decide) rfl (Nat.le_of_ble_eq_true rfl) ?_
  intro pg ev s0 mi below meth cd F M hr hlocks hnm ls hl
  have hx := F.1.1
  have hb := F.1.2.1
  have hl : lv_has ls 6 [(0, .ref (gB G + 24)), (1, .int x1), (2, .int x2), (3, .int x3), (4, .long t)] := hl
  refine lv_aload_n hx hb d_Mo_answer_0 rfl (lv_at hl 0 rfl) ?_
  refine lv_iconst (v := 0) hx hb d_Mo_answer_1 (by decide) ?_
  refine g_put F M f_Mo_52 d_Mo_answer_2 (by omega) mw_24 rfl rfl rfl (Nat.le_of_ble_eq_true rfl) mw_p_thrown (fun H locs M => ?_)
  refine lv_iload_n hx hb d_Mo_answer_5 rfl (lv_at hl 1 rfl) ?_
  refine g_call1 (g_rs (rest := []) F M (c_Mo_isClerk l G (N) (mw G (va_up sc 0 0, now, du, a) w0) x1) k_Mo_90 d_Mo_answer_6 ⟨rfl, rfl, by decide, by decide, by decide, by decide⟩ rfl hl.1 (Nat.le_of_ble_eq_true rfl) rfl) M (fun H locs M => ?_)
  refine g_ifeqB (tgt := 20) hx hb d_Mo_answer_9 (by decide) (fun c_9 => ?_) (fun c_9 => ?_)
  · refine lv_bipush (v := (-101)) hx hb d_Mo_answer_20 (by decide) ?_
    exact g_iret F M hr hlocks d_Mo_answer_22 (by decide) (by decide) (by unfold mAns; rw [if_neg (fun h => c_9 h.1)]; try rfl) rfl (by unfold mAns; rw [if_neg (fun h => c_9 h.1)]; try rfl)
  · refine lv_aload_n hx hb d_Mo_answer_12 rfl (lv_at hl 0 rfl) ?_
    refine lv_iload_n hx hb d_Mo_answer_13 rfl (lv_at hl 2 rfl) ?_
    refine g_call1 (g_rv (rest := []) F M (c_Mo_isPicture l G (N) n (va_up sc 0 0) now du a w0 hN hcn hn x2) k_Mo_105 d_Mo_answer_14 ⟨rfl, rfl, by decide, by decide, by decide, by decide⟩ (by omega) mw_24 rfl rfl hl.1 (Nat.le_of_ble_eq_true rfl) rfl) M (fun H locs M => ?_)
    refine g_ifneB (tgt := 23) hx hb d_Mo_answer_17 (by decide) (fun c_17 => ?_) (fun c_17 => ?_)
    · refine lv_iload_n hx hb d_Mo_answer_23 rfl (lv_at hl 3 rfl) ?_
      refine lv_i2l hx hb d_Mo_answer_24 rfl ?_
      refine lv_lconst (v := 0) hx hb d_Mo_answer_25 (by decide) ?_
      refine lv_ldc2 (v := 9999) hx hb F.1.2.2.2.1 (F.1.2.2.2.2 _ wd_375) d_Mo_answer_26 ?_
      refine g_call1 (g_rs (rest := []) F M (c_Mo_isIn l G (N) (mw G (va_up sc 0 0, now, du, a) w0) x3.toInt64 0 9999) k_Mo_58 d_Mo_answer_29 ⟨rfl, rfl, by decide, by decide, by decide, by decide⟩ rfl hl.1 (Nat.le_of_ble_eq_true rfl) rfl) M (fun H locs M => ?_)
      refine g_ifeqB (tgt := 44) hx hb d_Mo_answer_32 (by decide) (fun c_32 => ?_) (fun c_32 => ?_)
      · refine lv_bipush (v := (-102)) hx hb d_Mo_answer_44 (by decide) ?_
        exact g_iret F M hr hlocks d_Mo_answer_46 (by decide) (by decide) (by unfold mAns; rw [if_pos ⟨c_9, c_17⟩, if_neg (fun h => c_32 h.1)]; try rfl) rfl (by unfold mAns; rw [if_pos ⟨c_9, c_17⟩, if_neg (fun h => c_32 h.1)]; try rfl)
      · refine lv_aload_n hx hb d_Mo_answer_35 rfl (lv_at hl 0 rfl) ?_
        refine lv_lload hx hb d_Mo_answer_36 (lv_at hl 4 rfl) ?_
        refine g_call1 (g_rv (rest := []) F M (c_Mo_isTime l G (N) n (va_up sc 0 0) now du a w0 hN hcn hn t) k_Mo_70 d_Mo_answer_38 ⟨rfl, rfl, by decide, by decide, by decide, by decide⟩ (by omega) mw_24 rfl rfl hl.1 (Nat.le_of_ble_eq_true rfl) rfl) M (fun H locs M => ?_)
        refine g_ifneB (tgt := 47) hx hb d_Mo_answer_41 (by decide) (fun c_41 => ?_) (fun c_41 => ?_)
        · obtain ⟨kc, hkc, rfl⟩ := okC_nat c_9
          have cl_kc : (nI kc).toNatClampNeg = kc := nI_clamp (by omega)
          obtain ⟨kp, hkp1, hkp2, rfl⟩ := okP_nat hn c_17
          have cl_kp : (nI kp).toNatClampNeg = kp := nI_clamp (by omega)
          have hhl := mHeld_le (a 31) kc n
          refine lv_aload_n hx hb d_Mo_answer_47 rfl (lv_at hl 0 rfl) ?_
          refine lv_iload_n hx hb d_Mo_answer_48 rfl (lv_at hl 1 rfl) ?_
          refine g_call1 (g_rv (rest := []) F M (c_Mo_held l G (N) n (va_up sc 0 0) now du a w0 hN hcn hn kc (by omega)) k_Mo_93 d_Mo_answer_49 ⟨rfl, rfl, by decide, by decide, by decide, by decide⟩ (by omega) mw_24 rfl rfl hl.1 (Nat.le_of_ble_eq_true rfl) rfl) M (fun H locs M => ?_)
          refine lv_iload_n hx hb d_Mo_answer_52 rfl (lv_at hl 2 rfl) ?_
          refine lv_icmp_eq (tgt := 59) hx hb d_Mo_answer_53 (by decide) (fun c_53 => ?_) (fun c_53 => ?_)
          · have c_53 : mHeld (a 31) kc n = kp := (nI_eq (a := mHeld (a 31) kc n) (b := kp) (by omega) (by omega)).mp c_53
            refine lv_aload_n hx hb d_Mo_answer_59 rfl (lv_at hl 0 rfl) ?_
            refine lv_lload hx hb d_Mo_answer_60 (lv_at hl 4 rfl) ?_
            refine g_call0 (g_rv (rest := []) F M (c_Mo_pass l G (N) n (va_up sc 0 0) now du a w0 hN hcn hn t) k_Mo_97 d_Mo_answer_62 ⟨rfl, rfl, by decide, by decide, by decide, by decide⟩ (by omega) mw_24 rfl rfl hl.1 (Nat.le_of_ble_eq_true rfl) rfl) M (fun H locs M => ?_)
            refine lv_aload_n hx hb d_Mo_answer_65 rfl (lv_at hl 0 rfl) ?_
            refine g_get (v := .ref (gB G + 31)) F M f_Mo_29 d_Mo_answer_66 (by omega) mw_24 rfl ?_
            refine lv_bipush (v := 20) hx hb d_Mo_answer_69 (by decide) ?_
            refine lv_iload_n hx hb d_Mo_answer_71 rfl (lv_at hl 2 rfl) ?_
            refine lv_imul hx hb d_Mo_answer_72 ?_
            refine g_topi (x' := nI (20 * kp)) (pk_mul (20) (kp)) ?_
            refine lv_iload_n hx hb d_Mo_answer_73 rfl (lv_at hl 1 rfl) ?_
            refine lv_iadd hx hb d_Mo_answer_74 ?_
            refine g_topi (x' := nI (20 * kp + kc)) (nI_add (20 * kp) (kc)) ?_
            refine lv_bipush (v := 20) hx hb d_Mo_answer_75 (by decide) ?_
            refine lv_isub hx hb d_Mo_answer_77 ?_
            refine g_topi (x' := nI (20 * kp + kc - 20)) (pk_sub (a := 20 * kp + kc) (b := 20) (by omega)) ?_
            refine lv_iconst (v := 3) hx hb d_Mo_answer_78 (by decide) ?_
            refine g_iast (f := (a 31)) F M d_Mo_answer_79 (by omega) mw_31 (by omega) (by decide) mw_s_31 (fun H locs M => ?_)
            refine lv_aload_n hx hb d_Mo_answer_80 rfl (lv_at hl 0 rfl) ?_
            refine g_get (v := .ref (gB G + 33)) F M f_Mo_35 d_Mo_answer_81 (by omega) mw_24 rfl ?_
            refine lv_bipush (v := 20) hx hb d_Mo_answer_84 (by decide) ?_
            refine lv_iload_n hx hb d_Mo_answer_86 rfl (lv_at hl 2 rfl) ?_
            refine lv_imul hx hb d_Mo_answer_87 ?_
            refine g_topi (x' := nI (20 * kp)) (pk_mul (20) (kp)) ?_
            refine lv_iload_n hx hb d_Mo_answer_88 rfl (lv_at hl 1 rfl) ?_
            refine lv_iadd hx hb d_Mo_answer_89 ?_
            refine g_topi (x' := nI (20 * kp + kc)) (nI_add (20 * kp) (kc)) ?_
            refine lv_bipush (v := 20) hx hb d_Mo_answer_90 (by decide) ?_
            refine lv_isub hx hb d_Mo_answer_92 ?_
            refine g_topi (x' := nI (20 * kp + kc - 20)) (pk_sub (a := 20 * kp + kc) (b := 20) (by omega)) ?_
            refine lv_iload_n hx hb d_Mo_answer_93 rfl (lv_at hl 3 rfl) ?_
            refine g_iast (f := (a 33)) F M d_Mo_answer_94 (by omega) mw_33 (by omega) (by decide) mw_s_33 (fun H locs M => ?_)
            refine lv_aload_n hx hb d_Mo_answer_95 rfl (lv_at hl 0 rfl) ?_
            refine g_get (v := .ref (gB G + 27)) F M f_Mo_17 d_Mo_answer_96 (by omega) mw_24 rfl ?_
            refine lv_iload_n hx hb d_Mo_answer_99 rfl (lv_at hl 2 rfl) ?_
            refine g_iald (f := (mPassE (a 27) du t n)) F M d_Mo_answer_100 (by omega) mw_27 (by omega) (by decide) ?_
            refine lv_if_ne (tgt := 110) hx hb d_Mo_answer_101 (by decide) (fun c_101 => ?_) (fun c_101 => ?_)
            · have hA3 : mAns3 (mAns2 (mPassS n t (mThr (sc, now, du, a))).2.2.2 kc kp x3) kp x3 = mAns2 (va_up a 27 (mPassE (a 27) du t n)) kc kp x3 := by
                unfold mAns3
                rw [if_neg (show ¬ (mAns2 (mPassS n t (mThr (sc, now, du, a))).2.2.2 kc kp x3) 27 kp = 0 from c_101)]; rfl
              refine lv_aload_n hx hb d_Mo_answer_110 rfl (lv_at hl 0 rfl) ?_
              refine lv_iload_n hx hb d_Mo_answer_111 rfl (lv_at hl 2 rfl) ?_
              refine g_call1 (g_rv (rest := []) F M (c_Mo_stateOf l G (N) n (va_up (va_up sc 0 0) 3 (sc 3 + nI (mLate (a 27) du t n))) t du (va_up (va_up (va_up a 27 (mPassE (a 27) du t n)) 31 (upd (a 31) (20 * kp + kc - 20) 3)) 33 (upd (a 33) (20 * kp + kc - 20) x3)) w0 hN hcn hn kp (by omega) (by omega)) k_Mo_114 d_Mo_answer_112 ⟨rfl, rfl, by decide, by decide, by decide, by decide⟩ (by omega) mw_24 rfl rfl hl.1 (Nat.le_of_ble_eq_true rfl) rfl) M (fun H locs M => ?_)
              exact g_iret F M hr hlocks d_Mo_answer_115 (by decide) (by decide) (by unfold mAns mAns1; rw [if_pos ⟨c_9, c_17⟩, if_pos ⟨c_32, c_41⟩, cl_kc, cl_kp, if_pos c_53]; rw [hA3]; try rfl) rfl (by unfold mAns mAns1; rw [if_pos ⟨c_9, c_17⟩, if_pos ⟨c_32, c_41⟩, cl_kc, cl_kp, if_pos c_53]; rw [hA3]; try rfl)
            · obtain ⟨q, hq1, hq2⟩ := hQ kp hkp1 hkp2 (mPassE_z c_101)
              have hA3 : mAns3 (mAns2 (mPassS n t (mThr (sc, now, du, a))).2.2.2 kc kp x3) kp x3 = mTakeA (mAns2 (va_up a 27 (mPassE (a 27) du t n)) kc kp x3) kp q x3 := by
                unfold mAns3
                rw [if_pos (show (mAns2 (mPassS n t (mThr (sc, now, du, a))).2.2.2 kc kp x3) 27 kp = 0 from c_101), show (mAns2 (mPassS n t (mThr (sc, now, du, a))).2.2.2 kc kp x3) 29 kp = nI q from hq2, nI_clamp (by omega)]; rfl
              refine lv_aload_n hx hb d_Mo_answer_104 rfl (lv_at hl 0 rfl) ?_
              refine lv_iload_n hx hb d_Mo_answer_105 rfl (lv_at hl 2 rfl) ?_
              refine lv_iload_n hx hb d_Mo_answer_106 rfl (lv_at hl 3 rfl) ?_
              refine g_call0 (g_rv (rest := []) F M (c_Mo_take l G (N) n (va_up (va_up sc 0 0) 3 (sc 3 + nI (mLate (a 27) du t n))) t du (va_up (va_up (va_up a 27 (mPassE (a 27) du t n)) 31 (upd (a 31) (20 * kp + kc - 20) 3)) 33 (upd (a 33) (20 * kp + kc - 20) x3)) w0 hN hcn hn kp (by omega) (by omega) x3 q hq2 hq1) k_Mo_110 d_Mo_answer_107 ⟨rfl, rfl, by decide, by decide, by decide, by decide⟩ (by omega) mw_24 rfl rfl hl.1 (Nat.le_of_ble_eq_true rfl) rfl) M (fun H locs M => ?_)
              refine lv_aload_n hx hb d_Mo_answer_110 rfl (lv_at hl 0 rfl) ?_
              refine lv_iload_n hx hb d_Mo_answer_111 rfl (lv_at hl 2 rfl) ?_
              refine g_call1 (g_rv (rest := []) F M (c_Mo_stateOf l G (N) n (va_up (va_up sc 0 0) 3 (sc 3 + nI (mLate (a 27) du t n))) t du (mTakeA (va_up (va_up (va_up a 27 (mPassE (a 27) du t n)) 31 (upd (a 31) (20 * kp + kc - 20) 3)) 33 (upd (a 33) (20 * kp + kc - 20) x3)) kp q x3) w0 hN hcn hn kp (by omega) (by omega)) k_Mo_114 d_Mo_answer_112 ⟨rfl, rfl, by decide, by decide, by decide, by decide⟩ (by omega) mw_24 rfl rfl hl.1 (Nat.le_of_ble_eq_true rfl) rfl) M (fun H locs M => ?_)
              exact g_iret F M hr hlocks d_Mo_answer_115 (by decide) (by decide) (by unfold mAns mAns1; rw [if_pos ⟨c_9, c_17⟩, if_pos ⟨c_32, c_41⟩, cl_kc, cl_kp, if_pos c_53]; rw [hA3]; try rfl) rfl (by unfold mAns mAns1; rw [if_pos ⟨c_9, c_17⟩, if_pos ⟨c_32, c_41⟩, cl_kc, cl_kp, if_pos c_53]; rw [hA3]; try rfl)
          · have c_53 : ¬ mHeld (a 31) kc n = kp := fun h => c_53 ((nI_eq (a := mHeld (a 31) kc n) (b := kp) (by omega) (by omega)).mpr h)
            refine lv_bipush (v := (-103)) hx hb d_Mo_answer_56 (by decide) ?_
            exact g_iret F M hr hlocks d_Mo_answer_58 (by decide) (by decide) (by unfold mAns; rw [if_pos ⟨c_9, c_17⟩, if_pos ⟨c_32, c_41⟩, cl_kc, cl_kp, if_neg c_53]; try rfl) rfl (by unfold mAns; rw [if_pos ⟨c_9, c_17⟩, if_pos ⟨c_32, c_41⟩, cl_kc, cl_kp, if_neg c_53]; try rfl)
        · refine lv_bipush (v := (-102)) hx hb d_Mo_answer_44 (by decide) ?_
          exact g_iret F M hr hlocks d_Mo_answer_46 (by decide) (by decide) (by unfold mAns; rw [if_pos ⟨c_9, c_17⟩, if_neg (fun h => c_41 h.2)]; try rfl) rfl (by unfold mAns; rw [if_pos ⟨c_9, c_17⟩, if_neg (fun h => c_41 h.2)]; try rfl)
    · refine lv_bipush (v := (-101)) hx hb d_Mo_answer_20 (by decide) ?_
      exact g_iret F M hr hlocks d_Mo_answer_22 (by decide) (by decide) (by unfold mAns; rw [if_neg (fun h => c_17 h.2)]; try rfl) rfl (by unfold mAns; rw [if_neg (fun h => c_17 h.2)]; try rfl)
end
section
/-! ===== ClerkRows: cells 0 .. 23, the pictures from 37 on ===== -/
abbrev CSt : Type := (Nat → Int32) × Int64 × (Nat → Int32) × (Nat → Nat → Int32) × (Nat → Nat) × (Nat → Int64) × (Nat → Nat → Int32) × (Nat → Nat → Int32) × (Nat → Nat → Int32) × (Nat → Nat)
def cHo (G : gG) (h : Nat) : Value := va_rf (if h = 0 then none else some (gB G + (34 + 3 * h)))
theorem cHo_0 {G : gG} : cHo G 0 = .null := rfl
theorem cHo_s {G : gG} {h : Nat} (hh : 1 ≤ h) : cHo G h = .ref (gB G + (34 + 3 * h)) := by
  unfold cHo
  rw [if_neg (by omega)]
  rfl
def cPa (G : gG) (n : Nat) : Nat → Option Nat := fun j => if 1 ≤ j ∧ j ≤ n then some (gB G + (34 + 3 * j)) else none
def cCa (G : gG) (n : Nat) : Nat → Option Nat := fun j => if j < n then some (gB G + (4 + j)) else none
theorem cPa_at {G : gG} {n p : Nat} (h1 : 1 ≤ p) (h2 : p ≤ n) : va_rf (cPa G n p) = .ref (gB G + (34 + 3 * p)) := by
  unfold cPa
  rw [if_pos ⟨h1, h2⟩]
  rfl
theorem cCa_at {G : gG} {n c : Nat} (h : c < n) : va_rf (cCa G n c) = .ref (gB G + (4 + c)) := by
  unfold cCa
  rw [if_pos h]
  rfl
def cw (G : gG) (n : Nat) (C : CSt) (w0 : Nat → va_E) : Nat → va_E := fun i => if i = 0 then .inr (2, [.int (C.1 0), .ref (gB G + 1), .int (C.1 1), .ref (gB G + 2), .ref (gB G + 3), .long C.2.1, .int (C.1 2), .int (C.1 3)]) else if i = 1 then .inl (gCa G 3, 301, .inr (.inr (.inr (.inr (cPa G n))))) else if i = 2 then .inl (gCa G 4, 20, .inr (.inr (.inr (.inr (cCa G 20))))) else if i = 3 then .inl (gCa G 0, 20, .inl C.2.2.1) else if i < 24 then .inr (0, [.int (C.2.2.2.1 (i - 4) 0), .int (C.2.2.2.1 (i - 4) 1), .int (C.2.2.2.1 (i - 4) 2), cHo G (C.2.2.2.2.1 (i - 4))]) else if i < 37 then w0 i else if (i - 37) % 3 = 0 then .inr (1, [.long (C.2.2.2.2.2.1 ((i - 34) / 3)), .int (C.2.2.2.2.2.2.1 ((i - 34) / 3) 1), .int (C.2.2.2.2.2.2.1 ((i - 34) / 3) 2), .ref (gB G + (35 + 3 * ((i - 34) / 3))), .int (C.2.2.2.2.2.2.1 ((i - 34) / 3) 4), .ref (gB G + (36 + 3 * ((i - 34) / 3))), .int (C.2.2.2.2.2.2.1 ((i - 34) / 3) 6), .int (C.2.2.2.2.2.2.1 ((i - 34) / 3) 7), .ref (gEa G (C.2.2.2.2.2.2.2.2.2 ((i - 34) / 3))), .int (C.2.2.2.2.2.2.1 ((i - 34) / 3) 9)]) else if (i - 37) % 3 = 1 then .inl (gCa G 0, 20, .inl (C.2.2.2.2.2.2.2.1 ((i - 34) / 3))) else .inl (gCa G 0, 3, .inl (C.2.2.2.2.2.2.2.2.1 ((i - 34) / 3)))
theorem cw_0 {G : gG} {n : Nat} {sc : Nat → Int32} {now : Int64} {gi : Nat → Int32} {ck : Nat → Nat → Int32} {ho : Nat → Nat} {pd : Nat → Int64} {pf : Nat → Nat → Int32} {ps : Nat → Nat → Int32} {pe : Nat → Nat → Int32} {pn : Nat → Nat} {w0 : Nat → va_E} : cw G n (sc, now, gi, ck, ho, pd, pf, ps, pe, pn) w0 0 = .inr (2, [.int (sc 0), .ref (gB G + 1), .int (sc 1), .ref (gB G + 2), .ref (gB G + 3), .long now, .int (sc 2), .int (sc 3)]) := rfl
theorem cw_1 {G : gG} {n : Nat} {sc : Nat → Int32} {now : Int64} {gi : Nat → Int32} {ck : Nat → Nat → Int32} {ho : Nat → Nat} {pd : Nat → Int64} {pf : Nat → Nat → Int32} {ps : Nat → Nat → Int32} {pe : Nat → Nat → Int32} {pn : Nat → Nat} {w0 : Nat → va_E} : cw G n (sc, now, gi, ck, ho, pd, pf, ps, pe, pn) w0 1 = .inl (gCa G 3, 301, .inr (.inr (.inr (.inr (cPa G n))))) := rfl
theorem cw_2 {G : gG} {n : Nat} {sc : Nat → Int32} {now : Int64} {gi : Nat → Int32} {ck : Nat → Nat → Int32} {ho : Nat → Nat} {pd : Nat → Int64} {pf : Nat → Nat → Int32} {ps : Nat → Nat → Int32} {pe : Nat → Nat → Int32} {pn : Nat → Nat} {w0 : Nat → va_E} : cw G n (sc, now, gi, ck, ho, pd, pf, ps, pe, pn) w0 2 = .inl (gCa G 4, 20, .inr (.inr (.inr (.inr (cCa G 20))))) := rfl
theorem cw_3 {G : gG} {n : Nat} {sc : Nat → Int32} {now : Int64} {gi : Nat → Int32} {ck : Nat → Nat → Int32} {ho : Nat → Nat} {pd : Nat → Int64} {pf : Nat → Nat → Int32} {ps : Nat → Nat → Int32} {pe : Nat → Nat → Int32} {pn : Nat → Nat} {w0 : Nat → va_E} : cw G n (sc, now, gi, ck, ho, pd, pf, ps, pe, pn) w0 3 = .inl (gCa G 0, 20, .inl gi) := rfl
theorem cw_ck {G : gG} {n : Nat} {sc : Nat → Int32} {now : Int64} {gi : Nat → Int32} {ck : Nat → Nat → Int32} {ho : Nat → Nat} {pd : Nat → Int64} {pf : Nat → Nat → Int32} {ps : Nat → Nat → Int32} {pe : Nat → Nat → Int32} {pn : Nat → Nat} {w0 : Nat → va_E} {c : Nat} (h : c < 20) : cw G n (sc, now, gi, ck, ho, pd, pf, ps, pe, pn) w0 (4 + c) = .inr (0, [.int (ck c 0), .int (ck c 1), .int (ck c 2), cHo G (ho c)]) := by
  unfold cw
  rw [if_neg (by omega), if_neg (by omega), if_neg (by omega), if_neg (by omega), if_pos (by omega), show 4 + c - 4 = c by omega]
theorem cw_pi {G : gG} {n : Nat} {sc : Nat → Int32} {now : Int64} {gi : Nat → Int32} {ck : Nat → Nat → Int32} {ho : Nat → Nat} {pd : Nat → Int64} {pf : Nat → Nat → Int32} {ps : Nat → Nat → Int32} {pe : Nat → Nat → Int32} {pn : Nat → Nat} {w0 : Nat → va_E} {p : Nat} (h : 1 ≤ p) : cw G n (sc, now, gi, ck, ho, pd, pf, ps, pe, pn) w0 (34 + 3 * p) = .inr (1, [.long (pd p), .int (pf p 1), .int (pf p 2), .ref (gB G + (35 + 3 * p)), .int (pf p 4), .ref (gB G + (36 + 3 * p)), .int (pf p 6), .int (pf p 7), .ref (gEa G (pn p)), .int (pf p 9)]) := by
  unfold cw
  rw [if_neg (by omega), if_neg (by omega), if_neg (by omega), if_neg (by omega), if_neg (by omega), if_neg (by omega), if_pos (by omega), show (34 + 3 * p - 34) / 3 = p by omega]
theorem cw_ps {G : gG} {n : Nat} {sc : Nat → Int32} {now : Int64} {gi : Nat → Int32} {ck : Nat → Nat → Int32} {ho : Nat → Nat} {pd : Nat → Int64} {pf : Nat → Nat → Int32} {ps : Nat → Nat → Int32} {pe : Nat → Nat → Int32} {pn : Nat → Nat} {w0 : Nat → va_E} {p : Nat} (h : 1 ≤ p) : cw G n (sc, now, gi, ck, ho, pd, pf, ps, pe, pn) w0 (35 + 3 * p) = .inl (gCa G 0, 20, .inl (ps p)) := by
  unfold cw
  rw [if_neg (by omega), if_neg (by omega), if_neg (by omega), if_neg (by omega), if_neg (by omega), if_neg (by omega), if_neg (by omega), if_pos (by omega), show (35 + 3 * p - 34) / 3 = p by omega]
theorem cw_pe {G : gG} {n : Nat} {sc : Nat → Int32} {now : Int64} {gi : Nat → Int32} {ck : Nat → Nat → Int32} {ho : Nat → Nat} {pd : Nat → Int64} {pf : Nat → Nat → Int32} {ps : Nat → Nat → Int32} {pe : Nat → Nat → Int32} {pn : Nat → Nat} {w0 : Nat → va_E} {p : Nat} (h : 1 ≤ p) : cw G n (sc, now, gi, ck, ho, pd, pf, ps, pe, pn) w0 (36 + 3 * p) = .inl (gCa G 0, 3, .inl (pe p)) := by
  unfold cw
  rw [if_neg (by omega), if_neg (by omega), if_neg (by omega), if_neg (by omega), if_neg (by omega), if_neg (by omega), if_neg (by omega), if_neg (by omega), show (36 + 3 * p - 34) / 3 = p by omega]
theorem cw_o {G : gG} {n : Nat} {C : CSt} {w0 : Nat → va_E} {i : Nat} (h : 24 ≤ i ∧ i ≤ 36) : cw G n C w0 i = w0 i := by
  unfold cw
  rw [if_neg (by omega), if_neg (by omega), if_neg (by omega), if_neg (by omega), if_neg (by omega), if_pos (by omega)]
theorem cw_p_bound {G : gG} {n : Nat} {sc : Nat → Int32} {now : Int64} {gi : Nat → Int32} {ck : Nat → Nat → Int32} {ho : Nat → Nat} {pd : Nat → Int64} {pf : Nat → Nat → Int32} {ps : Nat → Nat → Int32} {pe : Nat → Nat → Int32} {pn : Nat → Nat} {w0 : Nat → va_E} {x : Int32} : va_up (cw G n (sc, now, gi, ck, ho, pd, pf, ps, pe, pn) w0) 0 (.inr (2, [.int x, .ref (gB G + 1), .int (sc 1), .ref (gB G + 2), .ref (gB G + 3), .long now, .int (sc 2), .int (sc 3)])) = cw G n (va_up sc 0 x, now, gi, ck, ho, pd, pf, ps, pe, pn) w0 := by
  funext i
  by_cases h : i = 0
  · subst h; rfl
  · rw [va_up_ne _ _ h]
    unfold cw
    simp only [h, if_false]
theorem cw_p_count {G : gG} {n : Nat} {sc : Nat → Int32} {now : Int64} {gi : Nat → Int32} {ck : Nat → Nat → Int32} {ho : Nat → Nat} {pd : Nat → Int64} {pf : Nat → Nat → Int32} {ps : Nat → Nat → Int32} {pe : Nat → Nat → Int32} {pn : Nat → Nat} {w0 : Nat → va_E} {x : Int32} : va_up (cw G n (sc, now, gi, ck, ho, pd, pf, ps, pe, pn) w0) 0 (.inr (2, [.int (sc 0), .ref (gB G + 1), .int x, .ref (gB G + 2), .ref (gB G + 3), .long now, .int (sc 2), .int (sc 3)])) = cw G n (va_up sc 1 x, now, gi, ck, ho, pd, pf, ps, pe, pn) w0 := by
  funext i
  by_cases h : i = 0
  · subst h; rfl
  · rw [va_up_ne _ _ h]
    unfold cw
    simp only [h, if_false]
theorem cw_p_late {G : gG} {n : Nat} {sc : Nat → Int32} {now : Int64} {gi : Nat → Int32} {ck : Nat → Nat → Int32} {ho : Nat → Nat} {pd : Nat → Int64} {pf : Nat → Nat → Int32} {ps : Nat → Nat → Int32} {pe : Nat → Nat → Int32} {pn : Nat → Nat} {w0 : Nat → va_E} {x : Int32} : va_up (cw G n (sc, now, gi, ck, ho, pd, pf, ps, pe, pn) w0) 0 (.inr (2, [.int (sc 0), .ref (gB G + 1), .int (sc 1), .ref (gB G + 2), .ref (gB G + 3), .long now, .int x, .int (sc 3)])) = cw G n (va_up sc 2 x, now, gi, ck, ho, pd, pf, ps, pe, pn) w0 := by
  funext i
  by_cases h : i = 0
  · subst h; rfl
  · rw [va_up_ne _ _ h]
    unfold cw
    simp only [h, if_false]
theorem cw_p_open {G : gG} {n : Nat} {sc : Nat → Int32} {now : Int64} {gi : Nat → Int32} {ck : Nat → Nat → Int32} {ho : Nat → Nat} {pd : Nat → Int64} {pf : Nat → Nat → Int32} {ps : Nat → Nat → Int32} {pe : Nat → Nat → Int32} {pn : Nat → Nat} {w0 : Nat → va_E} {x : Int32} : va_up (cw G n (sc, now, gi, ck, ho, pd, pf, ps, pe, pn) w0) 0 (.inr (2, [.int (sc 0), .ref (gB G + 1), .int (sc 1), .ref (gB G + 2), .ref (gB G + 3), .long now, .int (sc 2), .int x])) = cw G n (va_up sc 3 x, now, gi, ck, ho, pd, pf, ps, pe, pn) w0 := by
  funext i
  by_cases h : i = 0
  · subst h; rfl
  · rw [va_up_ne _ _ h]
    unfold cw
    simp only [h, if_false]
theorem cw_p_now {G : gG} {n : Nat} {sc : Nat → Int32} {now : Int64} {gi : Nat → Int32} {ck : Nat → Nat → Int32} {ho : Nat → Nat} {pd : Nat → Int64} {pf : Nat → Nat → Int32} {ps : Nat → Nat → Int32} {pe : Nat → Nat → Int32} {pn : Nat → Nat} {w0 : Nat → va_E} {x : Int64} : va_up (cw G n (sc, now, gi, ck, ho, pd, pf, ps, pe, pn) w0) 0 (.inr (2, [.int (sc 0), .ref (gB G + 1), .int (sc 1), .ref (gB G + 2), .ref (gB G + 3), .long x, .int (sc 2), .int (sc 3)])) = cw G n (sc, x, gi, ck, ho, pd, pf, ps, pe, pn) w0 := by
  funext i
  by_cases h : i = 0
  · subst h; rfl
  · rw [va_up_ne _ _ h]
    unfold cw
    simp only [h, if_false]
theorem cw_s_3 {G : gG} {n : Nat} {sc : Nat → Int32} {now : Int64} {gi : Nat → Int32} {ck : Nat → Nat → Int32} {ho : Nat → Nat} {pd : Nat → Int64} {pf : Nat → Nat → Int32} {ps : Nat → Nat → Int32} {pe : Nat → Nat → Int32} {pn : Nat → Nat} {w0 : Nat → va_E} {f : Nat → Int32} : va_up (cw G n (sc, now, gi, ck, ho, pd, pf, ps, pe, pn) w0) 3 (.inl (gCa G 0, 20, .inl f)) = cw G n (sc, now, f, ck, ho, pd, pf, ps, pe, pn) w0 := by
  funext i
  by_cases h : i = 3
  · subst h; rfl
  · rw [va_up_ne _ _ h]
    unfold cw
    simp only [h, if_false]
theorem cw_k_in {G : gG} {n : Nat} {sc : Nat → Int32} {now : Int64} {gi : Nat → Int32} {ck : Nat → Nat → Int32} {ho : Nat → Nat} {pd : Nat → Int64} {pf : Nat → Nat → Int32} {ps : Nat → Nat → Int32} {pe : Nat → Nat → Int32} {pn : Nat → Nat} {w0 : Nat → va_E} {c : Nat} {x : Int32} (hc : c < 20) : va_up (cw G n (sc, now, gi, ck, ho, pd, pf, ps, pe, pn) w0) (4 + c) (.inr (0, [.int x, .int (ck c 1), .int (ck c 2), cHo G (ho c)])) = cw G n (sc, now, gi, va_up ck c (va_up (ck c) 0 x), ho, pd, pf, ps, pe, pn) w0 := by
  funext i
  by_cases h : i = 4 + c
  · subst h
    rw [va_up_self, cw_ck hc]
    simp [va_up]
  · rw [va_up_ne _ _ h]
    unfold cw
    repeat' split
    all_goals first | (dsimp only; done) | (dsimp only; rw [va_up_ne _ _ (by omega)]; done) | rfl
theorem cw_k_office {G : gG} {n : Nat} {sc : Nat → Int32} {now : Int64} {gi : Nat → Int32} {ck : Nat → Nat → Int32} {ho : Nat → Nat} {pd : Nat → Int64} {pf : Nat → Nat → Int32} {ps : Nat → Nat → Int32} {pe : Nat → Nat → Int32} {pn : Nat → Nat} {w0 : Nat → va_E} {c : Nat} {x : Int32} (hc : c < 20) : va_up (cw G n (sc, now, gi, ck, ho, pd, pf, ps, pe, pn) w0) (4 + c) (.inr (0, [.int (ck c 0), .int x, .int (ck c 2), cHo G (ho c)])) = cw G n (sc, now, gi, va_up ck c (va_up (ck c) 1 x), ho, pd, pf, ps, pe, pn) w0 := by
  funext i
  by_cases h : i = 4 + c
  · subst h
    rw [va_up_self, cw_ck hc]
    simp [va_up]
  · rw [va_up_ne _ _ h]
    unfold cw
    repeat' split
    all_goals first | (dsimp only; done) | (dsimp only; rw [va_up_ne _ _ (by omega)]; done) | rfl
theorem cw_k_skill {G : gG} {n : Nat} {sc : Nat → Int32} {now : Int64} {gi : Nat → Int32} {ck : Nat → Nat → Int32} {ho : Nat → Nat} {pd : Nat → Int64} {pf : Nat → Nat → Int32} {ps : Nat → Nat → Int32} {pe : Nat → Nat → Int32} {pn : Nat → Nat} {w0 : Nat → va_E} {c : Nat} {x : Int32} (hc : c < 20) : va_up (cw G n (sc, now, gi, ck, ho, pd, pf, ps, pe, pn) w0) (4 + c) (.inr (0, [.int (ck c 0), .int (ck c 1), .int x, cHo G (ho c)])) = cw G n (sc, now, gi, va_up ck c (va_up (ck c) 2 x), ho, pd, pf, ps, pe, pn) w0 := by
  funext i
  by_cases h : i = 4 + c
  · subst h
    rw [va_up_self, cw_ck hc]
    simp [va_up]
  · rw [va_up_ne _ _ h]
    unfold cw
    repeat' split
    all_goals first | (dsimp only; done) | (dsimp only; rw [va_up_ne _ _ (by omega)]; done) | rfl
theorem cw_k_holds {G : gG} {n : Nat} {sc : Nat → Int32} {now : Int64} {gi : Nat → Int32} {ck : Nat → Nat → Int32} {ho : Nat → Nat} {pd : Nat → Int64} {pf : Nat → Nat → Int32} {ps : Nat → Nat → Int32} {pe : Nat → Nat → Int32} {pn : Nat → Nat} {w0 : Nat → va_E} {c h9 : Nat} (hc : c < 20) : va_up (cw G n (sc, now, gi, ck, ho, pd, pf, ps, pe, pn) w0) (4 + c) (.inr (0, [.int (ck c 0), .int (ck c 1), .int (ck c 2), cHo G h9])) = cw G n (sc, now, gi, ck, va_up ho c h9, pd, pf, ps, pe, pn) w0 := by
  funext i
  by_cases h : i = 4 + c
  · subst h
    rw [va_up_self, cw_ck hc]
    simp [va_up]
  · rw [va_up_ne _ _ h]
    unfold cw
    repeat' split
    all_goals first | (dsimp only; done) | (dsimp only; rw [va_up_ne _ _ (by omega)]; done) | rfl
theorem cw_i_skill {G : gG} {n : Nat} {sc : Nat → Int32} {now : Int64} {gi : Nat → Int32} {ck : Nat → Nat → Int32} {ho : Nat → Nat} {pd : Nat → Int64} {pf : Nat → Nat → Int32} {ps : Nat → Nat → Int32} {pe : Nat → Nat → Int32} {pn : Nat → Nat} {w0 : Nat → va_E} {p : Nat} {x : Int32} (hp : 1 ≤ p) : va_up (cw G n (sc, now, gi, ck, ho, pd, pf, ps, pe, pn) w0) (34 + 3 * p) (.inr (1, [.long (pd p), .int x, .int (pf p 2), .ref (gB G + (35 + 3 * p)), .int (pf p 4), .ref (gB G + (36 + 3 * p)), .int (pf p 6), .int (pf p 7), .ref (gEa G (pn p)), .int (pf p 9)])) = cw G n (sc, now, gi, ck, ho, pd, va_up pf p (va_up (pf p) 1 x), ps, pe, pn) w0 := by
  funext i
  by_cases h : i = 34 + 3 * p
  · subst h
    rw [va_up_self, cw_pi hp]
    simp [va_up]
  · rw [va_up_ne _ _ h]
    unfold cw
    repeat' split
    all_goals first | (dsimp only; done) | (dsimp only; rw [va_up_ne _ _ (by omega)]; done) | rfl
theorem cw_i_had {G : gG} {n : Nat} {sc : Nat → Int32} {now : Int64} {gi : Nat → Int32} {ck : Nat → Nat → Int32} {ho : Nat → Nat} {pd : Nat → Int64} {pf : Nat → Nat → Int32} {ps : Nat → Nat → Int32} {pe : Nat → Nat → Int32} {pn : Nat → Nat} {w0 : Nat → va_E} {p : Nat} {x : Int32} (hp : 1 ≤ p) : va_up (cw G n (sc, now, gi, ck, ho, pd, pf, ps, pe, pn) w0) (34 + 3 * p) (.inr (1, [.long (pd p), .int (pf p 1), .int x, .ref (gB G + (35 + 3 * p)), .int (pf p 4), .ref (gB G + (36 + 3 * p)), .int (pf p 6), .int (pf p 7), .ref (gEa G (pn p)), .int (pf p 9)])) = cw G n (sc, now, gi, ck, ho, pd, va_up pf p (va_up (pf p) 2 x), ps, pe, pn) w0 := by
  funext i
  by_cases h : i = 34 + 3 * p
  · subst h
    rw [va_up_self, cw_pi hp]
    simp [va_up]
  · rw [va_up_ne _ _ h]
    unfold cw
    repeat' split
    all_goals first | (dsimp only; done) | (dsimp only; rw [va_up_ne _ _ (by omega)]; done) | rfl
theorem cw_i_offices {G : gG} {n : Nat} {sc : Nat → Int32} {now : Int64} {gi : Nat → Int32} {ck : Nat → Nat → Int32} {ho : Nat → Nat} {pd : Nat → Int64} {pf : Nat → Nat → Int32} {ps : Nat → Nat → Int32} {pe : Nat → Nat → Int32} {pn : Nat → Nat} {w0 : Nat → va_E} {p : Nat} {x : Int32} (hp : 1 ≤ p) : va_up (cw G n (sc, now, gi, ck, ho, pd, pf, ps, pe, pn) w0) (34 + 3 * p) (.inr (1, [.long (pd p), .int (pf p 1), .int (pf p 2), .ref (gB G + (35 + 3 * p)), .int x, .ref (gB G + (36 + 3 * p)), .int (pf p 6), .int (pf p 7), .ref (gEa G (pn p)), .int (pf p 9)])) = cw G n (sc, now, gi, ck, ho, pd, va_up pf p (va_up (pf p) 4 x), ps, pe, pn) w0 := by
  funext i
  by_cases h : i = 34 + 3 * p
  · subst h
    rw [va_up_self, cw_pi hp]
    simp [va_up]
  · rw [va_up_ne _ _ h]
    unfold cw
    repeat' split
    all_goals first | (dsimp only; done) | (dsimp only; rw [va_up_ne _ _ (by omega)]; done) | rfl
theorem cw_i_count {G : gG} {n : Nat} {sc : Nat → Int32} {now : Int64} {gi : Nat → Int32} {ck : Nat → Nat → Int32} {ho : Nat → Nat} {pd : Nat → Int64} {pf : Nat → Nat → Int32} {ps : Nat → Nat → Int32} {pe : Nat → Nat → Int32} {pn : Nat → Nat} {w0 : Nat → va_E} {p : Nat} {x : Int32} (hp : 1 ≤ p) : va_up (cw G n (sc, now, gi, ck, ho, pd, pf, ps, pe, pn) w0) (34 + 3 * p) (.inr (1, [.long (pd p), .int (pf p 1), .int (pf p 2), .ref (gB G + (35 + 3 * p)), .int (pf p 4), .ref (gB G + (36 + 3 * p)), .int x, .int (pf p 7), .ref (gEa G (pn p)), .int (pf p 9)])) = cw G n (sc, now, gi, ck, ho, pd, va_up pf p (va_up (pf p) 6 x), ps, pe, pn) w0 := by
  funext i
  by_cases h : i = 34 + 3 * p
  · subst h
    rw [va_up_self, cw_pi hp]
    simp [va_up]
  · rw [va_up_ne _ _ h]
    unfold cw
    repeat' split
    all_goals first | (dsimp only; done) | (dsimp only; rw [va_up_ne _ _ (by omega)]; done) | rfl
theorem cw_i_holders {G : gG} {n : Nat} {sc : Nat → Int32} {now : Int64} {gi : Nat → Int32} {ck : Nat → Nat → Int32} {ho : Nat → Nat} {pd : Nat → Int64} {pf : Nat → Nat → Int32} {ps : Nat → Nat → Int32} {pe : Nat → Nat → Int32} {pn : Nat → Nat} {w0 : Nat → va_E} {p : Nat} {x : Int32} (hp : 1 ≤ p) : va_up (cw G n (sc, now, gi, ck, ho, pd, pf, ps, pe, pn) w0) (34 + 3 * p) (.inr (1, [.long (pd p), .int (pf p 1), .int (pf p 2), .ref (gB G + (35 + 3 * p)), .int (pf p 4), .ref (gB G + (36 + 3 * p)), .int (pf p 6), .int x, .ref (gEa G (pn p)), .int (pf p 9)])) = cw G n (sc, now, gi, ck, ho, pd, va_up pf p (va_up (pf p) 7 x), ps, pe, pn) w0 := by
  funext i
  by_cases h : i = 34 + 3 * p
  · subst h
    rw [va_up_self, cw_pi hp]
    simp [va_up]
  · rw [va_up_ne _ _ h]
    unfold cw
    repeat' split
    all_goals first | (dsimp only; done) | (dsimp only; rw [va_up_ne _ _ (by omega)]; done) | rfl
theorem cw_i_entry {G : gG} {n : Nat} {sc : Nat → Int32} {now : Int64} {gi : Nat → Int32} {ck : Nat → Nat → Int32} {ho : Nat → Nat} {pd : Nat → Int64} {pf : Nat → Nat → Int32} {ps : Nat → Nat → Int32} {pe : Nat → Nat → Int32} {pn : Nat → Nat} {w0 : Nat → va_E} {p : Nat} {x : Int32} (hp : 1 ≤ p) : va_up (cw G n (sc, now, gi, ck, ho, pd, pf, ps, pe, pn) w0) (34 + 3 * p) (.inr (1, [.long (pd p), .int (pf p 1), .int (pf p 2), .ref (gB G + (35 + 3 * p)), .int (pf p 4), .ref (gB G + (36 + 3 * p)), .int (pf p 6), .int (pf p 7), .ref (gEa G (pn p)), .int x])) = cw G n (sc, now, gi, ck, ho, pd, va_up pf p (va_up (pf p) 9 x), ps, pe, pn) w0 := by
  funext i
  by_cases h : i = 34 + 3 * p
  · subst h
    rw [va_up_self, cw_pi hp]
    simp [va_up]
  · rw [va_up_ne _ _ h]
    unfold cw
    repeat' split
    all_goals first | (dsimp only; done) | (dsimp only; rw [va_up_ne _ _ (by omega)]; done) | rfl
theorem cw_i_end {G : gG} {n : Nat} {sc : Nat → Int32} {now : Int64} {gi : Nat → Int32} {ck : Nat → Nat → Int32} {ho : Nat → Nat} {pd : Nat → Int64} {pf : Nat → Nat → Int32} {ps : Nat → Nat → Int32} {pe : Nat → Nat → Int32} {pn : Nat → Nat} {w0 : Nat → va_E} {p x : Nat} (hp : 1 ≤ p) : va_up (cw G n (sc, now, gi, ck, ho, pd, pf, ps, pe, pn) w0) (34 + 3 * p) (.inr (1, [.long (pd p), .int (pf p 1), .int (pf p 2), .ref (gB G + (35 + 3 * p)), .int (pf p 4), .ref (gB G + (36 + 3 * p)), .int (pf p 6), .int (pf p 7), .ref (gEa G x), .int (pf p 9)])) = cw G n (sc, now, gi, ck, ho, pd, pf, ps, pe, va_up pn p x) w0 := by
  funext i
  by_cases h : i = 34 + 3 * p
  · subst h
    rw [va_up_self, cw_pi hp]
    simp [va_up]
  · rw [va_up_ne _ _ h]
    unfold cw
    repeat' split
    all_goals first | (dsimp only; done) | (dsimp only; rw [va_up_ne _ _ (by omega)]; done) | rfl
theorem cw_s_ps {G : gG} {n : Nat} {sc : Nat → Int32} {now : Int64} {gi : Nat → Int32} {ck : Nat → Nat → Int32} {ho : Nat → Nat} {pd : Nat → Int64} {pf : Nat → Nat → Int32} {ps : Nat → Nat → Int32} {pe : Nat → Nat → Int32} {pn : Nat → Nat} {w0 : Nat → va_E} {p : Nat} {f : Nat → Int32} (hp : 1 ≤ p) : va_up (cw G n (sc, now, gi, ck, ho, pd, pf, ps, pe, pn) w0) (35 + 3 * p) (.inl (gCa G 0, 20, .inl f)) = cw G n (sc, now, gi, ck, ho, pd, pf, va_up ps p f, pe, pn) w0 := by
  funext i
  by_cases h : i = 35 + 3 * p
  · subst h
    rw [va_up_self, cw_ps hp]
    simp [va_up]
  · rw [va_up_ne _ _ h]
    unfold cw
    repeat' split
    all_goals first | (dsimp only; done) | (dsimp only; rw [va_up_ne _ _ (by omega)]; done) | rfl
theorem cw_s_pe {G : gG} {n : Nat} {sc : Nat → Int32} {now : Int64} {gi : Nat → Int32} {ck : Nat → Nat → Int32} {ho : Nat → Nat} {pd : Nat → Int64} {pf : Nat → Nat → Int32} {ps : Nat → Nat → Int32} {pe : Nat → Nat → Int32} {pn : Nat → Nat} {w0 : Nat → va_E} {p : Nat} {f : Nat → Int32} (hp : 1 ≤ p) : va_up (cw G n (sc, now, gi, ck, ho, pd, pf, ps, pe, pn) w0) (36 + 3 * p) (.inl (gCa G 0, 3, .inl f)) = cw G n (sc, now, gi, ck, ho, pd, pf, ps, va_up pe p f, pn) w0 := by
  funext i
  by_cases h : i = 36 + 3 * p
  · subst h
    rw [va_up_self, cw_pe hp]
    simp [va_up]
  · rw [va_up_ne _ _ h]
    unfold cw
    repeat' split
    all_goals first | (dsimp only; done) | (dsimp only; rw [va_up_ne _ _ (by omega)]; done) | rfl
end
section
/-! ===== the leaves of ClerkRows ===== -/
abbrev cDif (pf pe : Nat → Nat → Int32) (p : Nat) : Prop := 1 < pf p 6 ∧ ¬ pe p 0 = pe p 1
abbrev cTak (pf pe : Nat → Nat → Int32) (p : Nat) : Prop := ¬ pf p 6 + pf p 7 < (if cDif pf pe p then 3 else 2)
theorem ctk_t {pf pe : Nat → Nat → Int32} {p : Nat} (h : cDif pf pe p) : cTak pf pe p ↔ ¬ pf p 6 + pf p 7 < 3 := by unfold cTak; rw [if_pos h]
theorem ctk_f {pf pe : Nat → Nat → Int32} {p : Nat} (h : ¬ cDif pf pe p) : cTak pf pe p ↔ ¬ pf p 6 + pf p 7 < 2 := by unfold cTak; rw [if_neg h]
abbrev cBit (x : Int32) (y : Int32) : Prop := ¬ (x >>> (y &&& 31)) &&& 1 = 0
abbrev cFre (ck pf pe : Nat → Nat → Int32) (pn : Nat → Nat) (p c : Nat) : Prop := pn p = 0 ∧ ¬ cTak pf pe p ∧ ¬ ck c 2 < pf p 1 ∧ ¬ cBit (pf p 2) (nI c) ∧ (cDif pf pe p ∨ ¬ cBit (pf p 4) (ck c 1))
def cSta (pf pe : Nat → Nat → Int32) (pn : Nat → Nat) (p : Nat) : Int32 := if pn p = 0 then bI (cTak pf pe p) else nI (pn p + 1)
set_option maxRecDepth 4000 in
theorem c_CR_outside (l : Launch) (G : gG) (N : Nat) (w : Nat → va_E) (v lo hi : Int64) : Met l y_CR_outside (Cond.code y_CR_outside b_CR_outside 6 (some .boolean) :: gtb) (gR 0 0 0) (gPc G [.long v, .long lo, .long hi] (N) (w)) (gQ1 G (bI (v < lo ∨ hi < v)) (N) (w)) 0 0 (gA (gB G)) := by
  refine g_met (own := "ClerkRows") (by decide) rfl (Nat.le_of_ble_eq_true rfl) ?_
  intro pg ev s0 mi below meth cd F M hr hlocks hnm ls hl
  have hx := F.1.1
  have hb := F.1.2.1
  have hl : lv_has ls 6 [(0, .long v), (2, .long lo), (4, .long hi)] := hl
  refine lv_lload_n hx hb d_CR_outside_0 rfl (lv_at hl 0 rfl) ?_
  refine lv_lload_n hx hb d_CR_outside_1 rfl (lv_at hl 1 rfl) ?_
  refine g_lcmp_lt (tgt := 13) hx hb d_CR_outside_2 d_CR_outside_3 (by decide) (fun c_3 => ?_) (fun c_3 => ?_)
  · refine lv_iconst (v := 1) hx hb d_CR_outside_13 (by decide) ?_
    refine lv_goto (tgt := 18) hx hb d_CR_outside_14 (by decide) ?_
    exact g_zret F M hr hlocks d_CR_outside_18 (by decide) (by decide) (by decide +kernel) (by simp [bI, c_3]) rfl (rfl)
  · refine lv_lload_n hx hb d_CR_outside_6 rfl (lv_at hl 0 rfl) ?_
    refine lv_lload hx hb d_CR_outside_7 (lv_at hl 2 rfl) ?_
    refine g_lcmp_le (tgt := 17) hx hb d_CR_outside_9 d_CR_outside_10 (by decide) (fun c_10 => ?_) (fun c_10 => ?_)
    · refine lv_iconst (v := 0) hx hb d_CR_outside_17 (by decide) ?_
      exact g_zret F M hr hlocks d_CR_outside_18 (by decide) (by decide) (by decide +kernel) (by simp [bI, c_3, c_10]) rfl (rfl)
    · refine lv_iconst (v := 1) hx hb d_CR_outside_13 (by decide) ?_
      refine lv_goto (tgt := 18) hx hb d_CR_outside_14 (by decide) ?_
      exact g_zret F M hr hlocks d_CR_outside_18 (by decide) (by decide) (by decide +kernel) (by simp [bI, c_3, c_10]) rfl (rfl)
set_option maxRecDepth 4000 in
theorem c_CR_isClerk (l : Launch) (G : gG) (N : Nat) (w : Nat → va_E) (x : Int32) : Met l y_CR_isClerk (Cond.code y_CR_isClerk b_CR_isClerk 1 (some .boolean) :: gtb) (gR 0 0 0) (gPc G [.int x] (N) (w)) (gQ1 G (bI (¬ x < 0 ∧ x < 20)) (N) (w)) 0 0 (gA (gB G)) := by
  refine g_met (own := "ClerkRows") (by decide) rfl (Nat.le_of_ble_eq_true rfl) ?_
  intro pg ev s0 mi below meth cd F M hr hlocks hnm ls hl
  have hx := F.1.1
  have hb := F.1.2.1
  have hl : lv_has ls 1 [(0, .int x)] := hl
  refine lv_iload_n hx hb d_CR_isClerk_0 rfl (lv_at hl 0 rfl) ?_
  refine lv_if_lt (tgt := 14) hx hb d_CR_isClerk_1 (by decide) (fun c_1 => ?_) (fun c_1 => ?_)
  · refine lv_iconst (v := 0) hx hb d_CR_isClerk_14 (by decide) ?_
    exact g_zret F M hr hlocks d_CR_isClerk_15 (by decide) (by decide) (by decide +kernel) (by simp [bI, c_1]) rfl (rfl)
  · refine lv_iload_n hx hb d_CR_isClerk_4 rfl (lv_at hl 0 rfl) ?_
    refine lv_bipush (v := 20) hx hb d_CR_isClerk_5 (by decide) ?_
    refine lv_icmp_ge (tgt := 14) hx hb d_CR_isClerk_7 (by decide) (fun c_7 => ?_) (fun c_7 => ?_)
    · have c_7 := i32_nlt c_7
      refine lv_iconst (v := 0) hx hb d_CR_isClerk_14 (by decide) ?_
      exact g_zret F M hr hlocks d_CR_isClerk_15 (by decide) (by decide) (by decide +kernel) (by simp [bI, c_1, c_7]) rfl (rfl)
    · have c_7 := i32_lt c_7
      refine lv_iconst (v := 1) hx hb d_CR_isClerk_10 (by decide) ?_
      refine lv_goto (tgt := 15) hx hb d_CR_isClerk_11 (by decide) ?_
      exact g_zret F M hr hlocks d_CR_isClerk_15 (by decide) (by decide) (by decide +kernel) (by simp [bI, c_1, c_7]) rfl (rfl)
set_option maxRecDepth 4000 in
theorem c_CR_isNoTime (l : Launch) (G : gG) (N n : Nat) (sc : Nat → Int32) (now : Int64) (gi : Nat → Int32) (ck : Nat → Nat → Int32) (ho : Nat → Nat) (pd : Nat → Int64) (pf : Nat → Nat → Int32) (ps : Nat → Nat → Int32) (pe : Nat → Nat → Int32) (pn : Nat → Nat) (w0 : Nat → va_E) (hN : N = 37 + 3 * n) (hcn : sc 1 = nI n) (hn : n ≤ 300) (hpn : ∀ p, pn p < 4) (t : Int64) : Met l y_CR_isNoTime (Cond.code y_CR_isNoTime b_CR_isNoTime 3 (some .boolean) :: gtb) (gR 1 0 0) (gPc G [.ref (gB G + 0), .long t] (N) (cw G n (sc, now, gi, ck, ho, pd, pf, ps, pe, pn) w0)) (gQ1 G (bI (t < now ∨ 1000000000 < t)) (N) (cw G n (sc, now, gi, ck, ho, pd, pf, ps, pe, pn) w0)) 0 0 (gA (gB G)) := by
  refine g_met (own := "ClerkRows") (by decide) rfl (Nat.le_of_ble_eq_true rfl) ?_
  intro pg ev s0 mi below meth cd F M hr hlocks hnm ls hl
  have hx := F.1.1
  have hb := F.1.2.1
  have hl : lv_has ls 3 [(0, .ref (gB G + 0)), (1, .long t)] := hl
  refine lv_lload_n hx hb d_CR_isNoTime_0 rfl (lv_at hl 1 rfl) ?_
  refine lv_aload_n hx hb d_CR_isNoTime_1 rfl (lv_at hl 0 rfl) ?_
  refine g_get (v := .long now) F M f_CR_42 d_CR_isNoTime_2 (by omega) cw_0 rfl ?_
  refine lv_ldc2 (v := 1000000000) hx hb F.1.2.2.2.1 (F.1.2.2.2.2 _ wd_97) d_CR_isNoTime_5 ?_
  refine g_call1 (g_rs (rest := []) F M (c_CR_outside l G (N) (cw G n (sc, now, gi, ck, ho, pd, pf, ps, pe, pn) w0) t now 1000000000) k_CR_48 d_CR_isNoTime_8 ⟨rfl, rfl, by decide, by decide, by decide, by decide⟩ rfl hl.1 (Nat.le_of_ble_eq_true rfl) rfl) M (fun H locs M => ?_)
  exact g_zret F M hr hlocks d_CR_isNoTime_11 (by decide) (by decide) (bI_nar _) rfl rfl (rfl)
set_option maxRecDepth 4000 in
theorem c_CR_isPicture (l : Launch) (G : gG) (N n : Nat) (sc : Nat → Int32) (now : Int64) (gi : Nat → Int32) (ck : Nat → Nat → Int32) (ho : Nat → Nat) (pd : Nat → Int64) (pf : Nat → Nat → Int32) (ps : Nat → Nat → Int32) (pe : Nat → Nat → Int32) (pn : Nat → Nat) (w0 : Nat → va_E) (hN : N = 37 + 3 * n) (hcn : sc 1 = nI n) (hn : n ≤ 300) (hpn : ∀ p, pn p < 4) (x : Int32) : Met l y_CR_isPicture (Cond.code y_CR_isPicture b_CR_isPicture 2 (some .boolean) :: gtb) (gR 0 0 0) (gPc G [.ref (gB G + 0), .int x] (N) (cw G n (sc, now, gi, ck, ho, pd, pf, ps, pe, pn) w0)) (gQ1 G (bI (0 < x ∧ ¬ nI n < x)) (N) (cw G n (sc, now, gi, ck, ho, pd, pf, ps, pe, pn) w0)) 0 0 (gA (gB G)) := by
  refine g_met (own := "ClerkRows") (by decide) rfl (Nat.le_of_ble_eq_true rfl) ?_
  intro pg ev s0 mi below meth cd F M hr hlocks hnm ls hl
  have hx := F.1.1
  have hb := F.1.2.1
  have hl : lv_has ls 2 [(0, .ref (gB G + 0)), (1, .int x)] := hl
  refine lv_iload_n hx hb d_CR_isPicture_0 rfl (lv_at hl 1 rfl) ?_
  refine lv_if_le (tgt := 16) hx hb d_CR_isPicture_1 (by decide) (fun c_1 => ?_) (fun c_1 => ?_)
  · have c_1 := i32_nlt c_1
    refine lv_iconst (v := 0) hx hb d_CR_isPicture_16 (by decide) ?_
    exact g_zret F M hr hlocks d_CR_isPicture_17 (by decide) (by decide) (by decide +kernel) (by simp [bI, c_1]) rfl (rfl)
  · have c_1 := i32_lt c_1
    refine lv_iload_n hx hb d_CR_isPicture_4 rfl (lv_at hl 1 rfl) ?_
    refine lv_aload_n hx hb d_CR_isPicture_5 rfl (lv_at hl 0 rfl) ?_
    refine g_get (v := .int (nI n)) F M f_CR_39 d_CR_isPicture_6 (by omega) cw_0 (congrArg (fun z => some (Value.int z)) hcn) ?_
    refine lv_icmp_gt (tgt := 16) hx hb d_CR_isPicture_9 (by decide) (fun c_9 => ?_) (fun c_9 => ?_)
    · refine lv_iconst (v := 0) hx hb d_CR_isPicture_16 (by decide) ?_
      exact g_zret F M hr hlocks d_CR_isPicture_17 (by decide) (by decide) (by decide +kernel) (by simp [bI, c_1, c_9]) rfl (rfl)
    · refine lv_iconst (v := 1) hx hb d_CR_isPicture_12 (by decide) ?_
      refine lv_goto (tgt := 17) hx hb d_CR_isPicture_13 (by decide) ?_
      exact g_zret F M hr hlocks d_CR_isPicture_17 (by decide) (by decide) (by decide +kernel) (by simp [bI, c_1, c_9]) rfl (rfl)
set_option maxRecDepth 4000 in
theorem c_Pi_isOver (l : Launch) (G : gG) (N n : Nat) (sc : Nat → Int32) (now : Int64) (gi : Nat → Int32) (ck : Nat → Nat → Int32) (ho : Nat → Nat) (pd : Nat → Int64) (pf : Nat → Nat → Int32) (ps : Nat → Nat → Int32) (pe : Nat → Nat → Int32) (pn : Nat → Nat) (w0 : Nat → va_E) (hN : N = 37 + 3 * n) (hcn : sc 1 = nI n) (hn : n ≤ 300) (hpn : ∀ p, pn p < 4) (p : Nat) (hp1 : 1 ≤ p) (hp2 : p ≤ n) : Met l y_Pi_isOver (Cond.code y_Pi_isOver b_Pi_isOver 1 (some .boolean) :: gtb) (gR 0 0 0) (gPc G [.ref (gB G + (34 + 3 * p))] (N) (cw G n (sc, now, gi, ck, ho, pd, pf, ps, pe, pn) w0)) (gQ1 G (bI (¬ pn p = 0)) (N) (cw G n (sc, now, gi, ck, ho, pd, pf, ps, pe, pn) w0)) 0 0 (gA (gB G)) := by
  refine g_met (own := "ClerkRows$Picture") (by decide) rfl (Nat.le_of_ble_eq_true rfl) ?_
  intro pg ev s0 mi below meth cd F M hr hlocks hnm ls hl
  have hx := F.1.1
  have hb := F.1.2.1
  have hl : lv_has ls 1 [(0, .ref (gB G + (34 + 3 * p)))] := hl
  refine lv_aload_n hx hb d_Pi_isOver_0 rfl (lv_at hl 0 rfl) ?_
  refine g_get (v := .ref (gEa G (pn p))) F M f_Pi_24 d_Pi_isOver_1 (by omega) (cw_pi (by omega)) rfl ?_
  refine g_gets F M 0 (by decide) wd_107 d_Pi_isOver_4 ?_
  refine lv_acmp_eq (rx := some (gEa G (pn p))) (ry := some (gEa G 0)) (tgt := 14) hx hb d_Pi_isOver_7 (by decide) (fun c_7 => ?_) (fun c_7 => ?_)
  · have c_7 : pn p = 0 := F.2.2.1.2 _ _ (hpn p) (by decide) (Option.some.inj c_7)
    refine lv_iconst (v := 0) hx hb d_Pi_isOver_14 (by decide) ?_
    exact g_zret F M hr hlocks d_Pi_isOver_15 (by decide) (by decide) (by decide +kernel) (by simp [bI, c_7]) rfl (rfl)
  · have c_7 : ¬ pn p = 0 := fun h => c_7 (by rw [h])
    refine lv_iconst (v := 1) hx hb d_Pi_isOver_10 (by decide) ?_
    refine lv_goto (tgt := 15) hx hb d_Pi_isOver_11 (by decide) ?_
    exact g_zret F M hr hlocks d_Pi_isOver_15 (by decide) (by decide) (by decide +kernel) (by simp [bI, c_7]) rfl (rfl)
set_option maxRecDepth 4000 in
theorem c_Pi_differs (l : Launch) (G : gG) (N n : Nat) (sc : Nat → Int32) (now : Int64) (gi : Nat → Int32) (ck : Nat → Nat → Int32) (ho : Nat → Nat) (pd : Nat → Int64) (pf : Nat → Nat → Int32) (ps : Nat → Nat → Int32) (pe : Nat → Nat → Int32) (pn : Nat → Nat) (w0 : Nat → va_E) (hN : N = 37 + 3 * n) (hcn : sc 1 = nI n) (hn : n ≤ 300) (hpn : ∀ p, pn p < 4) (p : Nat) (hp1 : 1 ≤ p) (hp2 : p ≤ n) : Met l y_Pi_differs (Cond.code y_Pi_differs b_Pi_differs 1 (some .boolean) :: gtb) (gR 0 0 0) (gPc G [.ref (gB G + (34 + 3 * p))] (N) (cw G n (sc, now, gi, ck, ho, pd, pf, ps, pe, pn) w0)) (gQ1 G (bI (cDif pf pe p)) (N) (cw G n (sc, now, gi, ck, ho, pd, pf, ps, pe, pn) w0)) 0 0 (gA (gB G)) := by
  refine g_met (own := "ClerkRows$Picture") (by decide) rfl (Nat.le_of_ble_eq_true rfl) ?_
  intro pg ev s0 mi below meth cd F M hr hlocks hnm ls hl
  have hx := F.1.1
  have hb := F.1.2.1
  have hl : lv_has ls 1 [(0, .ref (gB G + (34 + 3 * p)))] := hl
  refine lv_aload_n hx hb d_Pi_differs_0 rfl (lv_at hl 0 rfl) ?_
  refine g_get (v := .int (pf p 6)) F M f_Pi_35 d_Pi_differs_1 (by omega) (cw_pi (by omega)) rfl ?_
  refine lv_iconst (v := 1) hx hb d_Pi_differs_4 (by decide) ?_
  refine lv_icmp_le (tgt := 27) hx hb d_Pi_differs_5 (by decide) (fun c_5 => ?_) (fun c_5 => ?_)
  · have c_5 := i32_nlt c_5
    refine lv_iconst (v := 0) hx hb d_Pi_differs_27 (by decide) ?_
    exact g_zret F M hr hlocks d_Pi_differs_28 (by decide) (by decide) (by decide +kernel) (by simp [bI, c_5]) rfl (rfl)
  · have c_5 := i32_lt c_5
    refine lv_aload_n hx hb d_Pi_differs_8 rfl (lv_at hl 0 rfl) ?_
    refine g_get (v := .ref (gB G + (36 + 3 * p))) F M f_Pi_15 d_Pi_differs_9 (by omega) (cw_pi (by omega)) rfl ?_
    refine lv_iconst (v := 0) hx hb d_Pi_differs_12 (by decide) ?_
    refine g_topi (x' := nI 0) rfl ?_
    refine g_iald (f := (pe p)) F M d_Pi_differs_13 (by omega) (cw_pe (by omega)) (by omega) (by decide) ?_
    refine lv_aload_n hx hb d_Pi_differs_14 rfl (lv_at hl 0 rfl) ?_
    refine g_get (v := .ref (gB G + (36 + 3 * p))) F M f_Pi_15 d_Pi_differs_15 (by omega) (cw_pi (by omega)) rfl ?_
    refine lv_iconst (v := 1) hx hb d_Pi_differs_18 (by decide) ?_
    refine g_topi (x' := nI 1) rfl ?_
    refine g_iald (f := (pe p)) F M d_Pi_differs_19 (by omega) (cw_pe (by omega)) (by omega) (by decide) ?_
    refine lv_icmp_eq (tgt := 27) hx hb d_Pi_differs_20 (by decide) (fun c_20 => ?_) (fun c_20 => ?_)
    · refine lv_iconst (v := 0) hx hb d_Pi_differs_27 (by decide) ?_
      exact g_zret F M hr hlocks d_Pi_differs_28 (by decide) (by decide) (by decide +kernel) (by simp [bI, c_5, c_20]) rfl (rfl)
    · refine lv_iconst (v := 1) hx hb d_Pi_differs_23 (by decide) ?_
      refine lv_goto (tgt := 28) hx hb d_Pi_differs_24 (by decide) ?_
      exact g_zret F M hr hlocks d_Pi_differs_28 (by decide) (by decide) (by decide +kernel) (by simp [bI, c_5, c_20]) rfl (rfl)
set_option maxRecDepth 4000 in
theorem c_Pi_wants (l : Launch) (G : gG) (N n : Nat) (sc : Nat → Int32) (now : Int64) (gi : Nat → Int32) (ck : Nat → Nat → Int32) (ho : Nat → Nat) (pd : Nat → Int64) (pf : Nat → Nat → Int32) (ps : Nat → Nat → Int32) (pe : Nat → Nat → Int32) (pn : Nat → Nat) (w0 : Nat → va_E) (hN : N = 37 + 3 * n) (hcn : sc 1 = nI n) (hn : n ≤ 300) (hpn : ∀ p, pn p < 4) (p : Nat) (hp1 : 1 ≤ p) (hp2 : p ≤ n) : Met l y_Pi_wants (Cond.code y_Pi_wants b_Pi_wants 1 (some .int) :: gtb) (gR 1 0 0) (gPc G [.ref (gB G + (34 + 3 * p))] (N) (cw G n (sc, now, gi, ck, ho, pd, pf, ps, pe, pn) w0)) (gQ1 G (if cDif pf pe p then 3 else 2) (N) (cw G n (sc, now, gi, ck, ho, pd, pf, ps, pe, pn) w0)) 0 0 (gA (gB G)) := by
  refine g_met (own := "ClerkRows$Picture") (by decide) rfl (Nat.le_of_ble_eq_true rfl) ?_
  intro pg ev s0 mi below meth cd F M hr hlocks hnm ls hl
  have hx := F.1.1
  have hb := F.1.2.1
  have hl : lv_has ls 1 [(0, .ref (gB G + (34 + 3 * p)))] := hl
  refine lv_aload_n hx hb d_Pi_wants_0 rfl (lv_at hl 0 rfl) ?_
  refine g_call1 (g_rv (rest := []) F M (c_Pi_differs l G (N) n sc now gi ck ho pd pf ps pe pn w0 hN hcn hn hpn p (by omega) (by omega)) k_Pi_38 d_Pi_wants_1 ⟨rfl, rfl, by decide, by decide, by decide, by decide⟩ (by omega) (cw_pi (by omega)) rfl rfl hl.1 (Nat.le_of_ble_eq_true rfl) rfl) M (fun H locs M => ?_)
  refine g_ifeqB (tgt := 11) hx hb d_Pi_wants_4 (by decide) (fun c_4 => ?_) (fun c_4 => ?_)
  · refine lv_iconst (v := 2) hx hb d_Pi_wants_11 (by decide) ?_
    exact g_iret F M hr hlocks d_Pi_wants_12 (by decide) (by decide) (if_neg c_4).symm rfl (rfl)
  · refine lv_iconst (v := 3) hx hb d_Pi_wants_7 (by decide) ?_
    refine lv_goto (tgt := 12) hx hb d_Pi_wants_8 (by decide) ?_
    exact g_iret F M hr hlocks d_Pi_wants_12 (by decide) (by decide) (if_pos c_4).symm rfl (rfl)
set_option maxRecDepth 4000 in
theorem c_Pi_isTaken (l : Launch) (G : gG) (N n : Nat) (sc : Nat → Int32) (now : Int64) (gi : Nat → Int32) (ck : Nat → Nat → Int32) (ho : Nat → Nat) (pd : Nat → Int64) (pf : Nat → Nat → Int32) (ps : Nat → Nat → Int32) (pe : Nat → Nat → Int32) (pn : Nat → Nat) (w0 : Nat → va_E) (hN : N = 37 + 3 * n) (hcn : sc 1 = nI n) (hn : n ≤ 300) (hpn : ∀ p, pn p < 4) (p : Nat) (hp1 : 1 ≤ p) (hp2 : p ≤ n) : Met l y_Pi_isTaken (Cond.code y_Pi_isTaken b_Pi_isTaken 1 (some .boolean) :: gtb) (gR 2 0 0) (gPc G [.ref (gB G + (34 + 3 * p))] (N) (cw G n (sc, now, gi, ck, ho, pd, pf, ps, pe, pn) w0)) (gQ1 G (bI (cTak pf pe p)) (N) (cw G n (sc, now, gi, ck, ho, pd, pf, ps, pe, pn) w0)) 0 0 (gA (gB G)) := by
  refine g_met (own := "ClerkRows$Picture") (by decide) rfl (Nat.le_of_ble_eq_true rfl) ?_
  intro pg ev s0 mi below meth cd F M hr hlocks hnm ls hl
  have hx := F.1.1
  have hb := F.1.2.1
  have hl : lv_has ls 1 [(0, .ref (gB G + (34 + 3 * p)))] := hl
  refine lv_aload_n hx hb d_Pi_isTaken_0 rfl (lv_at hl 0 rfl) ?_
  refine g_get (v := .int (pf p 6)) F M f_Pi_35 d_Pi_isTaken_1 (by omega) (cw_pi (by omega)) rfl ?_
  refine lv_aload_n hx hb d_Pi_isTaken_4 rfl (lv_at hl 0 rfl) ?_
  refine g_get (v := .int (pf p 7)) F M f_Pi_42 d_Pi_isTaken_5 (by omega) (cw_pi (by omega)) rfl ?_
  refine lv_iadd hx hb d_Pi_isTaken_8 ?_
  refine lv_aload_n hx hb d_Pi_isTaken_9 rfl (lv_at hl 0 rfl) ?_
  refine g_call1 (g_rv (rest := [.int ((pf p 6) + (pf p 7))]) F M (c_Pi_wants l G (N) n sc now gi ck ho pd pf ps pe pn w0 hN hcn hn hpn p (by omega) (by omega)) k_Pi_45 d_Pi_isTaken_10 ⟨rfl, rfl, by decide, by decide, by decide, by decide⟩ (by omega) (cw_pi (by omega)) rfl rfl hl.1 (Nat.le_of_ble_eq_true rfl) rfl) M (fun H locs M => ?_)
  refine lv_icmp_lt (tgt := 20) hx hb d_Pi_isTaken_13 (by decide) (fun c_13 => ?_) (fun c_13 => ?_)
  · refine lv_iconst (v := 0) hx hb d_Pi_isTaken_20 (by decide) ?_
    exact g_zret F M hr hlocks d_Pi_isTaken_21 (by decide) (by decide) (by decide +kernel) (bI_f (P := cTak pf pe p) (fun h => h c_13)).symm rfl (rfl)
  · refine lv_iconst (v := 1) hx hb d_Pi_isTaken_16 (by decide) ?_
    refine lv_goto (tgt := 21) hx hb d_Pi_isTaken_17 (by decide) ?_
    exact g_zret F M hr hlocks d_Pi_isTaken_21 (by decide) (by decide) (by decide +kernel) (bI_t (P := cTak pf pe p) c_13).symm rfl (rfl)
set_option maxRecDepth 4000 in
theorem c_Pi_isFree (l : Launch) (G : gG) (N n : Nat) (sc : Nat → Int32) (now : Int64) (gi : Nat → Int32) (ck : Nat → Nat → Int32) (ho : Nat → Nat) (pd : Nat → Int64) (pf : Nat → Nat → Int32) (ps : Nat → Nat → Int32) (pe : Nat → Nat → Int32) (pn : Nat → Nat) (w0 : Nat → va_E) (hN : N = 37 + 3 * n) (hcn : sc 1 = nI n) (hn : n ≤ 300) (hpn : ∀ p, pn p < 4) (p : Nat) (hp1 : 1 ≤ p) (hp2 : p ≤ n) (c : Nat) (hc : c < 20) : Met l y_Pi_isFree (Cond.code y_Pi_isFree b_Pi_isFree 4 (some .boolean) :: gtb) (gR 3 0 0) (gPc G [.ref (gB G + (34 + 3 * p)), .int (nI c), .ref (gB G + (4 + c))] (N) (cw G n (sc, now, gi, ck, ho, pd, pf, ps, pe, pn) w0)) (gQ1 G (bI (cFre ck pf pe pn p c)) (N) (cw G n (sc, now, gi, ck, ho, pd, pf, ps, pe, pn) w0)) 0 0 (gA (gB G)) := by
  refine g_met (own := "ClerkRows$Picture") (by decide) rfl (Nat.le_of_ble_eq_true rfl) ?_
  intro pg ev s0 mi below meth cd F M hr hlocks hnm ls hl
  have hx := F.1.1
  have hb := F.1.2.1
  have hl : lv_has ls 4 [(0, .ref (gB G + (34 + 3 * p))), (1, .int (nI c)), (2, .ref (gB G + (4 + c)))] := hl
  refine lv_aload_n hx hb d_Pi_isFree_0 rfl (lv_at hl 0 rfl) ?_
  refine g_call1 (g_rv (rest := []) F M (c_Pi_differs l G (N) n sc now gi ck ho pd pf ps pe pn w0 hN hcn hn hpn p (by omega) (by omega)) k_Pi_38 d_Pi_isFree_1 ⟨rfl, rfl, by decide, by decide, by decide, by decide⟩ (by omega) (cw_pi (by omega)) rfl rfl hl.1 (Nat.le_of_ble_eq_true rfl) rfl) M (fun H locs M => ?_)
  refine g_ifneB (tgt := 21) hx hb d_Pi_isFree_4 (by decide) (fun c_4 => ?_) (fun c_4 => ?_)
  · refine lv_iconst (v := 1) hx hb d_Pi_isFree_21 (by decide) ?_
    refine lv_goto (tgt := 26) hx hb d_Pi_isFree_22 (by decide) ?_
    refine lv_istore_n (lv' := [(3, .int 1), (0, .ref (gB G + (34 + 3 * p))), (1, .int (nI c)), (2, .ref (gB G + (4 + c)))]) hx hb d_Pi_isFree_26 rfl hl (by decide) rfl (fun ls hl => ?_)
    refine lv_aload_n hx hb d_Pi_isFree_27 rfl (lv_at hl 1 rfl) ?_
    refine g_call1 (g_rv (rest := []) F M (c_Pi_isOver l G (N) n sc now gi ck ho pd pf ps pe pn w0 hN hcn hn hpn p (by omega) (by omega)) k_Pi_57 d_Pi_isFree_28 ⟨rfl, rfl, by decide, by decide, by decide, by decide⟩ (by omega) (cw_pi (by omega)) rfl rfl hl.1 (Nat.le_of_ble_eq_true rfl) rfl) M (fun H locs M => ?_)
    refine g_ifneB (tgt := 71) hx hb d_Pi_isFree_31 (by decide) (fun c_31 => ?_) (fun c_31 => ?_)
    · refine lv_iconst (v := 0) hx hb d_Pi_isFree_71 (by decide) ?_
      exact g_zret F M hr hlocks d_Pi_isFree_72 (by decide) (by decide) (by decide +kernel) (bI_f (fun h => c_31 h.1)).symm rfl (rfl)
    · refine lv_aload_n hx hb d_Pi_isFree_34 rfl (lv_at hl 1 rfl) ?_
      refine g_call1 (g_rv (rest := []) F M (c_Pi_isTaken l G (N) n sc now gi ck ho pd pf ps pe pn w0 hN hcn hn hpn p (by omega) (by omega)) k_Pi_60 d_Pi_isFree_35 ⟨rfl, rfl, by decide, by decide, by decide, by decide⟩ (by omega) (cw_pi (by omega)) rfl rfl hl.1 (Nat.le_of_ble_eq_true rfl) rfl) M (fun H locs M => ?_)
      refine g_ifneB (tgt := 71) hx hb d_Pi_isFree_38 (by decide) (fun c_38 => ?_) (fun c_38 => ?_)
      · refine lv_iconst (v := 0) hx hb d_Pi_isFree_71 (by decide) ?_
        exact g_zret F M hr hlocks d_Pi_isFree_72 (by decide) (by decide) (by decide +kernel) (bI_f (fun h => h.2.1 c_38)).symm rfl (rfl)
      · refine lv_aload_n hx hb d_Pi_isFree_41 rfl (lv_at hl 1 rfl) ?_
        refine g_get (v := .int (pf p 1)) F M f_Pi_31 d_Pi_isFree_42 (by omega) (cw_pi (by omega)) rfl ?_
        refine lv_aload_n hx hb d_Pi_isFree_45 rfl (lv_at hl 3 rfl) ?_
        refine g_getN (v := .int (ck c 2)) F M f_Pi_63 d_Pi_isFree_46 (by omega) (cw_ck (by omega)) rfl ?_
        refine lv_icmp_gt (tgt := 71) hx hb d_Pi_isFree_49 (by decide) (fun c_49 => ?_) (fun c_49 => ?_)
        · refine lv_iconst (v := 0) hx hb d_Pi_isFree_71 (by decide) ?_
          exact g_zret F M hr hlocks d_Pi_isFree_72 (by decide) (by decide) (by decide +kernel) (bI_f (fun h => h.2.2.1 c_49)).symm rfl (rfl)
        · refine lv_aload_n hx hb d_Pi_isFree_52 rfl (lv_at hl 1 rfl) ?_
          refine g_get (v := .int (pf p 2)) F M f_Pi_64 d_Pi_isFree_53 (by omega) (cw_pi (by omega)) rfl ?_
          refine lv_iload_n hx hb d_Pi_isFree_56 rfl (lv_at hl 2 rfl) ?_
          refine lv_ishr hx hb d_Pi_isFree_57 ?_
          refine lv_iconst (v := 1) hx hb d_Pi_isFree_58 (by decide) ?_
          refine lv_iand hx hb d_Pi_isFree_59 ?_
          refine lv_if_ne (tgt := 71) hx hb d_Pi_isFree_60 (by decide) (fun c_60 => ?_) (fun c_60 => ?_)
          · refine lv_iconst (v := 0) hx hb d_Pi_isFree_71 (by decide) ?_
            exact g_zret F M hr hlocks d_Pi_isFree_72 (by decide) (by decide) (by decide +kernel) (bI_f (fun h => h.2.2.2.1 c_60)).symm rfl (rfl)
          · refine lv_iload_n hx hb d_Pi_isFree_63 rfl (lv_at hl 0 rfl) ?_
            refine lv_if_eq (tgt := 71) hx hb d_Pi_isFree_64 (by decide) (fun h => absurd h (by decide)) (fun _ => ?_)
            refine lv_iconst (v := 1) hx hb d_Pi_isFree_67 (by decide) ?_
            refine lv_goto (tgt := 72) hx hb d_Pi_isFree_68 (by decide) ?_
            exact g_zret F M hr hlocks d_Pi_isFree_72 (by decide) (by decide) (by decide +kernel) (bI_t ⟨Decidable.byContradiction c_31, c_38, c_49, fun h => h c_60, Or.inl c_4⟩).symm rfl (rfl)
  · refine lv_aload_n hx hb d_Pi_isFree_7 rfl (lv_at hl 0 rfl) ?_
    refine g_get (v := .int (pf p 4)) F M f_Pi_49 d_Pi_isFree_8 (by omega) (cw_pi (by omega)) rfl ?_
    refine lv_aload_n hx hb d_Pi_isFree_11 rfl (lv_at hl 2 rfl) ?_
    refine g_getN (v := .int (ck c 1)) F M f_Pi_52 d_Pi_isFree_12 (by omega) (cw_ck (by omega)) rfl ?_
    refine lv_ishr hx hb d_Pi_isFree_15 ?_
    refine lv_iconst (v := 1) hx hb d_Pi_isFree_16 (by decide) ?_
    refine lv_iand hx hb d_Pi_isFree_17 ?_
    refine lv_if_ne (tgt := 25) hx hb d_Pi_isFree_18 (by decide) (fun c_18 => ?_) (fun c_18 => ?_)
    · refine lv_iconst (v := 0) hx hb d_Pi_isFree_25 (by decide) ?_
      refine lv_istore_n (lv' := [(3, .int 0), (0, .ref (gB G + (34 + 3 * p))), (1, .int (nI c)), (2, .ref (gB G + (4 + c)))]) hx hb d_Pi_isFree_26 rfl hl (by decide) rfl (fun ls hl => ?_)
      refine lv_aload_n hx hb d_Pi_isFree_27 rfl (lv_at hl 1 rfl) ?_
      refine g_call1 (g_rv (rest := []) F M (c_Pi_isOver l G (N) n sc now gi ck ho pd pf ps pe pn w0 hN hcn hn hpn p (by omega) (by omega)) k_Pi_57 d_Pi_isFree_28 ⟨rfl, rfl, by decide, by decide, by decide, by decide⟩ (by omega) (cw_pi (by omega)) rfl rfl hl.1 (Nat.le_of_ble_eq_true rfl) rfl) M (fun H locs M => ?_)
      refine g_ifneB (tgt := 71) hx hb d_Pi_isFree_31 (by decide) (fun c_31 => ?_) (fun c_31 => ?_)
      · refine lv_iconst (v := 0) hx hb d_Pi_isFree_71 (by decide) ?_
        exact g_zret F M hr hlocks d_Pi_isFree_72 (by decide) (by decide) (by decide +kernel) (bI_f (fun h => c_31 h.1)).symm rfl (rfl)
      · refine lv_aload_n hx hb d_Pi_isFree_34 rfl (lv_at hl 1 rfl) ?_
        refine g_call1 (g_rv (rest := []) F M (c_Pi_isTaken l G (N) n sc now gi ck ho pd pf ps pe pn w0 hN hcn hn hpn p (by omega) (by omega)) k_Pi_60 d_Pi_isFree_35 ⟨rfl, rfl, by decide, by decide, by decide, by decide⟩ (by omega) (cw_pi (by omega)) rfl rfl hl.1 (Nat.le_of_ble_eq_true rfl) rfl) M (fun H locs M => ?_)
        refine g_ifneB (tgt := 71) hx hb d_Pi_isFree_38 (by decide) (fun c_38 => ?_) (fun c_38 => ?_)
        · refine lv_iconst (v := 0) hx hb d_Pi_isFree_71 (by decide) ?_
          exact g_zret F M hr hlocks d_Pi_isFree_72 (by decide) (by decide) (by decide +kernel) (bI_f (fun h => h.2.1 c_38)).symm rfl (rfl)
        · refine lv_aload_n hx hb d_Pi_isFree_41 rfl (lv_at hl 1 rfl) ?_
          refine g_get (v := .int (pf p 1)) F M f_Pi_31 d_Pi_isFree_42 (by omega) (cw_pi (by omega)) rfl ?_
          refine lv_aload_n hx hb d_Pi_isFree_45 rfl (lv_at hl 3 rfl) ?_
          refine g_getN (v := .int (ck c 2)) F M f_Pi_63 d_Pi_isFree_46 (by omega) (cw_ck (by omega)) rfl ?_
          refine lv_icmp_gt (tgt := 71) hx hb d_Pi_isFree_49 (by decide) (fun c_49 => ?_) (fun c_49 => ?_)
          · refine lv_iconst (v := 0) hx hb d_Pi_isFree_71 (by decide) ?_
            exact g_zret F M hr hlocks d_Pi_isFree_72 (by decide) (by decide) (by decide +kernel) (bI_f (fun h => h.2.2.1 c_49)).symm rfl (rfl)
          · refine lv_aload_n hx hb d_Pi_isFree_52 rfl (lv_at hl 1 rfl) ?_
            refine g_get (v := .int (pf p 2)) F M f_Pi_64 d_Pi_isFree_53 (by omega) (cw_pi (by omega)) rfl ?_
            refine lv_iload_n hx hb d_Pi_isFree_56 rfl (lv_at hl 2 rfl) ?_
            refine lv_ishr hx hb d_Pi_isFree_57 ?_
            refine lv_iconst (v := 1) hx hb d_Pi_isFree_58 (by decide) ?_
            refine lv_iand hx hb d_Pi_isFree_59 ?_
            refine lv_if_ne (tgt := 71) hx hb d_Pi_isFree_60 (by decide) (fun c_60 => ?_) (fun c_60 => ?_)
            · refine lv_iconst (v := 0) hx hb d_Pi_isFree_71 (by decide) ?_
              exact g_zret F M hr hlocks d_Pi_isFree_72 (by decide) (by decide) (by decide +kernel) (bI_f (fun h => h.2.2.2.1 c_60)).symm rfl (rfl)
            · refine lv_iload_n hx hb d_Pi_isFree_63 rfl (lv_at hl 0 rfl) ?_
              refine lv_if_eq (tgt := 71) hx hb d_Pi_isFree_64 (by decide) (fun _ => ?_) (fun h => absurd h (by decide))
              refine lv_iconst (v := 0) hx hb d_Pi_isFree_71 (by decide) ?_
              exact g_zret F M hr hlocks d_Pi_isFree_72 (by decide) (by decide) (by decide +kernel) (bI_f (fun h => h.2.2.2.2.elim c_4 (fun q => q c_18))).symm rfl (rfl)
    · refine lv_iconst (v := 1) hx hb d_Pi_isFree_21 (by decide) ?_
      refine lv_goto (tgt := 26) hx hb d_Pi_isFree_22 (by decide) ?_
      refine lv_istore_n (lv' := [(3, .int 1), (0, .ref (gB G + (34 + 3 * p))), (1, .int (nI c)), (2, .ref (gB G + (4 + c)))]) hx hb d_Pi_isFree_26 rfl hl (by decide) rfl (fun ls hl => ?_)
      refine lv_aload_n hx hb d_Pi_isFree_27 rfl (lv_at hl 1 rfl) ?_
      refine g_call1 (g_rv (rest := []) F M (c_Pi_isOver l G (N) n sc now gi ck ho pd pf ps pe pn w0 hN hcn hn hpn p (by omega) (by omega)) k_Pi_57 d_Pi_isFree_28 ⟨rfl, rfl, by decide, by decide, by decide, by decide⟩ (by omega) (cw_pi (by omega)) rfl rfl hl.1 (Nat.le_of_ble_eq_true rfl) rfl) M (fun H locs M => ?_)
      refine g_ifneB (tgt := 71) hx hb d_Pi_isFree_31 (by decide) (fun c_31 => ?_) (fun c_31 => ?_)
      · refine lv_iconst (v := 0) hx hb d_Pi_isFree_71 (by decide) ?_
        exact g_zret F M hr hlocks d_Pi_isFree_72 (by decide) (by decide) (by decide +kernel) (bI_f (fun h => c_31 h.1)).symm rfl (rfl)
      · refine lv_aload_n hx hb d_Pi_isFree_34 rfl (lv_at hl 1 rfl) ?_
        refine g_call1 (g_rv (rest := []) F M (c_Pi_isTaken l G (N) n sc now gi ck ho pd pf ps pe pn w0 hN hcn hn hpn p (by omega) (by omega)) k_Pi_60 d_Pi_isFree_35 ⟨rfl, rfl, by decide, by decide, by decide, by decide⟩ (by omega) (cw_pi (by omega)) rfl rfl hl.1 (Nat.le_of_ble_eq_true rfl) rfl) M (fun H locs M => ?_)
        refine g_ifneB (tgt := 71) hx hb d_Pi_isFree_38 (by decide) (fun c_38 => ?_) (fun c_38 => ?_)
        · refine lv_iconst (v := 0) hx hb d_Pi_isFree_71 (by decide) ?_
          exact g_zret F M hr hlocks d_Pi_isFree_72 (by decide) (by decide) (by decide +kernel) (bI_f (fun h => h.2.1 c_38)).symm rfl (rfl)
        · refine lv_aload_n hx hb d_Pi_isFree_41 rfl (lv_at hl 1 rfl) ?_
          refine g_get (v := .int (pf p 1)) F M f_Pi_31 d_Pi_isFree_42 (by omega) (cw_pi (by omega)) rfl ?_
          refine lv_aload_n hx hb d_Pi_isFree_45 rfl (lv_at hl 3 rfl) ?_
          refine g_getN (v := .int (ck c 2)) F M f_Pi_63 d_Pi_isFree_46 (by omega) (cw_ck (by omega)) rfl ?_
          refine lv_icmp_gt (tgt := 71) hx hb d_Pi_isFree_49 (by decide) (fun c_49 => ?_) (fun c_49 => ?_)
          · refine lv_iconst (v := 0) hx hb d_Pi_isFree_71 (by decide) ?_
            exact g_zret F M hr hlocks d_Pi_isFree_72 (by decide) (by decide) (by decide +kernel) (bI_f (fun h => h.2.2.1 c_49)).symm rfl (rfl)
          · refine lv_aload_n hx hb d_Pi_isFree_52 rfl (lv_at hl 1 rfl) ?_
            refine g_get (v := .int (pf p 2)) F M f_Pi_64 d_Pi_isFree_53 (by omega) (cw_pi (by omega)) rfl ?_
            refine lv_iload_n hx hb d_Pi_isFree_56 rfl (lv_at hl 2 rfl) ?_
            refine lv_ishr hx hb d_Pi_isFree_57 ?_
            refine lv_iconst (v := 1) hx hb d_Pi_isFree_58 (by decide) ?_
            refine lv_iand hx hb d_Pi_isFree_59 ?_
            refine lv_if_ne (tgt := 71) hx hb d_Pi_isFree_60 (by decide) (fun c_60 => ?_) (fun c_60 => ?_)
            · refine lv_iconst (v := 0) hx hb d_Pi_isFree_71 (by decide) ?_
              exact g_zret F M hr hlocks d_Pi_isFree_72 (by decide) (by decide) (by decide +kernel) (bI_f (fun h => h.2.2.2.1 c_60)).symm rfl (rfl)
            · refine lv_iload_n hx hb d_Pi_isFree_63 rfl (lv_at hl 0 rfl) ?_
              refine lv_if_eq (tgt := 71) hx hb d_Pi_isFree_64 (by decide) (fun h => absurd h (by decide)) (fun _ => ?_)
              refine lv_iconst (v := 1) hx hb d_Pi_isFree_67 (by decide) ?_
              refine lv_goto (tgt := 72) hx hb d_Pi_isFree_68 (by decide) ?_
              exact g_zret F M hr hlocks d_Pi_isFree_72 (by decide) (by decide) (by decide +kernel) (bI_t ⟨Decidable.byContradiction c_31, c_38, c_49, fun h => h c_60, Or.inr (fun h => h c_18)⟩).symm rfl (rfl)
set_option maxRecDepth 4000 in
theorem c_Ck_is (l : Launch) (G : gG) (N n : Nat) (sc : Nat → Int32) (now : Int64) (gi : Nat → Int32) (ck : Nat → Nat → Int32) (ho : Nat → Nat) (pd : Nat → Int64) (pf : Nat → Nat → Int32) (ps : Nat → Nat → Int32) (pe : Nat → Nat → Int32) (pn : Nat → Nat) (w0 : Nat → va_E) (hN : N = 37 + 3 * n) (hcn : sc 1 = nI n) (hn : n ≤ 300) (hpn : ∀ p, pn p < 4) (c : Nat) (hc : c < 20) (x y : Int32) : Met l y_Ck_is (Cond.code y_Ck_is b_Ck_is 3 (some .boolean) :: gtb) (gR 0 0 0) (gPc G [.ref (gB G + (4 + c)), .int x, .int y] (N) (cw G n (sc, now, gi, ck, ho, pd, pf, ps, pe, pn) w0)) (gQ1 G (bI (¬ ck c 0 = 0 ∧ ck c 1 = x ∧ ck c 2 = y)) (N) (cw G n (sc, now, gi, ck, ho, pd, pf, ps, pe, pn) w0)) 0 0 (gA (gB G)) := by
  refine g_met (own := "ClerkRows$Clerk") (by decide) rfl (Nat.le_of_ble_eq_true rfl) ?_
  intro pg ev s0 mi below meth cd F M hr hlocks hnm ls hl
  have hx := F.1.1
  have hb := F.1.2.1
  have hl : lv_has ls 3 [(0, .ref (gB G + (4 + c))), (1, .int x), (2, .int y)] := hl
  refine lv_aload_n hx hb d_Ck_is_0 rfl (lv_at hl 0 rfl) ?_
  refine g_get (v := .int (ck c 0)) F M f_Ck_7 d_Ck_is_1 (by omega) (cw_ck (by omega)) rfl ?_
  refine lv_if_eq (tgt := 27) hx hb d_Ck_is_4 (by decide) (fun c_4 => ?_) (fun c_4 => ?_)
  · refine lv_iconst (v := 0) hx hb d_Ck_is_27 (by decide) ?_
    exact g_zret F M hr hlocks d_Ck_is_28 (by decide) (by decide) (by decide +kernel) (by simp [bI, c_4]) rfl (rfl)
  · refine lv_aload_n hx hb d_Ck_is_7 rfl (lv_at hl 0 rfl) ?_
    refine g_get (v := .int (ck c 1)) F M f_Ck_13 d_Ck_is_8 (by omega) (cw_ck (by omega)) rfl ?_
    refine lv_iload_n hx hb d_Ck_is_11 rfl (lv_at hl 1 rfl) ?_
    refine lv_icmp_ne (tgt := 27) hx hb d_Ck_is_12 (by decide) (fun c_12 => ?_) (fun c_12 => ?_)
    · refine lv_iconst (v := 0) hx hb d_Ck_is_27 (by decide) ?_
      exact g_zret F M hr hlocks d_Ck_is_28 (by decide) (by decide) (by decide +kernel) (by simp [bI, c_4, c_12]) rfl (rfl)
    · refine lv_aload_n hx hb d_Ck_is_15 rfl (lv_at hl 0 rfl) ?_
      refine g_get (v := .int (ck c 2)) F M f_Ck_17 d_Ck_is_16 (by omega) (cw_ck (by omega)) rfl ?_
      refine lv_iload_n hx hb d_Ck_is_19 rfl (lv_at hl 2 rfl) ?_
      refine lv_icmp_ne (tgt := 27) hx hb d_Ck_is_20 (by decide) (fun c_20 => ?_) (fun c_20 => ?_)
      · refine lv_iconst (v := 0) hx hb d_Ck_is_27 (by decide) ?_
        exact g_zret F M hr hlocks d_Ck_is_28 (by decide) (by decide) (by decide +kernel) (by simp [bI, c_4, c_12, c_20]) rfl (rfl)
      · refine lv_iconst (v := 1) hx hb d_Ck_is_23 (by decide) ?_
        refine lv_goto (tgt := 28) hx hb d_Ck_is_24 (by decide) ?_
        exact g_zret F M hr hlocks d_Ck_is_28 (by decide) (by decide) (by decide +kernel) (by simp [bI, c_4, c_12, c_20]) rfl (rfl)
end
section
/-! ===== the place of a constant of End ===== -/
theorem ord_nI {k : Nat} (h : k < 4) : ([0, 1, 2, 3] : List Int32).getD k 0 = nI k := by
  rcases (show k = 0 ∨ k = 1 ∨ k = 2 ∨ k = 3 by omega) with rfl | rfl | rfl | rfl <;> rfl
theorem c_Eu_ordinal (l : Launch) (G : gG) (N : Nat) (w : Nat → va_E) (k : Nat) (hk : k < 4) : Met l y_Eu_ordinal (Cond.code y_Eu_ordinal b_Eu_ordinal 1 (some .int) :: gtb) (gR 0 0 0) (gPc G [.ref (gEa G k)] N w) (gQ1 G (nI k) N w) 0 0 (gA (gB G)) := by
  refine g_met (own := "java/lang/Enum") (by decide) rfl (Nat.le_of_ble_eq_true rfl) ?_
  intro pg ev s0 mi below meth cd F M hr hlocks hnm ls hl
  have hx := F.1.1
  have hb := F.1.2.1
  have hl : lv_has ls 1 [(0, .ref (gEa G k))] := hl
  refine lv_aload_n hx hb d_Eu_ordinal_0 rfl (lv_at hl 0 rfl) ?_
  refine va_getE hx hb (q := ("java/lang/Enum", "ordinal", "I", [0, 1, 2, 3])) F.2.2.1 hk M.2 F.1.2.2.2.1 List.mem_cons_self (F.1.2.2.2.2 _ wd_416) (fun _ h => h) d_Eu_ordinal_1 ?_
  refine g_topi (x' := nI k) (ord_nI hk) ?_
  exact g_iret F M hr hlocks d_Eu_ordinal_4 (by decide) (by decide) rfl rfl rfl
theorem g_ord {p : Program} {l : Launch} {e : Env} {R : Room} {s : State} {m : MethodId} {args : Array Value} {below : List Frame} {meth : Method} {c : Code} {H : Heap} {locs : List Loc} {cells slots : Nat} {Q : State → Prop} {cc : ByteArray} {pc nL N : Nat} {ls : Array Slot} {rest : List Value} {G : gG} {w : Nat → va_E} (F : gF p m c cc nL s args "ClerkRows$Picture" G) (M : gM G s N w H locs) {k : Nat} (hk : k < 4) (hdg : decode cc pc = .ok (.invokevirtual 67, 3)) (hrm : gRm (gR 0 0 0) R 1 0 0 cells slots) (hsz : ls.size = nL) (hst : (rest.map fun v => v.category).sum ≤ 8)
    (kk : ∀ (H1 : Heap) (locs1 : List Loc), gM G s N w H1 locs1 → W p l e R s m args below meth c H1 locs1 (cells + 0) (slots + 0) Q (F0 m (pc + 3) ls (.int (nI k) :: rest))) : W p l e R s m args below meth c H locs cells slots Q (F0 m pc ls (.ref (gEa G k) :: rest)) := by
  obtain ⟨r1, r2, r3, r4, r5, r6⟩ := hrm
  have hmem : ∀ w ∈ ([.methodLink "ClerkRows$Picture" 67 ⟨"ClerkRows$End", "ordinal", "()I"⟩, .sameMethod "ClerkRows$End" "java/lang/Enum" "ordinal" "()I", .selects "ClerkRows$End" ⟨"ClerkRows$End", "ordinal", "()I"⟩ y_Eu_ordinal, .instanceMethod y_Eu_ordinal, .initialized "java/lang/Enum"] : List Cond), w ∈ gtb := List.forall_mem_cons.mpr ⟨wd_214, mem4 wd_215 wd_217 wd_218 wd_24⟩
  refine g_call1 (N := N) (w := w) (a := (Value.ref (gEa G k) :: []).toArray) (va_runU (x := ⟨"ClerkRows$End", "ordinal", "()I"⟩) (C := "ClerkRows$End") (owner := "java/lang/Enum") (As := []) (rest := rest) F.1 (c_Eu_ordinal l G N w k hk) (va_cwU 0 F.1.2.2.2.2 (gd_app hmem (gd_ws wd_219)) rfl r1 r2 rfl (by decide +kernel) ⟨r3, r4⟩) ⟨gPc.blind, va_recvE F.2.2.1 hk M.2, fun U hU hW => ⟨rfl, g_pre F M U hU hW⟩⟩ rfl rfl hsz rfl (lv_room hst) hdg ⟨r5, r6⟩) M kk
theorem pn_up {pn : Nat → Nat} {p x : Nat} (h : ∀ p, pn p < 4) (hx : x < 4) : ∀ q, va_up pn p x q < 4 := by
  intro q
  by_cases hq : q = p
  · subst hq; rw [va_up_self]; exact hx
  · rw [va_up_ne _ _ hq]; exact h q
theorem i12 {x : Int32} : (if 0 < x then 1 else 2) < 4 := by split <;> decide
/-- a picture with one more answer, the q-th -/
def cAddP (p q : Nat) (pf : Nat → Nat → Int32) : Nat → Nat → Int32 := va_up pf p (va_up (pf p) 6 (nI (q + 1)))
def cFin (p : Nat) (v : Int32) (pf : Nat → Nat → Int32) : Nat → Nat → Int32 := va_up pf p (va_up (pf p) 9 v)
def cAddS (p q : Nat) (v : Int32) (pf pe : Nat → Nat → Int32) (pn : Nat → Nat) : (Nat → Nat → Int32) × (Nat → Nat → Int32) × (Nat → Nat) :=
  if (0 < q ∧ pe p 0 = v) ∨ (1 < q ∧ pe p 1 = v) then (cFin p v (cAddP p q pf), va_up pe p (upd (pe p) q v), va_up pn p (if 0 < v then 1 else 2))
  else if q = 2 then (cFin p 0 (cAddP p q pf), va_up pe p (upd (pe p) q v), va_up pn p (if (0 : Int32) < 0 then 1 else 2)) else (cAddP p q pf, va_up pe p (upd (pe p) q v), pn)
theorem cAddS_1 {p q : Nat} {v : Int32} {pf pe : Nat → Nat → Int32} {pn : Nat → Nat} (h : (0 < q ∧ pe p 0 = v) ∨ (1 < q ∧ pe p 1 = v)) : cAddS p q v pf pe pn = (cFin p v (cAddP p q pf), va_up pe p (upd (pe p) q v), va_up pn p (if 0 < v then 1 else 2)) := if_pos h
theorem cAddS_2 {p q : Nat} {v : Int32} {pf pe : Nat → Nat → Int32} {pn : Nat → Nat} (h : ¬ ((0 < q ∧ pe p 0 = v) ∨ (1 < q ∧ pe p 1 = v))) (h2 : q = 2) : cAddS p q v pf pe pn = (cFin p 0 (cAddP p q pf), va_up pe p (upd (pe p) q v), va_up pn p (if (0 : Int32) < 0 then 1 else 2)) := (if_neg h).trans (if_pos h2)
theorem cAddS_3 {p q : Nat} {v : Int32} {pf pe : Nat → Nat → Int32} {pn : Nat → Nat} (h : ¬ ((0 < q ∧ pe p 0 = v) ∨ (1 < q ∧ pe p 1 = v))) (h2 : ¬ q = 2) : cAddS p q v pf pe pn = (cAddP p q pf, va_up pe p (upd (pe p) q v), pn) := (if_neg h).trans (if_neg h2)
def cAdd (p : Nat) (v : Int32) (pf pe : Nat → Nat → Int32) (pn : Nat → Nat) : (Nat → Nat → Int32) × (Nat → Nat → Int32) × (Nat → Nat) := if pn p = 0 then cAddS p (pf p 6).toNatClampNeg v pf pe pn else (pf, pe, pn)
theorem cAdd_pn {p : Nat} {v : Int32} {pf pe : Nat → Nat → Int32} {pn : Nat → Nat} (h : ∀ p, pn p < 4) : ∀ q, (cAdd p v pf pe pn).2.2 q < 4 := by
  unfold cAdd cAddS
  split
  · split
    · exact pn_up h i12
    · split
      · exact pn_up h i12
      · exact h
  · exact h
set_option maxRecDepth 4000 in
theorem c_Pi_state (l : Launch) (G : gG) (N n : Nat) (sc : Nat → Int32) (now : Int64) (gi : Nat → Int32) (ck : Nat → Nat → Int32) (ho : Nat → Nat) (pd : Nat → Int64) (pf : Nat → Nat → Int32) (ps : Nat → Nat → Int32) (pe : Nat → Nat → Int32) (pn : Nat → Nat) (w0 : Nat → va_E) (hN : N = 37 + 3 * n) (hcn : sc 1 = nI n) (hn : n ≤ 300) (hpn : ∀ p, pn p < 4) (p : Nat) (hp1 : 1 ≤ p) (hp2 : p ≤ n) : Met l y_Pi_state (Cond.code y_Pi_state b_Pi_state 1 (some .int) :: gtb) (gR 3 0 0) (gPc G [.ref (gB G + (34 + 3 * p))] (N) (cw G n (sc, now, gi, ck, ho, pd, pf, ps, pe, pn) w0)) (gQ1 G (cSta pf pe pn p) (N) (cw G n (sc, now, gi, ck, ho, pd, pf, ps, pe, pn) w0)) 0 0 (gA (gB G)) := by
  refine g_met (own := "ClerkRows$Picture") (by decide) rfl (Nat.le_of_ble_eq_true rfl) ?_
  intro pg ev s0 mi below meth cd F M hr hlocks hnm ls hl
  have hx := F.1.1
  have hb := F.1.2.1
  have hl : lv_has ls 1 [(0, .ref (gB G + (34 + 3 * p)))] := hl
  refine lv_aload_n hx hb d_Pi_state_0 rfl (lv_at hl 0 rfl) ?_
  refine g_get (v := .ref (gEa G (pn p))) F M f_Pi_24 d_Pi_state_1 (by omega) (cw_pi (by omega)) rfl ?_
  refine g_ord (rest := []) F M (hpn _) d_Pi_state_4 ⟨rfl, rfl, by decide, by decide, by decide, by decide⟩ hl.1 (Nat.le_of_ble_eq_true rfl) (fun H locs M => ?_)
  rcases (show pn p = 0 ∨ pn p = 1 ∨ pn p = 2 ∨ pn p = 3 by have := hpn p; omega) with c_7 | c_7 | c_7 | c_7
  · refine g_topi (x' := 0) (by rw [c_7]; rfl) ?_
    refine lv_tableOut (tgt := 38) hx hb d_Pi_state_7 (by decide) (by decide) ?_
    refine lv_aload_n hx hb d_Pi_state_38 rfl (lv_at hl 0 rfl) ?_
    refine g_call1 (g_rv (rest := []) F M (c_Pi_isTaken l G (N) n sc now gi ck ho pd pf ps pe pn w0 hN hcn hn hpn p (by omega) (by omega)) k_Pi_60 d_Pi_state_39 ⟨rfl, rfl, by decide, by decide, by decide, by decide⟩ (by omega) (cw_pi (by omega)) rfl rfl hl.1 (Nat.le_of_ble_eq_true rfl) rfl) M (fun H locs M => ?_)
    refine g_ifeqB (tgt := 49) hx hb d_Pi_state_42 (by decide) (fun c_42 => ?_) (fun c_42 => ?_)
    · refine lv_iconst (v := 0) hx hb d_Pi_state_49 (by decide) ?_
      exact g_iret F M hr hlocks d_Pi_state_50 (by decide) (by decide) (by unfold cSta; rw [if_pos c_7, bI_f c_42]) rfl (rfl)
    · refine lv_iconst (v := 1) hx hb d_Pi_state_45 (by decide) ?_
      refine lv_goto (tgt := 50) hx hb d_Pi_state_46 (by decide) ?_
      exact g_iret F M hr hlocks d_Pi_state_50 (by decide) (by decide) (by unfold cSta; rw [if_pos c_7, bI_t c_42]) rfl (rfl)
  · refine g_topi (x' := 1) (by rw [c_7]; rfl) ?_
    refine lv_tableIn (tgt := 32) hx hb d_Pi_state_7 (by decide) (by decide) rfl (by decide) ?_
    refine lv_iconst (v := 2) hx hb d_Pi_state_32 (by decide) ?_
    exact g_iret F M hr hlocks d_Pi_state_33 (by decide) (by decide) (by unfold cSta; rw [if_neg (by omega), c_7]; rfl) rfl (rfl)
  · refine g_topi (x' := 2) (by rw [c_7]; rfl) ?_
    refine lv_tableIn (tgt := 34) hx hb d_Pi_state_7 (by decide) (by decide) rfl (by decide) ?_
    refine lv_iconst (v := 3) hx hb d_Pi_state_34 (by decide) ?_
    exact g_iret F M hr hlocks d_Pi_state_35 (by decide) (by decide) (by unfold cSta; rw [if_neg (by omega), c_7]; rfl) rfl (rfl)
  · refine g_topi (x' := 3) (by rw [c_7]; rfl) ?_
    refine lv_tableIn (tgt := 36) hx hb d_Pi_state_7 (by decide) (by decide) rfl (by decide) ?_
    refine lv_iconst (v := 4) hx hb d_Pi_state_36 (by decide) ?_
    exact g_iret F M hr hlocks d_Pi_state_37 (by decide) (by decide) (by unfold cSta; rw [if_neg (by omega), c_7]; rfl) rfl (rfl)
set_option maxRecDepth 4000 in
theorem c_Pi_finish (l : Launch) (G : gG) (N n : Nat) (sc : Nat → Int32) (now : Int64) (gi : Nat → Int32) (ck : Nat → Nat → Int32) (ho : Nat → Nat) (pd : Nat → Int64) (pf : Nat → Nat → Int32) (ps : Nat → Nat → Int32) (pe : Nat → Nat → Int32) (pn : Nat → Nat) (w0 : Nat → va_E) (hN : N = 37 + 3 * n) (hcn : sc 1 = nI n) (hn : n ≤ 300) (hpn : ∀ p, pn p < 4) (p : Nat) (hp1 : 1 ≤ p) (hp2 : p ≤ n) (v : Int32) : Met l y_Pi_finish (Cond.code y_Pi_finish b_Pi_finish 2 none :: gtb) (gR 0 0 0) (gPc G [.ref (gB G + (34 + 3 * p)), .int v] (N) (cw G n (sc, now, gi, ck, ho, pd, pf, ps, pe, pn) w0)) (gQ0 G (N) (cw G n (sc, now, gi, ck, ho, pd, cFin p v pf, ps, pe, va_up pn p (if 0 < v then 1 else 2)) w0)) 0 0 (gA (gB G)) := by
  refine g_met (own := "ClerkRows$Picture") (by decide) rfl (Nat.le_of_ble_eq_true rfl) ?_
  intro pg ev s0 mi below meth cd F M hr hlocks hnm ls hl
  have hx := F.1.1
  have hb := F.1.2.1
  have hl : lv_has ls 2 [(0, .ref (gB G + (34 + 3 * p))), (1, .int v)] := hl
  refine lv_aload_n hx hb d_Pi_finish_0 rfl (lv_at hl 0 rfl) ?_
  refine lv_iload_n hx hb d_Pi_finish_1 rfl (lv_at hl 1 rfl) ?_
  refine g_put F M f_Pi_70 d_Pi_finish_2 (by omega) (cw_pi (by omega)) rfl rfl rfl (Nat.le_of_ble_eq_true rfl) (cw_i_entry (by omega)) (fun H locs M => ?_)
  refine lv_aload_n hx hb d_Pi_finish_5 rfl (lv_at hl 0 rfl) ?_
  refine lv_iload_n hx hb d_Pi_finish_6 rfl (lv_at hl 1 rfl) ?_
  refine lv_if_le (tgt := 16) hx hb d_Pi_finish_7 (by decide) (fun c_7 => ?_) (fun c_7 => ?_)
  · have c_7 := i32_nlt c_7
    refine g_gets F M 2 (by decide) wd_208 d_Pi_finish_16 ?_
    refine g_put F M f_Pi_24 d_Pi_finish_19 (by omega) (cw_pi (by omega)) rfl rfl rfl (Nat.le_of_ble_eq_true rfl) (cw_i_end (by omega)) (fun H locs M => ?_)
    exact g_vret F M hr hlocks d_Pi_finish_22 (by decide) (by decide) rfl (by rw [if_neg c_7]; rfl)
  · have c_7 := i32_lt c_7
    refine g_gets F M 1 (by decide) wd_206 d_Pi_finish_10 ?_
    refine lv_goto (tgt := 19) hx hb d_Pi_finish_13 (by decide) ?_
    refine g_put F M f_Pi_24 d_Pi_finish_19 (by omega) (cw_pi (by omega)) rfl rfl rfl (Nat.le_of_ble_eq_true rfl) (cw_i_end (by omega)) (fun H locs M => ?_)
    exact g_vret F M hr hlocks d_Pi_finish_22 (by decide) (by decide) rfl (by rw [if_pos c_7]; rfl)
set_option maxRecDepth 4000 in
theorem c_Pi_add (l : Launch) (G : gG) (N n : Nat) (sc : Nat → Int32) (now : Int64) (gi : Nat → Int32) (ck : Nat → Nat → Int32) (ho : Nat → Nat) (pd : Nat → Int64) (pf : Nat → Nat → Int32) (ps : Nat → Nat → Int32) (pe : Nat → Nat → Int32) (pn : Nat → Nat) (w0 : Nat → va_E) (hN : N = 37 + 3 * n) (hcn : sc 1 = nI n) (hn : n ≤ 300) (hpn : ∀ p, pn p < 4) (p : Nat) (hp1 : 1 ≤ p) (hp2 : p ≤ n) (v : Int32) (hq : pn p = 0 → ∃ q, q ≤ 2 ∧ pf p 6 = nI q) : Met l y_Pi_add (Cond.code y_Pi_add b_Pi_add 4 none :: gtb) (gR 1 0 0) (gPc G [.ref (gB G + (34 + 3 * p)), .int v] (N) (cw G n (sc, now, gi, ck, ho, pd, pf, ps, pe, pn) w0)) (gQ0 G (N) (cw G n (sc, now, gi, ck, ho, pd, (cAdd p v pf pe pn).1, ps, (cAdd p v pf pe pn).2.1, (cAdd p v pf pe pn).2.2) w0)) 0 0 (gA (gB G)) := by
  refine g_met (own := "ClerkRows$Picture") (by decide) rfl (Nat.le_of_ble_eq_true rfl) ?_
  intro pg ev s0 mi below meth cd F M hr hlocks hnm ls hl
  have hx := F.1.1
  have hb := F.1.2.1
  have hl : lv_has ls 4 [(0, .ref (gB G + (34 + 3 * p))), (1, .int v)] := hl
  refine lv_aload_n hx hb d_Pi_add_0 rfl (lv_at hl 0 rfl) ?_
  refine g_call1 (g_rv (rest := []) F M (c_Pi_isOver l G (N) n sc now gi ck ho pd pf ps pe pn w0 hN hcn hn hpn p (by omega) (by omega)) k_Pi_57 d_Pi_add_1 ⟨rfl, rfl, by decide, by decide, by decide, by decide⟩ (by omega) (cw_pi (by omega)) rfl rfl hl.1 (Nat.le_of_ble_eq_true rfl) rfl) M (fun H locs M => ?_)
  refine g_ifeqB (tgt := 8) hx hb d_Pi_add_4 (by decide) (fun c_4 => ?_) (fun c_4 => ?_)
  · have c_4 : pn p = 0 := Decidable.byContradiction c_4
    obtain ⟨q, hq1, hq2⟩ := hq c_4
    refine lv_aload_n hx hb d_Pi_add_8 rfl (lv_at hl 0 rfl) ?_
    refine g_get (v := .int (pf p 6)) F M f_Pi_35 d_Pi_add_9 (by omega) (cw_pi (by omega)) rfl ?_
    refine g_topi (x' := nI q) hq2 ?_
    refine lv_if_le (tgt := 29) hx hb d_Pi_add_12 (by decide) (fun c_12 => ?_) (fun c_12 => ?_)
    · have c_12 : q ≤ 0 := (nI_leI (a := q) (b := 0) (by omega) (by omega)).mp c_12
      refine lv_iconst (v := 0) hx hb d_Pi_add_29 (by decide) ?_
      refine lv_istore_n (lv' := [(2, .int 0), (0, .ref (gB G + (34 + 3 * p))), (1, .int v)]) hx hb d_Pi_add_30 rfl hl (by decide) rfl (fun ls hl => ?_)
      refine lv_aload_n hx hb d_Pi_add_31 rfl (lv_at hl 1 rfl) ?_
      refine g_get (v := .int (pf p 6)) F M f_Pi_35 d_Pi_add_32 (by omega) (cw_pi (by omega)) rfl ?_
      refine g_topi (x' := nI q) hq2 ?_
      refine lv_iconst (v := 1) hx hb d_Pi_add_35 (by decide) ?_
      refine lv_icmp_le (tgt := 53) hx hb d_Pi_add_36 (by decide) (fun c_36 => ?_) (fun c_36 => ?_)
      · have c_36 : q ≤ 1 := (nI_leI (a := q) (b := 1) (by omega) (by omega)).mp c_36
        refine lv_iconst (v := 0) hx hb d_Pi_add_53 (by decide) ?_
        refine lv_istore_n (lv' := [(3, .int 0), (2, .int 0), (0, .ref (gB G + (34 + 3 * p))), (1, .int v)]) hx hb d_Pi_add_54 rfl hl (by decide) rfl (fun ls hl => ?_)
        refine lv_aload_n hx hb d_Pi_add_55 rfl (lv_at hl 2 rfl) ?_
        refine g_get (v := .ref (gB G + (36 + 3 * p))) F M f_Pi_15 d_Pi_add_56 (by omega) (cw_pi (by omega)) rfl ?_
        refine lv_aload_n hx hb d_Pi_add_59 rfl (lv_at hl 2 rfl) ?_
        refine g_get (v := .int (pf p 6)) F M f_Pi_35 d_Pi_add_60 (by omega) (cw_pi (by omega)) rfl ?_
        refine g_topi (x' := nI q) hq2 ?_
        refine lv_iload_n hx hb d_Pi_add_63 rfl (lv_at hl 3 rfl) ?_
        refine g_iast (f := (pe p)) F M d_Pi_add_64 (by omega) (cw_pe (by omega)) (by omega) (by decide) (cw_s_pe (by omega)) (fun H locs M => ?_)
        refine lv_aload_n hx hb d_Pi_add_65 rfl (lv_at hl 2 rfl) ?_
        refine lv_dup hx hb d_Pi_add_66 rfl ?_
        refine g_get (v := .int (pf p 6)) F M f_Pi_35 d_Pi_add_67 (by omega) (cw_pi (by omega)) rfl ?_
        refine g_topi (x' := nI q) hq2 ?_
        refine lv_iconst (v := 1) hx hb d_Pi_add_70 (by decide) ?_
        refine lv_iadd hx hb d_Pi_add_71 ?_
        refine g_topi (x' := nI (q + 1)) (nI_add (q) (1)) ?_
        refine g_put F M f_Pi_35 d_Pi_add_72 (by omega) (cw_pi (by omega)) rfl rfl rfl (Nat.le_of_ble_eq_true rfl) (cw_i_count (by omega)) (fun H locs M => ?_)
        refine lv_iload_n hx hb d_Pi_add_75 rfl (lv_at hl 1 rfl) ?_
        refine lv_if_ne (tgt := 83) hx hb d_Pi_add_76 (by decide) (fun h => absurd h (by decide)) (fun _ => ?_)
        refine lv_iload_n hx hb d_Pi_add_79 rfl (lv_at hl 0 rfl) ?_
        refine lv_if_eq (tgt := 91) hx hb d_Pi_add_80 (by decide) (fun _ => ?_) (fun h => absurd h (by decide))
        refine lv_aload_n hx hb d_Pi_add_91 rfl (lv_at hl 2 rfl) ?_
        refine g_get (v := .int (nI (q + 1))) F M f_Pi_35 d_Pi_add_92 (by omega) (cw_pi (by omega)) (by simp [va_up]) ?_
        refine lv_iconst (v := 3) hx hb d_Pi_add_95 (by decide) ?_
        refine lv_icmp_ne (tgt := 104) hx hb d_Pi_add_96 (by decide) (fun c_96 => ?_) (fun c_96 => ?_)
        · have c_96 : ¬ (q + 1) = 3 := fun h => c_96 ((nI_eq (a := (q + 1)) (b := 3) (by omega) (by omega)).mpr h)
          exact g_vret F M hr hlocks d_Pi_add_104 (by decide) (by decide) rfl (by unfold cAdd; rw [if_pos c_4, hq2, nI_clamp (by omega), cAddS_3 (fun h => h.elim (fun h => absurd h.1 (by omega)) (fun h => absurd h.1 (by omega))) (by omega)]; rfl)
        · have c_96 : (q + 1) = 3 := (nI_eq (a := (q + 1)) (b := 3) (by omega) (by omega)).mp c_96
          refine lv_aload_n hx hb d_Pi_add_99 rfl (lv_at hl 2 rfl) ?_
          refine lv_iconst (v := 0) hx hb d_Pi_add_100 (by decide) ?_
          refine g_call0 (g_rv (rest := []) F M (c_Pi_finish l G (N) n sc now gi ck ho pd (va_up pf p (va_up (pf p) 6 (nI (q + 1)))) ps (va_up pe p (upd (pe p) q v)) pn w0 hN hcn hn hpn p (by omega) (by omega) 0) k_Pi_79 d_Pi_add_101 ⟨rfl, rfl, by decide, by decide, by decide, by decide⟩ (by omega) (cw_pi (by omega)) rfl rfl hl.1 (Nat.le_of_ble_eq_true rfl) rfl) M (fun H locs M => ?_)
          exact g_vret F M hr hlocks d_Pi_add_104 (by decide) (by decide) rfl (by unfold cAdd; rw [if_pos c_4, hq2, nI_clamp (by omega), cAddS_2 (fun h => h.elim (fun h => absurd h.1 (by omega)) (fun h => absurd h.1 (by omega))) (by omega)]; rfl)
      · have c_36 : ¬ q ≤ 1 := fun h => c_36 ((nI_leI (a := q) (b := 1) (by omega) (by omega)).mpr h)
        refine lv_aload_n hx hb d_Pi_add_39 rfl (lv_at hl 1 rfl) ?_
        refine g_get (v := .ref (gB G + (36 + 3 * p))) F M f_Pi_15 d_Pi_add_40 (by omega) (cw_pi (by omega)) rfl ?_
        refine lv_iconst (v := 1) hx hb d_Pi_add_43 (by decide) ?_
        refine g_topi (x' := nI 1) rfl ?_
        refine g_iald (f := (pe p)) F M d_Pi_add_44 (by omega) (cw_pe (by omega)) (by omega) (by decide) ?_
        refine lv_iload_n hx hb d_Pi_add_45 rfl (lv_at hl 2 rfl) ?_
        refine lv_icmp_ne (tgt := 53) hx hb d_Pi_add_46 (by decide) (fun c_46 => ?_) (fun c_46 => ?_)
        · refine lv_iconst (v := 0) hx hb d_Pi_add_53 (by decide) ?_
          refine lv_istore_n (lv' := [(3, .int 0), (2, .int 0), (0, .ref (gB G + (34 + 3 * p))), (1, .int v)]) hx hb d_Pi_add_54 rfl hl (by decide) rfl (fun ls hl => ?_)
          refine lv_aload_n hx hb d_Pi_add_55 rfl (lv_at hl 2 rfl) ?_
          refine g_get (v := .ref (gB G + (36 + 3 * p))) F M f_Pi_15 d_Pi_add_56 (by omega) (cw_pi (by omega)) rfl ?_
          refine lv_aload_n hx hb d_Pi_add_59 rfl (lv_at hl 2 rfl) ?_
          refine g_get (v := .int (pf p 6)) F M f_Pi_35 d_Pi_add_60 (by omega) (cw_pi (by omega)) rfl ?_
          refine g_topi (x' := nI q) hq2 ?_
          refine lv_iload_n hx hb d_Pi_add_63 rfl (lv_at hl 3 rfl) ?_
          refine g_iast (f := (pe p)) F M d_Pi_add_64 (by omega) (cw_pe (by omega)) (by omega) (by decide) (cw_s_pe (by omega)) (fun H locs M => ?_)
          refine lv_aload_n hx hb d_Pi_add_65 rfl (lv_at hl 2 rfl) ?_
          refine lv_dup hx hb d_Pi_add_66 rfl ?_
          refine g_get (v := .int (pf p 6)) F M f_Pi_35 d_Pi_add_67 (by omega) (cw_pi (by omega)) rfl ?_
          refine g_topi (x' := nI q) hq2 ?_
          refine lv_iconst (v := 1) hx hb d_Pi_add_70 (by decide) ?_
          refine lv_iadd hx hb d_Pi_add_71 ?_
          refine g_topi (x' := nI (q + 1)) (nI_add (q) (1)) ?_
          refine g_put F M f_Pi_35 d_Pi_add_72 (by omega) (cw_pi (by omega)) rfl rfl rfl (Nat.le_of_ble_eq_true rfl) (cw_i_count (by omega)) (fun H locs M => ?_)
          refine lv_iload_n hx hb d_Pi_add_75 rfl (lv_at hl 1 rfl) ?_
          refine lv_if_ne (tgt := 83) hx hb d_Pi_add_76 (by decide) (fun h => absurd h (by decide)) (fun _ => ?_)
          refine lv_iload_n hx hb d_Pi_add_79 rfl (lv_at hl 0 rfl) ?_
          refine lv_if_eq (tgt := 91) hx hb d_Pi_add_80 (by decide) (fun _ => ?_) (fun h => absurd h (by decide))
          refine lv_aload_n hx hb d_Pi_add_91 rfl (lv_at hl 2 rfl) ?_
          refine g_get (v := .int (nI (q + 1))) F M f_Pi_35 d_Pi_add_92 (by omega) (cw_pi (by omega)) (by simp [va_up]) ?_
          refine lv_iconst (v := 3) hx hb d_Pi_add_95 (by decide) ?_
          refine lv_icmp_ne (tgt := 104) hx hb d_Pi_add_96 (by decide) (fun c_96 => ?_) (fun c_96 => ?_)
          · have c_96 : ¬ (q + 1) = 3 := fun h => c_96 ((nI_eq (a := (q + 1)) (b := 3) (by omega) (by omega)).mpr h)
            exact g_vret F M hr hlocks d_Pi_add_104 (by decide) (by decide) rfl (by unfold cAdd; rw [if_pos c_4, hq2, nI_clamp (by omega), cAddS_3 (fun h => h.elim (fun h => absurd h.1 (by omega)) (fun h => c_46 h.2)) (by omega)]; rfl)
          · have c_96 : (q + 1) = 3 := (nI_eq (a := (q + 1)) (b := 3) (by omega) (by omega)).mp c_96
            refine lv_aload_n hx hb d_Pi_add_99 rfl (lv_at hl 2 rfl) ?_
            refine lv_iconst (v := 0) hx hb d_Pi_add_100 (by decide) ?_
            refine g_call0 (g_rv (rest := []) F M (c_Pi_finish l G (N) n sc now gi ck ho pd (va_up pf p (va_up (pf p) 6 (nI (q + 1)))) ps (va_up pe p (upd (pe p) q v)) pn w0 hN hcn hn hpn p (by omega) (by omega) 0) k_Pi_79 d_Pi_add_101 ⟨rfl, rfl, by decide, by decide, by decide, by decide⟩ (by omega) (cw_pi (by omega)) rfl rfl hl.1 (Nat.le_of_ble_eq_true rfl) rfl) M (fun H locs M => ?_)
            exact g_vret F M hr hlocks d_Pi_add_104 (by decide) (by decide) rfl (by unfold cAdd; rw [if_pos c_4, hq2, nI_clamp (by omega), cAddS_2 (fun h => h.elim (fun h => absurd h.1 (by omega)) (fun h => c_46 h.2)) (by omega)]; rfl)
        · refine lv_iconst (v := 1) hx hb d_Pi_add_49 (by decide) ?_
          refine lv_goto (tgt := 54) hx hb d_Pi_add_50 (by decide) ?_
          refine lv_istore_n (lv' := [(3, .int 1), (2, .int 0), (0, .ref (gB G + (34 + 3 * p))), (1, .int v)]) hx hb d_Pi_add_54 rfl hl (by decide) rfl (fun ls hl => ?_)
          refine lv_aload_n hx hb d_Pi_add_55 rfl (lv_at hl 2 rfl) ?_
          refine g_get (v := .ref (gB G + (36 + 3 * p))) F M f_Pi_15 d_Pi_add_56 (by omega) (cw_pi (by omega)) rfl ?_
          refine lv_aload_n hx hb d_Pi_add_59 rfl (lv_at hl 2 rfl) ?_
          refine g_get (v := .int (pf p 6)) F M f_Pi_35 d_Pi_add_60 (by omega) (cw_pi (by omega)) rfl ?_
          refine g_topi (x' := nI q) hq2 ?_
          refine lv_iload_n hx hb d_Pi_add_63 rfl (lv_at hl 3 rfl) ?_
          refine g_iast (f := (pe p)) F M d_Pi_add_64 (by omega) (cw_pe (by omega)) (by omega) (by decide) (cw_s_pe (by omega)) (fun H locs M => ?_)
          refine lv_aload_n hx hb d_Pi_add_65 rfl (lv_at hl 2 rfl) ?_
          refine lv_dup hx hb d_Pi_add_66 rfl ?_
          refine g_get (v := .int (pf p 6)) F M f_Pi_35 d_Pi_add_67 (by omega) (cw_pi (by omega)) rfl ?_
          refine g_topi (x' := nI q) hq2 ?_
          refine lv_iconst (v := 1) hx hb d_Pi_add_70 (by decide) ?_
          refine lv_iadd hx hb d_Pi_add_71 ?_
          refine g_topi (x' := nI (q + 1)) (nI_add (q) (1)) ?_
          refine g_put F M f_Pi_35 d_Pi_add_72 (by omega) (cw_pi (by omega)) rfl rfl rfl (Nat.le_of_ble_eq_true rfl) (cw_i_count (by omega)) (fun H locs M => ?_)
          refine lv_iload_n hx hb d_Pi_add_75 rfl (lv_at hl 1 rfl) ?_
          refine lv_if_ne (tgt := 83) hx hb d_Pi_add_76 (by decide) (fun h => absurd h (by decide)) (fun _ => ?_)
          refine lv_iload_n hx hb d_Pi_add_79 rfl (lv_at hl 0 rfl) ?_
          refine lv_if_eq (tgt := 91) hx hb d_Pi_add_80 (by decide) (fun h => absurd h (by decide)) (fun _ => ?_)
          refine lv_aload_n hx hb d_Pi_add_83 rfl (lv_at hl 2 rfl) ?_
          refine lv_iload_n hx hb d_Pi_add_84 rfl (lv_at hl 3 rfl) ?_
          refine g_call0 (g_rv (rest := []) F M (c_Pi_finish l G (N) n sc now gi ck ho pd (va_up pf p (va_up (pf p) 6 (nI (q + 1)))) ps (va_up pe p (upd (pe p) q v)) pn w0 hN hcn hn hpn p (by omega) (by omega) v) k_Pi_79 d_Pi_add_85 ⟨rfl, rfl, by decide, by decide, by decide, by decide⟩ (by omega) (cw_pi (by omega)) rfl rfl hl.1 (Nat.le_of_ble_eq_true rfl) rfl) M (fun H locs M => ?_)
          refine lv_goto (tgt := 104) hx hb d_Pi_add_88 (by decide) ?_
          exact g_vret F M hr hlocks d_Pi_add_104 (by decide) (by decide) rfl (by unfold cAdd; rw [if_pos c_4, hq2, nI_clamp (by omega), cAddS_1 (Or.inr ⟨by omega, c_46⟩)]; rfl)
    · have c_12 : ¬ q ≤ 0 := fun h => c_12 ((nI_leI (a := q) (b := 0) (by omega) (by omega)).mpr h)
      refine lv_aload_n hx hb d_Pi_add_15 rfl (lv_at hl 0 rfl) ?_
      refine g_get (v := .ref (gB G + (36 + 3 * p))) F M f_Pi_15 d_Pi_add_16 (by omega) (cw_pi (by omega)) rfl ?_
      refine lv_iconst (v := 0) hx hb d_Pi_add_19 (by decide) ?_
      refine g_topi (x' := nI 0) rfl ?_
      refine g_iald (f := (pe p)) F M d_Pi_add_20 (by omega) (cw_pe (by omega)) (by omega) (by decide) ?_
      refine lv_iload_n hx hb d_Pi_add_21 rfl (lv_at hl 1 rfl) ?_
      refine lv_icmp_ne (tgt := 29) hx hb d_Pi_add_22 (by decide) (fun c_22 => ?_) (fun c_22 => ?_)
      · refine lv_iconst (v := 0) hx hb d_Pi_add_29 (by decide) ?_
        refine lv_istore_n (lv' := [(2, .int 0), (0, .ref (gB G + (34 + 3 * p))), (1, .int v)]) hx hb d_Pi_add_30 rfl hl (by decide) rfl (fun ls hl => ?_)
        refine lv_aload_n hx hb d_Pi_add_31 rfl (lv_at hl 1 rfl) ?_
        refine g_get (v := .int (pf p 6)) F M f_Pi_35 d_Pi_add_32 (by omega) (cw_pi (by omega)) rfl ?_
        refine g_topi (x' := nI q) hq2 ?_
        refine lv_iconst (v := 1) hx hb d_Pi_add_35 (by decide) ?_
        refine lv_icmp_le (tgt := 53) hx hb d_Pi_add_36 (by decide) (fun c_36 => ?_) (fun c_36 => ?_)
        · have c_36 : q ≤ 1 := (nI_leI (a := q) (b := 1) (by omega) (by omega)).mp c_36
          refine lv_iconst (v := 0) hx hb d_Pi_add_53 (by decide) ?_
          refine lv_istore_n (lv' := [(3, .int 0), (2, .int 0), (0, .ref (gB G + (34 + 3 * p))), (1, .int v)]) hx hb d_Pi_add_54 rfl hl (by decide) rfl (fun ls hl => ?_)
          refine lv_aload_n hx hb d_Pi_add_55 rfl (lv_at hl 2 rfl) ?_
          refine g_get (v := .ref (gB G + (36 + 3 * p))) F M f_Pi_15 d_Pi_add_56 (by omega) (cw_pi (by omega)) rfl ?_
          refine lv_aload_n hx hb d_Pi_add_59 rfl (lv_at hl 2 rfl) ?_
          refine g_get (v := .int (pf p 6)) F M f_Pi_35 d_Pi_add_60 (by omega) (cw_pi (by omega)) rfl ?_
          refine g_topi (x' := nI q) hq2 ?_
          refine lv_iload_n hx hb d_Pi_add_63 rfl (lv_at hl 3 rfl) ?_
          refine g_iast (f := (pe p)) F M d_Pi_add_64 (by omega) (cw_pe (by omega)) (by omega) (by decide) (cw_s_pe (by omega)) (fun H locs M => ?_)
          refine lv_aload_n hx hb d_Pi_add_65 rfl (lv_at hl 2 rfl) ?_
          refine lv_dup hx hb d_Pi_add_66 rfl ?_
          refine g_get (v := .int (pf p 6)) F M f_Pi_35 d_Pi_add_67 (by omega) (cw_pi (by omega)) rfl ?_
          refine g_topi (x' := nI q) hq2 ?_
          refine lv_iconst (v := 1) hx hb d_Pi_add_70 (by decide) ?_
          refine lv_iadd hx hb d_Pi_add_71 ?_
          refine g_topi (x' := nI (q + 1)) (nI_add (q) (1)) ?_
          refine g_put F M f_Pi_35 d_Pi_add_72 (by omega) (cw_pi (by omega)) rfl rfl rfl (Nat.le_of_ble_eq_true rfl) (cw_i_count (by omega)) (fun H locs M => ?_)
          refine lv_iload_n hx hb d_Pi_add_75 rfl (lv_at hl 1 rfl) ?_
          refine lv_if_ne (tgt := 83) hx hb d_Pi_add_76 (by decide) (fun h => absurd h (by decide)) (fun _ => ?_)
          refine lv_iload_n hx hb d_Pi_add_79 rfl (lv_at hl 0 rfl) ?_
          refine lv_if_eq (tgt := 91) hx hb d_Pi_add_80 (by decide) (fun _ => ?_) (fun h => absurd h (by decide))
          refine lv_aload_n hx hb d_Pi_add_91 rfl (lv_at hl 2 rfl) ?_
          refine g_get (v := .int (nI (q + 1))) F M f_Pi_35 d_Pi_add_92 (by omega) (cw_pi (by omega)) (by simp [va_up]) ?_
          refine lv_iconst (v := 3) hx hb d_Pi_add_95 (by decide) ?_
          refine lv_icmp_ne (tgt := 104) hx hb d_Pi_add_96 (by decide) (fun c_96 => ?_) (fun c_96 => ?_)
          · have c_96 : ¬ (q + 1) = 3 := fun h => c_96 ((nI_eq (a := (q + 1)) (b := 3) (by omega) (by omega)).mpr h)
            exact g_vret F M hr hlocks d_Pi_add_104 (by decide) (by decide) rfl (by unfold cAdd; rw [if_pos c_4, hq2, nI_clamp (by omega), cAddS_3 (fun h => h.elim (fun h => c_22 h.2) (fun h => absurd h.1 (by omega))) (by omega)]; rfl)
          · have c_96 : (q + 1) = 3 := (nI_eq (a := (q + 1)) (b := 3) (by omega) (by omega)).mp c_96
            refine lv_aload_n hx hb d_Pi_add_99 rfl (lv_at hl 2 rfl) ?_
            refine lv_iconst (v := 0) hx hb d_Pi_add_100 (by decide) ?_
            refine g_call0 (g_rv (rest := []) F M (c_Pi_finish l G (N) n sc now gi ck ho pd (va_up pf p (va_up (pf p) 6 (nI (q + 1)))) ps (va_up pe p (upd (pe p) q v)) pn w0 hN hcn hn hpn p (by omega) (by omega) 0) k_Pi_79 d_Pi_add_101 ⟨rfl, rfl, by decide, by decide, by decide, by decide⟩ (by omega) (cw_pi (by omega)) rfl rfl hl.1 (Nat.le_of_ble_eq_true rfl) rfl) M (fun H locs M => ?_)
            exact g_vret F M hr hlocks d_Pi_add_104 (by decide) (by decide) rfl (by unfold cAdd; rw [if_pos c_4, hq2, nI_clamp (by omega), cAddS_2 (fun h => h.elim (fun h => c_22 h.2) (fun h => absurd h.1 (by omega))) (by omega)]; rfl)
        · have c_36 : ¬ q ≤ 1 := fun h => c_36 ((nI_leI (a := q) (b := 1) (by omega) (by omega)).mpr h)
          refine lv_aload_n hx hb d_Pi_add_39 rfl (lv_at hl 1 rfl) ?_
          refine g_get (v := .ref (gB G + (36 + 3 * p))) F M f_Pi_15 d_Pi_add_40 (by omega) (cw_pi (by omega)) rfl ?_
          refine lv_iconst (v := 1) hx hb d_Pi_add_43 (by decide) ?_
          refine g_topi (x' := nI 1) rfl ?_
          refine g_iald (f := (pe p)) F M d_Pi_add_44 (by omega) (cw_pe (by omega)) (by omega) (by decide) ?_
          refine lv_iload_n hx hb d_Pi_add_45 rfl (lv_at hl 2 rfl) ?_
          refine lv_icmp_ne (tgt := 53) hx hb d_Pi_add_46 (by decide) (fun c_46 => ?_) (fun c_46 => ?_)
          · refine lv_iconst (v := 0) hx hb d_Pi_add_53 (by decide) ?_
            refine lv_istore_n (lv' := [(3, .int 0), (2, .int 0), (0, .ref (gB G + (34 + 3 * p))), (1, .int v)]) hx hb d_Pi_add_54 rfl hl (by decide) rfl (fun ls hl => ?_)
            refine lv_aload_n hx hb d_Pi_add_55 rfl (lv_at hl 2 rfl) ?_
            refine g_get (v := .ref (gB G + (36 + 3 * p))) F M f_Pi_15 d_Pi_add_56 (by omega) (cw_pi (by omega)) rfl ?_
            refine lv_aload_n hx hb d_Pi_add_59 rfl (lv_at hl 2 rfl) ?_
            refine g_get (v := .int (pf p 6)) F M f_Pi_35 d_Pi_add_60 (by omega) (cw_pi (by omega)) rfl ?_
            refine g_topi (x' := nI q) hq2 ?_
            refine lv_iload_n hx hb d_Pi_add_63 rfl (lv_at hl 3 rfl) ?_
            refine g_iast (f := (pe p)) F M d_Pi_add_64 (by omega) (cw_pe (by omega)) (by omega) (by decide) (cw_s_pe (by omega)) (fun H locs M => ?_)
            refine lv_aload_n hx hb d_Pi_add_65 rfl (lv_at hl 2 rfl) ?_
            refine lv_dup hx hb d_Pi_add_66 rfl ?_
            refine g_get (v := .int (pf p 6)) F M f_Pi_35 d_Pi_add_67 (by omega) (cw_pi (by omega)) rfl ?_
            refine g_topi (x' := nI q) hq2 ?_
            refine lv_iconst (v := 1) hx hb d_Pi_add_70 (by decide) ?_
            refine lv_iadd hx hb d_Pi_add_71 ?_
            refine g_topi (x' := nI (q + 1)) (nI_add (q) (1)) ?_
            refine g_put F M f_Pi_35 d_Pi_add_72 (by omega) (cw_pi (by omega)) rfl rfl rfl (Nat.le_of_ble_eq_true rfl) (cw_i_count (by omega)) (fun H locs M => ?_)
            refine lv_iload_n hx hb d_Pi_add_75 rfl (lv_at hl 1 rfl) ?_
            refine lv_if_ne (tgt := 83) hx hb d_Pi_add_76 (by decide) (fun h => absurd h (by decide)) (fun _ => ?_)
            refine lv_iload_n hx hb d_Pi_add_79 rfl (lv_at hl 0 rfl) ?_
            refine lv_if_eq (tgt := 91) hx hb d_Pi_add_80 (by decide) (fun _ => ?_) (fun h => absurd h (by decide))
            refine lv_aload_n hx hb d_Pi_add_91 rfl (lv_at hl 2 rfl) ?_
            refine g_get (v := .int (nI (q + 1))) F M f_Pi_35 d_Pi_add_92 (by omega) (cw_pi (by omega)) (by simp [va_up]) ?_
            refine lv_iconst (v := 3) hx hb d_Pi_add_95 (by decide) ?_
            refine lv_icmp_ne (tgt := 104) hx hb d_Pi_add_96 (by decide) (fun c_96 => ?_) (fun c_96 => ?_)
            · have c_96 : ¬ (q + 1) = 3 := fun h => c_96 ((nI_eq (a := (q + 1)) (b := 3) (by omega) (by omega)).mpr h)
              exact g_vret F M hr hlocks d_Pi_add_104 (by decide) (by decide) rfl (by unfold cAdd; rw [if_pos c_4, hq2, nI_clamp (by omega), cAddS_3 (fun h => h.elim (fun h => c_22 h.2) (fun h => c_46 h.2)) (by omega)]; rfl)
            · have c_96 : (q + 1) = 3 := (nI_eq (a := (q + 1)) (b := 3) (by omega) (by omega)).mp c_96
              refine lv_aload_n hx hb d_Pi_add_99 rfl (lv_at hl 2 rfl) ?_
              refine lv_iconst (v := 0) hx hb d_Pi_add_100 (by decide) ?_
              refine g_call0 (g_rv (rest := []) F M (c_Pi_finish l G (N) n sc now gi ck ho pd (va_up pf p (va_up (pf p) 6 (nI (q + 1)))) ps (va_up pe p (upd (pe p) q v)) pn w0 hN hcn hn hpn p (by omega) (by omega) 0) k_Pi_79 d_Pi_add_101 ⟨rfl, rfl, by decide, by decide, by decide, by decide⟩ (by omega) (cw_pi (by omega)) rfl rfl hl.1 (Nat.le_of_ble_eq_true rfl) rfl) M (fun H locs M => ?_)
              exact g_vret F M hr hlocks d_Pi_add_104 (by decide) (by decide) rfl (by unfold cAdd; rw [if_pos c_4, hq2, nI_clamp (by omega), cAddS_2 (fun h => h.elim (fun h => c_22 h.2) (fun h => c_46 h.2)) (by omega)]; rfl)
          · refine lv_iconst (v := 1) hx hb d_Pi_add_49 (by decide) ?_
            refine lv_goto (tgt := 54) hx hb d_Pi_add_50 (by decide) ?_
            refine lv_istore_n (lv' := [(3, .int 1), (2, .int 0), (0, .ref (gB G + (34 + 3 * p))), (1, .int v)]) hx hb d_Pi_add_54 rfl hl (by decide) rfl (fun ls hl => ?_)
            refine lv_aload_n hx hb d_Pi_add_55 rfl (lv_at hl 2 rfl) ?_
            refine g_get (v := .ref (gB G + (36 + 3 * p))) F M f_Pi_15 d_Pi_add_56 (by omega) (cw_pi (by omega)) rfl ?_
            refine lv_aload_n hx hb d_Pi_add_59 rfl (lv_at hl 2 rfl) ?_
            refine g_get (v := .int (pf p 6)) F M f_Pi_35 d_Pi_add_60 (by omega) (cw_pi (by omega)) rfl ?_
            refine g_topi (x' := nI q) hq2 ?_
            refine lv_iload_n hx hb d_Pi_add_63 rfl (lv_at hl 3 rfl) ?_
            refine g_iast (f := (pe p)) F M d_Pi_add_64 (by omega) (cw_pe (by omega)) (by omega) (by decide) (cw_s_pe (by omega)) (fun H locs M => ?_)
            refine lv_aload_n hx hb d_Pi_add_65 rfl (lv_at hl 2 rfl) ?_
            refine lv_dup hx hb d_Pi_add_66 rfl ?_
            refine g_get (v := .int (pf p 6)) F M f_Pi_35 d_Pi_add_67 (by omega) (cw_pi (by omega)) rfl ?_
            refine g_topi (x' := nI q) hq2 ?_
            refine lv_iconst (v := 1) hx hb d_Pi_add_70 (by decide) ?_
            refine lv_iadd hx hb d_Pi_add_71 ?_
            refine g_topi (x' := nI (q + 1)) (nI_add (q) (1)) ?_
            refine g_put F M f_Pi_35 d_Pi_add_72 (by omega) (cw_pi (by omega)) rfl rfl rfl (Nat.le_of_ble_eq_true rfl) (cw_i_count (by omega)) (fun H locs M => ?_)
            refine lv_iload_n hx hb d_Pi_add_75 rfl (lv_at hl 1 rfl) ?_
            refine lv_if_ne (tgt := 83) hx hb d_Pi_add_76 (by decide) (fun h => absurd h (by decide)) (fun _ => ?_)
            refine lv_iload_n hx hb d_Pi_add_79 rfl (lv_at hl 0 rfl) ?_
            refine lv_if_eq (tgt := 91) hx hb d_Pi_add_80 (by decide) (fun h => absurd h (by decide)) (fun _ => ?_)
            refine lv_aload_n hx hb d_Pi_add_83 rfl (lv_at hl 2 rfl) ?_
            refine lv_iload_n hx hb d_Pi_add_84 rfl (lv_at hl 3 rfl) ?_
            refine g_call0 (g_rv (rest := []) F M (c_Pi_finish l G (N) n sc now gi ck ho pd (va_up pf p (va_up (pf p) 6 (nI (q + 1)))) ps (va_up pe p (upd (pe p) q v)) pn w0 hN hcn hn hpn p (by omega) (by omega) v) k_Pi_79 d_Pi_add_85 ⟨rfl, rfl, by decide, by decide, by decide, by decide⟩ (by omega) (cw_pi (by omega)) rfl rfl hl.1 (Nat.le_of_ble_eq_true rfl) rfl) M (fun H locs M => ?_)
            refine lv_goto (tgt := 104) hx hb d_Pi_add_88 (by decide) ?_
            exact g_vret F M hr hlocks d_Pi_add_104 (by decide) (by decide) rfl (by unfold cAdd; rw [if_pos c_4, hq2, nI_clamp (by omega), cAddS_1 (Or.inr ⟨by omega, c_46⟩)]; rfl)
      · refine lv_iconst (v := 1) hx hb d_Pi_add_25 (by decide) ?_
        refine lv_goto (tgt := 30) hx hb d_Pi_add_26 (by decide) ?_
        refine lv_istore_n (lv' := [(2, .int 1), (0, .ref (gB G + (34 + 3 * p))), (1, .int v)]) hx hb d_Pi_add_30 rfl hl (by decide) rfl (fun ls hl => ?_)
        refine lv_aload_n hx hb d_Pi_add_31 rfl (lv_at hl 1 rfl) ?_
        refine g_get (v := .int (pf p 6)) F M f_Pi_35 d_Pi_add_32 (by omega) (cw_pi (by omega)) rfl ?_
        refine g_topi (x' := nI q) hq2 ?_
        refine lv_iconst (v := 1) hx hb d_Pi_add_35 (by decide) ?_
        refine lv_icmp_le (tgt := 53) hx hb d_Pi_add_36 (by decide) (fun c_36 => ?_) (fun c_36 => ?_)
        · have c_36 : q ≤ 1 := (nI_leI (a := q) (b := 1) (by omega) (by omega)).mp c_36
          refine lv_iconst (v := 0) hx hb d_Pi_add_53 (by decide) ?_
          refine lv_istore_n (lv' := [(3, .int 0), (2, .int 1), (0, .ref (gB G + (34 + 3 * p))), (1, .int v)]) hx hb d_Pi_add_54 rfl hl (by decide) rfl (fun ls hl => ?_)
          refine lv_aload_n hx hb d_Pi_add_55 rfl (lv_at hl 2 rfl) ?_
          refine g_get (v := .ref (gB G + (36 + 3 * p))) F M f_Pi_15 d_Pi_add_56 (by omega) (cw_pi (by omega)) rfl ?_
          refine lv_aload_n hx hb d_Pi_add_59 rfl (lv_at hl 2 rfl) ?_
          refine g_get (v := .int (pf p 6)) F M f_Pi_35 d_Pi_add_60 (by omega) (cw_pi (by omega)) rfl ?_
          refine g_topi (x' := nI q) hq2 ?_
          refine lv_iload_n hx hb d_Pi_add_63 rfl (lv_at hl 3 rfl) ?_
          refine g_iast (f := (pe p)) F M d_Pi_add_64 (by omega) (cw_pe (by omega)) (by omega) (by decide) (cw_s_pe (by omega)) (fun H locs M => ?_)
          refine lv_aload_n hx hb d_Pi_add_65 rfl (lv_at hl 2 rfl) ?_
          refine lv_dup hx hb d_Pi_add_66 rfl ?_
          refine g_get (v := .int (pf p 6)) F M f_Pi_35 d_Pi_add_67 (by omega) (cw_pi (by omega)) rfl ?_
          refine g_topi (x' := nI q) hq2 ?_
          refine lv_iconst (v := 1) hx hb d_Pi_add_70 (by decide) ?_
          refine lv_iadd hx hb d_Pi_add_71 ?_
          refine g_topi (x' := nI (q + 1)) (nI_add (q) (1)) ?_
          refine g_put F M f_Pi_35 d_Pi_add_72 (by omega) (cw_pi (by omega)) rfl rfl rfl (Nat.le_of_ble_eq_true rfl) (cw_i_count (by omega)) (fun H locs M => ?_)
          refine lv_iload_n hx hb d_Pi_add_75 rfl (lv_at hl 1 rfl) ?_
          refine lv_if_ne (tgt := 83) hx hb d_Pi_add_76 (by decide) (fun _ => ?_) (fun h => absurd h (by decide))
          refine lv_aload_n hx hb d_Pi_add_83 rfl (lv_at hl 2 rfl) ?_
          refine lv_iload_n hx hb d_Pi_add_84 rfl (lv_at hl 3 rfl) ?_
          refine g_call0 (g_rv (rest := []) F M (c_Pi_finish l G (N) n sc now gi ck ho pd (va_up pf p (va_up (pf p) 6 (nI (q + 1)))) ps (va_up pe p (upd (pe p) q v)) pn w0 hN hcn hn hpn p (by omega) (by omega) v) k_Pi_79 d_Pi_add_85 ⟨rfl, rfl, by decide, by decide, by decide, by decide⟩ (by omega) (cw_pi (by omega)) rfl rfl hl.1 (Nat.le_of_ble_eq_true rfl) rfl) M (fun H locs M => ?_)
          refine lv_goto (tgt := 104) hx hb d_Pi_add_88 (by decide) ?_
          exact g_vret F M hr hlocks d_Pi_add_104 (by decide) (by decide) rfl (by unfold cAdd; rw [if_pos c_4, hq2, nI_clamp (by omega), cAddS_1 (Or.inl ⟨by omega, c_22⟩)]; rfl)
        · have c_36 : ¬ q ≤ 1 := fun h => c_36 ((nI_leI (a := q) (b := 1) (by omega) (by omega)).mpr h)
          refine lv_aload_n hx hb d_Pi_add_39 rfl (lv_at hl 1 rfl) ?_
          refine g_get (v := .ref (gB G + (36 + 3 * p))) F M f_Pi_15 d_Pi_add_40 (by omega) (cw_pi (by omega)) rfl ?_
          refine lv_iconst (v := 1) hx hb d_Pi_add_43 (by decide) ?_
          refine g_topi (x' := nI 1) rfl ?_
          refine g_iald (f := (pe p)) F M d_Pi_add_44 (by omega) (cw_pe (by omega)) (by omega) (by decide) ?_
          refine lv_iload_n hx hb d_Pi_add_45 rfl (lv_at hl 2 rfl) ?_
          refine lv_icmp_ne (tgt := 53) hx hb d_Pi_add_46 (by decide) (fun c_46 => ?_) (fun c_46 => ?_)
          · refine lv_iconst (v := 0) hx hb d_Pi_add_53 (by decide) ?_
            refine lv_istore_n (lv' := [(3, .int 0), (2, .int 1), (0, .ref (gB G + (34 + 3 * p))), (1, .int v)]) hx hb d_Pi_add_54 rfl hl (by decide) rfl (fun ls hl => ?_)
            refine lv_aload_n hx hb d_Pi_add_55 rfl (lv_at hl 2 rfl) ?_
            refine g_get (v := .ref (gB G + (36 + 3 * p))) F M f_Pi_15 d_Pi_add_56 (by omega) (cw_pi (by omega)) rfl ?_
            refine lv_aload_n hx hb d_Pi_add_59 rfl (lv_at hl 2 rfl) ?_
            refine g_get (v := .int (pf p 6)) F M f_Pi_35 d_Pi_add_60 (by omega) (cw_pi (by omega)) rfl ?_
            refine g_topi (x' := nI q) hq2 ?_
            refine lv_iload_n hx hb d_Pi_add_63 rfl (lv_at hl 3 rfl) ?_
            refine g_iast (f := (pe p)) F M d_Pi_add_64 (by omega) (cw_pe (by omega)) (by omega) (by decide) (cw_s_pe (by omega)) (fun H locs M => ?_)
            refine lv_aload_n hx hb d_Pi_add_65 rfl (lv_at hl 2 rfl) ?_
            refine lv_dup hx hb d_Pi_add_66 rfl ?_
            refine g_get (v := .int (pf p 6)) F M f_Pi_35 d_Pi_add_67 (by omega) (cw_pi (by omega)) rfl ?_
            refine g_topi (x' := nI q) hq2 ?_
            refine lv_iconst (v := 1) hx hb d_Pi_add_70 (by decide) ?_
            refine lv_iadd hx hb d_Pi_add_71 ?_
            refine g_topi (x' := nI (q + 1)) (nI_add (q) (1)) ?_
            refine g_put F M f_Pi_35 d_Pi_add_72 (by omega) (cw_pi (by omega)) rfl rfl rfl (Nat.le_of_ble_eq_true rfl) (cw_i_count (by omega)) (fun H locs M => ?_)
            refine lv_iload_n hx hb d_Pi_add_75 rfl (lv_at hl 1 rfl) ?_
            refine lv_if_ne (tgt := 83) hx hb d_Pi_add_76 (by decide) (fun _ => ?_) (fun h => absurd h (by decide))
            refine lv_aload_n hx hb d_Pi_add_83 rfl (lv_at hl 2 rfl) ?_
            refine lv_iload_n hx hb d_Pi_add_84 rfl (lv_at hl 3 rfl) ?_
            refine g_call0 (g_rv (rest := []) F M (c_Pi_finish l G (N) n sc now gi ck ho pd (va_up pf p (va_up (pf p) 6 (nI (q + 1)))) ps (va_up pe p (upd (pe p) q v)) pn w0 hN hcn hn hpn p (by omega) (by omega) v) k_Pi_79 d_Pi_add_85 ⟨rfl, rfl, by decide, by decide, by decide, by decide⟩ (by omega) (cw_pi (by omega)) rfl rfl hl.1 (Nat.le_of_ble_eq_true rfl) rfl) M (fun H locs M => ?_)
            refine lv_goto (tgt := 104) hx hb d_Pi_add_88 (by decide) ?_
            exact g_vret F M hr hlocks d_Pi_add_104 (by decide) (by decide) rfl (by unfold cAdd; rw [if_pos c_4, hq2, nI_clamp (by omega), cAddS_1 (Or.inl ⟨by omega, c_22⟩)]; rfl)
          · refine lv_iconst (v := 1) hx hb d_Pi_add_49 (by decide) ?_
            refine lv_goto (tgt := 54) hx hb d_Pi_add_50 (by decide) ?_
            refine lv_istore_n (lv' := [(3, .int 1), (2, .int 1), (0, .ref (gB G + (34 + 3 * p))), (1, .int v)]) hx hb d_Pi_add_54 rfl hl (by decide) rfl (fun ls hl => ?_)
            refine lv_aload_n hx hb d_Pi_add_55 rfl (lv_at hl 2 rfl) ?_
            refine g_get (v := .ref (gB G + (36 + 3 * p))) F M f_Pi_15 d_Pi_add_56 (by omega) (cw_pi (by omega)) rfl ?_
            refine lv_aload_n hx hb d_Pi_add_59 rfl (lv_at hl 2 rfl) ?_
            refine g_get (v := .int (pf p 6)) F M f_Pi_35 d_Pi_add_60 (by omega) (cw_pi (by omega)) rfl ?_
            refine g_topi (x' := nI q) hq2 ?_
            refine lv_iload_n hx hb d_Pi_add_63 rfl (lv_at hl 3 rfl) ?_
            refine g_iast (f := (pe p)) F M d_Pi_add_64 (by omega) (cw_pe (by omega)) (by omega) (by decide) (cw_s_pe (by omega)) (fun H locs M => ?_)
            refine lv_aload_n hx hb d_Pi_add_65 rfl (lv_at hl 2 rfl) ?_
            refine lv_dup hx hb d_Pi_add_66 rfl ?_
            refine g_get (v := .int (pf p 6)) F M f_Pi_35 d_Pi_add_67 (by omega) (cw_pi (by omega)) rfl ?_
            refine g_topi (x' := nI q) hq2 ?_
            refine lv_iconst (v := 1) hx hb d_Pi_add_70 (by decide) ?_
            refine lv_iadd hx hb d_Pi_add_71 ?_
            refine g_topi (x' := nI (q + 1)) (nI_add (q) (1)) ?_
            refine g_put F M f_Pi_35 d_Pi_add_72 (by omega) (cw_pi (by omega)) rfl rfl rfl (Nat.le_of_ble_eq_true rfl) (cw_i_count (by omega)) (fun H locs M => ?_)
            refine lv_iload_n hx hb d_Pi_add_75 rfl (lv_at hl 1 rfl) ?_
            refine lv_if_ne (tgt := 83) hx hb d_Pi_add_76 (by decide) (fun _ => ?_) (fun h => absurd h (by decide))
            refine lv_aload_n hx hb d_Pi_add_83 rfl (lv_at hl 2 rfl) ?_
            refine lv_iload_n hx hb d_Pi_add_84 rfl (lv_at hl 3 rfl) ?_
            refine g_call0 (g_rv (rest := []) F M (c_Pi_finish l G (N) n sc now gi ck ho pd (va_up pf p (va_up (pf p) 6 (nI (q + 1)))) ps (va_up pe p (upd (pe p) q v)) pn w0 hN hcn hn hpn p (by omega) (by omega) v) k_Pi_79 d_Pi_add_85 ⟨rfl, rfl, by decide, by decide, by decide, by decide⟩ (by omega) (cw_pi (by omega)) rfl rfl hl.1 (Nat.le_of_ble_eq_true rfl) rfl) M (fun H locs M => ?_)
            refine lv_goto (tgt := 104) hx hb d_Pi_add_88 (by decide) ?_
            exact g_vret F M hr hlocks d_Pi_add_104 (by decide) (by decide) rfl (by unfold cAdd; rw [if_pos c_4, hq2, nI_clamp (by omega), cAddS_1 (Or.inl ⟨by omega, c_22⟩)]; rfl)
  · exact g_vret F M hr hlocks d_Pi_add_7 (by decide) (by decide) rfl (by unfold cAdd; rw [if_neg c_4])
end
section
/-! ===== ClerkRows: time, and the search ===== -/
def cLate (pn : Nat → Nat) (pd : Nat → Int64) (t : Int64) : Nat → Nat
  | 0 => 0
  | k + 1 => if pn (k + 1) = 0 ∧ pd (k + 1) < t then cLate pn pd t k + 1 else cLate pn pd t k
def cPassN (pn : Nat → Nat) (pd : Nat → Int64) (t : Int64) (k : Nat) : Nat → Nat := fun p => if (1 ≤ p ∧ p ≤ k) ∧ pn p = 0 ∧ pd p < t then 3 else pn p
theorem cPassN_lt {pn : Nat → Nat} {pd : Nat → Int64} {t : Int64} {k : Nat} (h : ∀ p, pn p < 4) : ∀ p, cPassN pn pd t k p < 4 := by
  intro p; unfold cPassN; split
  · decide
  · exact h p
theorem cPassN_0 (pn : Nat → Nat) (pd : Nat → Int64) (t : Int64) : cPassN pn pd t 0 = pn := by
  funext p; unfold cPassN; rw [if_neg (by omega)]
theorem cPassN_at (pn : Nat → Nat) (pd : Nat → Int64) (t : Int64) (k : Nat) : cPassN pn pd t k (k + 1) = pn (k + 1) := by
  unfold cPassN; rw [if_neg (by omega)]
theorem cPassN_t {pn : Nat → Nat} {pd : Nat → Int64} {t : Int64} {k : Nat} (h : pn (k + 1) = 0 ∧ pd (k + 1) < t) : va_up (cPassN pn pd t k) (k + 1) 3 = cPassN pn pd t (k + 1) := by
  funext p; unfold cPassN
  by_cases hp : p = k + 1
  · subst hp; rw [va_up_self, if_pos ⟨by omega, h⟩]
  · rw [va_up_ne _ _ hp]
    by_cases hq : (1 ≤ p ∧ p ≤ k) ∧ pn p = 0 ∧ pd p < t
    · rw [if_pos hq, if_pos ⟨by omega, hq.2⟩]
    · rw [if_neg hq, if_neg (fun z => hq ⟨by omega, z.2⟩)]
theorem cPassN_f {pn : Nat → Nat} {pd : Nat → Int64} {t : Int64} {k : Nat} (h : ¬ (pn (k + 1) = 0 ∧ pd (k + 1) < t)) : cPassN pn pd t k = cPassN pn pd t (k + 1) := by
  funext p; unfold cPassN
  by_cases hq : (1 ≤ p ∧ p ≤ k) ∧ pn p = 0 ∧ pd p < t
  · rw [if_pos hq, if_pos ⟨by omega, hq.2⟩]
  · rw [if_neg hq, if_neg (fun z => ?_)]
    by_cases hp : p = k + 1
    · subst hp; exact h z.2
    · exact hq ⟨by omega, z.2⟩
def cPassC (sc : Nat → Int32) (m : Nat) : Nat → Int32 := va_up (va_up sc 2 (sc 2 + nI m)) 3 (sc 3 - nI m)
theorem cPassC_0 (sc : Nat → Int32) : cPassC sc 0 = sc := by
  have h1 : sc 2 + nI 0 = sc 2 := by rw [nI_0, Int32.add_zero]
  have h2 : sc 3 - nI 0 = sc 3 := by rw [nI_0, Int32.sub_zero]
  unfold cPassC
  rw [h1, h2, va_up_id, va_up_id]
theorem cPassC_s (sc : Nat → Int32) (m : Nat) : va_up (va_up (cPassC sc m) 2 (sc 2 + nI m + 1)) 3 (sc 3 - nI m - 1) = cPassC sc (m + 1) := by
  rw [nI_as, Int32.sub_sub, nI_1]
  funext j
  unfold cPassC
  by_cases h3 : j = 3
  · subst h3; rw [va_up_self, va_up_self]
  · rw [va_up_ne _ _ h3, va_up_ne _ _ h3]
    by_cases h2 : j = 2
    · subst h2; rw [va_up_self, va_up_self]
    · rw [va_up_ne _ _ h2, va_up_ne _ _ h3, va_up_ne _ _ h2, va_up_ne _ _ h2]
theorem cLate_t {pn : Nat → Nat} {pd : Nat → Int64} {t : Int64} {k : Nat} (h : pn (k + 1) = 0 ∧ pd (k + 1) < t) : cLate pn pd t (k + 1) = cLate pn pd t k + 1 := by
  show (if _ then _ else _) = _
  rw [if_pos h]
theorem cLate_f {pn : Nat → Nat} {pd : Nat → Int64} {t : Int64} {k : Nat} (h : ¬ (pn (k + 1) = 0 ∧ pd (k + 1) < t)) : cLate pn pd t (k + 1) = cLate pn pd t k := by
  show (if _ then _ else _) = _
  rw [if_neg h]
/-- the first of the free pictures 1 .. k that are due soonest; 0 -/
def cB (ck pf pe : Nat → Nat → Int32) (pn : Nat → Nat) (pd : Nat → Int64) (c : Nat) : Nat → Nat
  | 0 => 0
  | k + 1 => if cFre ck pf pe pn (k + 1) c ∧ (cB ck pf pe pn pd c k = 0 ∨ pd (k + 1) < pd (cB ck pf pe pn pd c k)) then k + 1 else cB ck pf pe pn pd c k
theorem cB_le (ck pf pe : Nat → Nat → Int32) (pn : Nat → Nat) (pd : Nat → Int64) (c k : Nat) : cB ck pf pe pn pd c k ≤ k := by
  induction k with
  | zero => exact Nat.le_refl _
  | succ k ih => unfold cB; split <;> omega
theorem cB_t {ck pf pe : Nat → Nat → Int32} {pn : Nat → Nat} {pd : Nat → Int64} {c k : Nat} (h : cFre ck pf pe pn (k + 1) c ∧ (cB ck pf pe pn pd c k = 0 ∨ pd (k + 1) < pd (cB ck pf pe pn pd c k))) : cB ck pf pe pn pd c (k + 1) = k + 1 := by
  show (if _ then _ else _) = _
  rw [if_pos h]
theorem cB_f {ck pf pe : Nat → Nat → Int32} {pn : Nat → Nat} {pd : Nat → Int64} {c k : Nat} (h : ¬ (cFre ck pf pe pn (k + 1) c ∧ (cB ck pf pe pn pd c k = 0 ∨ pd (k + 1) < pd (cB ck pf pe pn pd c k)))) : cB ck pf pe pn pd c (k + 1) = cB ck pf pe pn pd c k := by
  show (if _ then _ else _) = _
  rw [if_neg h]
set_option maxRecDepth 4000 in
theorem c_CR_pass (l : Launch) (G : gG) (N n : Nat) (sc : Nat → Int32) (now : Int64) (gi : Nat → Int32) (ck : Nat → Nat → Int32) (ho : Nat → Nat) (pd : Nat → Int64) (pf : Nat → Nat → Int32) (ps : Nat → Nat → Int32) (pe : Nat → Nat → Int32) (pn : Nat → Nat) (w0 : Nat → va_E) (hN : N = 37 + 3 * n) (hcn : sc 1 = nI n) (hn : n ≤ 300) (hpn : ∀ p, pn p < 4) (t : Int64) : Met l y_CR_pass (Cond.code y_CR_pass b_CR_pass 4 none :: gtb) (gR 1 0 0) (gPc G [.ref (gB G + 0), .long t] (N) (cw G n (sc, now, gi, ck, ho, pd, pf, ps, pe, pn) w0)) (gQ0 G (N) (cw G n (cPassC sc (cLate pn pd t n), t, gi, ck, ho, pd, pf, ps, pe, cPassN pn pd t n) w0)) 0 0 (gA (gB G)) := by
  refine g_met (own := "ClerkRows") (by decide) rfl (Nat.le_of_ble_eq_true rfl) ?_
  intro pg ev s0 mi below meth cd F M hr hlocks hnm ls hl
  have hx := F.1.1
  have hb := F.1.2.1
  have hl : lv_has ls 4 [(0, .ref (gB G + 0)), (1, .long t)] := hl
  refine lv_aload_n hx hb d_CR_pass_0 rfl (lv_at hl 0 rfl) ?_
  refine lv_lload_n hx hb d_CR_pass_1 rfl (lv_at hl 1 rfl) ?_
  refine g_put F M f_CR_42 d_CR_pass_2 (by omega) cw_0 rfl rfl rfl (Nat.le_of_ble_eq_true rfl) cw_p_now (fun H locs M => ?_)
  refine lv_iconst (v := 1) hx hb d_CR_pass_5 (by decide) ?_
  refine lv_istore_n (lv' := [(3, .int 1), (0, .ref (gB G + 0)), (1, .long t)]) hx hb d_CR_pass_6 rfl hl (by decide) rfl (fun ls hl => ?_)
  have loop_7 : ∀ (fuel k : Nat), n < k + fuel → k ≤ n → ∀ (z3 : Int32), z3 = nI (k + 1) → ∀ (wz : Nat → va_E), wz = cw G n (cPassC sc (cLate pn pd t k), t, gi, ck, ho, pd, pf, ps, pe, cPassN pn pd t k) w0 → ∀ (H : Heap) (locs : List Loc) (ls : Array Slot), gM G s0 (N) wz H locs → lv_has ls 4 [(0, .ref (gB G + 0)), (1, .long t), (3, .int z3)] → W pg l ev (gR 1 0 0) s0 mi ([.ref (gB G + 0), .long t] : List Value).toArray below meth cd H locs 0 0 (MQ below (gQ0 G (N) (cw G n (cPassC sc (cLate pn pd t n), t, gi, ck, ho, pd, pf, ps, pe, cPassN pn pd t n) w0)) ([.ref (gB G + 0), .long t] : List Value).toArray s0 0 0 (gA (gB G))) (F0 mi 7 ls []) := by
    intro fuel
    induction fuel with
    | zero => intro k h1 h2; exact absurd h1 (by omega)
    | succ fuel ih =>
      intro k hk1 hk2 z3 e3 wz ew H locs ls M hl
      subst e3 ew
      have hl : lv_has ls 4 [(0, .ref (gB G + 0)), (1, .long t), (3, .int (nI (k + 1)))] := hl
      refine lv_iload_n hx hb d_CR_pass_7 rfl (lv_at hl 2 rfl) ?_
      refine lv_aload_n hx hb d_CR_pass_8 rfl (lv_at hl 0 rfl) ?_
      refine g_get (v := .int (nI n)) F M f_CR_39 d_CR_pass_9 (by omega) cw_0 (congrArg (fun z => some (Value.int z)) hcn) ?_
      refine lv_icmp_gt (tgt := 82) hx hb d_CR_pass_12 (by decide) (fun c_12 => ?_) (fun c_12 => ?_)
      · have c_12 : n < k + 1 := (nI_ltI (a := n) (b := k + 1) (by omega) (by omega)).mp c_12
        have hkn : n = k := by omega
        subst hkn
        exact g_vret F M hr hlocks d_CR_pass_82 (by decide) (by decide) rfl (rfl)
      · have c_12 : ¬ n < k + 1 := fun h => c_12 ((nI_ltI (a := n) (b := k + 1) (by omega) (by omega)).mpr h)
        refine lv_aload_n hx hb d_CR_pass_15 rfl (lv_at hl 0 rfl) ?_
        refine g_get (v := .ref (gB G + 1)) F M f_CR_11 d_CR_pass_16 (by omega) cw_0 rfl ?_
        refine lv_iload_n hx hb d_CR_pass_19 rfl (lv_at hl 2 rfl) ?_
        refine g_aald F M 3 rfl d_CR_pass_20 (by omega) cw_1 (by omega) (by decide) (cPa_at (by omega) (by omega)) ?_
        refine g_call1 (g_rv (rest := []) F M (c_Pi_isOver l G (N) n (cPassC sc (cLate pn pd t k)) t gi ck ho pd pf ps pe (cPassN pn pd t k) w0 hN hcn hn (cPassN_lt hpn) (k + 1) (by omega) (by omega)) k_CR_52 d_CR_pass_21 ⟨rfl, rfl, by decide, by decide, by decide, by decide⟩ (by omega) (cw_pi (by omega)) rfl rfl hl.1 (Nat.le_of_ble_eq_true rfl) rfl) M (fun H locs M => ?_)
        refine g_ifneB (tgt := 76) hx hb d_CR_pass_24 (by decide) (fun c_24 => ?_) (fun c_24 => ?_)
        · rw [cPassN_at] at c_24
          refine lv_iinc (v := nI (k + 1 + 1)) (lv' := [(3, .int (nI (k + 1 + 1))), (0, .ref (gB G + 0)), (1, .long t)]) hx hb d_CR_pass_76 hl (k := 2) rfl (nI_1 _) (by decide) rfl (fun ls hl => ?_)
          refine lv_goto (tgt := 7) hx hb d_CR_pass_79 (by decide) ?_
          exact ih (k + 1) (by omega) (by omega) _ rfl _ (by rw [cLate_f (fun h => c_24 h.1), ← cPassN_f (fun h => c_24 h.1)]) _ _ ls M (lv_sub hl [1, 2, 0] rfl)
        · rw [cPassN_at] at c_24
          have c_24 := Decidable.byContradiction c_24
          refine lv_aload_n hx hb d_CR_pass_27 rfl (lv_at hl 0 rfl) ?_
          refine g_get (v := .ref (gB G + 1)) F M f_CR_11 d_CR_pass_28 (by omega) cw_0 rfl ?_
          refine lv_iload_n hx hb d_CR_pass_31 rfl (lv_at hl 2 rfl) ?_
          refine g_aald F M 3 rfl d_CR_pass_32 (by omega) cw_1 (by omega) (by decide) (cPa_at (by omega) (by omega)) ?_
          refine g_getN (v := .long (pd (k + 1))) F M f_CR_56 d_CR_pass_33 (by omega) (cw_pi (by omega)) rfl ?_
          refine lv_lload_n hx hb d_CR_pass_36 rfl (lv_at hl 1 rfl) ?_
          refine g_lcmp_lt (tgt := 44) hx hb d_CR_pass_37 d_CR_pass_38 (by decide) (fun c_38 => ?_) (fun c_38 => ?_)
          · refine lv_aload_n hx hb d_CR_pass_44 rfl (lv_at hl 0 rfl) ?_
            refine g_get (v := .ref (gB G + 1)) F M f_CR_11 d_CR_pass_45 (by omega) cw_0 rfl ?_
            refine lv_iload_n hx hb d_CR_pass_48 rfl (lv_at hl 2 rfl) ?_
            refine g_aald F M 3 rfl d_CR_pass_49 (by omega) cw_1 (by omega) (by decide) (cPa_at (by omega) (by omega)) ?_
            refine g_gets F M 3 (by decide) wd_166 d_CR_pass_50 ?_
            refine g_putN F M f_CR_65 d_CR_pass_53 (by omega) (cw_pi (by omega)) rfl rfl rfl (Nat.le_of_ble_eq_true rfl) (cw_i_end (by omega)) (fun H locs M => ?_)
            refine lv_aload_n hx hb d_CR_pass_56 rfl (lv_at hl 0 rfl) ?_
            refine lv_dup hx hb d_CR_pass_57 rfl ?_
            refine g_get (v := .int (sc 2 + nI (cLate pn pd t k))) F M f_CR_68 d_CR_pass_58 (by omega) cw_0 rfl ?_
            refine lv_iconst (v := 1) hx hb d_CR_pass_61 (by decide) ?_
            refine lv_iadd hx hb d_CR_pass_62 ?_
            refine g_put F M f_CR_68 d_CR_pass_63 (by omega) cw_0 rfl rfl rfl (Nat.le_of_ble_eq_true rfl) cw_p_late (fun H locs M => ?_)
            refine lv_aload_n hx hb d_CR_pass_66 rfl (lv_at hl 0 rfl) ?_
            refine lv_dup hx hb d_CR_pass_67 rfl ?_
            refine g_get (v := .int (sc 3 - nI (cLate pn pd t k))) F M f_CR_71 d_CR_pass_68 (by omega) cw_0 rfl ?_
            refine lv_iconst (v := 1) hx hb d_CR_pass_71 (by decide) ?_
            refine lv_isub hx hb d_CR_pass_72 ?_
            refine g_put F M f_CR_71 d_CR_pass_73 (by omega) cw_0 rfl rfl rfl (Nat.le_of_ble_eq_true rfl) cw_p_open (fun H locs M => ?_)
            refine lv_iinc (v := nI (k + 1 + 1)) (lv' := [(3, .int (nI (k + 1 + 1))), (0, .ref (gB G + 0)), (1, .long t)]) hx hb d_CR_pass_76 hl (k := 2) rfl (nI_1 _) (by decide) rfl (fun ls hl => ?_)
            refine lv_goto (tgt := 7) hx hb d_CR_pass_79 (by decide) ?_
            exact ih (k + 1) (by omega) (by omega) _ rfl _ (by rw [cLate_t ⟨c_24, c_38⟩, cPassN_t ⟨c_24, c_38⟩, cPassC_s]) _ _ ls M (lv_sub hl [1, 2, 0] rfl)
          · refine lv_goto (tgt := 76) hx hb d_CR_pass_41 (by decide) ?_
            refine lv_iinc (v := nI (k + 1 + 1)) (lv' := [(3, .int (nI (k + 1 + 1))), (0, .ref (gB G + 0)), (1, .long t)]) hx hb d_CR_pass_76 hl (k := 2) rfl (nI_1 _) (by decide) rfl (fun ls hl => ?_)
            refine lv_goto (tgt := 7) hx hb d_CR_pass_79 (by decide) ?_
            exact ih (k + 1) (by omega) (by omega) _ rfl _ (by rw [cLate_f (fun h => c_38 h.2), ← cPassN_f (fun h => c_38 h.2)]) _ _ ls M (lv_sub hl [1, 2, 0] rfl)
  exact loop_7 (n + 1) 0 (by omega) (by omega) _ rfl _ (by rw [cPassN_0]; show _ = cw G n (cPassC sc 0, _, _, _, _, _, _, _, _, _) w0; rw [cPassC_0]) _ _ ls M (lv_sub hl [1, 2, 0] rfl)
set_option maxRecDepth 4000 in
theorem c_CR_find (l : Launch) (G : gG) (N n : Nat) (sc : Nat → Int32) (now : Int64) (gi : Nat → Int32) (ck : Nat → Nat → Int32) (ho : Nat → Nat) (pd : Nat → Int64) (pf : Nat → Nat → Int32) (ps : Nat → Nat → Int32) (pe : Nat → Nat → Int32) (pn : Nat → Nat) (w0 : Nat → va_E) (hN : N = 37 + 3 * n) (hcn : sc 1 = nI n) (hn : n ≤ 300) (hpn : ∀ p, pn p < 4) (c : Nat) (hc : c < 20) : Met l y_CR_find (Cond.code y_CR_find b_CR_find 5 (some .int) :: gtb) (gR 4 0 0) (gPc G [.ref (gB G + 0), .int (nI c)] (N) (cw G n (sc, now, gi, ck, ho, pd, pf, ps, pe, pn) w0)) (gQ1 G (nI (cB ck pf pe pn pd c n)) (N) (cw G n (sc, now, gi, ck, ho, pd, pf, ps, pe, pn) w0)) 0 0 (gA (gB G)) := by
  refine g_met (own := "ClerkRows") (by decide) rfl (Nat.le_of_ble_eq_true rfl) ?_
  intro pg ev s0 mi below meth cd F M hr hlocks hnm ls hl
  have hx := F.1.1
  have hb := F.1.2.1
  have hl : lv_has ls 5 [(0, .ref (gB G + 0)), (1, .int (nI c))] := hl
  refine lv_iconst (v := 0) hx hb d_CR_find_0 (by decide) ?_
  refine lv_istore_n (lv' := [(2, .int 0), (0, .ref (gB G + 0)), (1, .int (nI c))]) hx hb d_CR_find_1 rfl hl (by decide) rfl (fun ls hl => ?_)
  refine lv_iconst (v := 1) hx hb d_CR_find_2 (by decide) ?_
  refine lv_istore_n (lv' := [(3, .int 1), (2, .int 0), (0, .ref (gB G + 0)), (1, .int (nI c))]) hx hb d_CR_find_3 rfl hl (by decide) rfl (fun ls hl => ?_)
  have loop_4 : ∀ (fuel k : Nat), n < k + fuel → k ≤ n → ∀ (z2 : Int32) (z3 : Int32), z2 = nI (cB ck pf pe pn pd c k) → z3 = nI (k + 1) → ∀ (wz : Nat → va_E), wz = cw G n (sc, now, gi, ck, ho, pd, pf, ps, pe, pn) w0 → ∀ (H : Heap) (locs : List Loc) (ls : Array Slot), gM G s0 (N) wz H locs → lv_has ls 5 [(0, .ref (gB G + 0)), (1, .int (nI c)), (2, .int z2), (3, .int z3)] → W pg l ev (gR 4 0 0) s0 mi ([.ref (gB G + 0), .int (nI c)] : List Value).toArray below meth cd H locs 0 0 (MQ below (gQ1 G (nI (cB ck pf pe pn pd c n)) (N) (cw G n (sc, now, gi, ck, ho, pd, pf, ps, pe, pn) w0)) ([.ref (gB G + 0), .int (nI c)] : List Value).toArray s0 0 0 (gA (gB G))) (F0 mi 4 ls []) := by
    intro fuel
    induction fuel with
    | zero => intro k h1 h2; exact absurd h1 (by omega)
    | succ fuel ih =>
      intro k hk1 hk2 z2 z3 e2 e3 wz ew H locs ls M hl
      subst e2 e3 ew
      have hl : lv_has ls 5 [(0, .ref (gB G + 0)), (1, .int (nI c)), (2, .int (nI (cB ck pf pe pn pd c k))), (3, .int (nI (k + 1)))] := hl
      refine lv_iload_n hx hb d_CR_find_4 rfl (lv_at hl 3 rfl) ?_
      refine lv_aload_n hx hb d_CR_find_5 rfl (lv_at hl 0 rfl) ?_
      refine g_get (v := .int (nI n)) F M f_CR_39 d_CR_find_6 (by omega) cw_0 (congrArg (fun z => some (Value.int z)) hcn) ?_
      refine lv_icmp_gt (tgt := 73) hx hb d_CR_find_9 (by decide) (fun c_9 => ?_) (fun c_9 => ?_)
      · have c_9 : n < k + 1 := (nI_ltI (a := n) (b := k + 1) (by omega) (by omega)).mp c_9
        have hkn : n = k := by omega
        subst hkn
        refine lv_iload_n hx hb d_CR_find_73 rfl (lv_at hl 2 rfl) ?_
        exact g_iret F M hr hlocks d_CR_find_74 (by decide) (by decide) rfl rfl (rfl)
      · have c_9 : ¬ n < k + 1 := fun h => c_9 ((nI_ltI (a := n) (b := k + 1) (by omega) (by omega)).mpr h)
        have hB := cB_le ck pf pe pn pd c k
        refine lv_aload_n hx hb d_CR_find_12 rfl (lv_at hl 0 rfl) ?_
        refine g_get (v := .ref (gB G + 1)) F M f_CR_11 d_CR_find_13 (by omega) cw_0 rfl ?_
        refine lv_iload_n hx hb d_CR_find_16 rfl (lv_at hl 3 rfl) ?_
        refine g_aald F M 3 rfl d_CR_find_17 (by omega) cw_1 (by omega) (by decide) (cPa_at (by omega) (by omega)) ?_
        refine lv_iload_n hx hb d_CR_find_18 rfl (lv_at hl 1 rfl) ?_
        refine lv_aload_n hx hb d_CR_find_19 rfl (lv_at hl 0 rfl) ?_
        refine g_get (v := .ref (gB G + 2)) F M f_CR_17 d_CR_find_20 (by omega) cw_0 rfl ?_
        refine lv_iload_n hx hb d_CR_find_23 rfl (lv_at hl 1 rfl) ?_
        refine g_aald F M 4 rfl d_CR_find_24 (by omega) cw_2 (by omega) (by decide) (cCa_at (by omega)) ?_
        refine g_call1 (g_rv (rest := []) F M (c_Pi_isFree l G (N) n sc now gi ck ho pd pf ps pe pn w0 hN hcn hn hpn (k + 1) (by omega) (by omega) c (by omega)) k_CR_79 d_CR_find_25 ⟨rfl, rfl, by decide, by decide, by decide, by decide⟩ (by omega) (cw_pi (by omega)) rfl rfl hl.1 (Nat.le_of_ble_eq_true rfl) rfl) M (fun H locs M => ?_)
        refine lv_istore (lv' := [(4, .int (bI (cFre ck pf pe pn (k + 1) c))), (0, .ref (gB G + 0)), (1, .int (nI c)), (2, .int (nI (cB ck pf pe pn pd c k))), (3, .int (nI (k + 1)))]) hx hb d_CR_find_28 hl (by decide) rfl (fun ls hl => ?_)
        refine lv_iload hx hb d_CR_find_30 (lv_at hl 0 rfl) ?_
        refine g_ifeqB (tgt := 65) hx hb d_CR_find_32 (by decide) (fun c_32 => ?_) (fun c_32 => ?_)
        · refine lv_iload_n hx hb d_CR_find_65 rfl (lv_at hl 3 rfl) ?_
          refine lv_istore_n (lv' := [(2, .int (nI (cB ck pf pe pn pd c k))), (4, .int (bI (cFre ck pf pe pn (k + 1) c))), (0, .ref (gB G + 0)), (1, .int (nI c)), (3, .int (nI (k + 1)))]) hx hb d_CR_find_66 rfl hl (by decide) rfl (fun ls hl => ?_)
          refine lv_iinc (v := nI (k + 1 + 1)) (lv' := [(3, .int (nI (k + 1 + 1))), (2, .int (nI (cB ck pf pe pn pd c k))), (4, .int (bI (cFre ck pf pe pn (k + 1) c))), (0, .ref (gB G + 0)), (1, .int (nI c))]) hx hb d_CR_find_67 hl (k := 4) rfl (nI_1 _) (by decide) rfl (fun ls hl => ?_)
          refine lv_goto (tgt := 4) hx hb d_CR_find_70 (by decide) ?_
          exact ih (k + 1) (by omega) (by omega) _ _ (by rw [cB_f (fun h => c_32 h.1)]) rfl _ rfl _ _ ls M (lv_sub hl [3, 4, 1, 0] rfl)
        · refine lv_iload_n hx hb d_CR_find_35 rfl (lv_at hl 3 rfl) ?_
          refine lv_if_eq (tgt := 61) hx hb d_CR_find_36 (by decide) (fun c_36 => ?_) (fun c_36 => ?_)
          · have c_36 : cB ck pf pe pn pd c k = 0 := (nI_eq (a := cB ck pf pe pn pd c k) (b := 0) (by omega) (by omega)).mp c_36
            refine lv_iload_n hx hb d_CR_find_61 rfl (lv_at hl 4 rfl) ?_
            refine lv_goto (tgt := 66) hx hb d_CR_find_62 (by decide) ?_
            refine lv_istore_n (lv' := [(2, .int (nI (k + 1))), (4, .int (bI (cFre ck pf pe pn (k + 1) c))), (0, .ref (gB G + 0)), (1, .int (nI c)), (3, .int (nI (k + 1)))]) hx hb d_CR_find_66 rfl hl (by decide) rfl (fun ls hl => ?_)
            refine lv_iinc (v := nI (k + 1 + 1)) (lv' := [(3, .int (nI (k + 1 + 1))), (2, .int (nI (k + 1))), (4, .int (bI (cFre ck pf pe pn (k + 1) c))), (0, .ref (gB G + 0)), (1, .int (nI c))]) hx hb d_CR_find_67 hl (k := 4) rfl (nI_1 _) (by decide) rfl (fun ls hl => ?_)
            refine lv_goto (tgt := 4) hx hb d_CR_find_70 (by decide) ?_
            exact ih (k + 1) (by omega) (by omega) _ _ (by rw [cB_t ⟨c_32, Or.inl c_36⟩]) rfl _ rfl _ _ ls M (lv_sub hl [3, 4, 1, 0] rfl)
          · have c_36 : ¬ cB ck pf pe pn pd c k = 0 := fun h => c_36 ((nI_eq (a := cB ck pf pe pn pd c k) (b := 0) (by omega) (by omega)).mpr h)
            refine lv_aload_n hx hb d_CR_find_39 rfl (lv_at hl 1 rfl) ?_
            refine g_get (v := .ref (gB G + 1)) F M f_CR_11 d_CR_find_40 (by omega) cw_0 rfl ?_
            refine lv_iload_n hx hb d_CR_find_43 rfl (lv_at hl 4 rfl) ?_
            refine g_aald F M 3 rfl d_CR_find_44 (by omega) cw_1 (by omega) (by decide) (cPa_at (by omega) (by omega)) ?_
            refine g_getN (v := .long (pd (k + 1))) F M f_CR_56 d_CR_find_45 (by omega) (cw_pi (by omega)) rfl ?_
            refine lv_aload_n hx hb d_CR_find_48 rfl (lv_at hl 1 rfl) ?_
            refine g_get (v := .ref (gB G + 1)) F M f_CR_11 d_CR_find_49 (by omega) cw_0 rfl ?_
            refine lv_iload_n hx hb d_CR_find_52 rfl (lv_at hl 3 rfl) ?_
            refine g_aald F M 3 rfl d_CR_find_53 (by omega) cw_1 (by omega) (by decide) (cPa_at (by omega) (by omega)) ?_
            refine g_getN (v := .long (pd (cB ck pf pe pn pd c k))) F M f_CR_56 d_CR_find_54 (by omega) (cw_pi (by omega)) rfl ?_
            refine g_lcmp_ge (tgt := 65) hx hb d_CR_find_57 d_CR_find_58 (by decide) (fun c_58 => ?_) (fun c_58 => ?_)
            · refine lv_iload_n hx hb d_CR_find_65 rfl (lv_at hl 3 rfl) ?_
              refine lv_istore_n (lv' := [(2, .int (nI (cB ck pf pe pn pd c k))), (4, .int (bI (cFre ck pf pe pn (k + 1) c))), (0, .ref (gB G + 0)), (1, .int (nI c)), (3, .int (nI (k + 1)))]) hx hb d_CR_find_66 rfl hl (by decide) rfl (fun ls hl => ?_)
              refine lv_iinc (v := nI (k + 1 + 1)) (lv' := [(3, .int (nI (k + 1 + 1))), (2, .int (nI (cB ck pf pe pn pd c k))), (4, .int (bI (cFre ck pf pe pn (k + 1) c))), (0, .ref (gB G + 0)), (1, .int (nI c))]) hx hb d_CR_find_67 hl (k := 4) rfl (nI_1 _) (by decide) rfl (fun ls hl => ?_)
              refine lv_goto (tgt := 4) hx hb d_CR_find_70 (by decide) ?_
              exact ih (k + 1) (by omega) (by omega) _ _ (by rw [cB_f (fun h => h.2.elim c_36 c_58)]) rfl _ rfl _ _ ls M (lv_sub hl [3, 4, 1, 0] rfl)
            · refine lv_iload_n hx hb d_CR_find_61 rfl (lv_at hl 4 rfl) ?_
              refine lv_goto (tgt := 66) hx hb d_CR_find_62 (by decide) ?_
              refine lv_istore_n (lv' := [(2, .int (nI (k + 1))), (4, .int (bI (cFre ck pf pe pn (k + 1) c))), (0, .ref (gB G + 0)), (1, .int (nI c)), (3, .int (nI (k + 1)))]) hx hb d_CR_find_66 rfl hl (by decide) rfl (fun ls hl => ?_)
              refine lv_iinc (v := nI (k + 1 + 1)) (lv' := [(3, .int (nI (k + 1 + 1))), (2, .int (nI (k + 1))), (4, .int (bI (cFre ck pf pe pn (k + 1) c))), (0, .ref (gB G + 0)), (1, .int (nI c))]) hx hb d_CR_find_67 hl (k := 4) rfl (nI_1 _) (by decide) rfl (fun ls hl => ?_)
              refine lv_goto (tgt := 4) hx hb d_CR_find_70 (by decide) ?_
              exact ih (k + 1) (by omega) (by omega) _ _ (by rw [cB_t ⟨c_32, Or.inr c_58⟩]) rfl _ rfl _ _ ls M (lv_sub hl [3, 4, 1, 0] rfl)
  exact loop_4 (n + 1) 0 (by omega) (by omega) _ _ rfl rfl _ rfl _ _ ls M (lv_sub hl [2, 3, 1, 0] rfl)
end
section
/-! ===== the face of ClerkRows ===== -/
abbrev cC (x : Int32) : Prop := ¬ x < 0 ∧ x < 20
abbrev cP (n : Nat) (x : Int32) : Prop := 0 < x ∧ ¬ nI n < x
abbrev cNT (t now : Int64) : Prop := t < now ∨ 1000000000 < t
abbrev cNR (x : Int32) (y : Int64) : Prop := x.toInt64 < 0 ∨ y < x.toInt64
theorem cC_nat {x : Int32} (h : cC x) : ∃ k, k < 20 ∧ x = nI k := by
  obtain ⟨j, hj, rfl⟩ := nI_of h.1
  exact ⟨j, (nI_ltI (a := j) (b := 20) hj (by decide)).mp h.2, rfl⟩
theorem cP_nat {n : Nat} {x : Int32} (hn : n ≤ 300) (h : cP n x) : ∃ k, 1 ≤ k ∧ k ≤ n ∧ x = nI k := by
  have h0 : ¬ x < 0 := fun q => by
    have h1 := Int32.lt_iff_toInt_lt.mp q
    have h2 := Int32.lt_iff_toInt_lt.mp h.1
    omega
  obtain ⟨j, hj, rfl⟩ := nI_of h0
  have h1 := (nI_ltI (a := 0) (b := j) (by decide) hj).mp h.1
  have h2 : ¬ n < j := fun q => h.2 ((nI_ltI (by omega) hj).mpr q)
  exact ⟨j, by omega, by omega, rfl⟩
abbrev pfS (pf : Nat → Nat → Int32) (p k : Nat) (x : Int32) : Nat → Nat → Int32 := va_up pf p (va_up (pf p) k x)
def cPassS (n : Nat) (t : Int64) : CSt → CSt := fun (sc, now, gi, ck, ho, pd, pf, ps, pe, pn) => (cPassC sc (cLate pn pd t n), t, gi, ck, ho, pd, pf, ps, pe, cPassN pn pd t n)
def cGivP (pf : Nat → Nat → Int32) (b c : Nat) (y : Int32) : Nat → Nat → Int32 := pfS (pfS (pfS pf b 2 (pf b 2 ||| (1 <<< (nI c &&& 31)))) b 4 (pf b 4 ||| (1 <<< (y &&& 31)))) b 7 (pf b 7 + 1)
def cGiv2 (b c : Nat) : CSt → CSt := fun (sc, now, gi, ck, ho, pd, pf, ps, pe, pn) => (sc, now, upd gi c (ck c 1), ck, va_up ho c b, pd, cGivP pf b c (ck c 1), ps, pe, pn)
def cBC (n c : Nat) : CSt → Nat := fun (sc, now, gi, ck, ho, pd, pf, ps, pe, pn) => cB ck pf pe pn pd c n
def cGiv1 (n c : Nat) (C : CSt) : Int32 × CSt := if cBC n c C = 0 then (0, C) else (nI (cBC n c C), cGiv2 (cBC n c C) c C)
abbrev cIn (C : CSt) (c : Nat) : Prop := ¬ C.2.2.2.1 c 0 = 0
abbrev cH (C : CSt) (c : Nat) : Nat := C.2.2.2.2.1 c
def cGiv (n : Nat) (x : Int32) (t : Int64) (C : CSt) : Int32 × CSt :=
  if cC x then if cNT t C.2.1 then (-102, C) else if cIn C x.toNatClampNeg ∧ cH C x.toNatClampNeg = 0 then cGiv1 n x.toNatClampNeg (cPassS n t C) else (-103, C) else (-101, C)
def cAns1 (c p : Nat) (v : Int32) : CSt → Int32 × CSt := fun (sc, now, gi, ck, ho, pd, pf, ps, pe, pn) =>
  (cSta (cAdd p v (pfS pf p 7 (pf p 7 - 1)) pe pn).1 (cAdd p v (pfS pf p 7 (pf p 7 - 1)) pe pn).2.1 (cAdd p v (pfS pf p 7 (pf p 7 - 1)) pe pn).2.2 p,
   (va_up sc 3 (sc 3 - bI (¬ (cAdd p v (pfS pf p 7 (pf p 7 - 1)) pe pn).2.2 p = 0 ∧ pn p = 0)), now, gi, ck, va_up ho c 0, pd, (cAdd p v (pfS pf p 7 (pf p 7 - 1)) pe pn).1, va_up ps p (upd (ps p) c v), (cAdd p v (pfS pf p 7 (pf p 7 - 1)) pe pn).2.1, (cAdd p v (pfS pf p 7 (pf p 7 - 1)) pe pn).2.2))
def cAns (n : Nat) (x1 x2 x3 : Int32) (t : Int64) (C : CSt) : Int32 × CSt :=
  if cC x1 ∧ cP n x2 then if cNR x3 9999 ∨ cNT t C.2.1 then (-102, C) else if cH C x1.toNatClampNeg = x2.toNatClampNeg then cAns1 x1.toNatClampNeg x2.toNatClampNeg x3 (cPassS n t C) else (-103, C) else (-101, C)
abbrev cSame (C : CSt) (c : Nat) (x2 x3 : Int32) : Prop := ¬ C.2.2.2.1 c 0 = 0 ∧ C.2.2.2.1 c 1 = x2 ∧ C.2.2.2.1 c 2 = x3
def cOff2 (c : Nat) (x2 x3 : Int32) : CSt → CSt := fun (sc, now, gi, ck, ho, pd, pf, ps, pe, pn) => (sc, now, gi, pfS (pfS (pfS ck c 0 1) c 1 x2) c 2 x3, ho, pd, pf, ps, pe, pn)
def cOff (x1 x2 x3 : Int32) (C : CSt) : Int32 × CSt :=
  if cC x1 then if cNR x2 4 ∨ cNR x3 3 then (-102, C) else (bI (¬ cSame C x1.toNatClampNeg x2 x3), cOff2 x1.toNatClampNeg x2 x3 C) else (-101, C)
def cBakP (pf : Nat → Nat → Int32) (p : Nat) (y : Int32) : Nat → Nat → Int32 := pfS (pfS pf p 7 (pf p 7 - 1)) p 4 (pf p 4 &&& ((1 <<< (y &&& 31)) ^^^ (-1)))
def cBak (c : Nat) : CSt → CSt := fun (sc, now, gi, ck, ho, pd, pf, ps, pe, pn) => (sc, now, gi, ck, va_up ho c 0, pd, cBakP pf (ho c) (gi c), ps, pe, pn)
def cOut (c : Nat) : CSt → CSt := fun (sc, now, gi, ck, ho, pd, pf, ps, pe, pn) => (sc, now, gi, pfS ck c 0 0, ho, pd, pf, ps, pe, pn)
def cLea (x : Int32) (C : CSt) : Int32 × CSt :=
  if cC x then if cIn C x.toNatClampNeg then if cH C x.toNatClampNeg = 0 then (0, cOut x.toNatClampNeg C) else (1, cBak x.toNatClampNeg (cOut x.toNatClampNeg C)) else (-103, C) else (-101, C)
def cTic1 : CSt → Int32 × CSt := fun (sc, now, gi, ck, ho, pd, pf, ps, pe, pn) => (sc 2, (va_up sc 2 0, now, gi, ck, ho, pd, pf, ps, pe, pn))
def cTic (n : Nat) (t : Int64) (C : CSt) : Int32 × CSt := if cNT t C.2.1 then (-102, C) else cTic1 (cPassS n t C)
def cSet (n : Nat) (x : Int32) : CSt → Int32 := fun (sc, now, gi, ck, ho, pd, pf, ps, pe, pn) => if cP n x then if pn x.toNatClampNeg = 0 then -1 else pf x.toNatClampNeg 9 else -101
def cStt (n : Nat) (x : Int32) : CSt → Int32 := fun (sc, now, gi, ck, ho, pd, pf, ps, pe, pn) => if cP n x then cSta pf pe pn x.toNatClampNeg else -101
def cAg (ps : Nat → Nat → Int32) (c d : Nat) (x : Int32) : Nat → Nat
  | 0 => 0
  | k + 1 => if ¬ ps (k + 1) c = -1 ∧ ¬ ps (k + 1) d = -1 ∧ (x = 1 ∨ ps (k + 1) c = ps (k + 1) d) then cAg ps c d x k + 1 else cAg ps c d x k
theorem cAg_t {ps : Nat → Nat → Int32} {c d k : Nat} {x : Int32} (h : ¬ ps (k + 1) c = -1 ∧ ¬ ps (k + 1) d = -1 ∧ (x = 1 ∨ ps (k + 1) c = ps (k + 1) d)) : cAg ps c d x (k + 1) = cAg ps c d x k + 1 := by
  show (if _ then _ else _) = _
  rw [if_pos h]
theorem cAg_f {ps : Nat → Nat → Int32} {c d k : Nat} {x : Int32} (h : ¬ (¬ ps (k + 1) c = -1 ∧ ¬ ps (k + 1) d = -1 ∧ (x = 1 ∨ ps (k + 1) c = ps (k + 1) d))) : cAg ps c d x (k + 1) = cAg ps c d x k := by
  show (if _ then _ else _) = _
  rw [if_neg h]
def cAgr (n : Nat) (x1 x2 x3 : Int32) : CSt → Int64 := fun (sc, now, gi, ck, ho, pd, pf, ps, pe, pn) =>
  if cC x1 ∧ cC x2 then if x1 = x2 ∨ (¬ x3 = 0 ∧ ¬ x3 = 1) then -102 else (nI (cAg ps x1.toNatClampNeg x2.toNatClampNeg x3 n)).toInt64 else -101
theorem ho_eq {G : gG} {h p : Nat} (hp : 1 ≤ p) : (if h = 0 then none else some (gB G + (34 + 3 * h))) = some (gB G + (34 + 3 * p)) ↔ h = p := by
  by_cases q : h = 0
  · rw [if_pos q]; exact ⟨fun z => absurd z (by simp), fun z => absurd z (by omega)⟩
  · rw [if_neg q]; exact ⟨fun z => by have := Option.some.inj z; omega, fun z => by rw [z]⟩
theorem cw_k_holds1 {G : gG} {n : Nat} {sc : Nat → Int32} {now : Int64} {gi : Nat → Int32} {ck : Nat → Nat → Int32} {ho : Nat → Nat} {pd : Nat → Int64} {pf : Nat → Nat → Int32} {ps : Nat → Nat → Int32} {pe : Nat → Nat → Int32} {pn : Nat → Nat} {w0 : Nat → va_E} {c h9 : Nat} (hc : c < 20) (hh : 1 ≤ h9) : va_up (cw G n (sc, now, gi, ck, ho, pd, pf, ps, pe, pn) w0) (4 + c) (.inr (0, [.int (ck c 0), .int (ck c 1), .int (ck c 2), .ref (gB G + (34 + 3 * h9))])) = cw G n (sc, now, gi, ck, va_up ho c h9, pd, pf, ps, pe, pn) w0 := by
  rw [← cHo_s hh]; exact cw_k_holds hc
set_option maxRecDepth 4000 in
theorem c_CR_waiting (l : Launch) (G : gG) (N n : Nat) (sc : Nat → Int32) (now : Int64) (gi : Nat → Int32) (ck : Nat → Nat → Int32) (ho : Nat → Nat) (pd : Nat → Int64) (pf : Nat → Nat → Int32) (ps : Nat → Nat → Int32) (pe : Nat → Nat → Int32) (pn : Nat → Nat) (w0 : Nat → va_E) (hN : N = 37 + 3 * n) (hcn : sc 1 = nI n) (hn : n ≤ 300) (hpn : ∀ p, pn p < 4) : Met l y_CR_waiting (Cond.code y_CR_waiting b_CR_waiting 1 (some .int) :: gtb) (gR 0 0 0) (gPc G [.ref (gB G + 0)] (N) (cw G n (sc, now, gi, ck, ho, pd, pf, ps, pe, pn) w0)) (gQ1 G (sc 3) (N) (cw G n (sc, now, gi, ck, ho, pd, pf, ps, pe, pn) w0)) 0 0 (gA (gB G)) := by
  refine g_met (own := "ClerkRows") (by decide) rfl (Nat.le_of_ble_eq_true rfl) ?_
  intro pg ev s0 mi below meth cd F M hr hlocks hnm ls hl
  have hx := F.1.1
  have hb := F.1.2.1
  have hl : lv_has ls 1 [(0, .ref (gB G + 0))] := hl
  refine lv_aload_n hx hb d_CR_waiting_0 rfl (lv_at hl 0 rfl) ?_
  refine g_get (v := .int (sc 3)) F M f_CR_71 d_CR_waiting_1 (by omega) cw_0 rfl ?_
  exact g_iret F M hr hlocks d_CR_waiting_4 (by decide) (by decide) rfl rfl (rfl)
set_option maxRecDepth 4000 in
theorem c_CR_tick (l : Launch) (G : gG) (N n : Nat) (sc : Nat → Int32) (now : Int64) (gi : Nat → Int32) (ck : Nat → Nat → Int32) (ho : Nat → Nat) (pd : Nat → Int64) (pf : Nat → Nat → Int32) (ps : Nat → Nat → Int32) (pe : Nat → Nat → Int32) (pn : Nat → Nat) (w0 : Nat → va_E) (hN : N = 37 + 3 * n) (hcn : sc 1 = nI n) (hn : n ≤ 300) (hpn : ∀ p, pn p < 4) (t : Int64) : Met l y_CR_tick (Cond.code y_CR_tick b_CR_tick 4 (some .int) :: gtb) (gR 2 0 0) (gPc G [.ref (gB G + 0), .long t] (N) (cw G n (sc, now, gi, ck, ho, pd, pf, ps, pe, pn) w0)) (gQ1 G ((cTic n t (sc, now, gi, ck, ho, pd, pf, ps, pe, pn)).1) (N) (cw G n (cTic n t (sc, now, gi, ck, ho, pd, pf, ps, pe, pn)).2 w0)) 0 0 (gA (gB G)) := by
  refine g_met (own := "ClerkRows") (by decide) rfl (Nat.le_of_ble_eq_true rfl) ?_
  intro pg ev s0 mi below meth cd F M hr hlocks hnm ls hl
  have hx := F.1.1
  have hb := F.1.2.1
  have hl : lv_has ls 4 [(0, .ref (gB G + 0)), (1, .long t)] := hl
  refine lv_aload_n hx hb d_CR_tick_0 rfl (lv_at hl 0 rfl) ?_
  refine lv_lload_n hx hb d_CR_tick_1 rfl (lv_at hl 1 rfl) ?_
  refine g_call1 (g_rv (rest := []) F M (c_CR_isNoTime l G (N) n sc now gi ck ho pd pf ps pe pn w0 hN hcn hn hpn t) k_CR_87 d_CR_tick_2 ⟨rfl, rfl, by decide, by decide, by decide, by decide⟩ (by omega) cw_0 rfl rfl hl.1 (Nat.le_of_ble_eq_true rfl) rfl) M (fun H locs M => ?_)
  refine g_ifeqB (tgt := 11) hx hb d_CR_tick_5 (by decide) (fun c_5 => ?_) (fun c_5 => ?_)
  · refine lv_aload_n hx hb d_CR_tick_11 rfl (lv_at hl 0 rfl) ?_
    refine lv_lload_n hx hb d_CR_tick_12 rfl (lv_at hl 1 rfl) ?_
    refine g_call0 (g_rv (rest := []) F M (c_CR_pass l G (N) n sc now gi ck ho pd pf ps pe pn w0 hN hcn hn hpn t) k_CR_99 d_CR_tick_13 ⟨rfl, rfl, by decide, by decide, by decide, by decide⟩ (by omega) cw_0 rfl rfl hl.1 (Nat.le_of_ble_eq_true rfl) rfl) M (fun H locs M => ?_)
    refine lv_aload_n hx hb d_CR_tick_16 rfl (lv_at hl 0 rfl) ?_
    refine g_get (v := .int (sc 2 + nI (cLate pn pd t n))) F M f_CR_68 d_CR_tick_17 (by omega) cw_0 rfl ?_
    refine lv_istore_n (lv' := [(3, .int (sc 2 + nI (cLate pn pd t n))), (0, .ref (gB G + 0)), (1, .long t)]) hx hb d_CR_tick_20 rfl hl (by decide) rfl (fun ls hl => ?_)
    refine lv_aload_n hx hb d_CR_tick_21 rfl (lv_at hl 1 rfl) ?_
    refine lv_iconst (v := 0) hx hb d_CR_tick_22 (by decide) ?_
    refine g_put F M f_CR_68 d_CR_tick_23 (by omega) cw_0 rfl rfl rfl (Nat.le_of_ble_eq_true rfl) cw_p_late (fun H locs M => ?_)
    refine lv_iload_n hx hb d_CR_tick_26 rfl (lv_at hl 0 rfl) ?_
    exact g_iret F M hr hlocks d_CR_tick_27 (by decide) (by decide) (by unfold cTic; rw [if_neg c_5]; try rfl) rfl (by unfold cTic; rw [if_neg c_5]; try rfl)
  · refine lv_bipush (v := (-102)) hx hb d_CR_tick_8 (by decide) ?_
    exact g_iret F M hr hlocks d_CR_tick_10 (by decide) (by decide) (by unfold cTic; rw [if_pos c_5]; try rfl) rfl (by unfold cTic; rw [if_pos c_5]; try rfl)
set_option maxRecDepth 4000 in
theorem c_CR_settled (l : Launch) (G : gG) (N n : Nat) (sc : Nat → Int32) (now : Int64) (gi : Nat → Int32) (ck : Nat → Nat → Int32) (ho : Nat → Nat) (pd : Nat → Int64) (pf : Nat → Nat → Int32) (ps : Nat → Nat → Int32) (pe : Nat → Nat → Int32) (pn : Nat → Nat) (w0 : Nat → va_E) (hN : N = 37 + 3 * n) (hcn : sc 1 = nI n) (hn : n ≤ 300) (hpn : ∀ p, pn p < 4) (x : Int32) : Met l y_CR_settled (Cond.code y_CR_settled b_CR_settled 3 (some .int) :: gtb) (gR 1 0 0) (gPc G [.ref (gB G + 0), .int x] (N) (cw G n (sc, now, gi, ck, ho, pd, pf, ps, pe, pn) w0)) (gQ1 G (cSet n x (sc, now, gi, ck, ho, pd, pf, ps, pe, pn)) (N) (cw G n (sc, now, gi, ck, ho, pd, pf, ps, pe, pn) w0)) 0 0 (gA (gB G)) := by
  refine g_met (own := "ClerkRows") (by decide) rfl (Nat.le_of_ble_eq_true rfl) ?_
  intro pg ev s0 mi below meth cd F M hr hlocks hnm ls hl
  have hx := F.1.1
  have hb := F.1.2.1
  have hl : lv_has ls 3 [(0, .ref (gB G + 0)), (1, .int x)] := hl
  refine lv_aload_n hx hb d_CR_settled_0 rfl (lv_at hl 0 rfl) ?_
  refine lv_iload_n hx hb d_CR_settled_1 rfl (lv_at hl 1 rfl) ?_
  refine g_call1 (g_rv (rest := []) F M (c_CR_isPicture l G (N) n sc now gi ck ho pd pf ps pe pn w0 hN hcn hn hpn x) k_CR_119 d_CR_settled_2 ⟨rfl, rfl, by decide, by decide, by decide, by decide⟩ (by omega) cw_0 rfl rfl hl.1 (Nat.le_of_ble_eq_true rfl) rfl) M (fun H locs M => ?_)
  refine g_ifneB (tgt := 11) hx hb d_CR_settled_5 (by decide) (fun c_5 => ?_) (fun c_5 => ?_)
  · obtain ⟨kp, hkp1, hkp2, rfl⟩ := cP_nat hn c_5
    have cl_kp : (nI kp).toNatClampNeg = kp := nI_clamp (by omega)
    refine lv_aload_n hx hb d_CR_settled_11 rfl (lv_at hl 0 rfl) ?_
    refine g_get (v := .ref (gB G + 1)) F M f_CR_11 d_CR_settled_12 (by omega) cw_0 rfl ?_
    refine lv_iload_n hx hb d_CR_settled_15 rfl (lv_at hl 1 rfl) ?_
    refine g_aald F M 3 rfl d_CR_settled_16 (by omega) cw_1 (by omega) (by decide) (cPa_at (by omega) (by omega)) ?_
    refine lv_astore_n (lv' := [(2, .ref (gB G + (34 + 3 * kp))), (0, .ref (gB G + 0)), (1, .int (nI kp))]) hx hb d_CR_settled_17 rfl hl (by decide) rfl (fun ls hl => ?_)
    refine lv_aload_n hx hb d_CR_settled_18 rfl (lv_at hl 0 rfl) ?_
    refine g_call1 (g_rv (rest := []) F M (c_Pi_isOver l G (N) n sc now gi ck ho pd pf ps pe pn w0 hN hcn hn hpn kp (by omega) (by omega)) k_CR_52 d_CR_settled_19 ⟨rfl, rfl, by decide, by decide, by decide, by decide⟩ (by omega) (cw_pi (by omega)) rfl rfl hl.1 (Nat.le_of_ble_eq_true rfl) rfl) M (fun H locs M => ?_)
    refine g_ifeqB (tgt := 32) hx hb d_CR_settled_22 (by decide) (fun c_22 => ?_) (fun c_22 => ?_)
    · refine lv_iconst (v := (-1)) hx hb d_CR_settled_32 (by decide) ?_
      exact g_iret F M hr hlocks d_CR_settled_33 (by decide) (by decide) (by unfold cSet; dsimp only; rw [if_pos c_5, cl_kp, if_pos (Decidable.byContradiction c_22)]; try rfl) rfl (rfl)
    · refine lv_aload_n hx hb d_CR_settled_25 rfl (lv_at hl 0 rfl) ?_
      refine g_getN (v := .int (pf kp 9)) F M f_CR_147 d_CR_settled_26 (by omega) (cw_pi (by omega)) rfl ?_
      refine lv_goto (tgt := 33) hx hb d_CR_settled_29 (by decide) ?_
      exact g_iret F M hr hlocks d_CR_settled_33 (by decide) (by decide) (by unfold cSet; dsimp only; rw [if_pos c_5, cl_kp, if_neg c_22]; try rfl) rfl (rfl)
  · refine lv_bipush (v := (-101)) hx hb d_CR_settled_8 (by decide) ?_
    exact g_iret F M hr hlocks d_CR_settled_10 (by decide) (by decide) (by unfold cSet; dsimp only; rw [if_neg c_5]; try rfl) rfl (rfl)
set_option maxRecDepth 4000 in
theorem c_CR_state (l : Launch) (G : gG) (N n : Nat) (sc : Nat → Int32) (now : Int64) (gi : Nat → Int32) (ck : Nat → Nat → Int32) (ho : Nat → Nat) (pd : Nat → Int64) (pf : Nat → Nat → Int32) (ps : Nat → Nat → Int32) (pe : Nat → Nat → Int32) (pn : Nat → Nat) (w0 : Nat → va_E) (hN : N = 37 + 3 * n) (hcn : sc 1 = nI n) (hn : n ≤ 300) (hpn : ∀ p, pn p < 4) (x : Int32) : Met l y_CR_state (Cond.code y_CR_state b_CR_state 2 (some .int) :: gtb) (gR 4 0 0) (gPc G [.ref (gB G + 0), .int x] (N) (cw G n (sc, now, gi, ck, ho, pd, pf, ps, pe, pn) w0)) (gQ1 G (cStt n x (sc, now, gi, ck, ho, pd, pf, ps, pe, pn)) (N) (cw G n (sc, now, gi, ck, ho, pd, pf, ps, pe, pn) w0)) 0 0 (gA (gB G)) := by
  refine g_met (own := "ClerkRows") (by decide) rfl (Nat.le_of_ble_eq_true rfl) ?_
  intro pg ev s0 mi below meth cd F M hr hlocks hnm ls hl
  have hx := F.1.1
  have hb := F.1.2.1
  have hl : lv_has ls 2 [(0, .ref (gB G + 0)), (1, .int x)] := hl
  refine lv_aload_n hx hb d_CR_state_0 rfl (lv_at hl 0 rfl) ?_
  refine lv_iload_n hx hb d_CR_state_1 rfl (lv_at hl 1 rfl) ?_
  refine g_call1 (g_rv (rest := []) F M (c_CR_isPicture l G (N) n sc now gi ck ho pd pf ps pe pn w0 hN hcn hn hpn x) k_CR_119 d_CR_state_2 ⟨rfl, rfl, by decide, by decide, by decide, by decide⟩ (by omega) cw_0 rfl rfl hl.1 (Nat.le_of_ble_eq_true rfl) rfl) M (fun H locs M => ?_)
  refine g_ifeqB (tgt := 20) hx hb d_CR_state_5 (by decide) (fun c_5 => ?_) (fun c_5 => ?_)
  · refine lv_bipush (v := (-101)) hx hb d_CR_state_20 (by decide) ?_
    exact g_iret F M hr hlocks d_CR_state_22 (by decide) (by decide) (by unfold cStt; dsimp only; rw [if_neg c_5]; try rfl) rfl (rfl)
  · obtain ⟨kp, hkp1, hkp2, rfl⟩ := cP_nat hn c_5
    have cl_kp : (nI kp).toNatClampNeg = kp := nI_clamp (by omega)
    refine lv_aload_n hx hb d_CR_state_8 rfl (lv_at hl 0 rfl) ?_
    refine g_get (v := .ref (gB G + 1)) F M f_CR_11 d_CR_state_9 (by omega) cw_0 rfl ?_
    refine lv_iload_n hx hb d_CR_state_12 rfl (lv_at hl 1 rfl) ?_
    refine g_aald F M 3 rfl d_CR_state_13 (by omega) cw_1 (by omega) (by decide) (cPa_at (by omega) (by omega)) ?_
    refine g_call1 (g_rv (rest := []) F M (c_Pi_state l G (N) n sc now gi ck ho pd pf ps pe pn w0 hN hcn hn hpn kp (by omega) (by omega)) k_CR_131 d_CR_state_14 ⟨rfl, rfl, by decide, by decide, by decide, by decide⟩ (by omega) (cw_pi (by omega)) rfl rfl hl.1 (Nat.le_of_ble_eq_true rfl) rfl) M (fun H locs M => ?_)
    refine lv_goto (tgt := 22) hx hb d_CR_state_17 (by decide) ?_
    exact g_iret F M hr hlocks d_CR_state_22 (by decide) (by decide) (by unfold cStt; dsimp only; rw [if_pos c_5, cl_kp]; try rfl) rfl (rfl)
set_option maxRecDepth 4000 in
theorem c_CR_office (l : Launch) (G : gG) (N n : Nat) (sc : Nat → Int32) (now : Int64) (gi : Nat → Int32) (ck : Nat → Nat → Int32) (ho : Nat → Nat) (pd : Nat → Int64) (pf : Nat → Nat → Int32) (ps : Nat → Nat → Int32) (pe : Nat → Nat → Int32) (pn : Nat → Nat) (w0 : Nat → va_E) (hN : N = 37 + 3 * n) (hcn : sc 1 = nI n) (hn : n ≤ 300) (hpn : ∀ p, pn p < 4) (x1 x2 x3 : Int32) : Met l y_CR_office (Cond.code y_CR_office b_CR_office 6 (some .int) :: gtb) (gR 1 0 0) (gPc G [.ref (gB G + 0), .int x1, .int x2, .int x3] (N) (cw G n (sc, now, gi, ck, ho, pd, pf, ps, pe, pn) w0)) (gQ1 G ((cOff x1 x2 x3 (sc, now, gi, ck, ho, pd, pf, ps, pe, pn)).1) (N) (cw G n (cOff x1 x2 x3 (sc, now, gi, ck, ho, pd, pf, ps, pe, pn)).2 w0)) 0 0 (gA (gB G)) := by
  refine g_met (own := "ClerkRows") (by decide) rfl (Nat.le_of_ble_eq_true rfl) ?_
  intro pg ev s0 mi below meth cd F M hr hlocks hnm ls hl
  have hx := F.1.1
  have hb := F.1.2.1
  have hl : lv_has ls 6 [(0, .ref (gB G + 0)), (1, .int x1), (2, .int x2), (3, .int x3)] := hl
  refine lv_iload_n hx hb d_CR_office_0 rfl (lv_at hl 1 rfl) ?_
  refine g_call1 (g_rs (rest := []) F M (c_CR_isClerk l G (N) (cw G n (sc, now, gi, ck, ho, pd, pf, ps, pe, pn) w0) x1) k_CR_83 d_CR_office_1 ⟨rfl, rfl, by decide, by decide, by decide, by decide⟩ rfl hl.1 (Nat.le_of_ble_eq_true rfl) rfl) M (fun H locs M => ?_)
  refine g_ifneB (tgt := 10) hx hb d_CR_office_4 (by decide) (fun c_4 => ?_) (fun c_4 => ?_)
  · obtain ⟨kc, hkc, rfl⟩ := cC_nat c_4
    have cl_kc : (nI kc).toNatClampNeg = kc := nI_clamp (by omega)
    refine lv_iload_n hx hb d_CR_office_10 rfl (lv_at hl 2 rfl) ?_
    refine lv_i2l hx hb d_CR_office_11 rfl ?_
    refine lv_lconst (v := 0) hx hb d_CR_office_12 (by decide) ?_
    refine lv_ldc2 (v := 4) hx hb F.1.2.2.2.1 (F.1.2.2.2.2 _ wd_224) d_CR_office_13 ?_
    refine g_call1 (g_rs (rest := []) F M (c_CR_outside l G (N) (cw G n (sc, now, gi, ck, ho, pd, pf, ps, pe, pn) w0) x2.toInt64 0 4) k_CR_48 d_CR_office_16 ⟨rfl, rfl, by decide, by decide, by decide, by decide⟩ rfl hl.1 (Nat.le_of_ble_eq_true rfl) rfl) M (fun H locs M => ?_)
    refine g_ifneB (tgt := 34) hx hb d_CR_office_19 (by decide) (fun c_19 => ?_) (fun c_19 => ?_)
    · refine lv_bipush (v := (-102)) hx hb d_CR_office_34 (by decide) ?_
      exact g_iret F M hr hlocks d_CR_office_36 (by decide) (by decide) (by unfold cOff; rw [if_pos c_4, if_pos (Or.inl c_19)]; try rfl) rfl (by unfold cOff; rw [if_pos c_4, if_pos (Or.inl c_19)]; try rfl)
    · refine lv_iload_n hx hb d_CR_office_22 rfl (lv_at hl 3 rfl) ?_
      refine lv_i2l hx hb d_CR_office_23 rfl ?_
      refine lv_lconst (v := 0) hx hb d_CR_office_24 (by decide) ?_
      refine lv_ldc2 (v := 3) hx hb F.1.2.2.2.1 (F.1.2.2.2.2 _ wd_101) d_CR_office_25 ?_
      refine g_call1 (g_rs (rest := []) F M (c_CR_outside l G (N) (cw G n (sc, now, gi, ck, ho, pd, pf, ps, pe, pn) w0) x3.toInt64 0 3) k_CR_48 d_CR_office_28 ⟨rfl, rfl, by decide, by decide, by decide, by decide⟩ rfl hl.1 (Nat.le_of_ble_eq_true rfl) rfl) M (fun H locs M => ?_)
      refine g_ifeqB (tgt := 37) hx hb d_CR_office_31 (by decide) (fun c_31 => ?_) (fun c_31 => ?_)
      · refine lv_aload_n hx hb d_CR_office_37 rfl (lv_at hl 0 rfl) ?_
        refine g_get (v := .ref (gB G + 2)) F M f_CR_17 d_CR_office_38 (by omega) cw_0 rfl ?_
        refine lv_iload_n hx hb d_CR_office_41 rfl (lv_at hl 1 rfl) ?_
        refine g_aald F M 4 rfl d_CR_office_42 (by omega) cw_2 (by omega) (by decide) (cCa_at (by omega)) ?_
        refine lv_astore (lv' := [(4, .ref (gB G + (4 + kc))), (0, .ref (gB G + 0)), (1, .int (nI kc)), (2, .int x2), (3, .int x3)]) hx hb d_CR_office_43 hl (by decide) rfl (fun ls hl => ?_)
        refine lv_aload hx hb d_CR_office_45 (lv_at hl 0 rfl) ?_
        refine lv_iload_n hx hb d_CR_office_47 rfl (lv_at hl 3 rfl) ?_
        refine lv_iload_n hx hb d_CR_office_48 rfl (lv_at hl 4 rfl) ?_
        refine g_call1 (g_rv (rest := []) F M (c_Ck_is l G (N) n sc now gi ck ho pd pf ps pe pn w0 hN hcn hn hpn kc (by omega) x2 x3) k_CR_137 d_CR_office_49 ⟨rfl, rfl, by decide, by decide, by decide, by decide⟩ (by omega) (cw_ck (by omega)) rfl rfl hl.1 (Nat.le_of_ble_eq_true rfl) rfl) M (fun H locs M => ?_)
        refine g_ifeqB (tgt := 59) hx hb d_CR_office_52 (by decide) (fun c_52 => ?_) (fun c_52 => ?_)
        · refine lv_iconst (v := 1) hx hb d_CR_office_59 (by decide) ?_
          refine lv_istore (lv' := [(5, .int 1), (4, .ref (gB G + (4 + kc))), (0, .ref (gB G + 0)), (1, .int (nI kc)), (2, .int x2), (3, .int x3)]) hx hb d_CR_office_60 hl (by decide) rfl (fun ls hl => ?_)
          refine lv_aload hx hb d_CR_office_62 (lv_at hl 1 rfl) ?_
          refine lv_iconst (v := 1) hx hb d_CR_office_64 (by decide) ?_
          refine g_putN F M f_CR_91 d_CR_office_65 (by omega) (cw_ck (by omega)) rfl (by decide +kernel) (by decide +kernel) (Nat.le_of_ble_eq_true rfl) (cw_k_in (by omega)) (fun H locs M => ?_)
          refine lv_aload hx hb d_CR_office_68 (lv_at hl 1 rfl) ?_
          refine lv_iload_n hx hb d_CR_office_70 rfl (lv_at hl 4 rfl) ?_
          refine g_putN F M f_CR_107 d_CR_office_71 (by omega) (cw_ck (by omega)) rfl rfl rfl (Nat.le_of_ble_eq_true rfl) (cw_k_office (by omega)) (fun H locs M => ?_)
          refine lv_aload hx hb d_CR_office_74 (lv_at hl 1 rfl) ?_
          refine lv_iload_n hx hb d_CR_office_76 rfl (lv_at hl 5 rfl) ?_
          refine g_putN F M f_CR_141 d_CR_office_77 (by omega) (cw_ck (by omega)) rfl rfl rfl (Nat.le_of_ble_eq_true rfl) (cw_k_skill (by omega)) (fun H locs M => ?_)
          refine lv_iload hx hb d_CR_office_80 (lv_at hl 0 rfl) ?_
          exact g_iret F M hr hlocks d_CR_office_82 (by decide) (by decide) (by unfold cOff; rw [if_pos c_4, if_neg (fun h => h.elim c_19 c_31), cl_kc]; exact (bI_t (P := ¬ cSame (sc, now, gi, ck, ho, pd, pf, ps, pe, pn) kc x2 x3) c_52).symm) rfl (by unfold cOff; rw [if_pos c_4, if_neg (fun h => h.elim c_19 c_31), cl_kc]; rfl)
        · refine lv_iconst (v := 0) hx hb d_CR_office_55 (by decide) ?_
          refine lv_goto (tgt := 60) hx hb d_CR_office_56 (by decide) ?_
          refine lv_istore (lv' := [(5, .int 0), (4, .ref (gB G + (4 + kc))), (0, .ref (gB G + 0)), (1, .int (nI kc)), (2, .int x2), (3, .int x3)]) hx hb d_CR_office_60 hl (by decide) rfl (fun ls hl => ?_)
          refine lv_aload hx hb d_CR_office_62 (lv_at hl 1 rfl) ?_
          refine lv_iconst (v := 1) hx hb d_CR_office_64 (by decide) ?_
          refine g_putN F M f_CR_91 d_CR_office_65 (by omega) (cw_ck (by omega)) rfl (by decide +kernel) (by decide +kernel) (Nat.le_of_ble_eq_true rfl) (cw_k_in (by omega)) (fun H locs M => ?_)
          refine lv_aload hx hb d_CR_office_68 (lv_at hl 1 rfl) ?_
          refine lv_iload_n hx hb d_CR_office_70 rfl (lv_at hl 4 rfl) ?_
          refine g_putN F M f_CR_107 d_CR_office_71 (by omega) (cw_ck (by omega)) rfl rfl rfl (Nat.le_of_ble_eq_true rfl) (cw_k_office (by omega)) (fun H locs M => ?_)
          refine lv_aload hx hb d_CR_office_74 (lv_at hl 1 rfl) ?_
          refine lv_iload_n hx hb d_CR_office_76 rfl (lv_at hl 5 rfl) ?_
          refine g_putN F M f_CR_141 d_CR_office_77 (by omega) (cw_ck (by omega)) rfl rfl rfl (Nat.le_of_ble_eq_true rfl) (cw_k_skill (by omega)) (fun H locs M => ?_)
          refine lv_iload hx hb d_CR_office_80 (lv_at hl 0 rfl) ?_
          exact g_iret F M hr hlocks d_CR_office_82 (by decide) (by decide) (by unfold cOff; rw [if_pos c_4, if_neg (fun h => h.elim c_19 c_31), cl_kc]; exact (bI_f (P := ¬ cSame (sc, now, gi, ck, ho, pd, pf, ps, pe, pn) kc x2 x3) (fun h => h c_52)).symm) rfl (by unfold cOff; rw [if_pos c_4, if_neg (fun h => h.elim c_19 c_31), cl_kc]; rfl)
      · refine lv_bipush (v := (-102)) hx hb d_CR_office_34 (by decide) ?_
        exact g_iret F M hr hlocks d_CR_office_36 (by decide) (by decide) (by unfold cOff; rw [if_pos c_4, if_pos (Or.inr c_31)]; try rfl) rfl (by unfold cOff; rw [if_pos c_4, if_pos (Or.inr c_31)]; try rfl)
  · refine lv_bipush (v := (-101)) hx hb d_CR_office_7 (by decide) ?_
    exact g_iret F M hr hlocks d_CR_office_9 (by decide) (by decide) (by unfold cOff; rw [if_neg c_4]; try rfl) rfl (by unfold cOff; rw [if_neg c_4]; try rfl)
set_option maxRecDepth 4000 in
theorem c_CR_giveBack (l : Launch) (G : gG) (N n : Nat) (sc : Nat → Int32) (now : Int64) (gi : Nat → Int32) (ck : Nat → Nat → Int32) (ho : Nat → Nat) (pd : Nat → Int64) (pf : Nat → Nat → Int32) (ps : Nat → Nat → Int32) (pe : Nat → Nat → Int32) (pn : Nat → Nat) (w0 : Nat → va_E) (hN : N = 37 + 3 * n) (hcn : sc 1 = nI n) (hn : n ≤ 300) (hpn : ∀ p, pn p < 4) (c : Nat) (hc : c < 20) (hh1 : 1 ≤ ho c) (hh2 : ho c ≤ n) : Met l y_CR_giveBack (Cond.code y_CR_giveBack b_CR_giveBack 3 none :: gtb) (gR 0 0 0) (gPc G [.ref (gB G + 0), .int (nI c)] (N) (cw G n (sc, now, gi, ck, ho, pd, pf, ps, pe, pn) w0)) (gQ0 G (N) (cw G n (cBak c (sc, now, gi, ck, ho, pd, pf, ps, pe, pn)) w0)) 0 0 (gA (gB G)) := by
  refine g_met (own := "ClerkRows") (by decide) rfl (Nat.le_of_ble_eq_true rfl) ?_
  intro pg ev s0 mi below meth cd F M hr hlocks hnm ls hl
  have hx := F.1.1
  have hb := F.1.2.1
  have hl : lv_has ls 3 [(0, .ref (gB G + 0)), (1, .int (nI c))] := hl
  refine lv_aload_n hx hb d_CR_giveBack_0 rfl (lv_at hl 0 rfl) ?_
  refine g_get (v := .ref (gB G + 2)) F M f_CR_17 d_CR_giveBack_1 (by omega) cw_0 rfl ?_
  refine lv_iload_n hx hb d_CR_giveBack_4 rfl (lv_at hl 1 rfl) ?_
  refine g_aald F M 4 rfl d_CR_giveBack_5 (by omega) cw_2 (by omega) (by decide) (cCa_at (by omega)) ?_
  refine g_getN (v := .ref (gB G + (34 + 3 * (ho c)))) F M f_CR_95 d_CR_giveBack_6 (by omega) (cw_ck (by omega)) (congrArg some (cHo_s hh1)) ?_
  refine lv_astore_n (lv' := [(2, .ref (gB G + (34 + 3 * (ho c)))), (0, .ref (gB G + 0)), (1, .int (nI c))]) hx hb d_CR_giveBack_9 rfl hl (by decide) rfl (fun ls hl => ?_)
  refine lv_aload_n hx hb d_CR_giveBack_10 rfl (lv_at hl 1 rfl) ?_
  refine g_get (v := .ref (gB G + 2)) F M f_CR_17 d_CR_giveBack_11 (by omega) cw_0 rfl ?_
  refine lv_iload_n hx hb d_CR_giveBack_14 rfl (lv_at hl 2 rfl) ?_
  refine g_aald F M 4 rfl d_CR_giveBack_15 (by omega) cw_2 (by omega) (by decide) (cCa_at (by omega)) ?_
  refine lv_null hx hb d_CR_giveBack_16 ?_
  refine g_putN F M f_CR_95 d_CR_giveBack_17 (by omega) (cw_ck (by omega)) rfl rfl rfl (Nat.le_of_ble_eq_true rfl) (cw_k_holds (h9 := 0) (by omega)) (fun H locs M => ?_)
  refine lv_aload_n hx hb d_CR_giveBack_20 rfl (lv_at hl 0 rfl) ?_
  refine lv_dup hx hb d_CR_giveBack_21 rfl ?_
  refine g_getN (v := .int (pf (ho c) 7)) F M f_CR_116 d_CR_giveBack_22 (by omega) (cw_pi (by omega)) rfl ?_
  refine lv_iconst (v := 1) hx hb d_CR_giveBack_25 (by decide) ?_
  refine lv_isub hx hb d_CR_giveBack_26 ?_
  refine g_putN F M f_CR_116 d_CR_giveBack_27 (by omega) (cw_pi (by omega)) rfl rfl rfl (Nat.le_of_ble_eq_true rfl) (cw_i_holders (by omega)) (fun H locs M => ?_)
  refine lv_aload_n hx hb d_CR_giveBack_30 rfl (lv_at hl 0 rfl) ?_
  refine lv_dup hx hb d_CR_giveBack_31 rfl ?_
  refine g_getN (v := .int (pf (ho c) 4)) F M f_CR_113 d_CR_giveBack_32 (by omega) (cw_pi (by omega)) (by simp [va_up]) ?_
  refine lv_iconst (v := 1) hx hb d_CR_giveBack_35 (by decide) ?_
  refine lv_aload_n hx hb d_CR_giveBack_36 rfl (lv_at hl 1 rfl) ?_
  refine g_get (v := .ref (gB G + 3)) F M f_CR_21 d_CR_giveBack_37 (by omega) cw_0 rfl ?_
  refine lv_iload_n hx hb d_CR_giveBack_40 rfl (lv_at hl 2 rfl) ?_
  refine g_iald (f := gi) F M d_CR_giveBack_41 (by omega) cw_3 (by omega) (by decide) ?_
  refine lv_ishl hx hb d_CR_giveBack_42 ?_
  refine lv_iconst (v := (-1)) hx hb d_CR_giveBack_43 (by decide) ?_
  refine lv_ixor hx hb d_CR_giveBack_44 ?_
  refine lv_iand hx hb d_CR_giveBack_45 ?_
  refine g_putN F M f_CR_113 d_CR_giveBack_46 (by omega) (cw_pi (by omega)) rfl rfl rfl (Nat.le_of_ble_eq_true rfl) (cw_i_offices (by omega)) (fun H locs M => ?_)
  exact g_vret F M hr hlocks d_CR_giveBack_49 (by decide) (by decide) rfl (rfl)
set_option maxRecDepth 4000 in
theorem c_CR_leave (l : Launch) (G : gG) (N n : Nat) (sc : Nat → Int32) (now : Int64) (gi : Nat → Int32) (ck : Nat → Nat → Int32) (ho : Nat → Nat) (pd : Nat → Int64) (pf : Nat → Nat → Int32) (ps : Nat → Nat → Int32) (pe : Nat → Nat → Int32) (pn : Nat → Nat) (w0 : Nat → va_E) (hN : N = 37 + 3 * n) (hcn : sc 1 = nI n) (hn : n ≤ 300) (hpn : ∀ p, pn p < 4) (hho : ∀ c, ho c ≤ n) (x1 : Int32) : Met l y_CR_leave (Cond.code y_CR_leave b_CR_leave 3 (some .int) :: gtb) (gR 1 0 0) (gPc G [.ref (gB G + 0), .int x1] (N) (cw G n (sc, now, gi, ck, ho, pd, pf, ps, pe, pn) w0)) (gQ1 G ((cLea x1 (sc, now, gi, ck, ho, pd, pf, ps, pe, pn)).1) (N) (cw G n (cLea x1 (sc, now, gi, ck, ho, pd, pf, ps, pe, pn)).2 w0)) 0 0 (gA (gB G)) := by
  refine g_met (own := "ClerkRows") (by decide) rfl (Nat.le_of_ble_eq_true rfl) ?_
  intro pg ev s0 mi below meth cd F M hr hlocks hnm ls hl
  have hx := F.1.1
  have hb := F.1.2.1
  have hl : lv_has ls 3 [(0, .ref (gB G + 0)), (1, .int x1)] := hl
  refine lv_iload_n hx hb d_CR_leave_0 rfl (lv_at hl 1 rfl) ?_
  refine g_call1 (g_rs (rest := []) F M (c_CR_isClerk l G (N) (cw G n (sc, now, gi, ck, ho, pd, pf, ps, pe, pn) w0) x1) k_CR_83 d_CR_leave_1 ⟨rfl, rfl, by decide, by decide, by decide, by decide⟩ rfl hl.1 (Nat.le_of_ble_eq_true rfl) rfl) M (fun H locs M => ?_)
  refine g_ifneB (tgt := 10) hx hb d_CR_leave_4 (by decide) (fun c_4 => ?_) (fun c_4 => ?_)
  · obtain ⟨kc, hkc, rfl⟩ := cC_nat c_4
    have cl_kc : (nI kc).toNatClampNeg = kc := nI_clamp (by omega)
    have hhk := hho kc
    refine lv_aload_n hx hb d_CR_leave_10 rfl (lv_at hl 0 rfl) ?_
    refine g_get (v := .ref (gB G + 2)) F M f_CR_17 d_CR_leave_11 (by omega) cw_0 rfl ?_
    refine lv_iload_n hx hb d_CR_leave_14 rfl (lv_at hl 1 rfl) ?_
    refine g_aald F M 4 rfl d_CR_leave_15 (by omega) cw_2 (by omega) (by decide) (cCa_at (by omega)) ?_
    refine lv_astore_n (lv' := [(2, .ref (gB G + (4 + kc))), (0, .ref (gB G + 0)), (1, .int (nI kc))]) hx hb d_CR_leave_16 rfl hl (by decide) rfl (fun ls hl => ?_)
    refine lv_aload_n hx hb d_CR_leave_17 rfl (lv_at hl 0 rfl) ?_
    refine g_getN (v := .int (ck kc 0)) F M f_CR_91 d_CR_leave_18 (by omega) (cw_ck (by omega)) rfl ?_
    refine lv_if_ne (tgt := 27) hx hb d_CR_leave_21 (by decide) (fun c_21 => ?_) (fun c_21 => ?_)
    · refine lv_aload_n hx hb d_CR_leave_27 rfl (lv_at hl 0 rfl) ?_
      refine lv_iconst (v := 0) hx hb d_CR_leave_28 (by decide) ?_
      refine g_putN F M f_CR_91 d_CR_leave_29 (by omega) (cw_ck (by omega)) rfl (by decide +kernel) (by decide +kernel) (Nat.le_of_ble_eq_true rfl) (cw_k_in (by omega)) (fun H locs M => ?_)
      refine lv_aload_n hx hb d_CR_leave_32 rfl (lv_at hl 0 rfl) ?_
      refine g_getN (v := cHo G (ho kc)) F M f_CR_95 d_CR_leave_33 (by omega) (cw_ck (by omega)) rfl ?_
      by_cases c_36 : ho kc = 0
      · refine g_top (v' := .null) (by rw [c_36]; rfl) ?_
        refine lv_ifnonnullN hx hb d_CR_leave_36 ?_
        refine lv_iconst (v := 0) hx hb d_CR_leave_39 (by decide) ?_
        exact g_iret F M hr hlocks d_CR_leave_40 (by decide) (by decide) (by unfold cLea; rw [if_pos c_4, cl_kc, if_pos c_21, if_pos c_36]; try rfl) rfl (by unfold cLea; rw [if_pos c_4, cl_kc, if_pos c_21, if_pos c_36]; try rfl)
      · refine g_top (cHo_s (by omega)) ?_
        refine lv_ifnonnull (tgt := 41) hx hb d_CR_leave_36 (by decide) ?_
        refine lv_aload_n hx hb d_CR_leave_41 rfl (lv_at hl 1 rfl) ?_
        refine lv_iload_n hx hb d_CR_leave_42 rfl (lv_at hl 2 rfl) ?_
        refine g_call0 (g_rv (rest := []) F M (c_CR_giveBack l G (N) n sc now gi (va_up ck kc (va_up (ck kc) 0 0)) ho pd pf ps pe pn w0 hN hcn hn hpn kc (by omega) (by omega) (by omega)) k_CR_144 d_CR_leave_43 ⟨rfl, rfl, by decide, by decide, by decide, by decide⟩ (by omega) cw_0 rfl rfl hl.1 (Nat.le_of_ble_eq_true rfl) rfl) M (fun H locs M => ?_)
        refine lv_iconst (v := 1) hx hb d_CR_leave_46 (by decide) ?_
        exact g_iret F M hr hlocks d_CR_leave_47 (by decide) (by decide) (by unfold cLea; rw [if_pos c_4, cl_kc, if_pos c_21, if_neg c_36]; try rfl) rfl (by unfold cLea; rw [if_pos c_4, cl_kc, if_pos c_21, if_neg c_36]; try rfl)
    · refine lv_bipush (v := (-103)) hx hb d_CR_leave_24 (by decide) ?_
      exact g_iret F M hr hlocks d_CR_leave_26 (by decide) (by decide) (by unfold cLea; rw [if_pos c_4, cl_kc, if_neg (fun h => h c_21)]; try rfl) rfl (by unfold cLea; rw [if_pos c_4, cl_kc, if_neg (fun h => h c_21)]; try rfl)
  · refine lv_bipush (v := (-101)) hx hb d_CR_leave_7 (by decide) ?_
    exact g_iret F M hr hlocks d_CR_leave_9 (by decide) (by decide) (by unfold cLea; rw [if_neg c_4]; try rfl) rfl (by unfold cLea; rw [if_neg c_4]; try rfl)
set_option maxRecDepth 4000 in
theorem c_CR_agreement (l : Launch) (G : gG) (N n : Nat) (sc : Nat → Int32) (now : Int64) (gi : Nat → Int32) (ck : Nat → Nat → Int32) (ho : Nat → Nat) (pd : Nat → Int64) (pf : Nat → Nat → Int32) (ps : Nat → Nat → Int32) (pe : Nat → Nat → Int32) (pn : Nat → Nat) (w0 : Nat → va_E) (hN : N = 37 + 3 * n) (hcn : sc 1 = nI n) (hn : n ≤ 300) (hpn : ∀ p, pn p < 4) (x1 x2 x3 : Int32) : Met l y_CR_agreement (Cond.code y_CR_agreement b_CR_agreement 8 (some .long) :: gtb) (gR 1 0 0) (gPc G [.ref (gB G + 0), .int x1, .int x2, .int x3] (N) (cw G n (sc, now, gi, ck, ho, pd, pf, ps, pe, pn) w0)) (gQ2 G (cAgr n x1 x2 x3 (sc, now, gi, ck, ho, pd, pf, ps, pe, pn)) (N) (cw G n (sc, now, gi, ck, ho, pd, pf, ps, pe, pn) w0)) 0 0 (gA (gB G)) := by
  refine g_met (own := "ClerkRows") (by decide) rfl (Nat.le_of_ble_eq_true rfl) ?_
  intro pg ev s0 mi below meth cd F M hr hlocks hnm ls hl
  have hx := F.1.1
  have hb := F.1.2.1
  have hl : lv_has ls 8 [(0, .ref (gB G + 0)), (1, .int x1), (2, .int x2), (3, .int x3)] := hl
  refine lv_iload_n hx hb d_CR_agreement_0 rfl (lv_at hl 1 rfl) ?_
  refine g_call1 (g_rs (rest := []) F M (c_CR_isClerk l G (N) (cw G n (sc, now, gi, ck, ho, pd, pf, ps, pe, pn) w0) x1) k_CR_83 d_CR_agreement_1 ⟨rfl, rfl, by decide, by decide, by decide, by decide⟩ rfl hl.1 (Nat.le_of_ble_eq_true rfl) rfl) M (fun H locs M => ?_)
  refine g_ifeqB (tgt := 14) hx hb d_CR_agreement_4 (by decide) (fun c_4 => ?_) (fun c_4 => ?_)
  · refine lv_ldc2 (v := (-101)) hx hb F.1.2.2.2.1 (F.1.2.2.2.2 _ wd_253) d_CR_agreement_14 ?_
    exact g_lret F M hr hlocks d_CR_agreement_17 (by decide) (by decide) (by unfold cAgr; dsimp only; rw [if_neg (fun h => c_4 h.1)]; try rfl) rfl (rfl)
  · refine lv_iload_n hx hb d_CR_agreement_7 rfl (lv_at hl 2 rfl) ?_
    refine g_call1 (g_rs (rest := []) F M (c_CR_isClerk l G (N) (cw G n (sc, now, gi, ck, ho, pd, pf, ps, pe, pn) w0) x2) k_CR_83 d_CR_agreement_8 ⟨rfl, rfl, by decide, by decide, by decide, by decide⟩ rfl hl.1 (Nat.le_of_ble_eq_true rfl) rfl) M (fun H locs M => ?_)
    refine g_ifneB (tgt := 18) hx hb d_CR_agreement_11 (by decide) (fun c_11 => ?_) (fun c_11 => ?_)
    · refine lv_iload_n hx hb d_CR_agreement_18 rfl (lv_at hl 1 rfl) ?_
      refine lv_iload_n hx hb d_CR_agreement_19 rfl (lv_at hl 2 rfl) ?_
      refine lv_icmp_eq (tgt := 32) hx hb d_CR_agreement_20 (by decide) (fun c_20 => ?_) (fun c_20 => ?_)
      · refine lv_ldc2 (v := (-102)) hx hb F.1.2.2.2.1 (F.1.2.2.2.2 _ wd_254) d_CR_agreement_32 ?_
        exact g_lret F M hr hlocks d_CR_agreement_35 (by decide) (by decide) (by unfold cAgr; dsimp only; rw [if_pos ⟨c_4, c_11⟩, if_pos (Or.inl c_20)]; try rfl) rfl (rfl)
      · refine lv_iload_n hx hb d_CR_agreement_23 rfl (lv_at hl 3 rfl) ?_
        refine lv_if_eq (tgt := 36) hx hb d_CR_agreement_24 (by decide) (fun c_24 => ?_) (fun c_24 => ?_)
        · obtain ⟨kc, hkc, rfl⟩ := cC_nat c_4
          have cl_kc : (nI kc).toNatClampNeg = kc := nI_clamp (by omega)
          obtain ⟨kd, hkd, rfl⟩ := cC_nat c_11
          have cl_kd : (nI kd).toNatClampNeg = kd := nI_clamp (by omega)
          refine lv_iconst (v := 0) hx hb d_CR_agreement_36 (by decide) ?_
          refine lv_istore (lv' := [(4, .int 0), (0, .ref (gB G + 0)), (1, .int (nI kc)), (2, .int (nI kd)), (3, .int x3)]) hx hb d_CR_agreement_37 hl (by decide) rfl (fun ls hl => ?_)
          refine lv_iconst (v := 1) hx hb d_CR_agreement_39 (by decide) ?_
          refine lv_istore (lv' := [(5, .int 1), (4, .int 0), (0, .ref (gB G + 0)), (1, .int (nI kc)), (2, .int (nI kd)), (3, .int x3)]) hx hb d_CR_agreement_40 hl (by decide) rfl (fun ls hl => ?_)
          have loop_42 : ∀ (fuel k : Nat), n < k + fuel → k ≤ n → ∀ (z4 : Int32) (z5 : Int32), z4 = nI (cAg ps kc kd x3 k) → z5 = nI (k + 1) → ∀ (wz : Nat → va_E), wz = cw G n (sc, now, gi, ck, ho, pd, pf, ps, pe, pn) w0 → ∀ (H : Heap) (locs : List Loc) (ls : Array Slot), gM G s0 (N) wz H locs → lv_has ls 8 [(0, .ref (gB G + 0)), (1, .int (nI kc)), (2, .int (nI kd)), (3, .int x3), (4, .int z4), (5, .int z5)] → W pg l ev (gR 1 0 0) s0 mi ([.ref (gB G + 0), .int (nI kc), .int (nI kd), .int x3] : List Value).toArray below meth cd H locs 0 0 (MQ below (gQ2 G (cAgr n (nI kc) (nI kd) x3 (sc, now, gi, ck, ho, pd, pf, ps, pe, pn)) (N) (cw G n (sc, now, gi, ck, ho, pd, pf, ps, pe, pn) w0)) ([.ref (gB G + 0), .int (nI kc), .int (nI kd), .int x3] : List Value).toArray s0 0 0 (gA (gB G))) (F0 mi 42 ls []) := by
            intro fuel
            induction fuel with
            | zero => intro k h1 h2; exact absurd h1 (by omega)
            | succ fuel ih =>
              intro k hk1 hk2 z4 z5 e4 e5 wz ew H locs ls M hl
              subst e4 e5 ew
              have hl : lv_has ls 8 [(0, .ref (gB G + 0)), (1, .int (nI kc)), (2, .int (nI kd)), (3, .int x3), (4, .int (nI (cAg ps kc kd x3 k))), (5, .int (nI (k + 1)))] := hl
              refine lv_iload hx hb d_CR_agreement_42 (lv_at hl 5 rfl) ?_
              refine lv_aload_n hx hb d_CR_agreement_44 rfl (lv_at hl 0 rfl) ?_
              refine g_get (v := .int (nI n)) F M f_CR_39 d_CR_agreement_45 (by omega) cw_0 (congrArg (fun z => some (Value.int z)) hcn) ?_
              refine lv_icmp_gt (tgt := 119) hx hb d_CR_agreement_48 (by decide) (fun c_48 => ?_) (fun c_48 => ?_)
              · have c_48 : n < k + 1 := (nI_ltI (a := n) (b := k + 1) (by omega) (by omega)).mp c_48
                have hkn : n = k := by omega
                subst hkn
                refine lv_iload hx hb d_CR_agreement_119 (lv_at hl 4 rfl) ?_
                refine lv_i2l hx hb d_CR_agreement_121 rfl ?_
                exact g_lret F M hr hlocks d_CR_agreement_122 (by decide) (by decide) (by unfold cAgr; dsimp only; rw [if_pos ⟨c_4, c_11⟩, if_neg (fun h => h.elim c_20 (fun q => q.1 c_24)), cl_kc, cl_kd]; try rfl) rfl (rfl)
              · have c_48 : ¬ n < k + 1 := fun h => c_48 ((nI_ltI (a := n) (b := k + 1) (by omega) (by omega)).mpr h)
                refine lv_aload_n hx hb d_CR_agreement_51 rfl (lv_at hl 0 rfl) ?_
                refine g_get (v := .ref (gB G + 1)) F M f_CR_11 d_CR_agreement_52 (by omega) cw_0 rfl ?_
                refine lv_iload hx hb d_CR_agreement_55 (lv_at hl 5 rfl) ?_
                refine g_aald F M 3 rfl d_CR_agreement_57 (by omega) cw_1 (by omega) (by decide) (cPa_at (by omega) (by omega)) ?_
                refine g_getN (v := .ref (gB G + (35 + 3 * (k + 1)))) F M f_CR_124 d_CR_agreement_58 (by omega) (cw_pi (by omega)) rfl ?_
                refine lv_iload_n hx hb d_CR_agreement_61 rfl (lv_at hl 1 rfl) ?_
                refine g_iald (f := (ps (k + 1))) F M d_CR_agreement_62 (by omega) (cw_ps (by omega)) (by omega) (by decide) ?_
                refine lv_istore (lv' := [(6, .int (ps (k + 1) kc)), (0, .ref (gB G + 0)), (1, .int (nI kc)), (2, .int (nI kd)), (3, .int x3), (4, .int (nI (cAg ps kc kd x3 k))), (5, .int (nI (k + 1)))]) hx hb d_CR_agreement_63 hl (by decide) rfl (fun ls hl => ?_)
                refine lv_aload_n hx hb d_CR_agreement_65 rfl (lv_at hl 1 rfl) ?_
                refine g_get (v := .ref (gB G + 1)) F M f_CR_11 d_CR_agreement_66 (by omega) cw_0 rfl ?_
                refine lv_iload hx hb d_CR_agreement_69 (lv_at hl 6 rfl) ?_
                refine g_aald F M 3 rfl d_CR_agreement_71 (by omega) cw_1 (by omega) (by decide) (cPa_at (by omega) (by omega)) ?_
                refine g_getN (v := .ref (gB G + (35 + 3 * (k + 1)))) F M f_CR_124 d_CR_agreement_72 (by omega) (cw_pi (by omega)) rfl ?_
                refine lv_iload_n hx hb d_CR_agreement_75 rfl (lv_at hl 3 rfl) ?_
                refine g_iald (f := (ps (k + 1))) F M d_CR_agreement_76 (by omega) (cw_ps (by omega)) (by omega) (by decide) ?_
                refine lv_istore (lv' := [(7, .int (ps (k + 1) kd)), (6, .int (ps (k + 1) kc)), (0, .ref (gB G + 0)), (1, .int (nI kc)), (2, .int (nI kd)), (3, .int x3), (4, .int (nI (cAg ps kc kd x3 k))), (5, .int (nI (k + 1)))]) hx hb d_CR_agreement_77 hl (by decide) rfl (fun ls hl => ?_)
                refine lv_iload hx hb d_CR_agreement_79 (lv_at hl 6 rfl) ?_
                refine lv_iload hx hb d_CR_agreement_81 (lv_at hl 1 rfl) ?_
                refine lv_iconst (v := (-1)) hx hb d_CR_agreement_83 (by decide) ?_
                refine lv_icmp_eq (tgt := 109) hx hb d_CR_agreement_84 (by decide) (fun c_84 => ?_) (fun c_84 => ?_)
                · refine lv_iconst (v := 0) hx hb d_CR_agreement_109 (by decide) ?_
                  refine lv_iadd hx hb d_CR_agreement_110 ?_
                  refine g_topi (x' := nI (cAg ps kc kd x3 k + 0)) (nI_add (cAg ps kc kd x3 k) (0)) ?_
                  refine lv_istore (lv' := [(4, .int (nI (cAg ps kc kd x3 k + 0))), (7, .int (ps (k + 1) kd)), (6, .int (ps (k + 1) kc)), (0, .ref (gB G + 0)), (1, .int (nI kc)), (2, .int (nI kd)), (3, .int x3), (5, .int (nI (k + 1)))]) hx hb d_CR_agreement_111 hl (by decide) rfl (fun ls hl => ?_)
                  refine lv_iinc (v := nI (k + 1 + 1)) (lv' := [(5, .int (nI (k + 1 + 1))), (4, .int (nI (cAg ps kc kd x3 k + 0))), (7, .int (ps (k + 1) kd)), (6, .int (ps (k + 1) kc)), (0, .ref (gB G + 0)), (1, .int (nI kc)), (2, .int (nI kd)), (3, .int x3)]) hx hb d_CR_agreement_113 hl (k := 7) rfl (nI_1 _) (by decide) rfl (fun ls hl => ?_)
                  refine lv_goto (tgt := 42) hx hb d_CR_agreement_116 (by decide) ?_
                  exact ih (k + 1) (by omega) (by omega) _ _ (by rw [Nat.add_zero, cAg_f (fun h => h.1 c_84)]) rfl _ rfl _ _ ls M (lv_sub hl [4, 5, 6, 7, 1, 0] rfl)
                · refine lv_iload hx hb d_CR_agreement_87 (lv_at hl 0 rfl) ?_
                  refine lv_iconst (v := (-1)) hx hb d_CR_agreement_89 (by decide) ?_
                  refine lv_icmp_eq (tgt := 109) hx hb d_CR_agreement_90 (by decide) (fun c_90 => ?_) (fun c_90 => ?_)
                  · refine lv_iconst (v := 0) hx hb d_CR_agreement_109 (by decide) ?_
                    refine lv_iadd hx hb d_CR_agreement_110 ?_
                    refine g_topi (x' := nI (cAg ps kc kd x3 k + 0)) (nI_add (cAg ps kc kd x3 k) (0)) ?_
                    refine lv_istore (lv' := [(4, .int (nI (cAg ps kc kd x3 k + 0))), (7, .int (ps (k + 1) kd)), (6, .int (ps (k + 1) kc)), (0, .ref (gB G + 0)), (1, .int (nI kc)), (2, .int (nI kd)), (3, .int x3), (5, .int (nI (k + 1)))]) hx hb d_CR_agreement_111 hl (by decide) rfl (fun ls hl => ?_)
                    refine lv_iinc (v := nI (k + 1 + 1)) (lv' := [(5, .int (nI (k + 1 + 1))), (4, .int (nI (cAg ps kc kd x3 k + 0))), (7, .int (ps (k + 1) kd)), (6, .int (ps (k + 1) kc)), (0, .ref (gB G + 0)), (1, .int (nI kc)), (2, .int (nI kd)), (3, .int x3)]) hx hb d_CR_agreement_113 hl (k := 7) rfl (nI_1 _) (by decide) rfl (fun ls hl => ?_)
                    refine lv_goto (tgt := 42) hx hb d_CR_agreement_116 (by decide) ?_
                    exact ih (k + 1) (by omega) (by omega) _ _ (by rw [Nat.add_zero, cAg_f (fun h => h.2.1 c_90)]) rfl _ rfl _ _ ls M (lv_sub hl [4, 5, 6, 7, 1, 0] rfl)
                  · refine lv_iload_n hx hb d_CR_agreement_93 rfl (lv_at hl 5 rfl) ?_
                    refine lv_iconst (v := 1) hx hb d_CR_agreement_94 (by decide) ?_
                    refine lv_icmp_eq (tgt := 105) hx hb d_CR_agreement_95 (by decide) (fun c_95 => ?_) (fun c_95 => ?_)
                    · refine lv_iconst (v := 1) hx hb d_CR_agreement_105 (by decide) ?_
                      refine lv_goto (tgt := 110) hx hb d_CR_agreement_106 (by decide) ?_
                      refine lv_iadd hx hb d_CR_agreement_110 ?_
                      refine g_topi (x' := nI (cAg ps kc kd x3 k + 1)) (nI_add (cAg ps kc kd x3 k) (1)) ?_
                      refine lv_istore (lv' := [(4, .int (nI (cAg ps kc kd x3 k + 1))), (7, .int (ps (k + 1) kd)), (6, .int (ps (k + 1) kc)), (0, .ref (gB G + 0)), (1, .int (nI kc)), (2, .int (nI kd)), (3, .int x3), (5, .int (nI (k + 1)))]) hx hb d_CR_agreement_111 hl (by decide) rfl (fun ls hl => ?_)
                      refine lv_iinc (v := nI (k + 1 + 1)) (lv' := [(5, .int (nI (k + 1 + 1))), (4, .int (nI (cAg ps kc kd x3 k + 1))), (7, .int (ps (k + 1) kd)), (6, .int (ps (k + 1) kc)), (0, .ref (gB G + 0)), (1, .int (nI kc)), (2, .int (nI kd)), (3, .int x3)]) hx hb d_CR_agreement_113 hl (k := 7) rfl (nI_1 _) (by decide) rfl (fun ls hl => ?_)
                      refine lv_goto (tgt := 42) hx hb d_CR_agreement_116 (by decide) ?_
                      exact ih (k + 1) (by omega) (by omega) _ _ (by rw [cAg_t ⟨c_84, c_90, Or.inl c_95⟩]) rfl _ rfl _ _ ls M (lv_sub hl [4, 5, 6, 7, 1, 0] rfl)
                    · refine lv_iload hx hb d_CR_agreement_98 (lv_at hl 1 rfl) ?_
                      refine lv_iload hx hb d_CR_agreement_100 (lv_at hl 0 rfl) ?_
                      refine lv_icmp_ne (tgt := 109) hx hb d_CR_agreement_102 (by decide) (fun c_102 => ?_) (fun c_102 => ?_)
                      · refine lv_iconst (v := 0) hx hb d_CR_agreement_109 (by decide) ?_
                        refine lv_iadd hx hb d_CR_agreement_110 ?_
                        refine g_topi (x' := nI (cAg ps kc kd x3 k + 0)) (nI_add (cAg ps kc kd x3 k) (0)) ?_
                        refine lv_istore (lv' := [(4, .int (nI (cAg ps kc kd x3 k + 0))), (7, .int (ps (k + 1) kd)), (6, .int (ps (k + 1) kc)), (0, .ref (gB G + 0)), (1, .int (nI kc)), (2, .int (nI kd)), (3, .int x3), (5, .int (nI (k + 1)))]) hx hb d_CR_agreement_111 hl (by decide) rfl (fun ls hl => ?_)
                        refine lv_iinc (v := nI (k + 1 + 1)) (lv' := [(5, .int (nI (k + 1 + 1))), (4, .int (nI (cAg ps kc kd x3 k + 0))), (7, .int (ps (k + 1) kd)), (6, .int (ps (k + 1) kc)), (0, .ref (gB G + 0)), (1, .int (nI kc)), (2, .int (nI kd)), (3, .int x3)]) hx hb d_CR_agreement_113 hl (k := 7) rfl (nI_1 _) (by decide) rfl (fun ls hl => ?_)
                        refine lv_goto (tgt := 42) hx hb d_CR_agreement_116 (by decide) ?_
                        exact ih (k + 1) (by omega) (by omega) _ _ (by rw [Nat.add_zero, cAg_f (fun h => h.2.2.elim c_95 c_102)]) rfl _ rfl _ _ ls M (lv_sub hl [4, 5, 6, 7, 1, 0] rfl)
                      · refine lv_iconst (v := 1) hx hb d_CR_agreement_105 (by decide) ?_
                        refine lv_goto (tgt := 110) hx hb d_CR_agreement_106 (by decide) ?_
                        refine lv_iadd hx hb d_CR_agreement_110 ?_
                        refine g_topi (x' := nI (cAg ps kc kd x3 k + 1)) (nI_add (cAg ps kc kd x3 k) (1)) ?_
                        refine lv_istore (lv' := [(4, .int (nI (cAg ps kc kd x3 k + 1))), (7, .int (ps (k + 1) kd)), (6, .int (ps (k + 1) kc)), (0, .ref (gB G + 0)), (1, .int (nI kc)), (2, .int (nI kd)), (3, .int x3), (5, .int (nI (k + 1)))]) hx hb d_CR_agreement_111 hl (by decide) rfl (fun ls hl => ?_)
                        refine lv_iinc (v := nI (k + 1 + 1)) (lv' := [(5, .int (nI (k + 1 + 1))), (4, .int (nI (cAg ps kc kd x3 k + 1))), (7, .int (ps (k + 1) kd)), (6, .int (ps (k + 1) kc)), (0, .ref (gB G + 0)), (1, .int (nI kc)), (2, .int (nI kd)), (3, .int x3)]) hx hb d_CR_agreement_113 hl (k := 7) rfl (nI_1 _) (by decide) rfl (fun ls hl => ?_)
                        refine lv_goto (tgt := 42) hx hb d_CR_agreement_116 (by decide) ?_
                        exact ih (k + 1) (by omega) (by omega) _ _ (by rw [cAg_t ⟨c_84, c_90, Or.inr c_102⟩]) rfl _ rfl _ _ ls M (lv_sub hl [4, 5, 6, 7, 1, 0] rfl)
          exact loop_42 (n + 1) 0 (by omega) (by omega) _ _ rfl rfl _ rfl _ _ ls M (lv_sub hl [2, 3, 4, 5, 1, 0] rfl)
        · refine lv_iload_n hx hb d_CR_agreement_27 rfl (lv_at hl 3 rfl) ?_
          refine lv_iconst (v := 1) hx hb d_CR_agreement_28 (by decide) ?_
          refine lv_icmp_eq (tgt := 36) hx hb d_CR_agreement_29 (by decide) (fun c_29 => ?_) (fun c_29 => ?_)
          · obtain ⟨kc, hkc, rfl⟩ := cC_nat c_4
            have cl_kc : (nI kc).toNatClampNeg = kc := nI_clamp (by omega)
            obtain ⟨kd, hkd, rfl⟩ := cC_nat c_11
            have cl_kd : (nI kd).toNatClampNeg = kd := nI_clamp (by omega)
            refine lv_iconst (v := 0) hx hb d_CR_agreement_36 (by decide) ?_
            refine lv_istore (lv' := [(4, .int 0), (0, .ref (gB G + 0)), (1, .int (nI kc)), (2, .int (nI kd)), (3, .int x3)]) hx hb d_CR_agreement_37 hl (by decide) rfl (fun ls hl => ?_)
            refine lv_iconst (v := 1) hx hb d_CR_agreement_39 (by decide) ?_
            refine lv_istore (lv' := [(5, .int 1), (4, .int 0), (0, .ref (gB G + 0)), (1, .int (nI kc)), (2, .int (nI kd)), (3, .int x3)]) hx hb d_CR_agreement_40 hl (by decide) rfl (fun ls hl => ?_)
            have loop_42 : ∀ (fuel k : Nat), n < k + fuel → k ≤ n → ∀ (z4 : Int32) (z5 : Int32), z4 = nI (cAg ps kc kd x3 k) → z5 = nI (k + 1) → ∀ (wz : Nat → va_E), wz = cw G n (sc, now, gi, ck, ho, pd, pf, ps, pe, pn) w0 → ∀ (H : Heap) (locs : List Loc) (ls : Array Slot), gM G s0 (N) wz H locs → lv_has ls 8 [(0, .ref (gB G + 0)), (1, .int (nI kc)), (2, .int (nI kd)), (3, .int x3), (4, .int z4), (5, .int z5)] → W pg l ev (gR 1 0 0) s0 mi ([.ref (gB G + 0), .int (nI kc), .int (nI kd), .int x3] : List Value).toArray below meth cd H locs 0 0 (MQ below (gQ2 G (cAgr n (nI kc) (nI kd) x3 (sc, now, gi, ck, ho, pd, pf, ps, pe, pn)) (N) (cw G n (sc, now, gi, ck, ho, pd, pf, ps, pe, pn) w0)) ([.ref (gB G + 0), .int (nI kc), .int (nI kd), .int x3] : List Value).toArray s0 0 0 (gA (gB G))) (F0 mi 42 ls []) := by
              intro fuel
              induction fuel with
              | zero => intro k h1 h2; exact absurd h1 (by omega)
              | succ fuel ih =>
                intro k hk1 hk2 z4 z5 e4 e5 wz ew H locs ls M hl
                subst e4 e5 ew
                have hl : lv_has ls 8 [(0, .ref (gB G + 0)), (1, .int (nI kc)), (2, .int (nI kd)), (3, .int x3), (4, .int (nI (cAg ps kc kd x3 k))), (5, .int (nI (k + 1)))] := hl
                refine lv_iload hx hb d_CR_agreement_42 (lv_at hl 5 rfl) ?_
                refine lv_aload_n hx hb d_CR_agreement_44 rfl (lv_at hl 0 rfl) ?_
                refine g_get (v := .int (nI n)) F M f_CR_39 d_CR_agreement_45 (by omega) cw_0 (congrArg (fun z => some (Value.int z)) hcn) ?_
                refine lv_icmp_gt (tgt := 119) hx hb d_CR_agreement_48 (by decide) (fun c_48 => ?_) (fun c_48 => ?_)
                · have c_48 : n < k + 1 := (nI_ltI (a := n) (b := k + 1) (by omega) (by omega)).mp c_48
                  have hkn : n = k := by omega
                  subst hkn
                  refine lv_iload hx hb d_CR_agreement_119 (lv_at hl 4 rfl) ?_
                  refine lv_i2l hx hb d_CR_agreement_121 rfl ?_
                  exact g_lret F M hr hlocks d_CR_agreement_122 (by decide) (by decide) (by unfold cAgr; dsimp only; rw [if_pos ⟨c_4, c_11⟩, if_neg (fun h => h.elim c_20 (fun q => q.2 c_29)), cl_kc, cl_kd]; try rfl) rfl (rfl)
                · have c_48 : ¬ n < k + 1 := fun h => c_48 ((nI_ltI (a := n) (b := k + 1) (by omega) (by omega)).mpr h)
                  refine lv_aload_n hx hb d_CR_agreement_51 rfl (lv_at hl 0 rfl) ?_
                  refine g_get (v := .ref (gB G + 1)) F M f_CR_11 d_CR_agreement_52 (by omega) cw_0 rfl ?_
                  refine lv_iload hx hb d_CR_agreement_55 (lv_at hl 5 rfl) ?_
                  refine g_aald F M 3 rfl d_CR_agreement_57 (by omega) cw_1 (by omega) (by decide) (cPa_at (by omega) (by omega)) ?_
                  refine g_getN (v := .ref (gB G + (35 + 3 * (k + 1)))) F M f_CR_124 d_CR_agreement_58 (by omega) (cw_pi (by omega)) rfl ?_
                  refine lv_iload_n hx hb d_CR_agreement_61 rfl (lv_at hl 1 rfl) ?_
                  refine g_iald (f := (ps (k + 1))) F M d_CR_agreement_62 (by omega) (cw_ps (by omega)) (by omega) (by decide) ?_
                  refine lv_istore (lv' := [(6, .int (ps (k + 1) kc)), (0, .ref (gB G + 0)), (1, .int (nI kc)), (2, .int (nI kd)), (3, .int x3), (4, .int (nI (cAg ps kc kd x3 k))), (5, .int (nI (k + 1)))]) hx hb d_CR_agreement_63 hl (by decide) rfl (fun ls hl => ?_)
                  refine lv_aload_n hx hb d_CR_agreement_65 rfl (lv_at hl 1 rfl) ?_
                  refine g_get (v := .ref (gB G + 1)) F M f_CR_11 d_CR_agreement_66 (by omega) cw_0 rfl ?_
                  refine lv_iload hx hb d_CR_agreement_69 (lv_at hl 6 rfl) ?_
                  refine g_aald F M 3 rfl d_CR_agreement_71 (by omega) cw_1 (by omega) (by decide) (cPa_at (by omega) (by omega)) ?_
                  refine g_getN (v := .ref (gB G + (35 + 3 * (k + 1)))) F M f_CR_124 d_CR_agreement_72 (by omega) (cw_pi (by omega)) rfl ?_
                  refine lv_iload_n hx hb d_CR_agreement_75 rfl (lv_at hl 3 rfl) ?_
                  refine g_iald (f := (ps (k + 1))) F M d_CR_agreement_76 (by omega) (cw_ps (by omega)) (by omega) (by decide) ?_
                  refine lv_istore (lv' := [(7, .int (ps (k + 1) kd)), (6, .int (ps (k + 1) kc)), (0, .ref (gB G + 0)), (1, .int (nI kc)), (2, .int (nI kd)), (3, .int x3), (4, .int (nI (cAg ps kc kd x3 k))), (5, .int (nI (k + 1)))]) hx hb d_CR_agreement_77 hl (by decide) rfl (fun ls hl => ?_)
                  refine lv_iload hx hb d_CR_agreement_79 (lv_at hl 6 rfl) ?_
                  refine lv_iload hx hb d_CR_agreement_81 (lv_at hl 1 rfl) ?_
                  refine lv_iconst (v := (-1)) hx hb d_CR_agreement_83 (by decide) ?_
                  refine lv_icmp_eq (tgt := 109) hx hb d_CR_agreement_84 (by decide) (fun c_84 => ?_) (fun c_84 => ?_)
                  · refine lv_iconst (v := 0) hx hb d_CR_agreement_109 (by decide) ?_
                    refine lv_iadd hx hb d_CR_agreement_110 ?_
                    refine g_topi (x' := nI (cAg ps kc kd x3 k + 0)) (nI_add (cAg ps kc kd x3 k) (0)) ?_
                    refine lv_istore (lv' := [(4, .int (nI (cAg ps kc kd x3 k + 0))), (7, .int (ps (k + 1) kd)), (6, .int (ps (k + 1) kc)), (0, .ref (gB G + 0)), (1, .int (nI kc)), (2, .int (nI kd)), (3, .int x3), (5, .int (nI (k + 1)))]) hx hb d_CR_agreement_111 hl (by decide) rfl (fun ls hl => ?_)
                    refine lv_iinc (v := nI (k + 1 + 1)) (lv' := [(5, .int (nI (k + 1 + 1))), (4, .int (nI (cAg ps kc kd x3 k + 0))), (7, .int (ps (k + 1) kd)), (6, .int (ps (k + 1) kc)), (0, .ref (gB G + 0)), (1, .int (nI kc)), (2, .int (nI kd)), (3, .int x3)]) hx hb d_CR_agreement_113 hl (k := 7) rfl (nI_1 _) (by decide) rfl (fun ls hl => ?_)
                    refine lv_goto (tgt := 42) hx hb d_CR_agreement_116 (by decide) ?_
                    exact ih (k + 1) (by omega) (by omega) _ _ (by rw [Nat.add_zero, cAg_f (fun h => h.1 c_84)]) rfl _ rfl _ _ ls M (lv_sub hl [4, 5, 6, 7, 1, 0] rfl)
                  · refine lv_iload hx hb d_CR_agreement_87 (lv_at hl 0 rfl) ?_
                    refine lv_iconst (v := (-1)) hx hb d_CR_agreement_89 (by decide) ?_
                    refine lv_icmp_eq (tgt := 109) hx hb d_CR_agreement_90 (by decide) (fun c_90 => ?_) (fun c_90 => ?_)
                    · refine lv_iconst (v := 0) hx hb d_CR_agreement_109 (by decide) ?_
                      refine lv_iadd hx hb d_CR_agreement_110 ?_
                      refine g_topi (x' := nI (cAg ps kc kd x3 k + 0)) (nI_add (cAg ps kc kd x3 k) (0)) ?_
                      refine lv_istore (lv' := [(4, .int (nI (cAg ps kc kd x3 k + 0))), (7, .int (ps (k + 1) kd)), (6, .int (ps (k + 1) kc)), (0, .ref (gB G + 0)), (1, .int (nI kc)), (2, .int (nI kd)), (3, .int x3), (5, .int (nI (k + 1)))]) hx hb d_CR_agreement_111 hl (by decide) rfl (fun ls hl => ?_)
                      refine lv_iinc (v := nI (k + 1 + 1)) (lv' := [(5, .int (nI (k + 1 + 1))), (4, .int (nI (cAg ps kc kd x3 k + 0))), (7, .int (ps (k + 1) kd)), (6, .int (ps (k + 1) kc)), (0, .ref (gB G + 0)), (1, .int (nI kc)), (2, .int (nI kd)), (3, .int x3)]) hx hb d_CR_agreement_113 hl (k := 7) rfl (nI_1 _) (by decide) rfl (fun ls hl => ?_)
                      refine lv_goto (tgt := 42) hx hb d_CR_agreement_116 (by decide) ?_
                      exact ih (k + 1) (by omega) (by omega) _ _ (by rw [Nat.add_zero, cAg_f (fun h => h.2.1 c_90)]) rfl _ rfl _ _ ls M (lv_sub hl [4, 5, 6, 7, 1, 0] rfl)
                    · refine lv_iload_n hx hb d_CR_agreement_93 rfl (lv_at hl 5 rfl) ?_
                      refine lv_iconst (v := 1) hx hb d_CR_agreement_94 (by decide) ?_
                      refine lv_icmp_eq (tgt := 105) hx hb d_CR_agreement_95 (by decide) (fun c_95 => ?_) (fun c_95 => ?_)
                      · refine lv_iconst (v := 1) hx hb d_CR_agreement_105 (by decide) ?_
                        refine lv_goto (tgt := 110) hx hb d_CR_agreement_106 (by decide) ?_
                        refine lv_iadd hx hb d_CR_agreement_110 ?_
                        refine g_topi (x' := nI (cAg ps kc kd x3 k + 1)) (nI_add (cAg ps kc kd x3 k) (1)) ?_
                        refine lv_istore (lv' := [(4, .int (nI (cAg ps kc kd x3 k + 1))), (7, .int (ps (k + 1) kd)), (6, .int (ps (k + 1) kc)), (0, .ref (gB G + 0)), (1, .int (nI kc)), (2, .int (nI kd)), (3, .int x3), (5, .int (nI (k + 1)))]) hx hb d_CR_agreement_111 hl (by decide) rfl (fun ls hl => ?_)
                        refine lv_iinc (v := nI (k + 1 + 1)) (lv' := [(5, .int (nI (k + 1 + 1))), (4, .int (nI (cAg ps kc kd x3 k + 1))), (7, .int (ps (k + 1) kd)), (6, .int (ps (k + 1) kc)), (0, .ref (gB G + 0)), (1, .int (nI kc)), (2, .int (nI kd)), (3, .int x3)]) hx hb d_CR_agreement_113 hl (k := 7) rfl (nI_1 _) (by decide) rfl (fun ls hl => ?_)
                        refine lv_goto (tgt := 42) hx hb d_CR_agreement_116 (by decide) ?_
                        exact ih (k + 1) (by omega) (by omega) _ _ (by rw [cAg_t ⟨c_84, c_90, Or.inl c_95⟩]) rfl _ rfl _ _ ls M (lv_sub hl [4, 5, 6, 7, 1, 0] rfl)
                      · refine lv_iload hx hb d_CR_agreement_98 (lv_at hl 1 rfl) ?_
                        refine lv_iload hx hb d_CR_agreement_100 (lv_at hl 0 rfl) ?_
                        refine lv_icmp_ne (tgt := 109) hx hb d_CR_agreement_102 (by decide) (fun c_102 => ?_) (fun c_102 => ?_)
                        · refine lv_iconst (v := 0) hx hb d_CR_agreement_109 (by decide) ?_
                          refine lv_iadd hx hb d_CR_agreement_110 ?_
                          refine g_topi (x' := nI (cAg ps kc kd x3 k + 0)) (nI_add (cAg ps kc kd x3 k) (0)) ?_
                          refine lv_istore (lv' := [(4, .int (nI (cAg ps kc kd x3 k + 0))), (7, .int (ps (k + 1) kd)), (6, .int (ps (k + 1) kc)), (0, .ref (gB G + 0)), (1, .int (nI kc)), (2, .int (nI kd)), (3, .int x3), (5, .int (nI (k + 1)))]) hx hb d_CR_agreement_111 hl (by decide) rfl (fun ls hl => ?_)
                          refine lv_iinc (v := nI (k + 1 + 1)) (lv' := [(5, .int (nI (k + 1 + 1))), (4, .int (nI (cAg ps kc kd x3 k + 0))), (7, .int (ps (k + 1) kd)), (6, .int (ps (k + 1) kc)), (0, .ref (gB G + 0)), (1, .int (nI kc)), (2, .int (nI kd)), (3, .int x3)]) hx hb d_CR_agreement_113 hl (k := 7) rfl (nI_1 _) (by decide) rfl (fun ls hl => ?_)
                          refine lv_goto (tgt := 42) hx hb d_CR_agreement_116 (by decide) ?_
                          exact ih (k + 1) (by omega) (by omega) _ _ (by rw [Nat.add_zero, cAg_f (fun h => h.2.2.elim c_95 c_102)]) rfl _ rfl _ _ ls M (lv_sub hl [4, 5, 6, 7, 1, 0] rfl)
                        · refine lv_iconst (v := 1) hx hb d_CR_agreement_105 (by decide) ?_
                          refine lv_goto (tgt := 110) hx hb d_CR_agreement_106 (by decide) ?_
                          refine lv_iadd hx hb d_CR_agreement_110 ?_
                          refine g_topi (x' := nI (cAg ps kc kd x3 k + 1)) (nI_add (cAg ps kc kd x3 k) (1)) ?_
                          refine lv_istore (lv' := [(4, .int (nI (cAg ps kc kd x3 k + 1))), (7, .int (ps (k + 1) kd)), (6, .int (ps (k + 1) kc)), (0, .ref (gB G + 0)), (1, .int (nI kc)), (2, .int (nI kd)), (3, .int x3), (5, .int (nI (k + 1)))]) hx hb d_CR_agreement_111 hl (by decide) rfl (fun ls hl => ?_)
                          refine lv_iinc (v := nI (k + 1 + 1)) (lv' := [(5, .int (nI (k + 1 + 1))), (4, .int (nI (cAg ps kc kd x3 k + 1))), (7, .int (ps (k + 1) kd)), (6, .int (ps (k + 1) kc)), (0, .ref (gB G + 0)), (1, .int (nI kc)), (2, .int (nI kd)), (3, .int x3)]) hx hb d_CR_agreement_113 hl (k := 7) rfl (nI_1 _) (by decide) rfl (fun ls hl => ?_)
                          refine lv_goto (tgt := 42) hx hb d_CR_agreement_116 (by decide) ?_
                          exact ih (k + 1) (by omega) (by omega) _ _ (by rw [cAg_t ⟨c_84, c_90, Or.inr c_102⟩]) rfl _ rfl _ _ ls M (lv_sub hl [4, 5, 6, 7, 1, 0] rfl)
            exact loop_42 (n + 1) 0 (by omega) (by omega) _ _ rfl rfl _ rfl _ _ ls M (lv_sub hl [2, 3, 4, 5, 1, 0] rfl)
          · refine lv_ldc2 (v := (-102)) hx hb F.1.2.2.2.1 (F.1.2.2.2.2 _ wd_254) d_CR_agreement_32 ?_
            exact g_lret F M hr hlocks d_CR_agreement_35 (by decide) (by decide) (by unfold cAgr; dsimp only; rw [if_pos ⟨c_4, c_11⟩, if_pos (Or.inr ⟨c_24, c_29⟩)]; try rfl) rfl (rfl)
    · refine lv_ldc2 (v := (-101)) hx hb F.1.2.2.2.1 (F.1.2.2.2.2 _ wd_253) d_CR_agreement_14 ?_
      exact g_lret F M hr hlocks d_CR_agreement_17 (by decide) (by decide) (by unfold cAgr; dsimp only; rw [if_neg (fun h => c_11 h.2)]; try rfl) rfl (rfl)
set_option maxRecDepth 4000 in
theorem c_CR_give (l : Launch) (G : gG) (N n : Nat) (sc : Nat → Int32) (now : Int64) (gi : Nat → Int32) (ck : Nat → Nat → Int32) (ho : Nat → Nat) (pd : Nat → Int64) (pf : Nat → Nat → Int32) (ps : Nat → Nat → Int32) (pe : Nat → Nat → Int32) (pn : Nat → Nat) (w0 : Nat → va_E) (hN : N = 37 + 3 * n) (hcn : sc 1 = nI n) (hn : n ≤ 300) (hpn : ∀ p, pn p < 4) (hho : ∀ c, ho c ≤ n) (x1 : Int32) (t : Int64) : Met l y_CR_give (Cond.code y_CR_give b_CR_give 6 (some .int) :: gtb) (gR 5 0 0) (gPc G [.ref (gB G + 0), .int x1, .long t] (N) (cw G n (sc, now, gi, ck, ho, pd, pf, ps, pe, pn) w0)) (gQ1 G ((cGiv n x1 t (sc, now, gi, ck, ho, pd, pf, ps, pe, pn)).1) (N) (cw G n (cGiv n x1 t (sc, now, gi, ck, ho, pd, pf, ps, pe, pn)).2 w0)) 0 0 (gA (gB G)) := by
  refine g_met (own := "ClerkRows") (by decide) rfl (Nat.le_of_ble_eq_true rfl) ?_
  intro pg ev s0 mi below meth cd F M hr hlocks hnm ls hl
  have hx := F.1.1
  have hb := F.1.2.1
  have hl : lv_has ls 6 [(0, .ref (gB G + 0)), (1, .int x1), (2, .long t)] := hl
  refine lv_iload_n hx hb d_CR_give_0 rfl (lv_at hl 1 rfl) ?_
  refine g_call1 (g_rs (rest := []) F M (c_CR_isClerk l G (N) (cw G n (sc, now, gi, ck, ho, pd, pf, ps, pe, pn) w0) x1) k_CR_83 d_CR_give_1 ⟨rfl, rfl, by decide, by decide, by decide, by decide⟩ rfl hl.1 (Nat.le_of_ble_eq_true rfl) rfl) M (fun H locs M => ?_)
  refine g_ifneB (tgt := 10) hx hb d_CR_give_4 (by decide) (fun c_4 => ?_) (fun c_4 => ?_)
  · obtain ⟨kc, hkc, rfl⟩ := cC_nat c_4
    have cl_kc : (nI kc).toNatClampNeg = kc := nI_clamp (by omega)
    have hhk := hho kc
    have hB := cB_le ck pf pe (cPassN pn pd t n) pd kc n
    refine lv_aload_n hx hb d_CR_give_10 rfl (lv_at hl 0 rfl) ?_
    refine lv_lload_n hx hb d_CR_give_11 rfl (lv_at hl 2 rfl) ?_
    refine g_call1 (g_rv (rest := []) F M (c_CR_isNoTime l G (N) n sc now gi ck ho pd pf ps pe pn w0 hN hcn hn hpn t) k_CR_87 d_CR_give_12 ⟨rfl, rfl, by decide, by decide, by decide, by decide⟩ (by omega) cw_0 rfl rfl hl.1 (Nat.le_of_ble_eq_true rfl) rfl) M (fun H locs M => ?_)
    refine g_ifeqB (tgt := 21) hx hb d_CR_give_15 (by decide) (fun c_15 => ?_) (fun c_15 => ?_)
    · refine lv_aload_n hx hb d_CR_give_21 rfl (lv_at hl 0 rfl) ?_
      refine g_get (v := .ref (gB G + 2)) F M f_CR_17 d_CR_give_22 (by omega) cw_0 rfl ?_
      refine lv_iload_n hx hb d_CR_give_25 rfl (lv_at hl 1 rfl) ?_
      refine g_aald F M 4 rfl d_CR_give_26 (by omega) cw_2 (by omega) (by decide) (cCa_at (by omega)) ?_
      refine lv_astore (lv' := [(4, .ref (gB G + (4 + kc))), (0, .ref (gB G + 0)), (1, .int (nI kc)), (2, .long t)]) hx hb d_CR_give_27 hl (by decide) rfl (fun ls hl => ?_)
      refine lv_aload hx hb d_CR_give_29 (lv_at hl 0 rfl) ?_
      refine g_getN (v := .int (ck kc 0)) F M f_CR_91 d_CR_give_31 (by omega) (cw_ck (by omega)) rfl ?_
      refine lv_if_eq (tgt := 45) hx hb d_CR_give_34 (by decide) (fun c_34 => ?_) (fun c_34 => ?_)
      · refine lv_bipush (v := (-103)) hx hb d_CR_give_45 (by decide) ?_
        exact g_iret F M hr hlocks d_CR_give_47 (by decide) (by decide) (by unfold cGiv; rw [if_pos c_4, if_neg c_15, cl_kc, if_neg (fun h => h.1 c_34)]; try rfl) rfl (by unfold cGiv; rw [if_pos c_4, if_neg c_15, cl_kc, if_neg (fun h => h.1 c_34)]; try rfl)
      · refine lv_aload hx hb d_CR_give_37 (lv_at hl 0 rfl) ?_
        refine g_getN (v := cHo G (ho kc)) F M f_CR_95 d_CR_give_39 (by omega) (cw_ck (by omega)) rfl ?_
        by_cases c_42 : ho kc = 0
        · refine g_top (v' := .null) (by rw [c_42]; rfl) ?_
          refine lv_ifnullN (tgt := 48) hx hb d_CR_give_42 (by decide) ?_
          refine lv_aload_n hx hb d_CR_give_48 rfl (lv_at hl 1 rfl) ?_
          refine lv_lload_n hx hb d_CR_give_49 rfl (lv_at hl 3 rfl) ?_
          refine g_call0 (g_rv (rest := []) F M (c_CR_pass l G (N) n sc now gi ck ho pd pf ps pe pn w0 hN hcn hn hpn t) k_CR_99 d_CR_give_50 ⟨rfl, rfl, by decide, by decide, by decide, by decide⟩ (by omega) cw_0 rfl rfl hl.1 (Nat.le_of_ble_eq_true rfl) rfl) M (fun H locs M => ?_)
          refine lv_aload_n hx hb d_CR_give_53 rfl (lv_at hl 1 rfl) ?_
          refine lv_iload_n hx hb d_CR_give_54 rfl (lv_at hl 2 rfl) ?_
          refine g_call1 (g_rv (rest := []) F M (c_CR_find l G (N) n (cPassC sc (cLate pn pd t n)) t gi ck ho pd pf ps pe (cPassN pn pd t n) w0 hN hcn hn (cPassN_lt hpn) kc (by omega)) k_CR_103 d_CR_give_55 ⟨rfl, rfl, by decide, by decide, by decide, by decide⟩ (by omega) cw_0 rfl rfl hl.1 (Nat.le_of_ble_eq_true rfl) rfl) M (fun H locs M => ?_)
          refine lv_istore (lv' := [(5, .int (nI (cB ck pf pe (cPassN pn pd t n) pd kc n))), (4, .ref (gB G + (4 + kc))), (0, .ref (gB G + 0)), (1, .int (nI kc)), (2, .long t)]) hx hb d_CR_give_58 hl (by decide) rfl (fun ls hl => ?_)
          refine lv_iload hx hb d_CR_give_60 (lv_at hl 0 rfl) ?_
          refine lv_if_ne (tgt := 67) hx hb d_CR_give_62 (by decide) (fun c_62 => ?_) (fun c_62 => ?_)
          · have c_62 : ¬ cB ck pf pe (cPassN pn pd t n) pd kc n = 0 := fun h => c_62 ((nI_eq (a := cB ck pf pe (cPassN pn pd t n) pd kc n) (b := 0) (by omega) (by omega)).mpr h)
            refine lv_aload hx hb d_CR_give_67 (lv_at hl 1 rfl) ?_
            refine lv_aload_n hx hb d_CR_give_69 rfl (lv_at hl 2 rfl) ?_
            refine g_get (v := .ref (gB G + 1)) F M f_CR_11 d_CR_give_70 (by omega) cw_0 rfl ?_
            refine lv_iload hx hb d_CR_give_73 (lv_at hl 0 rfl) ?_
            refine g_aald F M 3 rfl d_CR_give_75 (by omega) cw_1 (by omega) (by decide) (cPa_at (by omega) (by omega)) ?_
            refine g_putN F M f_CR_95 d_CR_give_76 (by omega) (cw_ck (by omega)) rfl rfl rfl (Nat.le_of_ble_eq_true rfl) (cw_k_holds1 (by omega) (by omega)) (fun H locs M => ?_)
            refine lv_aload_n hx hb d_CR_give_79 rfl (lv_at hl 2 rfl) ?_
            refine g_get (v := .ref (gB G + 3)) F M f_CR_21 d_CR_give_80 (by omega) cw_0 rfl ?_
            refine lv_iload_n hx hb d_CR_give_83 rfl (lv_at hl 3 rfl) ?_
            refine lv_aload hx hb d_CR_give_84 (lv_at hl 1 rfl) ?_
            refine g_getN (v := .int (ck kc 1)) F M f_CR_107 d_CR_give_86 (by omega) (cw_ck (by omega)) rfl ?_
            refine g_iast (f := gi) F M d_CR_give_89 (by omega) cw_3 (by omega) (by decide) cw_s_3 (fun H locs M => ?_)
            refine lv_aload hx hb d_CR_give_90 (lv_at hl 1 rfl) ?_
            refine g_getN (v := .ref (gB G + (34 + 3 * (cB ck pf pe (cPassN pn pd t n) pd kc n)))) F M f_CR_95 d_CR_give_92 (by omega) (cw_ck (by omega)) (congrArg some ((congrArg (cHo G) (va_up_self _ _ _)).trans (cHo_s (by omega)))) ?_
            refine lv_dup hx hb d_CR_give_95 rfl ?_
            refine g_getN (v := .int (pf (cB ck pf pe (cPassN pn pd t n) pd kc n) 2)) F M f_CR_110 d_CR_give_96 (by omega) (cw_pi (by omega)) rfl ?_
            refine lv_iconst (v := 1) hx hb d_CR_give_99 (by decide) ?_
            refine lv_iload_n hx hb d_CR_give_100 rfl (lv_at hl 3 rfl) ?_
            refine lv_ishl hx hb d_CR_give_101 ?_
            refine lv_ior hx hb d_CR_give_102 ?_
            refine g_putN F M f_CR_110 d_CR_give_103 (by omega) (cw_pi (by omega)) rfl rfl rfl (Nat.le_of_ble_eq_true rfl) (cw_i_had (by omega)) (fun H locs M => ?_)
            refine lv_aload hx hb d_CR_give_106 (lv_at hl 1 rfl) ?_
            refine g_getN (v := .ref (gB G + (34 + 3 * (cB ck pf pe (cPassN pn pd t n) pd kc n)))) F M f_CR_95 d_CR_give_108 (by omega) (cw_ck (by omega)) (congrArg some ((congrArg (cHo G) (va_up_self _ _ _)).trans (cHo_s (by omega)))) ?_
            refine lv_dup hx hb d_CR_give_111 rfl ?_
            refine g_getN (v := .int (pf (cB ck pf pe (cPassN pn pd t n) pd kc n) 4)) F M f_CR_113 d_CR_give_112 (by omega) (cw_pi (by omega)) (by simp [va_up]) ?_
            refine lv_iconst (v := 1) hx hb d_CR_give_115 (by decide) ?_
            refine lv_aload hx hb d_CR_give_116 (lv_at hl 1 rfl) ?_
            refine g_getN (v := .int (ck kc 1)) F M f_CR_107 d_CR_give_118 (by omega) (cw_ck (by omega)) rfl ?_
            refine lv_ishl hx hb d_CR_give_121 ?_
            refine lv_ior hx hb d_CR_give_122 ?_
            refine g_putN F M f_CR_113 d_CR_give_123 (by omega) (cw_pi (by omega)) rfl rfl rfl (Nat.le_of_ble_eq_true rfl) (cw_i_offices (by omega)) (fun H locs M => ?_)
            refine lv_aload hx hb d_CR_give_126 (lv_at hl 1 rfl) ?_
            refine g_getN (v := .ref (gB G + (34 + 3 * (cB ck pf pe (cPassN pn pd t n) pd kc n)))) F M f_CR_95 d_CR_give_128 (by omega) (cw_ck (by omega)) (congrArg some ((congrArg (cHo G) (va_up_self _ _ _)).trans (cHo_s (by omega)))) ?_
            refine lv_dup hx hb d_CR_give_131 rfl ?_
            refine g_getN (v := .int (pf (cB ck pf pe (cPassN pn pd t n) pd kc n) 7)) F M f_CR_116 d_CR_give_132 (by omega) (cw_pi (by omega)) (by simp [va_up]) ?_
            refine lv_iconst (v := 1) hx hb d_CR_give_135 (by decide) ?_
            refine lv_iadd hx hb d_CR_give_136 ?_
            refine g_putN F M f_CR_116 d_CR_give_137 (by omega) (cw_pi (by omega)) rfl rfl rfl (Nat.le_of_ble_eq_true rfl) (cw_i_holders (by omega)) (fun H locs M => ?_)
            refine lv_iload hx hb d_CR_give_140 (lv_at hl 0 rfl) ?_
            exact g_iret F M hr hlocks d_CR_give_142 (by decide) (by decide) (by unfold cGiv cGiv1; rw [if_pos c_4, if_neg c_15, cl_kc, if_pos ⟨c_34, c_42⟩, if_neg (show ¬ cBC n kc (cPassS n t (sc, now, gi, ck, ho, pd, pf, ps, pe, pn)) = 0 from c_62)]; try rfl) rfl (by unfold cGiv cGiv1; rw [if_pos c_4, if_neg c_15, cl_kc, if_pos ⟨c_34, c_42⟩, if_neg (show ¬ cBC n kc (cPassS n t (sc, now, gi, ck, ho, pd, pf, ps, pe, pn)) = 0 from c_62)]; try rfl)
          · have c_62 : cB ck pf pe (cPassN pn pd t n) pd kc n = 0 := (nI_eq (a := cB ck pf pe (cPassN pn pd t n) pd kc n) (b := 0) (by omega) (by omega)).mp c_62
            refine lv_iconst (v := 0) hx hb d_CR_give_65 (by decide) ?_
            exact g_iret F M hr hlocks d_CR_give_66 (by decide) (by decide) (by unfold cGiv cGiv1; rw [if_pos c_4, if_neg c_15, cl_kc, if_pos ⟨c_34, c_42⟩, if_pos (show cBC n kc (cPassS n t (sc, now, gi, ck, ho, pd, pf, ps, pe, pn)) = 0 from c_62)]; try rfl) rfl (by unfold cGiv cGiv1; rw [if_pos c_4, if_neg c_15, cl_kc, if_pos ⟨c_34, c_42⟩, if_pos (show cBC n kc (cPassS n t (sc, now, gi, ck, ho, pd, pf, ps, pe, pn)) = 0 from c_62)]; try rfl)
        · refine g_top (cHo_s (by omega)) ?_
          refine lv_ifnull hx hb d_CR_give_42 ?_
          refine lv_bipush (v := (-103)) hx hb d_CR_give_45 (by decide) ?_
          exact g_iret F M hr hlocks d_CR_give_47 (by decide) (by decide) (by unfold cGiv; rw [if_pos c_4, if_neg c_15, cl_kc, if_neg (fun h => c_42 h.2)]; try rfl) rfl (by unfold cGiv; rw [if_pos c_4, if_neg c_15, cl_kc, if_neg (fun h => c_42 h.2)]; try rfl)
    · refine lv_bipush (v := (-102)) hx hb d_CR_give_18 (by decide) ?_
      exact g_iret F M hr hlocks d_CR_give_20 (by decide) (by decide) (by unfold cGiv; rw [if_pos c_4, if_pos c_15]; try rfl) rfl (by unfold cGiv; rw [if_pos c_4, if_pos c_15]; try rfl)
  · refine lv_bipush (v := (-101)) hx hb d_CR_give_7 (by decide) ?_
    exact g_iret F M hr hlocks d_CR_give_9 (by decide) (by decide) (by unfold cGiv; rw [if_neg c_4]; try rfl) rfl (by unfold cGiv; rw [if_neg c_4]; try rfl)

theorem cPassN_z {pn : Nat → Nat} {pd : Nat → Int64} {t : Int64} {k p : Nat} (h : cPassN pn pd t k p = 0) : pn p = 0 := by
  unfold cPassN at h
  split at h
  · exact absurd h (by decide)
  · exact h
set_option maxRecDepth 4000 in
theorem c_CR_answer (l : Launch) (G : gG) (N n : Nat) (sc : Nat → Int32) (now : Int64) (gi : Nat → Int32) (ck : Nat → Nat → Int32) (ho : Nat → Nat) (pd : Nat → Int64) (pf : Nat → Nat → Int32) (ps : Nat → Nat → Int32) (pe : Nat → Nat → Int32) (pn : Nat → Nat) (w0 : Nat → va_E) (hN : N = 37 + 3 * n) (hcn : sc 1 = nI n) (hn : n ≤ 300) (hpn : ∀ p, pn p < 4) (hho : ∀ c, ho c ≤ n) (hq : ∀ p, 1 ≤ p → p ≤ n → pn p = 0 → ∃ q, q ≤ 2 ∧ pf p 6 = nI q) (x1 x2 x3 : Int32) (t : Int64) : Met l y_CR_answer (Cond.code y_CR_answer b_CR_answer 9 (some .int) :: gtb) (gR 4 0 0) (gPc G [.ref (gB G + 0), .int x1, .int x2, .int x3, .long t] (N) (cw G n (sc, now, gi, ck, ho, pd, pf, ps, pe, pn) w0)) (gQ1 G ((cAns n x1 x2 x3 t (sc, now, gi, ck, ho, pd, pf, ps, pe, pn)).1) (N) (cw G n (cAns n x1 x2 x3 t (sc, now, gi, ck, ho, pd, pf, ps, pe, pn)).2 w0)) 0 0 (gA (gB G)) := by
  refine g_met (own := "ClerkRows") (by decide) rfl (Nat.le_of_ble_eq_true rfl) ?_
  intro pg ev s0 mi below meth cd F M hr hlocks hnm ls hl
  have hx := F.1.1
  have hb := F.1.2.1
  have hl : lv_has ls 9 [(0, .ref (gB G + 0)), (1, .int x1), (2, .int x2), (3, .int x3), (4, .long t)] := hl
  refine lv_iload_n hx hb d_CR_answer_0 rfl (lv_at hl 1 rfl) ?_
  refine g_call1 (g_rs (rest := []) F M (c_CR_isClerk l G (N) (cw G n (sc, now, gi, ck, ho, pd, pf, ps, pe, pn) w0) x1) k_CR_83 d_CR_answer_1 ⟨rfl, rfl, by decide, by decide, by decide, by decide⟩ rfl hl.1 (Nat.le_of_ble_eq_true rfl) rfl) M (fun H locs M => ?_)
  refine g_ifeqB (tgt := 15) hx hb d_CR_answer_4 (by decide) (fun c_4 => ?_) (fun c_4 => ?_)
  · refine lv_bipush (v := (-101)) hx hb d_CR_answer_15 (by decide) ?_
    exact g_iret F M hr hlocks d_CR_answer_17 (by decide) (by decide) (by unfold cAns; rw [if_neg (fun h => c_4 h.1)]; try rfl) rfl (by unfold cAns; rw [if_neg (fun h => c_4 h.1)]; try rfl)
  · refine lv_aload_n hx hb d_CR_answer_7 rfl (lv_at hl 0 rfl) ?_
    refine lv_iload_n hx hb d_CR_answer_8 rfl (lv_at hl 2 rfl) ?_
    refine g_call1 (g_rv (rest := []) F M (c_CR_isPicture l G (N) n sc now gi ck ho pd pf ps pe pn w0 hN hcn hn hpn x2) k_CR_119 d_CR_answer_9 ⟨rfl, rfl, by decide, by decide, by decide, by decide⟩ (by omega) cw_0 rfl rfl hl.1 (Nat.le_of_ble_eq_true rfl) rfl) M (fun H locs M => ?_)
    refine g_ifneB (tgt := 18) hx hb d_CR_answer_12 (by decide) (fun c_12 => ?_) (fun c_12 => ?_)
    · refine lv_iload_n hx hb d_CR_answer_18 rfl (lv_at hl 3 rfl) ?_
      refine lv_i2l hx hb d_CR_answer_19 rfl ?_
      refine lv_lconst (v := 0) hx hb d_CR_answer_20 (by decide) ?_
      refine lv_ldc2 (v := 9999) hx hb F.1.2.2.2.1 (F.1.2.2.2.2 _ wd_197) d_CR_answer_21 ?_
      refine g_call1 (g_rs (rest := []) F M (c_CR_outside l G (N) (cw G n (sc, now, gi, ck, ho, pd, pf, ps, pe, pn) w0) x3.toInt64 0 9999) k_CR_48 d_CR_answer_24 ⟨rfl, rfl, by decide, by decide, by decide, by decide⟩ rfl hl.1 (Nat.le_of_ble_eq_true rfl) rfl) M (fun H locs M => ?_)
      refine g_ifneB (tgt := 39) hx hb d_CR_answer_27 (by decide) (fun c_27 => ?_) (fun c_27 => ?_)
      · refine lv_bipush (v := (-102)) hx hb d_CR_answer_39 (by decide) ?_
        exact g_iret F M hr hlocks d_CR_answer_41 (by decide) (by decide) (by unfold cAns; rw [if_pos ⟨c_4, c_12⟩, if_pos (Or.inl c_27)]; try rfl) rfl (by unfold cAns; rw [if_pos ⟨c_4, c_12⟩, if_pos (Or.inl c_27)]; try rfl)
      · refine lv_aload_n hx hb d_CR_answer_30 rfl (lv_at hl 0 rfl) ?_
        refine lv_lload hx hb d_CR_answer_31 (lv_at hl 4 rfl) ?_
        refine g_call1 (g_rv (rest := []) F M (c_CR_isNoTime l G (N) n sc now gi ck ho pd pf ps pe pn w0 hN hcn hn hpn t) k_CR_87 d_CR_answer_33 ⟨rfl, rfl, by decide, by decide, by decide, by decide⟩ (by omega) cw_0 rfl rfl hl.1 (Nat.le_of_ble_eq_true rfl) rfl) M (fun H locs M => ?_)
        refine g_ifeqB (tgt := 42) hx hb d_CR_answer_36 (by decide) (fun c_36 => ?_) (fun c_36 => ?_)
        · obtain ⟨kc, hkc, rfl⟩ := cC_nat c_4
          have cl_kc : (nI kc).toNatClampNeg = kc := nI_clamp (by omega)
          obtain ⟨kp, hkp1, hkp2, rfl⟩ := cP_nat hn c_12
          have cl_kp : (nI kp).toNatClampNeg = kp := nI_clamp (by omega)
          refine lv_aload_n hx hb d_CR_answer_42 rfl (lv_at hl 0 rfl) ?_
          refine g_get (v := .ref (gB G + 2)) F M f_CR_17 d_CR_answer_43 (by omega) cw_0 rfl ?_
          refine lv_iload_n hx hb d_CR_answer_46 rfl (lv_at hl 1 rfl) ?_
          refine g_aald F M 4 rfl d_CR_answer_47 (by omega) cw_2 (by omega) (by decide) (cCa_at (by omega)) ?_
          refine lv_astore (lv' := [(6, .ref (gB G + (4 + kc))), (0, .ref (gB G + 0)), (1, .int (nI kc)), (2, .int (nI kp)), (3, .int x3), (4, .long t)]) hx hb d_CR_answer_48 hl (by decide) rfl (fun ls hl => ?_)
          refine lv_aload_n hx hb d_CR_answer_50 rfl (lv_at hl 1 rfl) ?_
          refine g_get (v := .ref (gB G + 1)) F M f_CR_11 d_CR_answer_51 (by omega) cw_0 rfl ?_
          refine lv_iload_n hx hb d_CR_answer_54 rfl (lv_at hl 3 rfl) ?_
          refine g_aald F M 3 rfl d_CR_answer_55 (by omega) cw_1 (by omega) (by decide) (cPa_at (by omega) (by omega)) ?_
          refine lv_astore (lv' := [(7, .ref (gB G + (34 + 3 * kp))), (6, .ref (gB G + (4 + kc))), (0, .ref (gB G + 0)), (1, .int (nI kc)), (2, .int (nI kp)), (3, .int x3), (4, .long t)]) hx hb d_CR_answer_56 hl (by decide) rfl (fun ls hl => ?_)
          refine lv_aload hx hb d_CR_answer_58 (lv_at hl 1 rfl) ?_
          refine g_getN (v := cHo G (ho kc)) F M f_CR_95 d_CR_answer_60 (by omega) (cw_ck (by omega)) rfl ?_
          refine lv_aload hx hb d_CR_answer_63 (lv_at hl 0 rfl) ?_
          refine lv_acmp_eq (rx := if (ho kc) = 0 then none else some (gB G + (34 + 3 * (ho kc)))) (ry := some (gB G + (34 + 3 * kp))) (tgt := 71) hx hb d_CR_answer_65 (by decide) (fun c_65 => ?_) (fun c_65 => ?_)
          · have c_65 := (ho_eq hkp1).mp c_65
            have hq3 : cPassN pn pd t n kp = 0 → ∃ q, q ≤ 2 ∧ (va_up pf kp (va_up (pf kp) 7 (pf kp 7 - 1))) kp 6 = nI q := fun h => by
              rw [va_up_self]; exact hq kp hkp1 hkp2 (cPassN_z h)
            refine lv_aload_n hx hb d_CR_answer_71 rfl (lv_at hl 2 rfl) ?_
            refine lv_lload hx hb d_CR_answer_72 (lv_at hl 6 rfl) ?_
            refine g_call0 (g_rv (rest := []) F M (c_CR_pass l G (N) n sc now gi ck ho pd pf ps pe pn w0 hN hcn hn hpn t) k_CR_99 d_CR_answer_74 ⟨rfl, rfl, by decide, by decide, by decide, by decide⟩ (by omega) cw_0 rfl rfl hl.1 (Nat.le_of_ble_eq_true rfl) rfl) M (fun H locs M => ?_)
            refine lv_aload hx hb d_CR_answer_77 (lv_at hl 1 rfl) ?_
            refine lv_null hx hb d_CR_answer_79 ?_
            refine g_putN F M f_CR_95 d_CR_answer_80 (by omega) (cw_ck (by omega)) rfl rfl rfl (Nat.le_of_ble_eq_true rfl) (cw_k_holds (h9 := 0) (by omega)) (fun H locs M => ?_)
            refine lv_aload hx hb d_CR_answer_83 (lv_at hl 0 rfl) ?_
            refine lv_dup hx hb d_CR_answer_85 rfl ?_
            refine g_getN (v := .int (pf kp 7)) F M f_CR_116 d_CR_answer_86 (by omega) (cw_pi (by omega)) rfl ?_
            refine lv_iconst (v := 1) hx hb d_CR_answer_89 (by decide) ?_
            refine lv_isub hx hb d_CR_answer_90 ?_
            refine g_putN F M f_CR_116 d_CR_answer_91 (by omega) (cw_pi (by omega)) rfl rfl rfl (Nat.le_of_ble_eq_true rfl) (cw_i_holders (by omega)) (fun H locs M => ?_)
            refine lv_aload hx hb d_CR_answer_94 (lv_at hl 0 rfl) ?_
            refine g_getN (v := .ref (gB G + (35 + 3 * kp))) F M f_CR_124 d_CR_answer_96 (by omega) (cw_pi (by omega)) rfl ?_
            refine lv_iload_n hx hb d_CR_answer_99 rfl (lv_at hl 3 rfl) ?_
            refine lv_iload_n hx hb d_CR_answer_100 rfl (lv_at hl 5 rfl) ?_
            refine g_iast (f := (ps kp)) F M d_CR_answer_101 (by omega) (cw_ps (by omega)) (by omega) (by decide) (cw_s_ps (by omega)) (fun H locs M => ?_)
            refine lv_aload hx hb d_CR_answer_102 (lv_at hl 0 rfl) ?_
            refine g_call1 (g_rv (rest := []) F M (c_Pi_isOver l G (N) n (cPassC sc (cLate pn pd t n)) t gi ck (va_up ho kc 0) pd (va_up pf kp (va_up (pf kp) 7 ((pf kp 7) - 1))) (va_up ps kp (upd (ps kp) kc x3)) pe (cPassN pn pd t n) w0 hN hcn hn (cPassN_lt hpn) kp (by omega) (by omega)) k_CR_52 d_CR_answer_104 ⟨rfl, rfl, by decide, by decide, by decide, by decide⟩ (by omega) (cw_pi (by omega)) rfl rfl hl.1 (Nat.le_of_ble_eq_true rfl) rfl) M (fun H locs M => ?_)
            refine lv_istore (lv' := [(8, .int (bI (¬ (cPassN pn pd t n) kp = 0))), (7, .ref (gB G + (34 + 3 * kp))), (6, .ref (gB G + (4 + kc))), (0, .ref (gB G + 0)), (1, .int (nI kc)), (2, .int (nI kp)), (3, .int x3), (4, .long t)]) hx hb d_CR_answer_107 hl (by decide) rfl (fun ls hl => ?_)
            refine lv_aload hx hb d_CR_answer_109 (lv_at hl 1 rfl) ?_
            refine lv_iload_n hx hb d_CR_answer_111 rfl (lv_at hl 6 rfl) ?_
            refine g_call0 (g_rv (rest := []) F M (c_Pi_add l G (N) n (cPassC sc (cLate pn pd t n)) t gi ck (va_up ho kc 0) pd (va_up pf kp (va_up (pf kp) 7 ((pf kp 7) - 1))) (va_up ps kp (upd (ps kp) kc x3)) pe (cPassN pn pd t n) w0 hN hcn hn (cPassN_lt hpn) kp (by omega) (by omega) x3 hq3) k_CR_127 d_CR_answer_112 ⟨rfl, rfl, by decide, by decide, by decide, by decide⟩ (by omega) (cw_pi (by omega)) rfl rfl hl.1 (Nat.le_of_ble_eq_true rfl) rfl) M (fun H locs M => ?_)
            refine lv_aload_n hx hb d_CR_answer_115 rfl (lv_at hl 3 rfl) ?_
            refine lv_dup hx hb d_CR_answer_116 rfl ?_
            refine g_get (v := .int (sc 3 - nI (cLate pn pd t n))) F M f_CR_71 d_CR_answer_117 (by omega) cw_0 rfl ?_
            refine lv_aload hx hb d_CR_answer_120 (lv_at hl 1 rfl) ?_
            refine g_call1 (g_rv (rest := [.int (sc 3 - nI (cLate pn pd t n)), .ref (gB G + 0)]) F M (c_Pi_isOver l G (N) n (cPassC sc (cLate pn pd t n)) t gi ck (va_up ho kc 0) pd ((cAdd kp x3 (va_up pf kp (va_up (pf kp) 7 ((pf kp 7) - 1))) pe (cPassN pn pd t n)).1) (va_up ps kp (upd (ps kp) kc x3)) ((cAdd kp x3 (va_up pf kp (va_up (pf kp) 7 ((pf kp 7) - 1))) pe (cPassN pn pd t n)).2.1) ((cAdd kp x3 (va_up pf kp (va_up (pf kp) 7 ((pf kp 7) - 1))) pe (cPassN pn pd t n)).2.2) w0 hN hcn hn (cAdd_pn (cPassN_lt hpn)) kp (by omega) (by omega)) k_CR_52 d_CR_answer_122 ⟨rfl, rfl, by decide, by decide, by decide, by decide⟩ (by omega) (cw_pi (by omega)) rfl rfl hl.1 (Nat.le_of_ble_eq_true rfl) rfl) M (fun H locs M => ?_)
            refine g_ifeqB (tgt := 137) hx hb d_CR_answer_125 (by decide) (fun c_125 => ?_) (fun c_125 => ?_)
            · refine lv_iconst (v := 0) hx hb d_CR_answer_137 (by decide) ?_
              refine g_topi (x' := bI (¬ (cAdd kp x3 (va_up pf kp (va_up (pf kp) 7 (pf kp 7 - 1))) pe (cPassN pn pd t n)).2.2 kp = 0 ∧ cPassN pn pd t n kp = 0)) (bI_f (P := ¬ (cAdd kp x3 (va_up pf kp (va_up (pf kp) 7 (pf kp 7 - 1))) pe (cPassN pn pd t n)).2.2 kp = 0 ∧ cPassN pn pd t n kp = 0) (fun h => c_125 h.1)).symm ?_
              refine lv_isub hx hb d_CR_answer_138 ?_
              refine g_put F M f_CR_71 d_CR_answer_139 (by omega) cw_0 rfl rfl rfl (Nat.le_of_ble_eq_true rfl) cw_p_open (fun H locs M => ?_)
              refine lv_aload hx hb d_CR_answer_142 (lv_at hl 1 rfl) ?_
              refine g_call1 (g_rv (rest := []) F M (c_Pi_state l G (N) n (va_up (cPassC sc (cLate pn pd t n)) 3 ((sc 3 - nI (cLate pn pd t n)) - (bI (¬ (cAdd kp x3 (va_up pf kp (va_up (pf kp) 7 (pf kp 7 - 1))) pe (cPassN pn pd t n)).2.2 kp = 0 ∧ cPassN pn pd t n kp = 0)))) t gi ck (va_up ho kc 0) pd ((cAdd kp x3 (va_up pf kp (va_up (pf kp) 7 ((pf kp 7) - 1))) pe (cPassN pn pd t n)).1) (va_up ps kp (upd (ps kp) kc x3)) ((cAdd kp x3 (va_up pf kp (va_up (pf kp) 7 ((pf kp 7) - 1))) pe (cPassN pn pd t n)).2.1) ((cAdd kp x3 (va_up pf kp (va_up (pf kp) 7 ((pf kp 7) - 1))) pe (cPassN pn pd t n)).2.2) w0 hN hcn hn (cAdd_pn (cPassN_lt hpn)) kp (by omega) (by omega)) k_CR_131 d_CR_answer_144 ⟨rfl, rfl, by decide, by decide, by decide, by decide⟩ (by omega) (cw_pi (by omega)) rfl rfl hl.1 (Nat.le_of_ble_eq_true rfl) rfl) M (fun H locs M => ?_)
              exact g_iret F M hr hlocks d_CR_answer_147 (by decide) (by decide) (by unfold cAns; rw [if_pos ⟨c_4, c_12⟩, if_neg (fun h => h.elim c_27 c_36), cl_kc, cl_kp, if_pos c_65]; try rfl) rfl (by unfold cAns; rw [if_pos ⟨c_4, c_12⟩, if_neg (fun h => h.elim c_27 c_36), cl_kc, cl_kp, if_pos c_65]; try rfl)
            · refine lv_iload hx hb d_CR_answer_128 (lv_at hl 0 rfl) ?_
              refine g_ifneB (tgt := 137) hx hb d_CR_answer_130 (by decide) (fun c_130 => ?_) (fun c_130 => ?_)
              · refine lv_iconst (v := 0) hx hb d_CR_answer_137 (by decide) ?_
                refine g_topi (x' := bI (¬ (cAdd kp x3 (va_up pf kp (va_up (pf kp) 7 (pf kp 7 - 1))) pe (cPassN pn pd t n)).2.2 kp = 0 ∧ cPassN pn pd t n kp = 0)) (bI_f (P := ¬ (cAdd kp x3 (va_up pf kp (va_up (pf kp) 7 (pf kp 7 - 1))) pe (cPassN pn pd t n)).2.2 kp = 0 ∧ cPassN pn pd t n kp = 0) (fun h => c_130 h.2)).symm ?_
                refine lv_isub hx hb d_CR_answer_138 ?_
                refine g_put F M f_CR_71 d_CR_answer_139 (by omega) cw_0 rfl rfl rfl (Nat.le_of_ble_eq_true rfl) cw_p_open (fun H locs M => ?_)
                refine lv_aload hx hb d_CR_answer_142 (lv_at hl 1 rfl) ?_
                refine g_call1 (g_rv (rest := []) F M (c_Pi_state l G (N) n (va_up (cPassC sc (cLate pn pd t n)) 3 ((sc 3 - nI (cLate pn pd t n)) - (bI (¬ (cAdd kp x3 (va_up pf kp (va_up (pf kp) 7 (pf kp 7 - 1))) pe (cPassN pn pd t n)).2.2 kp = 0 ∧ cPassN pn pd t n kp = 0)))) t gi ck (va_up ho kc 0) pd ((cAdd kp x3 (va_up pf kp (va_up (pf kp) 7 ((pf kp 7) - 1))) pe (cPassN pn pd t n)).1) (va_up ps kp (upd (ps kp) kc x3)) ((cAdd kp x3 (va_up pf kp (va_up (pf kp) 7 ((pf kp 7) - 1))) pe (cPassN pn pd t n)).2.1) ((cAdd kp x3 (va_up pf kp (va_up (pf kp) 7 ((pf kp 7) - 1))) pe (cPassN pn pd t n)).2.2) w0 hN hcn hn (cAdd_pn (cPassN_lt hpn)) kp (by omega) (by omega)) k_CR_131 d_CR_answer_144 ⟨rfl, rfl, by decide, by decide, by decide, by decide⟩ (by omega) (cw_pi (by omega)) rfl rfl hl.1 (Nat.le_of_ble_eq_true rfl) rfl) M (fun H locs M => ?_)
                exact g_iret F M hr hlocks d_CR_answer_147 (by decide) (by decide) (by unfold cAns; rw [if_pos ⟨c_4, c_12⟩, if_neg (fun h => h.elim c_27 c_36), cl_kc, cl_kp, if_pos c_65]; try rfl) rfl (by unfold cAns; rw [if_pos ⟨c_4, c_12⟩, if_neg (fun h => h.elim c_27 c_36), cl_kc, cl_kp, if_pos c_65]; try rfl)
              · refine lv_iconst (v := 1) hx hb d_CR_answer_133 (by decide) ?_
                refine lv_goto (tgt := 138) hx hb d_CR_answer_134 (by decide) ?_
                refine g_topi (x' := bI (¬ (cAdd kp x3 (va_up pf kp (va_up (pf kp) 7 (pf kp 7 - 1))) pe (cPassN pn pd t n)).2.2 kp = 0 ∧ cPassN pn pd t n kp = 0)) (bI_t (P := ¬ (cAdd kp x3 (va_up pf kp (va_up (pf kp) 7 (pf kp 7 - 1))) pe (cPassN pn pd t n)).2.2 kp = 0 ∧ cPassN pn pd t n kp = 0) ⟨c_125, Decidable.byContradiction c_130⟩).symm ?_
                refine lv_isub hx hb d_CR_answer_138 ?_
                refine g_put F M f_CR_71 d_CR_answer_139 (by omega) cw_0 rfl rfl rfl (Nat.le_of_ble_eq_true rfl) cw_p_open (fun H locs M => ?_)
                refine lv_aload hx hb d_CR_answer_142 (lv_at hl 1 rfl) ?_
                refine g_call1 (g_rv (rest := []) F M (c_Pi_state l G (N) n (va_up (cPassC sc (cLate pn pd t n)) 3 ((sc 3 - nI (cLate pn pd t n)) - (bI (¬ (cAdd kp x3 (va_up pf kp (va_up (pf kp) 7 (pf kp 7 - 1))) pe (cPassN pn pd t n)).2.2 kp = 0 ∧ cPassN pn pd t n kp = 0)))) t gi ck (va_up ho kc 0) pd ((cAdd kp x3 (va_up pf kp (va_up (pf kp) 7 ((pf kp 7) - 1))) pe (cPassN pn pd t n)).1) (va_up ps kp (upd (ps kp) kc x3)) ((cAdd kp x3 (va_up pf kp (va_up (pf kp) 7 ((pf kp 7) - 1))) pe (cPassN pn pd t n)).2.1) ((cAdd kp x3 (va_up pf kp (va_up (pf kp) 7 ((pf kp 7) - 1))) pe (cPassN pn pd t n)).2.2) w0 hN hcn hn (cAdd_pn (cPassN_lt hpn)) kp (by omega) (by omega)) k_CR_131 d_CR_answer_144 ⟨rfl, rfl, by decide, by decide, by decide, by decide⟩ (by omega) (cw_pi (by omega)) rfl rfl hl.1 (Nat.le_of_ble_eq_true rfl) rfl) M (fun H locs M => ?_)
                exact g_iret F M hr hlocks d_CR_answer_147 (by decide) (by decide) (by unfold cAns; rw [if_pos ⟨c_4, c_12⟩, if_neg (fun h => h.elim c_27 c_36), cl_kc, cl_kp, if_pos c_65]; try rfl) rfl (by unfold cAns; rw [if_pos ⟨c_4, c_12⟩, if_neg (fun h => h.elim c_27 c_36), cl_kc, cl_kp, if_pos c_65]; try rfl)
          · have c_65 : ¬ ho kc = kp := fun h => c_65 ((ho_eq hkp1).mpr h)
            refine lv_bipush (v := (-103)) hx hb d_CR_answer_68 (by decide) ?_
            exact g_iret F M hr hlocks d_CR_answer_70 (by decide) (by decide) (by unfold cAns; rw [if_pos ⟨c_4, c_12⟩, if_neg (fun h => h.elim c_27 c_36), cl_kc, cl_kp, if_neg c_65]; try rfl) rfl (by unfold cAns; rw [if_pos ⟨c_4, c_12⟩, if_neg (fun h => h.elim c_27 c_36), cl_kc, cl_kp, if_neg c_65]; try rfl)
        · refine lv_bipush (v := (-102)) hx hb d_CR_answer_39 (by decide) ?_
          exact g_iret F M hr hlocks d_CR_answer_41 (by decide) (by decide) (by unfold cAns; rw [if_pos ⟨c_4, c_12⟩, if_pos (Or.inr c_36)]; try rfl) rfl (by unfold cAns; rw [if_pos ⟨c_4, c_12⟩, if_pos (Or.inr c_36)]; try rfl)
    · refine lv_bipush (v := (-101)) hx hb d_CR_answer_15 (by decide) ?_
      exact g_iret F M hr hlocks d_CR_answer_17 (by decide) (by decide) (by unfold cAns; rw [if_neg (fun h => c_12 h.2)]; try rfl) rfl (by unfold cAns; rw [if_neg (fun h => c_12 h.2)]; try rfl)
end
section
/-! ===== making pictures ===== -/
theorem gM.cg {G : gG} {s : State} {N : Nat} {w w' : Nat → va_E} {H : Heap} {locs : List Loc} (M : gM G s N w H locs) (h : ∀ i, i < N → w i = w' i) : gM G s N w' H locs := by
  refine ⟨⟨M.1.1, fun k q hk => ?_⟩, M.2⟩
  obtain ⟨hkN, rfl⟩ := gw_of hk
  rw [← h k hkN]
  exact M.1.2 k _ (gw_get hkN)
theorem bl_Picture : ∀ j, j < 10 → defaultValue (t_Picture j) = vp_V [.long 0, .int 0, .int 0, .null, .int 0, .null, .int 0, .int 0, .null, .int 0] j := by
  intro j hj
  match j, hj with
  | 0, _ => rfl
  | 1, _ => rfl
  | 2, _ => rfl
  | 3, _ => rfl
  | 4, _ => rfl
  | 5, _ => rfl
  | 6, _ => rfl
  | 7, _ => rfl
  | 8, _ => rfl
  | 9, _ => rfl
def pw1 (w : Nat → va_E) (i : Nat) (E0 : va_E) : Nat → va_E := va_up w i E0
def pw2 (w : Nat → va_E) (i : Nat) (E0 E1 : va_E) : Nat → va_E := va_up (pw1 w i E0) (i + 1) E1
def pw3 (w : Nat → va_E) (i : Nat) (E0 E1 E2 : va_E) : Nat → va_E := va_up (pw2 w i E0 E1) (i + 1 + 1) E2
theorem pw1_0 {w : Nat → va_E} {i : Nat} {E0 : va_E} : pw1 w i E0 i = E0 := va_up_self _ _ _
theorem pw2_0 {w : Nat → va_E} {i : Nat} {E0 E1 : va_E} : pw2 w i E0 E1 i = E0 := by simp [pw2, pw1, va_up]
theorem pw2_1 {w : Nat → va_E} {i : Nat} {E0 E1 : va_E} : pw2 w i E0 E1 (i + 1) = E1 := va_up_self _ _ _
theorem pw3_0 {w : Nat → va_E} {i : Nat} {E0 E1 E2 : va_E} : pw3 w i E0 E1 E2 i = E0 := by simp [pw3, pw2, pw1, va_up]; omega
theorem pw3_1 {w : Nat → va_E} {i : Nat} {E0 E1 E2 : va_E} : pw3 w i E0 E1 E2 (i + 1) = E1 := by simp [pw3, pw2, va_up]
theorem pw3_2 {w : Nat → va_E} {i : Nat} {E0 E1 E2 : va_E} : pw3 w i E0 E1 E2 (i + 1 + 1) = E2 := va_up_self _ _ _
theorem pw1_s0 {w : Nat → va_E} {i : Nat} {E0 E : va_E} : va_up (pw1 w i E0) i E = pw1 w i E := bx_uu _ _ _ _
theorem pw2_s0 {w : Nat → va_E} {i : Nat} {E0 E1 E : va_E} : va_up (pw2 w i E0 E1) i E = pw2 w i E E1 := by
  funext j; unfold pw2 pw1 va_up
  by_cases h : j = i
  · subst h; simp
  · simp [h]
theorem pw3_s0 {w : Nat → va_E} {i : Nat} {E0 E1 E2 E : va_E} : va_up (pw3 w i E0 E1 E2) i E = pw3 w i E E1 E2 := by
  funext j; unfold pw3 pw2 pw1 va_up
  by_cases h : j = i
  · subst h; simp; omega
  · simp [h]
theorem pw3_s1 {w : Nat → va_E} {i : Nat} {E0 E1 E2 E : va_E} : va_up (pw3 w i E0 E1 E2) (i + 1) E = pw3 w i E0 E E2 := by
  funext j; unfold pw3 pw2 va_up
  by_cases h : j = i + 1
  · subst h; simp
  · simp [h]
def cNeg (k : Nat) : Nat → Int32 := fun j => if j < k then -1 else 0
theorem cNeg_0 : cNeg 0 = fun _ => 0 := by funext j; unfold cNeg; rw [if_neg (by omega)]
theorem cNeg_s (k : Nat) : upd (cNeg k) k (-1) = cNeg (k + 1) := by
  funext j; unfold cNeg
  by_cases h : j = k
  · subst h; rw [upd_s, if_pos (by omega)]
  · rw [upd_n _ _ h]
    by_cases h2 : j < k
    · rw [if_pos h2, if_pos (by omega)]
    · rw [if_neg h2, if_neg (by omega)]
/-- the cells of a new picture at i -/
def pwN (G : gG) (w : Nat → va_E) (i : Nat) (t : Int64) (x : Int32) : Nat → va_E := pw3 w i (.inr (1, [.long t, .int x, .int 0, .ref (gB G + (i + 1)), .int 0, .ref (gB G + (i + 1 + 1)), .int 0, .int 0, .ref (gEa G 0), .int 0])) (.inl (gCa G 0, 20, .inl (cNeg 20))) (.inl (gCa G 0, 3, .inl (fun _ => 0)))
set_option maxRecDepth 4000 in
theorem c_Ck_init (l : Launch) (G : gG) (N : Nat) (w : Nat → va_E) (i : Nat) : Met l y_Ck_init (Cond.code y_Ck_init b_Ck_init 1 none :: gtb) (gR 1 0 0) (gPc G [.ref (gB G + i)] (N) (w)) (gQ0 G (N) (w)) 0 0 (gA (gB G)) := by
  refine g_met (own := "ClerkRows$Clerk") (by decide) rfl (Nat.le_of_ble_eq_true rfl) ?_
  intro pg ev s0 mi below meth cd F M hr hlocks hnm ls hl
  have hx := F.1.1
  have hb := F.1.2.1
  have hl : lv_has ls 1 [(0, .ref (gB G + i))] := hl
  refine lv_aload_n hx hb d_Ck_init_0 rfl (lv_at hl 0 rfl) ?_
  refine W.objInit hx hb F.1.2.2.2.1 (F.1.2.2.2.2 _ wd_48) (F.1.2.2.2.2 _ wd_32) (F.1.2.2.2.2 _ wd_33) rfl (by rw [F.1.2.2.1]; exact hl.1) rfl d_Ck_init_1 (Nat.le_of_ble_eq_true rfl) (Nat.le_of_ble_eq_true rfl) ?_
  refine W.eq (g2 := F0 mi 4 ls []) rfl ?_
  exact g_vret F M hr hlocks d_Ck_init_4 (by decide) (by decide) rfl (rfl)
set_option maxRecDepth 4000 in
theorem c_Pi_init (l : Launch) (G : gG) (w : Nat → va_E) (i : Nat) (t : Int64) (x : Int32) : Met l y_Pi_init (Cond.code y_Pi_init b_Pi_init 5 none :: gtb) (gR 1 2 23) (gPc G [.ref (gB G + i), .long t, .int x] (i + 1) (pw1 w i (.inr (1, [.long 0, .int 0, .int 0, .null, .int 0, .null, .int 0, .int 0, .null, .int 0])))) (gQ0 G (i + 1 + 1 + 1) (pwN G w i t x)) 2 23 (gA (gB G)) := by
  refine g_met (own := "ClerkRows$Picture") (by decide) rfl (Nat.le_of_ble_eq_true rfl) ?_
  intro pg ev s0 mi below meth cd F M hr hlocks hnm ls hl
  have hx := F.1.1
  have hb := F.1.2.1
  have hl : lv_has ls 5 [(0, .ref (gB G + i)), (1, .long t), (3, .int x)] := hl
  refine lv_aload_n hx hb d_Pi_init_0 rfl (lv_at hl 0 rfl) ?_
  refine W.objInit hx hb F.1.2.2.2.1 (F.1.2.2.2.2 _ wd_106) (F.1.2.2.2.2 _ wd_32) (F.1.2.2.2.2 _ wd_33) rfl (by rw [F.1.2.2.1]; exact hl.1) rfl d_Pi_init_1 (Nat.le_of_ble_eq_true rfl) (Nat.le_of_ble_eq_true rfl) ?_
  refine W.eq (g2 := F0 mi 4 ls []) rfl ?_
  refine lv_aload_n hx hb d_Pi_init_4 rfl (lv_at hl 0 rfl) ?_
  refine lv_bipush (v := 20) hx hb d_Pi_init_5 (by decide) ?_
  refine g_newi (n' := 20) F M rfl (by decide) (Nat.le_of_ble_eq_true rfl) (Nat.le_of_ble_eq_true rfl) d_Pi_init_7 rfl (fun H M => ?_)
  have M : gM G s0 (i + 1 + 1) (pw2 w i (.inr (1, [.long 0, .int 0, .int 0, .null, .int 0, .null, .int 0, .int 0, .null, .int 0])) (.inl (gCa G 0, 20, .inl (fun _ => 0)))) H _ := M
  refine g_putF F M f_Pi_9 d_Pi_init_9 (by omega) pw2_0 rfl hnm rfl rfl rfl (Nat.le_of_ble_eq_true rfl) pw2_s0 (fun H locs M => ?_)
  refine lv_aload_n hx hb d_Pi_init_12 rfl (lv_at hl 0 rfl) ?_
  refine lv_iconst (v := 3) hx hb d_Pi_init_13 (by decide) ?_
  refine g_newi (n' := 3) F M rfl (by decide) (Nat.le_of_ble_eq_true rfl) (Nat.le_of_ble_eq_true rfl) d_Pi_init_14 rfl (fun H M => ?_)
  have M : gM G s0 (i + 1 + 1 + 1) (pw3 w i (.inr (1, [.long 0, .int 0, .int 0, .ref (gB G + ((i + 1))), .int 0, .null, .int 0, .int 0, .null, .int 0])) (.inl (gCa G 0, 20, .inl (fun _ => 0))) (.inl (gCa G 0, 3, .inl (fun _ => 0)))) H _ := M
  refine g_putF F M f_Pi_15 d_Pi_init_16 (by omega) pw3_0 rfl hnm rfl rfl rfl (Nat.le_of_ble_eq_true rfl) pw3_s0 (fun H locs M => ?_)
  refine lv_aload_n hx hb d_Pi_init_19 rfl (lv_at hl 0 rfl) ?_
  refine g_gets F M 0 (by decide) wd_107 d_Pi_init_20 ?_
  refine g_put F M f_Pi_24 d_Pi_init_23 (by omega) pw3_0 rfl rfl rfl (Nat.le_of_ble_eq_true rfl) pw3_s0 (fun H locs M => ?_)
  refine lv_aload_n hx hb d_Pi_init_26 rfl (lv_at hl 0 rfl) ?_
  refine lv_lload_n hx hb d_Pi_init_27 rfl (lv_at hl 1 rfl) ?_
  refine g_putF F M f_Pi_27 d_Pi_init_28 (by omega) pw3_0 rfl hnm rfl rfl rfl (Nat.le_of_ble_eq_true rfl) pw3_s0 (fun H locs M => ?_)
  refine lv_aload_n hx hb d_Pi_init_31 rfl (lv_at hl 0 rfl) ?_
  refine lv_iload_n hx hb d_Pi_init_32 rfl (lv_at hl 2 rfl) ?_
  refine g_putF F M f_Pi_31 d_Pi_init_33 (by omega) pw3_0 rfl hnm rfl rfl rfl (Nat.le_of_ble_eq_true rfl) pw3_s0 (fun H locs M => ?_)
  refine lv_iconst (v := 0) hx hb d_Pi_init_36 (by decide) ?_
  refine lv_istore (lv' := [(4, .int 0), (0, .ref (gB G + i)), (1, .long t), (3, .int x)]) hx hb d_Pi_init_37 hl (by decide) rfl (fun ls hl => ?_)
  have loop_39 : ∀ (fuel k : Nat), 20 < k + fuel → k ≤ 20 → ∀ (z4 : Int32), z4 = nI k → ∀ (wz : Nat → va_E), wz = pw3 w i (.inr (1, [.long t, .int x, .int 0, .ref (gB G + (i + 1)), .int 0, .ref (gB G + (i + 1 + 1)), .int 0, .int 0, .ref (gEa G 0), .int 0])) (.inl (gCa G 0, 20, .inl (cNeg k))) (.inl (gCa G 0, 3, .inl (fun _ => 0))) → ∀ (H : Heap) (locs : List Loc) (ls : Array Slot), gM G s0 (i + 1 + 1 + 1) wz H locs → lv_has ls 5 [(0, .ref (gB G + i)), (4, .int z4)] → W pg l ev (gR 1 2 23) s0 mi ([.ref (gB G + i), .long t, .int x] : List Value).toArray below meth cd H locs 2 23 (MQ below (gQ0 G (i + 1 + 1 + 1) (pwN G w i t x)) ([.ref (gB G + i), .long t, .int x] : List Value).toArray s0 2 23 (gA (gB G))) (F0 mi 39 ls []) := by
    intro fuel
    induction fuel with
    | zero => intro k h1 h2; exact absurd h1 (by omega)
    | succ fuel ih =>
      intro k hk1 hk2 z4 e4 wz ew H locs ls M hl
      subst e4 ew
      have hl : lv_has ls 5 [(0, .ref (gB G + i)), (4, .int (nI k))] := hl
      refine lv_iload hx hb d_Pi_init_39 (lv_at hl 1 rfl) ?_
      refine lv_bipush (v := 20) hx hb d_Pi_init_41 (by decide) ?_
      refine lv_icmp_ge (tgt := 60) hx hb d_Pi_init_43 (by decide) (fun c_43 => ?_) (fun c_43 => ?_)
      · have c_43 : 20 ≤ k := (nI_leI (a := 20) (b := k) (by omega) (by omega)).mp c_43
        have hkn : 20 = k := by omega
        subst hkn
        exact g_vret F M hr hlocks d_Pi_init_60 (by decide) (by decide) rfl (rfl)
      · have c_43 : ¬ 20 ≤ k := fun h => c_43 ((nI_leI (a := 20) (b := k) (by omega) (by omega)).mpr h)
        refine lv_aload_n hx hb d_Pi_init_46 rfl (lv_at hl 0 rfl) ?_
        refine g_get (v := .ref (gB G + (i + 1))) F M f_Pi_9 d_Pi_init_47 (by omega) pw3_0 rfl ?_
        refine lv_iload hx hb d_Pi_init_50 (lv_at hl 1 rfl) ?_
        refine lv_iconst (v := (-1)) hx hb d_Pi_init_52 (by decide) ?_
        refine g_iast (f := (cNeg k)) F M d_Pi_init_53 (by omega) pw3_1 (by omega) (by decide) pw3_s1 (fun H locs M => ?_)
        refine lv_iinc (v := nI (k + 1)) (lv' := [(4, .int (nI (k + 1))), (0, .ref (gB G + i))]) hx hb d_Pi_init_54 hl (k := 1) rfl (nI_1 _) (by decide) rfl (fun ls hl => ?_)
        refine lv_goto (tgt := 39) hx hb d_Pi_init_57 (by decide) ?_
        exact ih (k + 1) (by omega) (by omega) _ rfl _ (by rw [cNeg_s]) _ _ ls M (lv_sub hl [1, 0] rfl)
  exact loop_39 (20 + 1) 0 (by omega) (by omega) _ rfl _ (by rw [cNeg_0]; rfl) _ _ ls M (lv_sub hl [1, 0] rfl)
def cNewF (x : Int32) : Nat → Int32 := fun k => if k = 1 then x else 0
def cPic2 (n : Nat) (t : Int64) (x : Int32) : CSt → CSt := fun (sc, now, gi, ck, ho, pd, pf, ps, pe, pn) => (va_up (va_up sc 1 (nI (n + 1))) 3 (sc 3 + 1), now, gi, ck, ho, va_up pd (n + 1) t, va_up pf (n + 1) (cNewF x), va_up ps (n + 1) (cNeg 20), va_up pe (n + 1) (fun _ => 0), va_up pn (n + 1) 0)
def cPic (n : Nat) (t : Int64) (x : Int32) (C : CSt) : Int32 × Nat × CSt := if cNT t C.2.1 ∨ cNR x 3 then (-102, n, C) else if n = 300 then (-104, n, C) else if C.1 3 = C.1 0 then (0, n, C) else (nI (n + 1), n + 1, cPic2 n t x C)
theorem cPa_up {G : gG} {n : Nat} : va_up (cPa G n) (n + 1) (some (gB G + (37 + 3 * n))) = cPa G (n + 1) := by
  funext j; unfold cPa
  by_cases h : j = n + 1
  · subst h; rw [va_up_self, if_pos (by omega), show 34 + 3 * (n + 1) = 37 + 3 * n by omega]
  · rw [va_up_ne _ _ h]
    by_cases h2 : 1 ≤ j ∧ j ≤ n
    · rw [if_pos h2, if_pos (by omega)]
    · rw [if_neg h2, if_neg (by omega)]
theorem pwN_o {G : gG} {w : Nat → va_E} {i j : Nat} {t : Int64} {x : Int32} (h : j < i ∨ i + 2 < j) : pwN G w i t x j = w j := by
  unfold pwN pw3 pw2 pw1
  rw [va_up_ne _ _ (by omega), va_up_ne _ _ (by omega), va_up_ne _ _ (by omega)]
theorem pwN_1 {G : gG} {n : Nat} {sc : Nat → Int32} {now : Int64} {gi : Nat → Int32} {ck : Nat → Nat → Int32} {ho : Nat → Nat} {pd : Nat → Int64} {pf : Nat → Nat → Int32} {ps : Nat → Nat → Int32} {pe : Nat → Nat → Int32} {pn : Nat → Nat} {w0 : Nat → va_E} {t : Int64} {x : Int32} : pwN G (cw G n (sc, now, gi, ck, ho, pd, pf, ps, pe, pn) w0) (37 + 3 * n) t x 1 = .inl (gCa G 3, 301, .inr (.inr (.inr (.inr (cPa G n))))) := by
  rw [pwN_o (by omega)]; rfl
theorem cw_new {G : gG} {n : Nat} {sc : Nat → Int32} {now : Int64} {gi : Nat → Int32} {ck : Nat → Nat → Int32} {ho : Nat → Nat} {pd : Nat → Int64} {pf : Nat → Nat → Int32} {ps : Nat → Nat → Int32} {pe : Nat → Nat → Int32} {pn : Nat → Nat} {w0 : Nat → va_E} {t : Int64} {x : Int32} : va_up (pwN G (cw G n (sc, now, gi, ck, ho, pd, pf, ps, pe, pn) w0) (37 + 3 * n) t x) 1 (.inl (gCa G 3, 301, .inr (.inr (.inr (.inr (va_up (cPa G n) (n + 1) (some (gB G + (37 + 3 * n))))))))) = cw G (n + 1) (sc, now, gi, ck, ho, va_up pd (n + 1) t, va_up pf (n + 1) (cNewF x), va_up ps (n + 1) (cNeg 20), va_up pe (n + 1) (fun _ => 0), va_up pn (n + 1) 0) w0 := by
  funext i
  by_cases h1 : i = 1
  · subst h1; rw [va_up_self, cPa_up]; rfl
  rw [va_up_ne _ _ h1]
  by_cases h2 : i = 34 + 3 * (n + 1)
  · have e0 : i = 37 + 3 * n := by omega
    rw [h2, cw_pi (by omega), va_up_self, va_up_self, va_up_self, ← h2, e0]
    unfold pwN
    rw [pw3_0, show 37 + 3 * n + 1 = 35 + 3 * (n + 1) by omega, show 35 + 3 * (n + 1) + 1 = 36 + 3 * (n + 1) by omega]
    rfl
  by_cases h3 : i = 35 + 3 * (n + 1)
  · have e0 : i = 37 + 3 * n + 1 := by omega
    rw [h3, cw_ps (by omega), va_up_self, ← h3, e0]
    unfold pwN
    rw [pw3_1]
  by_cases h4 : i = 36 + 3 * (n + 1)
  · have e0 : i = 37 + 3 * n + 1 + 1 := by omega
    rw [h4, cw_pe (by omega), va_up_self, ← h4, e0]
    unfold pwN
    rw [pw3_2]
  rw [pwN_o (by omega)]
  unfold cw
  repeat' split
  all_goals first | (dsimp only; done) | (exact absurd ‹i = 1› h1) | (dsimp only; rw [va_up_ne _ _ (by omega)]; done) | (dsimp only; rw [va_up_ne _ _ (by omega), va_up_ne _ _ (by omega), va_up_ne _ _ (by omega)]; done) | rfl
set_option maxRecDepth 4000 in
theorem c_CR_picture (l : Launch) (G : gG) (N n : Nat) (sc : Nat → Int32) (now : Int64) (gi : Nat → Int32) (ck : Nat → Nat → Int32) (ho : Nat → Nat) (pd : Nat → Int64) (pf : Nat → Nat → Int32) (ps : Nat → Nat → Int32) (pe : Nat → Nat → Int32) (pn : Nat → Nat) (w0 : Nat → va_E) (hN : N = 37 + 3 * n) (hcn : sc 1 = nI n) (hn : n ≤ 300) (hpn : ∀ p, pn p < 4) (t : Int64) (x : Int32) : Met l y_CR_picture (Cond.code y_CR_picture b_CR_picture 4 (some .int) :: gtb) (gR 2 3 33) (gPc G [.ref (gB G + 0), .long t, .int x] (N) (cw G n (sc, now, gi, ck, ho, pd, pf, ps, pe, pn) w0)) (gQ1 G ((cPic n t x (sc, now, gi, ck, ho, pd, pf, ps, pe, pn)).1) (37 + 3 * (cPic n t x (sc, now, gi, ck, ho, pd, pf, ps, pe, pn)).2.1) (cw G (cPic n t x (sc, now, gi, ck, ho, pd, pf, ps, pe, pn)).2.1 (cPic n t x (sc, now, gi, ck, ho, pd, pf, ps, pe, pn)).2.2 w0)) 3 33 (gA (gB G)) := by
  refine g_met (own := "ClerkRows") (by decide) rfl (Nat.le_of_ble_eq_true rfl) ?_
  intro pg ev s0 mi below meth cd F M hr hlocks hnm ls hl
  have hx := F.1.1
  have hb := F.1.2.1
  have hl : lv_has ls 4 [(0, .ref (gB G + 0)), (1, .long t), (3, .int x)] := hl
  subst hN
  refine lv_lload_n hx hb d_CR_picture_0 rfl (lv_at hl 1 rfl) ?_
  refine lv_aload_n hx hb d_CR_picture_1 rfl (lv_at hl 0 rfl) ?_
  refine g_get (v := .long now) F M f_CR_42 d_CR_picture_2 (by omega) cw_0 rfl ?_
  refine lv_ldc2 (v := 1000000000) hx hb F.1.2.2.2.1 (F.1.2.2.2.2 _ wd_97) d_CR_picture_5 ?_
  refine g_call1 (g_rs (rest := []) F M (c_CR_outside l G (37 + 3 * n) (cw G n (sc, now, gi, ck, ho, pd, pf, ps, pe, pn) w0) t now 1000000000) k_CR_48 d_CR_picture_8 ⟨rfl, rfl, by decide, by decide, by decide, by decide⟩ rfl hl.1 (Nat.le_of_ble_eq_true rfl) rfl) M (fun H locs M => ?_)
  refine g_ifneB (tgt := 26) hx hb d_CR_picture_11 (by decide) (fun c_11 => ?_) (fun c_11 => ?_)
  · refine lv_bipush (v := (-102)) hx hb d_CR_picture_26 (by decide) ?_
    exact g_iret F M hr hlocks d_CR_picture_28 (by decide) (by decide) (by unfold cPic; rw [if_pos (Or.inl c_11)]; try rfl) (by unfold cPic; rw [if_pos (Or.inl c_11)]; try rfl) (by unfold cPic; rw [if_pos (Or.inl c_11)]; try rfl)
  · refine lv_iload_n hx hb d_CR_picture_14 rfl (lv_at hl 2 rfl) ?_
    refine lv_i2l hx hb d_CR_picture_15 rfl ?_
    refine lv_lconst (v := 0) hx hb d_CR_picture_16 (by decide) ?_
    refine lv_ldc2 (v := 3) hx hb F.1.2.2.2.1 (F.1.2.2.2.2 _ wd_101) d_CR_picture_17 ?_
    refine g_call1 (g_rs (rest := []) F M (c_CR_outside l G (37 + 3 * n) (cw G n (sc, now, gi, ck, ho, pd, pf, ps, pe, pn) w0) x.toInt64 0 3) k_CR_48 d_CR_picture_20 ⟨rfl, rfl, by decide, by decide, by decide, by decide⟩ rfl hl.1 (Nat.le_of_ble_eq_true rfl) rfl) M (fun H locs M => ?_)
    refine g_ifeqB (tgt := 29) hx hb d_CR_picture_23 (by decide) (fun c_23 => ?_) (fun c_23 => ?_)
    · refine lv_aload_n hx hb d_CR_picture_29 rfl (lv_at hl 0 rfl) ?_
      refine g_get (v := .int (nI n)) F M f_CR_39 d_CR_picture_30 (by omega) cw_0 (congrArg (fun z => some (Value.int z)) hcn) ?_
      refine lv_sipush (v := 300) hx hb d_CR_picture_33 (by decide) ?_
      refine lv_icmp_ne (tgt := 42) hx hb d_CR_picture_36 (by decide) (fun c_36 => ?_) (fun c_36 => ?_)
      · have c_36 : ¬ n = 300 := fun h => c_36 ((nI_eq (a := n) (b := 300) (by omega) (by omega)).mpr h)
        refine lv_aload_n hx hb d_CR_picture_42 rfl (lv_at hl 0 rfl) ?_
        refine g_get (v := .int (sc 3)) F M f_CR_71 d_CR_picture_43 (by omega) cw_0 rfl ?_
        refine lv_aload_n hx hb d_CR_picture_46 rfl (lv_at hl 0 rfl) ?_
        refine g_get (v := .int (sc 0)) F M f_CR_34 d_CR_picture_47 (by omega) cw_0 rfl ?_
        refine lv_icmp_ne (tgt := 55) hx hb d_CR_picture_50 (by decide) (fun c_50 => ?_) (fun c_50 => ?_)
        · refine lv_aload_n hx hb d_CR_picture_55 rfl (lv_at hl 0 rfl) ?_
          refine lv_dup hx hb d_CR_picture_56 rfl ?_
          refine g_get (v := .int (nI n)) F M f_CR_39 d_CR_picture_57 (by omega) cw_0 (congrArg (fun z => some (Value.int z)) hcn) ?_
          refine lv_iconst (v := 1) hx hb d_CR_picture_60 (by decide) ?_
          refine lv_iadd hx hb d_CR_picture_61 ?_
          refine g_topi (x' := nI (n + 1)) (nI_add (n) (1)) ?_
          refine g_put F M f_CR_39 d_CR_picture_62 (by omega) cw_0 rfl rfl rfl (Nat.le_of_ble_eq_true rfl) cw_p_count (fun H locs M => ?_)
          refine lv_aload_n hx hb d_CR_picture_65 rfl (lv_at hl 0 rfl) ?_
          refine lv_dup hx hb d_CR_picture_66 rfl ?_
          refine g_get (v := .int (sc 3)) F M f_CR_71 d_CR_picture_67 (by omega) cw_0 rfl ?_
          refine lv_iconst (v := 1) hx hb d_CR_picture_70 (by decide) ?_
          refine lv_iadd hx hb d_CR_picture_71 ?_
          refine g_put F M f_CR_71 d_CR_picture_72 (by omega) cw_0 rfl rfl rfl (Nat.le_of_ble_eq_true rfl) cw_p_open (fun H locs M => ?_)
          refine lv_aload_n hx hb d_CR_picture_75 rfl (lv_at hl 0 rfl) ?_
          refine g_get (v := .ref (gB G + 1)) F M f_CR_11 d_CR_picture_76 (by omega) cw_0 rfl ?_
          refine lv_aload_n hx hb d_CR_picture_79 rfl (lv_at hl 0 rfl) ?_
          refine g_get (v := .int (nI (n + 1))) F M f_CR_39 d_CR_picture_80 (by omega) cw_0 rfl ?_
          refine g_new (fs := [.long 0, .int 0, .int 0, .null, .int 0, .null, .int 0, .int 0, .null, .int 0]) F M gC_Picture wd_34 bl_Picture (Nat.le_of_ble_eq_true rfl) (Nat.le_of_ble_eq_true rfl) d_CR_picture_83 rfl (fun H M => ?_)
          refine lv_dup hx hb d_CR_picture_86 rfl ?_
          refine lv_lload_n hx hb d_CR_picture_87 rfl (lv_at hl 1 rfl) ?_
          refine lv_iload_n hx hb d_CR_picture_88 rfl (lv_at hl 2 rfl) ?_
          refine g_call0 (g_ri (rest := [.ref (gB G + (37 + 3 * n)), .int (nI (n + 1)), .ref (gB G + 1)]) F M (c_Pi_init l G (cw G n (va_up (va_up sc 1 (nI (n + 1))) 3 ((sc 3) + 1), now, gi, ck, ho, pd, pf, ps, pe, pn) w0) (37 + 3 * n) t x) k_CR_76 d_CR_picture_89 ⟨rfl, rfl, by decide, by decide, by decide, by decide⟩ rfl hl.1 (Nat.le_of_ble_eq_true rfl) rfl) M (fun H locs M => ?_)
          refine g_aast (r := (R_Picture, F_Picture, 10)) F M 3 rfl d_CR_picture_92 (by omega) pwN_1 (by omega) pw3_0 rfl (by omega) (by decide) cw_new (fun H locs M => ?_)
          refine lv_aload_n hx hb d_CR_picture_93 rfl (lv_at hl 0 rfl) ?_
          refine g_get (v := .int (nI (n + 1))) F M f_CR_39 d_CR_picture_94 (by omega) cw_0 rfl ?_
          exact g_iret F M hr hlocks d_CR_picture_97 (by decide) (by decide) (by unfold cPic; rw [if_neg (fun h => h.elim c_11 c_23), if_neg c_36, if_neg c_50]; try rfl) (by unfold cPic; rw [if_neg (fun h => h.elim c_11 c_23), if_neg c_36, if_neg c_50]; try rfl) (by unfold cPic; rw [if_neg (fun h => h.elim c_11 c_23), if_neg c_36, if_neg c_50]; try rfl)
        · refine lv_iconst (v := 0) hx hb d_CR_picture_53 (by decide) ?_
          exact g_iret F M hr hlocks d_CR_picture_54 (by decide) (by decide) (by unfold cPic; rw [if_neg (fun h => h.elim c_11 c_23), if_neg c_36, if_pos c_50]; try rfl) (by unfold cPic; rw [if_neg (fun h => h.elim c_11 c_23), if_neg c_36, if_pos c_50]; try rfl) (by unfold cPic; rw [if_neg (fun h => h.elim c_11 c_23), if_neg c_36, if_pos c_50]; try rfl)
      · have c_36 : n = 300 := (nI_eq (a := n) (b := 300) (by omega) (by omega)).mp c_36
        refine lv_bipush (v := (-104)) hx hb d_CR_picture_39 (by decide) ?_
        exact g_iret F M hr hlocks d_CR_picture_41 (by decide) (by decide) (by unfold cPic; rw [if_neg (fun h => h.elim c_11 c_23), if_pos c_36]; try rfl) (by unfold cPic; rw [if_neg (fun h => h.elim c_11 c_23), if_pos c_36]; try rfl) (by unfold cPic; rw [if_neg (fun h => h.elim c_11 c_23), if_pos c_36]; try rfl)
    · refine lv_bipush (v := (-102)) hx hb d_CR_picture_26 (by decide) ?_
      exact g_iret F M hr hlocks d_CR_picture_28 (by decide) (by decide) (by unfold cPic; rw [if_pos (Or.inr c_23)]; try rfl) (by unfold cPic; rw [if_pos (Or.inr c_23)]; try rfl) (by unfold cPic; rw [if_pos (Or.inr c_23)]; try rfl)
end
section
/-! ===== the makers of the two sides ===== -/
def mMost (x : Int32) : Int32 := if x < 1 then 1 else if 100 < x then 100 else x
def mSc0 (x : Int32) : Nat → Int32 := va_up (fun _ => 0) 1 (mMost x)
def mIni (x : Int32) : MSt := (mSc0 x, 0, fun _ => 0, va_up (fun _ _ => 0) 33 (cNeg 6020))
def cBnd (x : Int32) : Int32 := if (1 : Int32) < (if (100 : Int32) < x then 100 else x) then (if (100 : Int32) < x then 100 else x) else 1
def cIni (x : Int32) : CSt := (va_up (fun _ => 0) 0 (cBnd x), 0, fun _ => 0, fun _ _ => 0, fun _ => 0, fun _ => 0, fun _ _ => 0, fun _ _ => 0, fun _ _ => 0, fun _ => 0)
def ciw (G : gG) (x : Int32) (w : Nat → va_E) (k : Nat) : Nat → va_E := fun i => if i = 0 then .inr (2, [.int (cBnd x), .ref (gB G + 1), .int 0, .ref (gB G + 2), .ref (gB G + 3), .long 0, .int 0, .int 0]) else if i = 1 then .inl (gCa G 3, 301, .inr (.inr (.inr (.inr (fun _ => none))))) else if i = 2 then .inl (gCa G 4, 20, .inr (.inr (.inr (.inr (cCa G k))))) else if i = 3 then .inl (gCa G 0, 20, .inl (fun _ => 0)) else if i < 4 + k then .inr (0, [.int 0, .int 0, .int 0, .null]) else w i
theorem cCa_up {G : gG} {k : Nat} : va_up (cCa G k) k (some (gB G + (4 + k))) = cCa G (k + 1) := by
  funext j; unfold cCa
  by_cases h : j = k
  · subst h; rw [va_up_self, if_pos (by omega)]
  · rw [va_up_ne _ _ h]
    by_cases h2 : j < k
    · rw [if_pos h2, if_pos (by omega)]
    · rw [if_neg h2, if_neg (by omega)]
theorem ciw_s {G : gG} {x : Int32} {w : Nat → va_E} {k : Nat} : va_up (va_up (ciw G x w k) (4 + k) (.inr (0, [.int 0, .int 0, .int 0, .null]))) 2 (.inl (gCa G 4, 20, .inr (.inr (.inr (.inr (va_up (cCa G k) k (some (gB G + (4 + k))))))))) = ciw G x w (k + 1) := by
  funext i
  rw [cCa_up]
  by_cases h2 : i = 2
  · subst h2; rw [va_up_self]; rfl
  rw [va_up_ne _ _ h2]
  by_cases h4 : i = 4 + k
  · subst h4
    rw [va_up_self]
    unfold ciw
    rw [if_neg (by omega), if_neg (by omega), if_neg (by omega), if_neg (by omega), if_pos (by omega)]
  rw [va_up_ne _ _ h4]
  unfold ciw
  by_cases h0 : i = 0
  · rw [if_pos h0, if_pos h0]
  rw [if_neg h0, if_neg h0]
  by_cases h1 : i = 1
  · rw [if_pos h1, if_pos h1]
  rw [if_neg h1, if_neg h1, if_neg h2, if_neg h2]
  by_cases h3 : i = 3
  · rw [if_pos h3, if_pos h3]
  rw [if_neg h3, if_neg h3]
  by_cases h5 : i < 4 + k
  · rw [if_pos h5, if_pos (by omega)]
  · rw [if_neg h5, if_neg (by omega)]
theorem ciw_e {G : gG} {x : Int32} {w : Nat → va_E} : ∀ i, i < 24 → ciw G x w 20 i = cw G 0 (cIni x) w i := by
  intro i hi
  unfold ciw cw cIni
  by_cases h0 : i = 0
  · rw [if_pos h0, if_pos h0]; rfl
  rw [if_neg h0, if_neg h0]
  by_cases h1 : i = 1
  · rw [if_pos h1, if_pos h1]
    have e1 : cPa G 0 = fun _ => none := by funext j; unfold cPa; rw [if_neg (by omega)]
    rw [e1]
  rw [if_neg h1, if_neg h1]
  by_cases h2 : i = 2
  · rw [if_pos h2, if_pos h2]
  rw [if_neg h2, if_neg h2]
  by_cases h3 : i = 3
  · rw [if_pos h3, if_pos h3]
  rw [if_neg h3, if_neg h3, if_pos (by omega), if_pos (by omega)]
  rfl
theorem bl_Clerk : ∀ j, j < 4 → defaultValue (t_Clerk j) = vp_V [.int 0, .int 0, .int 0, .null] j := by
  intro j hj
  rcases (show j = 0 ∨ j = 1 ∨ j = 2 ∨ j = 3 by omega) with rfl | rfl | rfl | rfl <;> rfl
theorem bl_CR : ∀ j, j < 8 → defaultValue (t_CR j) = vp_V [.int 0, .null, .int 0, .null, .null, .long 0, .int 0, .int 0] j := by
  intro j hj
  rcases (show j = 0 ∨ j = 1 ∨ j = 2 ∨ j = 3 ∨ j = 4 ∨ j = 5 ∨ j = 6 ∨ j = 7 by omega) with rfl | rfl | rfl | rfl | rfl | rfl | rfl | rfl <;> rfl
theorem bl_Model : ∀ j, j < 17 → defaultValue (t_Model j) = vp_V [.int 0, .int 0, .int 0, .null, .null, .null, .null, .null, .null, .null, .null, .null, .null, .null, .null, .long 0, .int 0] j := by
  intro j hj
  rcases (show j = 0 ∨ j = 1 ∨ j = 2 ∨ j = 3 ∨ j = 4 ∨ j = 5 ∨ j = 6 ∨ j = 7 ∨ j = 8 ∨ j = 9 ∨ j = 10 ∨ j = 11 ∨ j = 12 ∨ j = 13 ∨ j = 14 ∨ j = 15 ∨ j = 16 by omega) with rfl | rfl | rfl | rfl | rfl | rfl | rfl | rfl | rfl | rfl | rfl | rfl | rfl | rfl | rfl | rfl | rfl <;> rfl
set_option maxRecDepth 4000 in
theorem c_Mo_init (l : Launch) (G : gG) (w : Nat → va_E) (x : Int32) : Met l y_Mo_init (Cond.code y_Mo_init b_Mo_init 3 none :: gtb) (gR 1 12 20528) (gPc G [.ref (gB G + 24), .int x] (25) (va_up w 24 (.inr (3, [.int 0, .int 0, .int 0, .null, .null, .null, .null, .null, .null, .null, .null, .null, .null, .null, .null, .long 0, .int 0])))) (gQ0 G (37) (mw G (mIni x) w)) 12 20528 (gA (gB G)) := by
  refine g_met (own := "ClerkRowsModel") (by decide) rfl (Nat.le_of_ble_eq_true rfl) ?_
  intro pg ev s0 mi below meth cd F M hr hlocks hnm ls hl
  have hx := F.1.1
  have hb := F.1.2.1
  have hl : lv_has ls 3 [(0, .ref (gB G + 24)), (1, .int x)] := hl
  refine lv_aload_n hx hb d_Mo_init_0 rfl (lv_at hl 0 rfl) ?_
  refine W.objInit hx hb F.1.2.2.2.1 (F.1.2.2.2.2 _ wd_267) (F.1.2.2.2.2 _ wd_32) (F.1.2.2.2.2 _ wd_33) rfl (by rw [F.1.2.2.1]; exact hl.1) rfl d_Mo_init_1 (Nat.le_of_ble_eq_true rfl) (Nat.le_of_ble_eq_true rfl) ?_
  refine W.eq (g2 := F0 mi 4 ls []) rfl ?_
  refine lv_aload_n hx hb d_Mo_init_4 rfl (lv_at hl 0 rfl) ?_
  refine lv_sipush (v := 301) hx hb d_Mo_init_5 (by decide) ?_
  refine g_newl (n' := 301) F M rfl (by decide) (Nat.le_of_ble_eq_true rfl) (Nat.le_of_ble_eq_true rfl) d_Mo_init_8 rfl (fun H M => ?_)
  refine g_putF F M f_Mo_7 d_Mo_init_10 (by decide) rfl rfl hnm rfl rfl rfl (Nat.le_of_ble_eq_true rfl) rfl (fun H locs M => ?_)
  refine lv_aload_n hx hb d_Mo_init_13 rfl (lv_at hl 0 rfl) ?_
  refine lv_sipush (v := 301) hx hb d_Mo_init_14 (by decide) ?_
  refine g_newi (n' := 301) F M rfl (by decide) (Nat.le_of_ble_eq_true rfl) (Nat.le_of_ble_eq_true rfl) d_Mo_init_17 rfl (fun H M => ?_)
  refine g_putF F M f_Mo_13 d_Mo_init_19 (by decide) rfl rfl hnm rfl rfl rfl (Nat.le_of_ble_eq_true rfl) rfl (fun H locs M => ?_)
  refine lv_aload_n hx hb d_Mo_init_22 rfl (lv_at hl 0 rfl) ?_
  refine lv_sipush (v := 301) hx hb d_Mo_init_23 (by decide) ?_
  refine g_newi (n' := 301) F M rfl (by decide) (Nat.le_of_ble_eq_true rfl) (Nat.le_of_ble_eq_true rfl) d_Mo_init_26 rfl (fun H M => ?_)
  refine g_putF F M f_Mo_17 d_Mo_init_28 (by decide) rfl rfl hnm rfl rfl rfl (Nat.le_of_ble_eq_true rfl) rfl (fun H locs M => ?_)
  refine lv_aload_n hx hb d_Mo_init_31 rfl (lv_at hl 0 rfl) ?_
  refine lv_sipush (v := 301) hx hb d_Mo_init_32 (by decide) ?_
  refine g_newi (n' := 301) F M rfl (by decide) (Nat.le_of_ble_eq_true rfl) (Nat.le_of_ble_eq_true rfl) d_Mo_init_35 rfl (fun H M => ?_)
  refine g_putF F M f_Mo_20 d_Mo_init_37 (by decide) rfl rfl hnm rfl rfl rfl (Nat.le_of_ble_eq_true rfl) rfl (fun H locs M => ?_)
  refine lv_aload_n hx hb d_Mo_init_40 rfl (lv_at hl 0 rfl) ?_
  refine lv_sipush (v := 301) hx hb d_Mo_init_41 (by decide) ?_
  refine g_newi (n' := 301) F M rfl (by decide) (Nat.le_of_ble_eq_true rfl) (Nat.le_of_ble_eq_true rfl) d_Mo_init_44 rfl (fun H M => ?_)
  refine g_putF F M f_Mo_23 d_Mo_init_46 (by decide) rfl rfl hnm rfl rfl rfl (Nat.le_of_ble_eq_true rfl) rfl (fun H locs M => ?_)
  refine lv_aload_n hx hb d_Mo_init_49 rfl (lv_at hl 0 rfl) ?_
  refine lv_sipush (v := 903) hx hb d_Mo_init_50 (by decide) ?_
  refine g_newi (n' := 903) F M rfl (by decide) (Nat.le_of_ble_eq_true rfl) (Nat.le_of_ble_eq_true rfl) d_Mo_init_53 rfl (fun H M => ?_)
  refine g_putF F M f_Mo_26 d_Mo_init_55 (by decide) rfl rfl hnm rfl rfl rfl (Nat.le_of_ble_eq_true rfl) rfl (fun H locs M => ?_)
  refine lv_aload_n hx hb d_Mo_init_58 rfl (lv_at hl 0 rfl) ?_
  refine lv_sipush (v := 6020) hx hb d_Mo_init_59 (by decide) ?_
  refine g_newi (n' := 6020) F M rfl (by decide) (Nat.le_of_ble_eq_true rfl) (Nat.le_of_ble_eq_true rfl) d_Mo_init_62 rfl (fun H M => ?_)
  refine g_putF F M f_Mo_29 d_Mo_init_64 (by decide) rfl rfl hnm rfl rfl rfl (Nat.le_of_ble_eq_true rfl) rfl (fun H locs M => ?_)
  refine lv_aload_n hx hb d_Mo_init_67 rfl (lv_at hl 0 rfl) ?_
  refine lv_sipush (v := 6020) hx hb d_Mo_init_68 (by decide) ?_
  refine g_newi (n' := 6020) F M rfl (by decide) (Nat.le_of_ble_eq_true rfl) (Nat.le_of_ble_eq_true rfl) d_Mo_init_71 rfl (fun H M => ?_)
  refine g_putF F M f_Mo_32 d_Mo_init_73 (by decide) rfl rfl hnm rfl rfl rfl (Nat.le_of_ble_eq_true rfl) rfl (fun H locs M => ?_)
  refine lv_aload_n hx hb d_Mo_init_76 rfl (lv_at hl 0 rfl) ?_
  refine lv_sipush (v := 6020) hx hb d_Mo_init_77 (by decide) ?_
  refine g_newi (n' := 6020) F M rfl (by decide) (Nat.le_of_ble_eq_true rfl) (Nat.le_of_ble_eq_true rfl) d_Mo_init_80 rfl (fun H M => ?_)
  refine g_putF F M f_Mo_35 d_Mo_init_82 (by decide) rfl rfl hnm rfl rfl rfl (Nat.le_of_ble_eq_true rfl) rfl (fun H locs M => ?_)
  refine lv_aload_n hx hb d_Mo_init_85 rfl (lv_at hl 0 rfl) ?_
  refine lv_bipush (v := 20) hx hb d_Mo_init_86 (by decide) ?_
  refine g_newz (n' := 20) F M rfl (by decide) (Nat.le_of_ble_eq_true rfl) (Nat.le_of_ble_eq_true rfl) d_Mo_init_88 rfl (fun H M => ?_)
  refine g_putF F M f_Mo_38 d_Mo_init_90 (by decide) rfl rfl hnm rfl rfl rfl (Nat.le_of_ble_eq_true rfl) rfl (fun H locs M => ?_)
  refine lv_aload_n hx hb d_Mo_init_93 rfl (lv_at hl 0 rfl) ?_
  refine lv_bipush (v := 20) hx hb d_Mo_init_94 (by decide) ?_
  refine g_newi (n' := 20) F M rfl (by decide) (Nat.le_of_ble_eq_true rfl) (Nat.le_of_ble_eq_true rfl) d_Mo_init_96 rfl (fun H M => ?_)
  refine g_putF F M f_Mo_42 d_Mo_init_98 (by decide) rfl rfl hnm rfl rfl rfl (Nat.le_of_ble_eq_true rfl) rfl (fun H locs M => ?_)
  refine lv_aload_n hx hb d_Mo_init_101 rfl (lv_at hl 0 rfl) ?_
  refine lv_bipush (v := 20) hx hb d_Mo_init_102 (by decide) ?_
  refine g_newi (n' := 20) F M rfl (by decide) (Nat.le_of_ble_eq_true rfl) (Nat.le_of_ble_eq_true rfl) d_Mo_init_104 rfl (fun H M => ?_)
  refine g_putF F M f_Mo_45 d_Mo_init_106 (by decide) rfl rfl hnm rfl rfl rfl (Nat.le_of_ble_eq_true rfl) rfl (fun H locs M => ?_)
  refine lv_aload_n hx hb d_Mo_init_109 rfl (lv_at hl 0 rfl) ?_
  refine lv_iload_n hx hb d_Mo_init_110 rfl (lv_at hl 1 rfl) ?_
  refine lv_iconst (v := 1) hx hb d_Mo_init_111 (by decide) ?_
  refine lv_icmp_ge (tgt := 119) hx hb d_Mo_init_112 (by decide) (fun c_112 => ?_) (fun c_112 => ?_)
  · have c_112 := i32_nlt c_112
    refine lv_iload_n hx hb d_Mo_init_119 rfl (lv_at hl 1 rfl) ?_
    refine lv_bipush (v := 100) hx hb d_Mo_init_120 (by decide) ?_
    refine lv_icmp_le (tgt := 130) hx hb d_Mo_init_122 (by decide) (fun c_122 => ?_) (fun c_122 => ?_)
    · have c_122 := i32_nlt c_122
      refine lv_iload_n hx hb d_Mo_init_130 rfl (lv_at hl 1 rfl) ?_
      refine g_topi (x' := mMost x) (by unfold mMost; rw [if_neg c_112, if_neg c_122]) ?_
      refine g_putF F M f_Mo_48 d_Mo_init_131 (by decide) rfl rfl hnm rfl rfl rfl (Nat.le_of_ble_eq_true rfl) rfl (fun H locs M => ?_)
      have M := M.cg (w' := mw G (mSc0 x, 0, fun _ => 0, fun _ _ => 0) w) (by
        intro i hi
        by_cases h : i < 24
        · have h24 : ¬ i = 24 := by omega
          rw [mw_o (by omega)]
          simp only [va_up, h24, if_false]
          rw [if_neg (show ¬ i = 36 by omega), if_neg (show ¬ i = 35 by omega), if_neg (show ¬ i = 34 by omega), if_neg (show ¬ i = 33 by omega), if_neg (show ¬ i = 32 by omega), if_neg (show ¬ i = 31 by omega), if_neg (show ¬ i = 30 by omega), if_neg (show ¬ i = 29 by omega), if_neg (show ¬ i = 28 by omega), if_neg (show ¬ i = 27 by omega), if_neg (show ¬ i = 26 by omega), if_neg (show ¬ i = 25 by omega)]
        · rcases (show i = 24 ∨ i = 25 ∨ i = 26 ∨ i = 27 ∨ i = 28 ∨ i = 29 ∨ i = 30 ∨ i = 31 ∨ i = 32 ∨ i = 33 ∨ i = 34 ∨ i = 35 ∨ i = 36 by omega) with rfl | rfl | rfl | rfl | rfl | rfl | rfl | rfl | rfl | rfl | rfl | rfl | rfl <;> rfl)
      refine lv_iconst (v := 0) hx hb d_Mo_init_134 (by decide) ?_
      refine lv_istore_n (lv' := [(2, .int 0), (0, .ref (gB G + 24)), (1, .int x)]) hx hb d_Mo_init_135 rfl hl (by decide) rfl (fun ls hl => ?_)
      have loop_136 : ∀ (fuel k : Nat), 6020 < k + fuel → k ≤ 6020 → ∀ (z2 : Int32), z2 = nI k → ∀ (wz : Nat → va_E), wz = mw G (mSc0 x, 0, fun _ => 0, va_up (fun _ _ => 0) 33 (cNeg k)) w → ∀ (H : Heap) (locs : List Loc) (ls : Array Slot), gM G s0 (37) wz H locs → lv_has ls 3 [(0, .ref (gB G + 24)), (2, .int z2)] → W pg l ev (gR 1 12 20528) s0 mi ([.ref (gB G + 24), .int x] : List Value).toArray below meth cd H locs 12 20528 (MQ below (gQ0 G (37) (mw G (mIni x) w)) ([.ref (gB G + 24), .int x] : List Value).toArray s0 12 20528 (gA (gB G))) (F0 mi 136 ls []) := by
        intro fuel
        induction fuel with
        | zero => intro k h1 h2; exact absurd h1 (by omega)
        | succ fuel ih =>
          intro k hk1 hk2 z2 e2 wz ew H locs ls M hl
          subst e2 ew
          have hl : lv_has ls 3 [(0, .ref (gB G + 24)), (2, .int (nI k))] := hl
          refine lv_iload_n hx hb d_Mo_init_136 rfl (lv_at hl 1 rfl) ?_
          refine lv_sipush (v := 6020) hx hb d_Mo_init_137 (by decide) ?_
          refine lv_icmp_ge (tgt := 156) hx hb d_Mo_init_140 (by decide) (fun c_140 => ?_) (fun c_140 => ?_)
          · have c_140 : 6020 ≤ k := (nI_leI (a := 6020) (b := k) (by omega) (by omega)).mp c_140
            have hkn : 6020 = k := by omega
            subst hkn
            exact g_vret F M hr hlocks d_Mo_init_156 (by decide) (by decide) rfl (rfl)
          · have c_140 : ¬ 6020 ≤ k := fun h => c_140 ((nI_leI (a := 6020) (b := k) (by omega) (by omega)).mpr h)
            refine lv_aload_n hx hb d_Mo_init_143 rfl (lv_at hl 0 rfl) ?_
            refine g_get (v := .ref (gB G + 33)) F M f_Mo_35 d_Mo_init_144 (by omega) mw_24 rfl ?_
            refine lv_iload_n hx hb d_Mo_init_147 rfl (lv_at hl 1 rfl) ?_
            refine lv_iconst (v := (-1)) hx hb d_Mo_init_148 (by decide) ?_
            refine g_iast (f := (cNeg k)) F M d_Mo_init_149 (by omega) mw_33 (by omega) (by decide) mw_s_33 (fun H locs M => ?_)
            refine lv_iinc (v := nI (k + 1)) (lv' := [(2, .int (nI (k + 1))), (0, .ref (gB G + 24))]) hx hb d_Mo_init_150 hl (k := 1) rfl (nI_1 _) (by decide) rfl (fun ls hl => ?_)
            refine lv_goto (tgt := 136) hx hb d_Mo_init_153 (by decide) ?_
            exact ih (k + 1) (by omega) (by omega) _ rfl _ (by rw [bx_uu, cNeg_s]) _ _ ls M (lv_sub hl [1, 0] rfl)
      exact loop_136 (6020 + 1) 0 (by omega) (by omega) _ rfl _ (by rw [cNeg_0]; exact congrArg (fun z => mw G (mSc0 x, 0, fun _ => 0, z) w) (va_up_id (fun _ _ => (0 : Int32)) 33).symm) _ _ ls M (lv_sub hl [1, 0] rfl)
    · have c_122 := i32_lt c_122
      refine lv_bipush (v := 100) hx hb d_Mo_init_125 (by decide) ?_
      refine lv_goto (tgt := 131) hx hb d_Mo_init_127 (by decide) ?_
      refine g_topi (x' := mMost x) (by unfold mMost; rw [if_neg c_112, if_pos c_122]) ?_
      refine g_putF F M f_Mo_48 d_Mo_init_131 (by decide) rfl rfl hnm rfl rfl rfl (Nat.le_of_ble_eq_true rfl) rfl (fun H locs M => ?_)
      have M := M.cg (w' := mw G (mSc0 x, 0, fun _ => 0, fun _ _ => 0) w) (by
        intro i hi
        by_cases h : i < 24
        · have h24 : ¬ i = 24 := by omega
          rw [mw_o (by omega)]
          simp only [va_up, h24, if_false]
          rw [if_neg (show ¬ i = 36 by omega), if_neg (show ¬ i = 35 by omega), if_neg (show ¬ i = 34 by omega), if_neg (show ¬ i = 33 by omega), if_neg (show ¬ i = 32 by omega), if_neg (show ¬ i = 31 by omega), if_neg (show ¬ i = 30 by omega), if_neg (show ¬ i = 29 by omega), if_neg (show ¬ i = 28 by omega), if_neg (show ¬ i = 27 by omega), if_neg (show ¬ i = 26 by omega), if_neg (show ¬ i = 25 by omega)]
        · rcases (show i = 24 ∨ i = 25 ∨ i = 26 ∨ i = 27 ∨ i = 28 ∨ i = 29 ∨ i = 30 ∨ i = 31 ∨ i = 32 ∨ i = 33 ∨ i = 34 ∨ i = 35 ∨ i = 36 by omega) with rfl | rfl | rfl | rfl | rfl | rfl | rfl | rfl | rfl | rfl | rfl | rfl | rfl <;> rfl)
      refine lv_iconst (v := 0) hx hb d_Mo_init_134 (by decide) ?_
      refine lv_istore_n (lv' := [(2, .int 0), (0, .ref (gB G + 24)), (1, .int x)]) hx hb d_Mo_init_135 rfl hl (by decide) rfl (fun ls hl => ?_)
      have loop_136 : ∀ (fuel k : Nat), 6020 < k + fuel → k ≤ 6020 → ∀ (z2 : Int32), z2 = nI k → ∀ (wz : Nat → va_E), wz = mw G (mSc0 x, 0, fun _ => 0, va_up (fun _ _ => 0) 33 (cNeg k)) w → ∀ (H : Heap) (locs : List Loc) (ls : Array Slot), gM G s0 (37) wz H locs → lv_has ls 3 [(0, .ref (gB G + 24)), (2, .int z2)] → W pg l ev (gR 1 12 20528) s0 mi ([.ref (gB G + 24), .int x] : List Value).toArray below meth cd H locs 12 20528 (MQ below (gQ0 G (37) (mw G (mIni x) w)) ([.ref (gB G + 24), .int x] : List Value).toArray s0 12 20528 (gA (gB G))) (F0 mi 136 ls []) := by
        intro fuel
        induction fuel with
        | zero => intro k h1 h2; exact absurd h1 (by omega)
        | succ fuel ih =>
          intro k hk1 hk2 z2 e2 wz ew H locs ls M hl
          subst e2 ew
          have hl : lv_has ls 3 [(0, .ref (gB G + 24)), (2, .int (nI k))] := hl
          refine lv_iload_n hx hb d_Mo_init_136 rfl (lv_at hl 1 rfl) ?_
          refine lv_sipush (v := 6020) hx hb d_Mo_init_137 (by decide) ?_
          refine lv_icmp_ge (tgt := 156) hx hb d_Mo_init_140 (by decide) (fun c_140 => ?_) (fun c_140 => ?_)
          · have c_140 : 6020 ≤ k := (nI_leI (a := 6020) (b := k) (by omega) (by omega)).mp c_140
            have hkn : 6020 = k := by omega
            subst hkn
            exact g_vret F M hr hlocks d_Mo_init_156 (by decide) (by decide) rfl (rfl)
          · have c_140 : ¬ 6020 ≤ k := fun h => c_140 ((nI_leI (a := 6020) (b := k) (by omega) (by omega)).mpr h)
            refine lv_aload_n hx hb d_Mo_init_143 rfl (lv_at hl 0 rfl) ?_
            refine g_get (v := .ref (gB G + 33)) F M f_Mo_35 d_Mo_init_144 (by omega) mw_24 rfl ?_
            refine lv_iload_n hx hb d_Mo_init_147 rfl (lv_at hl 1 rfl) ?_
            refine lv_iconst (v := (-1)) hx hb d_Mo_init_148 (by decide) ?_
            refine g_iast (f := (cNeg k)) F M d_Mo_init_149 (by omega) mw_33 (by omega) (by decide) mw_s_33 (fun H locs M => ?_)
            refine lv_iinc (v := nI (k + 1)) (lv' := [(2, .int (nI (k + 1))), (0, .ref (gB G + 24))]) hx hb d_Mo_init_150 hl (k := 1) rfl (nI_1 _) (by decide) rfl (fun ls hl => ?_)
            refine lv_goto (tgt := 136) hx hb d_Mo_init_153 (by decide) ?_
            exact ih (k + 1) (by omega) (by omega) _ rfl _ (by rw [bx_uu, cNeg_s]) _ _ ls M (lv_sub hl [1, 0] rfl)
      exact loop_136 (6020 + 1) 0 (by omega) (by omega) _ rfl _ (by rw [cNeg_0]; exact congrArg (fun z => mw G (mSc0 x, 0, fun _ => 0, z) w) (va_up_id (fun _ _ => (0 : Int32)) 33).symm) _ _ ls M (lv_sub hl [1, 0] rfl)
  · have c_112 := i32_lt c_112
    refine lv_iconst (v := 1) hx hb d_Mo_init_115 (by decide) ?_
    refine lv_goto (tgt := 131) hx hb d_Mo_init_116 (by decide) ?_
    refine g_topi (x' := mMost x) (by unfold mMost; rw [if_pos c_112]) ?_
    refine g_putF F M f_Mo_48 d_Mo_init_131 (by decide) rfl rfl hnm rfl rfl rfl (Nat.le_of_ble_eq_true rfl) rfl (fun H locs M => ?_)
    have M := M.cg (w' := mw G (mSc0 x, 0, fun _ => 0, fun _ _ => 0) w) (by
      intro i hi
      by_cases h : i < 24
      · have h24 : ¬ i = 24 := by omega
        rw [mw_o (by omega)]
        simp only [va_up, h24, if_false]
        rw [if_neg (show ¬ i = 36 by omega), if_neg (show ¬ i = 35 by omega), if_neg (show ¬ i = 34 by omega), if_neg (show ¬ i = 33 by omega), if_neg (show ¬ i = 32 by omega), if_neg (show ¬ i = 31 by omega), if_neg (show ¬ i = 30 by omega), if_neg (show ¬ i = 29 by omega), if_neg (show ¬ i = 28 by omega), if_neg (show ¬ i = 27 by omega), if_neg (show ¬ i = 26 by omega), if_neg (show ¬ i = 25 by omega)]
      · rcases (show i = 24 ∨ i = 25 ∨ i = 26 ∨ i = 27 ∨ i = 28 ∨ i = 29 ∨ i = 30 ∨ i = 31 ∨ i = 32 ∨ i = 33 ∨ i = 34 ∨ i = 35 ∨ i = 36 by omega) with rfl | rfl | rfl | rfl | rfl | rfl | rfl | rfl | rfl | rfl | rfl | rfl | rfl <;> rfl)
    refine lv_iconst (v := 0) hx hb d_Mo_init_134 (by decide) ?_
    refine lv_istore_n (lv' := [(2, .int 0), (0, .ref (gB G + 24)), (1, .int x)]) hx hb d_Mo_init_135 rfl hl (by decide) rfl (fun ls hl => ?_)
    have loop_136 : ∀ (fuel k : Nat), 6020 < k + fuel → k ≤ 6020 → ∀ (z2 : Int32), z2 = nI k → ∀ (wz : Nat → va_E), wz = mw G (mSc0 x, 0, fun _ => 0, va_up (fun _ _ => 0) 33 (cNeg k)) w → ∀ (H : Heap) (locs : List Loc) (ls : Array Slot), gM G s0 (37) wz H locs → lv_has ls 3 [(0, .ref (gB G + 24)), (2, .int z2)] → W pg l ev (gR 1 12 20528) s0 mi ([.ref (gB G + 24), .int x] : List Value).toArray below meth cd H locs 12 20528 (MQ below (gQ0 G (37) (mw G (mIni x) w)) ([.ref (gB G + 24), .int x] : List Value).toArray s0 12 20528 (gA (gB G))) (F0 mi 136 ls []) := by
      intro fuel
      induction fuel with
      | zero => intro k h1 h2; exact absurd h1 (by omega)
      | succ fuel ih =>
        intro k hk1 hk2 z2 e2 wz ew H locs ls M hl
        subst e2 ew
        have hl : lv_has ls 3 [(0, .ref (gB G + 24)), (2, .int (nI k))] := hl
        refine lv_iload_n hx hb d_Mo_init_136 rfl (lv_at hl 1 rfl) ?_
        refine lv_sipush (v := 6020) hx hb d_Mo_init_137 (by decide) ?_
        refine lv_icmp_ge (tgt := 156) hx hb d_Mo_init_140 (by decide) (fun c_140 => ?_) (fun c_140 => ?_)
        · have c_140 : 6020 ≤ k := (nI_leI (a := 6020) (b := k) (by omega) (by omega)).mp c_140
          have hkn : 6020 = k := by omega
          subst hkn
          exact g_vret F M hr hlocks d_Mo_init_156 (by decide) (by decide) rfl (rfl)
        · have c_140 : ¬ 6020 ≤ k := fun h => c_140 ((nI_leI (a := 6020) (b := k) (by omega) (by omega)).mpr h)
          refine lv_aload_n hx hb d_Mo_init_143 rfl (lv_at hl 0 rfl) ?_
          refine g_get (v := .ref (gB G + 33)) F M f_Mo_35 d_Mo_init_144 (by omega) mw_24 rfl ?_
          refine lv_iload_n hx hb d_Mo_init_147 rfl (lv_at hl 1 rfl) ?_
          refine lv_iconst (v := (-1)) hx hb d_Mo_init_148 (by decide) ?_
          refine g_iast (f := (cNeg k)) F M d_Mo_init_149 (by omega) mw_33 (by omega) (by decide) mw_s_33 (fun H locs M => ?_)
          refine lv_iinc (v := nI (k + 1)) (lv' := [(2, .int (nI (k + 1))), (0, .ref (gB G + 24))]) hx hb d_Mo_init_150 hl (k := 1) rfl (nI_1 _) (by decide) rfl (fun ls hl => ?_)
          refine lv_goto (tgt := 136) hx hb d_Mo_init_153 (by decide) ?_
          exact ih (k + 1) (by omega) (by omega) _ rfl _ (by rw [bx_uu, cNeg_s]) _ _ ls M (lv_sub hl [1, 0] rfl)
    exact loop_136 (6020 + 1) 0 (by omega) (by omega) _ rfl _ (by rw [cNeg_0]; exact congrArg (fun z => mw G (mSc0 x, 0, fun _ => 0, z) w) (va_up_id (fun _ _ => (0 : Int32)) 33).symm) _ _ ls M (lv_sub hl [1, 0] rfl)
set_option maxRecDepth 4000 in
theorem c_CR_init (l : Launch) (G : gG) (w : Nat → va_E) (x : Int32) : Met l y_CR_init (Cond.code y_CR_init b_CR_init 3 none :: gtb) (gR 2 23 421) (gPc G [.ref (gB G + 0), .int x] (1) (va_up w 0 (.inr (2, [.int 0, .null, .int 0, .null, .null, .long 0, .int 0, .int 0])))) (gQ0 G (24) (cw G 0 (cIni x) w)) 23 421 (gA (gB G)) := by
  refine g_met (own := "ClerkRows") (by decide) rfl (Nat.le_of_ble_eq_true rfl) ?_
  intro pg ev s0 mi below meth cd F M hr hlocks hnm ls hl
  have hx := F.1.1
  have hb := F.1.2.1
  have hl : lv_has ls 3 [(0, .ref (gB G + 0)), (1, .int x)] := hl
  refine lv_aload_n hx hb d_CR_init_0 rfl (lv_at hl 0 rfl) ?_
  refine W.objInit hx hb F.1.2.2.2.1 (F.1.2.2.2.2 _ wd_31) (F.1.2.2.2.2 _ wd_32) (F.1.2.2.2.2 _ wd_33) rfl (by rw [F.1.2.2.1]; exact hl.1) rfl d_CR_init_1 (Nat.le_of_ble_eq_true rfl) (Nat.le_of_ble_eq_true rfl) ?_
  refine W.eq (g2 := F0 mi 4 ls []) rfl ?_
  refine lv_aload_n hx hb d_CR_init_4 rfl (lv_at hl 0 rfl) ?_
  refine lv_sipush (v := 301) hx hb d_CR_init_5 (by decide) ?_
  refine g_anew (n' := 301) F M 3 rfl F.2.1.2.2.1 wd_34 rfl (by decide) (Nat.le_of_ble_eq_true rfl) (Nat.le_of_ble_eq_true rfl) d_CR_init_8 rfl (fun H M => ?_)
  refine g_putF F M f_CR_11 d_CR_init_11 (by decide) rfl rfl hnm rfl rfl rfl (Nat.le_of_ble_eq_true rfl) rfl (fun H locs M => ?_)
  refine lv_aload_n hx hb d_CR_init_14 rfl (lv_at hl 0 rfl) ?_
  refine lv_bipush (v := 20) hx hb d_CR_init_15 (by decide) ?_
  refine g_anew (n' := 20) F M 4 rfl F.2.1.2.2.2 wd_36 rfl (by decide) (Nat.le_of_ble_eq_true rfl) (Nat.le_of_ble_eq_true rfl) d_CR_init_17 rfl (fun H M => ?_)
  refine g_putF F M f_CR_17 d_CR_init_20 (by decide) rfl rfl hnm rfl rfl rfl (Nat.le_of_ble_eq_true rfl) rfl (fun H locs M => ?_)
  refine lv_aload_n hx hb d_CR_init_23 rfl (lv_at hl 0 rfl) ?_
  refine lv_bipush (v := 20) hx hb d_CR_init_24 (by decide) ?_
  refine g_newi (n' := 20) F M rfl (by decide) (Nat.le_of_ble_eq_true rfl) (Nat.le_of_ble_eq_true rfl) d_CR_init_26 rfl (fun H M => ?_)
  refine g_putF F M f_CR_21 d_CR_init_28 (by decide) rfl rfl hnm rfl rfl rfl (Nat.le_of_ble_eq_true rfl) rfl (fun H locs M => ?_)
  refine lv_aload_n hx hb d_CR_init_31 rfl (lv_at hl 0 rfl) ?_
  refine lv_iconst (v := 1) hx hb d_CR_init_32 (by decide) ?_
  refine lv_iload_n hx hb d_CR_init_33 rfl (lv_at hl 1 rfl) ?_
  refine lv_bipush (v := 100) hx hb d_CR_init_34 (by decide) ?_
  refine va_mmin hx hb (by rw [F.1.2.2.1]; exact hl.1.symm) F.1.2.2.2.1 (F.1.2.2.2.2 _ wd_38) (F.1.2.2.2.2 _ wd_39) (F.1.2.2.2.2 _ wd_20) (F.1.2.2.2.2 _ wd_40) (by decide) (Nat.le_of_ble_eq_true rfl) (by decide) (by decide) d_CR_init_36 ?_
  refine va_mmax hx hb (by rw [F.1.2.2.1]; exact hl.1.symm) F.1.2.2.2.1 (F.1.2.2.2.2 _ wd_41) (F.1.2.2.2.2 _ wd_42) (F.1.2.2.2.2 _ wd_20) (F.1.2.2.2.2 _ wd_43) (by decide) (Nat.le_of_ble_eq_true rfl) (by decide) (by decide) d_CR_init_39 ?_
  refine g_putF F M f_CR_34 d_CR_init_42 (by decide) rfl rfl hnm rfl rfl rfl (Nat.le_of_ble_eq_true rfl) rfl (fun H locs M => ?_)
  have M := M.cg (w' := ciw G x w 0) (by
    intro i hi
    rcases (show i = 0 ∨ i = 1 ∨ i = 2 ∨ i = 3 by omega) with rfl | rfl | rfl | rfl
    · rfl
    · rfl
    · show _ = Sum.inl (gCa G 4, 20, _)
      have e1 : cCa G 0 = fun _ => none := by funext j; unfold cCa; rw [if_neg (by omega)]
      show _ = Sum.inl (gCa G 4, 20, Sum.inr (Sum.inr (Sum.inr (Sum.inr (cCa G 0)))))
      rw [e1]
      rfl
    · rfl)
  refine lv_iconst (v := 0) hx hb d_CR_init_45 (by decide) ?_
  refine lv_istore_n (lv' := [(2, .int 0), (0, .ref (gB G + 0)), (1, .int x)]) hx hb d_CR_init_46 rfl hl (by decide) rfl (fun ls hl => ?_)
  have loop_47 : ∀ (fuel k : Nat), 20 < k + fuel → k ≤ 20 → ∀ (H : Heap) (locs : List Loc) (ls : Array Slot), gM G s0 (4 + k) (ciw G x w k) H locs → lv_has ls 3 [(0, .ref (gB G + 0)), (2, .int (nI k))] → W pg l ev (gR 2 23 421) s0 mi ([.ref (gB G + 0), .int x] : List Value).toArray below meth cd H locs (3 + k) (341 + 4 * k) (MQ below (gQ0 G (24) (cw G 0 (cIni x) w)) ([.ref (gB G + 0), .int x] : List Value).toArray s0 23 421 (gA (gB G))) (F0 mi 47 ls []) := by
    intro fuel
    induction fuel with
    | zero => intro k h1 h2; exact absurd h1 (by omega)
    | succ fuel ih =>
      intro k hk1 hk2 H locs ls M hl
      refine lv_iload_n hx hb d_CR_init_47 rfl (lv_at hl 1 rfl) ?_
      refine lv_bipush (v := 20) hx hb d_CR_init_48 (by decide) ?_
      refine lv_icmp_ge (tgt := 72) hx hb d_CR_init_50 (by decide) (fun c_50 => ?_) (fun c_50 => ?_)
      · have c_50 : 20 ≤ k := (nI_leI (a := 20) (b := k) (by omega) (by omega)).mp c_50
        have hk : 20 = k := by omega
        subst hk
        exact g_vret F (M.cg ciw_e) hr hlocks d_CR_init_72 (by decide) (by decide) rfl rfl
      · have c_50 : ¬ 20 ≤ k := fun h => c_50 ((nI_leI (a := 20) (b := k) (by omega) (by omega)).mpr h)
        refine lv_aload_n hx hb d_CR_init_53 rfl (lv_at hl 0 rfl) ?_
        refine g_get (v := .ref (gB G + 2)) F M f_CR_17 d_CR_init_54 (by omega) (show ciw G x w k 0 = .inr (2, [.int (cBnd x), .ref (gB G + 1), .int 0, .ref (gB G + 2), .ref (gB G + 3), .long 0, .int 0, .int 0]) from rfl) rfl ?_
        refine lv_iload_n hx hb d_CR_init_57 rfl (lv_at hl 1 rfl) ?_
        refine g_new (fs := [.int 0, .int 0, .int 0, .null]) F M gC_Clerk wd_36 bl_Clerk (show 3 + k + 1 ≤ 23 by omega) (show 341 + 4 * k + 4 ≤ 421 by omega) d_CR_init_58 rfl (fun H M => ?_)
        refine lv_dup hx hb d_CR_init_61 rfl ?_
        refine g_call0 (g_riN (rest := [.ref (gB G + (4 + k)), .int (nI k), .ref (gB G + 2)]) F M (c_Ck_init l G (4 + k + 1) _ (4 + k)) (List.mem_of_getElem? (i := 0) rfl) wd_46 wd_21 wd_47 rfl (by decide +kernel) d_CR_init_62 ⟨rfl, rfl, by decide, by decide, (show 3 + k + 1 + 0 ≤ 23 by omega), (show 341 + 4 * k + 4 + 0 ≤ 421 by omega)⟩ rfl hl.1 (Nat.le_of_ble_eq_true rfl) rfl) M (fun H locs M => ?_)
        refine g_aast (r := (R_Clerk, F_Clerk, 4)) F M 4 rfl d_CR_init_65 (by omega) (show va_up (ciw G x w k) (4 + k) _ 2 = .inl (gCa G 4, 20, .inr (.inr (.inr (.inr (cCa G k))))) from by rw [va_up_ne _ _ (by omega)]; rfl) (by omega) (va_up_self _ _ _) rfl (by omega) (by decide) ciw_s (fun H locs M => ?_)
        refine lv_iinc (v := nI (k + 1)) (lv' := [(2, .int (nI (k + 1))), (0, .ref (gB G + 0))]) hx hb d_CR_init_66 hl (k := 1) rfl (nI_1 _) (by decide) rfl (fun ls hl => ?_)
        refine lv_goto (tgt := 47) hx hb d_CR_init_69 (by decide) ?_
        exact W.widen (by omega) (by omega) (ih (k + 1) (by omega) (by omega) _ _ ls M (lv_sub hl [1, 0] rfl))
  exact loop_47 21 0 (by omega) (by omega) _ _ ls M (lv_sub hl [1, 0] rfl)
end
section
/-! bits: the family bt of the kit's laws/BITS.to-paste (a starting text), as far as it is used -/
def bt (x : Int32) (i : Nat) : Bool := x.toBitVec.getLsbD i
theorem b_ext {x y : Int32} (h : ∀ i, i < 32 → bt x i = bt y i) : x = y := Int32.toBitVec_inj.mp (BitVec.eq_of_getLsbD_eq (fun i hi => h i hi))
theorem b_or (x y : Int32) (i : Nat) : bt (x ||| y) i = (bt x i || bt y i) := by unfold bt; rw [Int32.toBitVec_or, BitVec.getLsbD_or]
theorem b_and (x y : Int32) (i : Nat) : bt (x &&& y) i = (bt x i && bt y i) := by unfold bt; rw [Int32.toBitVec_and, BitVec.getLsbD_and]
theorem b_xor (x y : Int32) (i : Nat) : bt (x ^^^ y) i = (bt x i ^^ bt y i) := by unfold bt; rw [Int32.toBitVec_xor, BitVec.getLsbD_xor]
theorem b_big {x : Int32} {i : Nat} (h : 32 ≤ i) : bt x i = false := BitVec.getLsbD_of_ge _ _ h
theorem b_m1 : ∀ i, i < 32 → bt (-1) i = true := by decide +kernel
theorem b_0 (i : Nat) : bt 0 i = false := BitVec.getLsbD_zero
theorem s_l : ∀ n, n < 32 → ((nI n &&& 31).toBitVec.smod 32).toNat = n := by decide +kernel
theorem b_shl (n : Nat) (hn : n < 32) (x : Int32) {i : Nat} (hi : i < 32) : bt (x <<< (nI n &&& 31)) i = (decide (n ≤ i) && bt x (i - n)) := by
  unfold bt
  rw [Int32.toBitVec_shiftLeft]
  show (x.toBitVec <<< ((nI n &&& 31).toBitVec.smod 32).toNat).getLsbD i = _
  rw [s_l n hn, BitVec.getLsbD_shiftLeft]
  rcases Nat.lt_or_ge i n with h | h
  · simp [h, Nat.not_le.mpr h]
  · simp [hi, h, Nat.not_lt.mpr h]
theorem b_sshr (n : Nat) (hn : n < 32) (x : Int32) {i : Nat} (hi : i < 32) : bt (x >>> (nI n &&& 31)) i = if n + i < 32 then bt x (n + i) else bt x 31 := by
  unfold bt
  rw [Int32.toBitVec_shiftRight]
  show (x.toBitVec.sshiftRight ((nI n &&& 31).toBitVec.smod 32).toNat).getLsbD i = _
  rw [s_l n hn, BitVec.getLsbD_sshiftRight, BitVec.msb_eq_getLsbD_last]
  simp [hi]
/-! ===== one bit of a word ===== -/
theorem b_1 : ∀ i, i < 32 → bt 1 i = decide (i = 0) := by decide +kernel
theorem bit_iff {x : Int32} {c : Nat} (h : c < 32) : cBit x (nI c) ↔ bt x c = true := by
  have hb : bt (x >>> (nI c &&& 31)) 0 = bt x c := by
    rw [b_sshr c h x (by decide), if_pos (by omega), Nat.add_zero]
  constructor
  · intro q
    cases hx : bt x c with
    | true => rfl
    | false =>
      refine absurd ?_ q
      refine b_ext (fun i hi => ?_)
      rw [b_and, b_1 i hi, b_0]
      by_cases h0 : i = 0
      · subst h0; rw [hb, hx]; rfl
      · simp [h0]
  · intro q z
    have h1 : bt ((x >>> (nI c &&& 31)) &&& 1) 0 = bt 0 0 := by rw [z]
    rw [b_and, hb, q, b_1 0 (by decide), b_0] at h1
    exact absurd h1 (by decide)
theorem b_one {c i : Nat} (hc : c < 32) (hi : i < 32) : bt ((1 : Int32) <<< (nI c &&& 31)) i = decide (i = c) := by
  rw [b_shl c hc 1 hi, b_1 (i - c) (by omega)]
  by_cases h : i = c
  · subst h; simp
  · by_cases h2 : c ≤ i
    · have h3 : ¬ i - c = 0 := by omega
      simp [h, h3]
    · simp [h, h2]
theorem bit_or {x : Int32} {c i : Nat} (hc : c < 32) (hi : i < 32) : cBit (x ||| (1 <<< (nI c &&& 31))) (nI i) ↔ cBit x (nI i) ∨ i = c := by
  rw [bit_iff hi, bit_iff hi, b_or, b_one hc hi]
  simp
theorem bit_clr {x : Int32} {c i : Nat} (hc : c < 32) (hi : i < 32) : cBit (x &&& ((1 <<< (nI c &&& 31)) ^^^ (-1))) (nI i) ↔ cBit x (nI i) ∧ ¬ i = c := by
  rw [bit_iff hi, bit_iff hi, b_and, b_xor, b_one hc hi, b_m1 i hi]
  simp
theorem bit_0 {i : Nat} (hi : i < 32) : ¬ cBit 0 (nI i) := by
  rw [bit_iff hi, b_0]
  decide
/-! ===== numbers ===== -/
theorem l_lt {x y : Int64} : x < y ↔ x.toInt < y.toInt := Int64.lt_iff_toInt_lt
theorem i_lt {x y : Int32} : x < y ↔ x.toInt < y.toInt := Int32.lt_iff_toInt_lt
theorem i_eq {x y : Int32} : x = y ↔ x.toInt = y.toInt := Int32.toInt_inj.symm
theorem cC_ok {x : Int32} : cC x ↔ okC x := by
  unfold cC okC
  rw [i_lt, i_lt, l_lt, l_lt, i2l_toInt]
  have e1 : (0 : Int32).toInt = 0 := by decide
  have e2 : (20 : Int32).toInt = 20 := by decide
  have e3 : (0 : Int64).toInt = 0 := by decide
  have e4 : (19 : Int64).toInt = 19 := by decide
  rw [e1, e2, e3, e4]
  omega
theorem cP_ok {n : Nat} {x : Int32} (hn : n ≤ 300) : cP n x ↔ okP n x := by
  unfold cP okP
  rw [i_lt, i_lt, l_lt, l_lt, i2l_toInt, i2l_toInt, nI_toInt (by omega)]
  have e1 : (0 : Int32).toInt = 0 := by decide
  have e3 : (1 : Int64).toInt = 1 := by decide
  rw [e1, e3]
  omega
theorem cNT_ok {t now : Int64} : cNT t now ↔ ¬ okT t now := by
  unfold cNT okT
  rw [l_lt, l_lt]
  omega
theorem cNR_ok {x : Int32} {y : Int64} : cNR x y ↔ ¬ okR x y := by
  unfold cNR okR
  rw [l_lt, l_lt]
  omega
theorem bnd_eq (x : Int32) : cBnd x = mMost x := by
  unfold cBnd mMost
  have e1 : (1 : Int32).toInt = 1 := by decide
  have e2 : (100 : Int32).toInt = 100 := by decide
  by_cases h1 : (100 : Int32) < x
  · have h0 : ¬ x < 1 := fun q => by rw [i_lt, e2] at h1; rw [i_lt, e1] at q; omega
    rw [if_pos h1, if_pos (by decide), if_neg h0]
  · rw [if_neg h1]
    by_cases h0 : x < 1
    · have h2 : ¬ (1 : Int32) < x := fun q => by rw [i_lt, e1] at h0; rw [i_lt, e1] at q; omega
      rw [if_neg h2, if_pos h0]
    · rw [if_neg h0]
      by_cases h2 : (1 : Int32) < x
      · rw [if_pos h2]
      · rw [if_neg h2, i_eq, e1]
        rw [i_lt, e1] at h0 h2
        omega
/-! ===== counting over the Model's tables ===== -/
abbrev ix (p c : Nat) : Nat := 20 * p + c - 20
theorem ix_ne {p c p' c' : Nat} (hp : 1 ≤ p) (hp' : 1 ≤ p') (hc : c < 20) (hc' : c' < 20) (h : ¬ (p = p' ∧ c = c')) : ix p c ≠ ix p' c' := by
  unfold ix; omega
theorem mCnt_cg {f g : Nat → Int32} {p : Nat} : ∀ k, (∀ c, c < k → (f (ix p c) = 2 ↔ g (ix p c) = 2)) → mCnt f p k = mCnt g p k := by
  intro k
  induction k with
  | zero => intro _; rfl
  | succ k ih =>
    intro h
    have h1 := ih (fun c hc => h c (by omega))
    have h2 := h k (by omega)
    by_cases q : f (20 * p + k - 20) = 2
    · rw [mCnt_t q, mCnt_t (h2.mp q), h1]
    · rw [mCnt_f q, mCnt_f (fun z => q (h2.mpr z)), h1]
theorem mCnt_up {f : Nat → Int32} {p c0 : Nat} (hp : 1 ≤ p) (v : Int32) (hv : v = 2) (h0 : ¬ f (ix p c0) = 2) : ∀ k, k ≤ 20 → mCnt (upd f (ix p c0) v) p k = if c0 < k then mCnt f p k + 1 else mCnt f p k := by
  intro k
  induction k with
  | zero => intro _; rfl
  | succ k ih =>
    intro hk
    have h1 := ih (by omega)
    by_cases e : k = c0
    · subst e
      rw [mCnt_t (by rw [upd_s]; exact hv), h1, if_neg (by omega), if_pos (by omega), mCnt_f h0]
    · have e2 : upd f (ix p c0) v (20 * p + k - 20) = f (20 * p + k - 20) := upd_n _ _ (by unfold ix; omega)
      by_cases q : f (20 * p + k - 20) = 2
      · rw [mCnt_t (by rw [e2]; exact q), mCnt_t q, h1]
        by_cases e3 : c0 < k
        · rw [if_pos e3, if_pos (by omega)]
        · rw [if_neg e3, if_neg (by omega)]
      · rw [mCnt_f (by rw [e2]; exact q), mCnt_f q, h1]
        by_cases e3 : c0 < k
        · rw [if_pos e3, if_pos (by omega)]
        · rw [if_neg e3, if_neg (by omega)]
theorem mCnt_dn {f : Nat → Int32} {p c0 : Nat} (hp : 1 ≤ p) (v : Int32) (hv : ¬ v = 2) (h0 : f (ix p c0) = 2) : ∀ k, k ≤ 20 → mCnt f p k = if c0 < k then mCnt (upd f (ix p c0) v) p k + 1 else mCnt (upd f (ix p c0) v) p k := by
  intro k
  induction k with
  | zero => intro _; rfl
  | succ k ih =>
    intro hk
    have h1 := ih (by omega)
    by_cases e : k = c0
    · subst e
      rw [mCnt_t h0, h1, if_neg (by omega), if_pos (by omega), mCnt_f (by rw [upd_s]; exact hv)]
    · have e2 : upd f (ix p c0) v (20 * p + k - 20) = f (20 * p + k - 20) := upd_n _ _ (by unfold ix; omega)
      by_cases q : f (20 * p + k - 20) = 2
      · rw [mCnt_t q, mCnt_t (by rw [e2]; exact q), h1]
        by_cases e3 : c0 < k
        · rw [if_pos e3, if_pos (by omega)]
        · rw [if_neg e3, if_neg (by omega)]
      · rw [mCnt_f q, mCnt_f (by rw [e2]; exact q), h1]
        by_cases e3 : c0 < k
        · rw [if_pos e3, if_pos (by omega)]
        · rw [if_neg e3, if_neg (by omega)]
theorem mCnt_le (f : Nat → Int32) (p k : Nat) : mCnt f p k ≤ k := by
  induction k with
  | zero => exact Nat.le_refl _
  | succ k ih => unfold mCnt; split <;> omega
theorem mAl_iff {f g : Nat → Int32} {p : Nat} {x : Int32} : ∀ k, mAl f g p x k = true ↔ ∀ c, c < k → ¬ (1 < f (ix p c) ∧ g (ix p c) = x) := by
  intro k
  induction k with
  | zero => exact ⟨fun _ c hc => absurd hc (by omega), fun _ => rfl⟩
  | succ k ih =>
    constructor
    · intro h c hc q
      have h1 : (mAl f g p x k && !(decide (1 < f (20 * p + k - 20)) && decide (g (20 * p + k - 20) = x))) = true := h
      simp only [Bool.and_eq_true, Bool.not_eq_true', Bool.and_eq_false_iff, decide_eq_false_iff_not] at h1
      by_cases e : c = k
      · subst e
        rcases h1.2 with z | z
        · exact z q.1
        · exact z q.2
      · exact ih.mp h1.1 c (by omega) q
    · intro h
      have h1 := ih.mpr (fun c hc => h c (by omega))
      have h2 := h k (by omega)
      show (mAl f g p x k && !(decide (1 < f (20 * p + k - 20)) && decide (g (20 * p + k - 20) = x))) = true
      rw [h1]
      by_cases q1 : 1 < f (20 * p + k - 20)
      · have q2 : ¬ g (20 * p + k - 20) = x := fun z => h2 ⟨q1, z⟩
        simp [q2]
      · simp [q1]
theorem mHeld_eq {f : Nat → Int32} {c h : Nat} : ∀ n, (∀ p, 1 ≤ p → p ≤ n → (h = p ↔ f (ix p c) = 2)) → mHeld f c n = if h ≤ n then h else 0 := by
  intro n
  induction n with
  | zero =>
    intro _
    by_cases e : h ≤ 0
    · rw [if_pos e]; show 0 = h; omega
    · rw [if_neg e]; rfl
  | succ n ih =>
    intro hh
    have h1 := ih (fun p h1 h2 => hh p h1 (by omega))
    have h2 := hh (n + 1) (by omega) (by omega)
    show (if f (20 * (n + 1) + c - 20) = 2 then n + 1 else mHeld f c n) = _
    by_cases q : f (20 * (n + 1) + c - 20) = 2
    · rw [if_pos q, if_pos (by have := h2.mpr q; omega)]
      exact (h2.mpr q).symm
    · rw [if_neg q, h1]
      have h3 : ¬ h = n + 1 := fun z => q (h2.mp z)
      by_cases e : h ≤ n
      · rw [if_pos e, if_pos (by omega)]
      · rw [if_neg e, if_neg (by omega)]
theorem mOpen_cg {e e' : Nat → Int32} : ∀ k, (∀ p, 1 ≤ p → p ≤ k → (e p = 0 ↔ e' p = 0)) → mOpen e k = mOpen e' k := by
  intro k
  induction k with
  | zero => intro _; rfl
  | succ k ih =>
    intro h
    have h1 := ih (fun p h1 h2 => h p h1 (by omega))
    have h2 := h (k + 1) (by omega) (by omega)
    show (if e (k + 1) = 0 then mOpen e k + 1 else mOpen e k) = (if e' (k + 1) = 0 then mOpen e' k + 1 else mOpen e' k)
    by_cases q : e (k + 1) = 0
    · rw [if_pos q, if_pos (h2.mp q), h1]
    · rw [if_neg q, if_neg (fun z => q (h2.mpr z)), h1]
theorem mOpen_dn {e : Nat → Int32} {p0 : Nat} {x : Int32} (h1 : 1 ≤ p0) (h0 : e p0 = 0) (hx : ¬ x = 0) : ∀ k, mOpen e k = if p0 ≤ k then mOpen (upd e p0 x) k + 1 else mOpen (upd e p0 x) k := by
  intro k
  induction k with
  | zero => rw [if_neg (by omega)]; rfl
  | succ k ih =>
    show (if e (k + 1) = 0 then mOpen e k + 1 else mOpen e k) = if p0 ≤ k + 1 then (if upd e p0 x (k + 1) = 0 then mOpen (upd e p0 x) k + 1 else mOpen (upd e p0 x) k) + 1 else (if upd e p0 x (k + 1) = 0 then mOpen (upd e p0 x) k + 1 else mOpen (upd e p0 x) k)
    by_cases q : k + 1 = p0
    · subst q
      rw [if_pos h0, ih, if_neg (by omega), if_pos (by omega), upd_s, if_neg hx]
    · rw [upd_n _ _ q]
      by_cases q2 : p0 ≤ k
      · rw [if_pos q2] at ih
        rw [if_pos (show p0 ≤ k + 1 by omega)]
        by_cases q3 : e (k + 1) = 0
        · rw [if_pos q3, if_pos q3, ih]
        · rw [if_neg q3, if_neg q3, ih]
      · rw [if_neg q2] at ih
        rw [if_neg (show ¬ p0 ≤ k + 1 by omega)]
        by_cases q3 : e (k + 1) = 0
        · rw [if_pos q3, if_pos q3, ih]
        · rw [if_neg q3, if_neg q3, ih]
theorem mOpen_pass {e : Nat → Int32} {du : Nat → Int64} {t : Int64} {n : Nat} : ∀ k, k ≤ n → mOpen (mPassE e du t n) k + mLate e du t k = mOpen e k := by
  intro k
  induction k with
  | zero => intro _; rfl
  | succ k ih =>
    intro hk
    have h1 := ih (by omega)
    show (if mPassE e du t n (k + 1) = 0 then mOpen (mPassE e du t n) k + 1 else mOpen (mPassE e du t n) k) + (if e (k + 1) = 0 ∧ du (k + 1) < t then mLate e du t k + 1 else mLate e du t k) = if e (k + 1) = 0 then mOpen e k + 1 else mOpen e k
    by_cases q : e (k + 1) = 0 ∧ du (k + 1) < t
    · have e1 : mPassE e du t n (k + 1) = 4 := by unfold mPassE; rw [if_pos ⟨by omega, q⟩]
      rw [if_pos q, e1, if_neg (by decide), if_pos q.1]
      omega
    · have e1 : mPassE e du t n (k + 1) = e (k + 1) := by unfold mPassE; rw [if_neg (fun z => q z.2)]
      rw [if_neg q, e1]
      split <;> omega
theorem late_eq {e : Nat → Int32} {du pd : Nat → Int64} {pn : Nat → Nat} {t : Int64} : ∀ k, (∀ p, 1 ≤ p → p ≤ k → (pn p = 0 ↔ e p = 0) ∧ pd p = du p) → cLate pn pd t k = mLate e du t k := by
  intro k
  induction k with
  | zero => intro _; rfl
  | succ k ih =>
    intro h
    have h1 := ih (fun p h1 h2 => h p h1 (by omega))
    obtain ⟨h2, h3⟩ := h (k + 1) (by omega) (by omega)
    show (if pn (k + 1) = 0 ∧ pd (k + 1) < t then cLate pn pd t k + 1 else cLate pn pd t k) = (if e (k + 1) = 0 ∧ du (k + 1) < t then mLate e du t k + 1 else mLate e du t k)
    rw [h1, h3]
    by_cases q : e (k + 1) = 0 ∧ du (k + 1) < t
    · rw [if_pos q, if_pos ⟨h2.mpr q.1, q.2⟩]
    · rw [if_neg q, if_neg (fun z => q ⟨h2.mp z.1, z.2⟩)]
theorem mLike_iff {f : Nat → Int32} {p q : Nat} {v : Int32} (hq : q ≤ 2) : mLike f p v q = true ↔ (0 < q ∧ f (3 * p + 0) = v) ∨ (1 < q ∧ f (3 * p + 1) = v) := by
  rcases (show q = 0 ∨ q = 1 ∨ q = 2 by omega) with rfl | rfl | rfl
  · simp [mLike]
  · simp [mLike]
  · simp [mLike]
/-! the first that is due soonest, sought from either end -/
def bSpec (F : Nat → Prop) (du : Nat → Int64) (lo hi b : Nat) : Prop := (b = 0 ∧ ∀ p, lo < p → p ≤ hi → ¬ F p) ∨ ((lo < b ∧ b ≤ hi) ∧ F b ∧ ∀ p, lo < p → p ≤ hi → F p → ¬ du p < du b ∧ (p < b → du b < du p))
theorem bSpec_u {F : Nat → Prop} {du : Nat → Int64} {lo hi b b' : Nat} (h : bSpec F du lo hi b) (h' : bSpec F du lo hi b') : b = b' := by
  rcases h with ⟨h1, h2⟩ | ⟨h1, h2, h3⟩
  · rcases h' with ⟨g1, g2⟩ | ⟨g1, g2, g3⟩
    · omega
    · exact absurd g2 (h2 b' g1.1 g1.2)
  · rcases h' with ⟨g1, g2⟩ | ⟨g1, g2, g3⟩
    · exact absurd h2 (g2 b h1.1 h1.2)
    · have a1 := h3 b' g1.1 g1.2 g2
      have a2 := g3 b h1.1 h1.2 h2
      rcases Nat.lt_trichotomy b b' with q | q | q
      · exact absurd (a2.2 q) a1.1
      · exact q
      · exact absurd (a1.2 q) a2.1
theorem cB_spec {ck pf pe : Nat → Nat → Int32} {pn : Nat → Nat} {pd : Nat → Int64} {c : Nat} : ∀ k, bSpec (fun p => cFre ck pf pe pn p c) pd 0 k (cB ck pf pe pn pd c k) := by
  intro k
  induction k with
  | zero => exact Or.inl ⟨rfl, fun p h1 h2 => by omega⟩
  | succ k ih =>
    by_cases q : cFre ck pf pe pn (k + 1) c ∧ (cB ck pf pe pn pd c k = 0 ∨ pd (k + 1) < pd (cB ck pf pe pn pd c k))
    · rw [cB_t q]
      refine Or.inr ⟨⟨by omega, Nat.le_refl _⟩, q.1, fun p h1 h2 h3 => ?_⟩
      by_cases e : p = k + 1
      · subst e
        exact ⟨g_i64r, fun z => by omega⟩
      · rcases ih with ⟨i1, i2⟩ | ⟨i1, i2, i3⟩
        · exact absurd h3 (i2 p h1 (by omega))
        · have a1 := i3 p h1 (by omega) h3
          rcases q.2 with z | z
          · omega
          · rw [l_lt] at z
            have b1 := a1.1
            rw [l_lt] at b1
            exact ⟨fun y => by rw [l_lt] at y; omega, fun _ => by rw [l_lt]; omega⟩
    · rw [cB_f q]
      rcases ih with ⟨i1, i2⟩ | ⟨i1, i2, i3⟩
      · refine Or.inl ⟨i1, fun p h1 h2 => ?_⟩
        by_cases e : p = k + 1
        · subst e; exact fun z => q ⟨z, Or.inl i1⟩
        · exact i2 p h1 (by omega)
      · refine Or.inr ⟨⟨i1.1, by omega⟩, i2, fun p h1 h2 h3 => ?_⟩
        by_cases e : p = k + 1
        · subst e
          exact ⟨fun y => q ⟨h3, Or.inr y⟩, fun z => by omega⟩
        · exact i3 p h1 (by omega) h3
theorem mB_spec {a : Nat → Nat → Int32} {du : Nat → Int64} {c n : Nat} : ∀ k, k ≤ n → bSpec (fun p => mFre a p c) du (n - k) n (mB a du c n k) := by
  intro k
  induction k with
  | zero => intro _; exact Or.inl ⟨rfl, fun p h1 h2 => by omega⟩
  | succ k ih =>
    intro hk
    have ih := ih (by omega)
    by_cases q : mFre a (n - k) c ∧ (mB a du c n k = 0 ∨ ¬ du (mB a du c n k) < du (n - k))
    · rw [mB_t q]
      refine Or.inr ⟨⟨by omega, by omega⟩, q.1, fun p h1 h2 h3 => ?_⟩
      by_cases e : p = n - k
      · subst e
        exact ⟨g_i64r, fun z => by omega⟩
      · rcases ih with ⟨i1, i2⟩ | ⟨i1, i2, i3⟩
        · exact absurd h3 (i2 p (by omega) h2)
        · have a1 := i3 p (by omega) h2 h3
          rcases q.2 with z | z
          · omega
          · have b1 := a1.1
            rw [l_lt] at z b1
            exact ⟨fun y => by rw [l_lt] at y; omega, fun y => by omega⟩
    · rw [mB_f q]
      rcases ih with ⟨i1, i2⟩ | ⟨i1, i2, i3⟩
      · refine Or.inl ⟨i1, fun p h1 h2 => ?_⟩
        by_cases e : p = n - k
        · subst e; exact fun z => q ⟨z, Or.inl i1⟩
        · exact i2 p (by omega) h2
      · refine Or.inr ⟨⟨by omega, i1.2⟩, i2, fun p h1 h2 h3 => ?_⟩
        by_cases e : p = n - k
        · subst e
          have y : du (mB a du c n k) < du (n - k) := Decidable.byContradiction fun y => q ⟨h3, Or.inr y⟩
          exact ⟨g_i64a y, fun _ => y⟩
        · exact i3 p (by omega) h2 h3
theorem bSpec_cg {F F' : Nat → Prop} {du du' : Nat → Int64} {lo hi b : Nat} (h : bSpec F du lo hi b) (hF : ∀ p, lo < p → p ≤ hi → (F p ↔ F' p) ∧ du p = du' p) : bSpec F' du' lo hi b := by
  rcases h with ⟨h1, h2⟩ | ⟨h1, h2, h3⟩
  · exact Or.inl ⟨h1, fun p g1 g2 z => h2 p g1 g2 ((hF p g1 g2).1.mpr z)⟩
  · refine Or.inr ⟨h1, (hF b h1.1 h1.2).1.mp h2, fun p g1 g2 g3 => ?_⟩
    have a1 := h3 p g1 g2 ((hF p g1 g2).1.mpr g3)
    rw [(hF p g1 g2).2, (hF b h1.1 h1.2).2] at a1
    exact a1
end
section
/-! ===== how the two sides agree ===== -/
/-- of a picture and a clerk -/
def RelC (gi : Nat → Int32) (ho : Nat → Nat) (pf ps : Nat → Nat → Int32) (a : Nat → Nat → Int32) (p c : Nat) : Prop := (cBit (pf p 2) (nI c) ↔ ¬ a 31 (ix p c) = 0) ∧ ps p c = a 33 (ix p c) ∧ (a 33 (ix p c) = -1 ∨ ¬ a 33 (ix p c) < 0) ∧ (ho c = p ↔ a 31 (ix p c) = 2) ∧ (a 31 (ix p c) = 2 → gi c = a 32 (ix p c)) ∧ (1 < a 31 (ix p c) → ∃ y, y ≤ 4 ∧ a 32 (ix p c) = nI y)
/-- the offices of a picture, while they are asked for -/
def RelO (pf : Nat → Nat → Int32) (a : Nat → Nat → Int32) (p : Nat) : Prop := (∀ y, y ≤ 4 → (cBit (pf p 4) (nI y) ↔ ∃ c, c < 20 ∧ 1 < a 31 (ix p c) ∧ a 32 (ix p c) = nI y)) ∧ (∀ c d, c < 20 → d < 20 → 1 < a 31 (ix p c) → 1 < a 31 (ix p d) → a 32 (ix p c) = a 32 (ix p d) → c = d)
/-- of a picture -/
def RelA (gi : Nat → Int32) (ho : Nat → Nat) (pd : Nat → Int64) (pf ps pe : Nat → Nat → Int32) (pn : Nat → Nat) (du : Nat → Int64) (a : Nat → Nat → Int32) (p : Nat) : Prop :=
  (pd p = du p ∧ pf p 1 = a 26 p ∧ a 27 p = (if pn p = 0 then 0 else nI (pn p + 1)) ∧ pf p 9 = a 28 p ∧ (pn p = 0 → a 28 p = 0)) ∧
  (∃ q, q ≤ 3 ∧ a 29 p = nI q ∧ pf p 6 = nI q ∧ (pn p = 0 → q ≤ 2)) ∧
  (∀ k, k < 3 → pe p k = a 30 (3 * p + k)) ∧
  pf p 7 = nI (mCnt (a 31) p 20) ∧
  (∀ c, c < 20 → RelC gi ho pf ps a p c) ∧
  (pn p = 0 → ¬ mDif a p → RelO pf a p)
/-- of the places that no picture has yet -/
def RelZ (a : Nat → Nat → Int32) (p : Nat) : Prop := a 27 p = 0 ∧ a 28 p = 0 ∧ a 29 p = 0 ∧ (∀ k, k < 3 → a 30 (3 * p + k) = 0) ∧ ∀ c, c < 20 → a 31 (ix p c) = 0 ∧ a 33 (ix p c) = -1
/-- of a clerk -/
def RelK (ck : Nat → Nat → Int32) (a : Nat → Nat → Int32) (c : Nat) : Prop := ck c 0 = a 34 c ∧ ck c 1 = a 35 c ∧ ck c 2 = a 36 c ∧ ∃ y, y ≤ 4 ∧ a 35 c = nI y
def RelN (n : Nat) (sc ms : Nat → Int32) (now mnow : Int64) (a : Nat → Nat → Int32) : Prop := n ≤ 300 ∧ sc 1 = nI n ∧ ms 2 = nI n ∧ sc 0 = ms 1 ∧ now = mnow ∧ sc 2 = ms 3 ∧ sc 3 = nI (mOpen (a 27) n)
def Rel (n : Nat) : CSt → MSt → Prop := fun (sc, now, gi, ck, ho, pd, pf, ps, pe, pn) (ms, mnow, du, a) =>
  RelN n sc ms now mnow a ∧ (∀ c, c < 20 → RelK ck a c) ∧ (∀ c, ho c ≤ n) ∧ (∀ p, pn p < 4) ∧ (∀ p, 1 ≤ p → p ≤ n → RelA gi ho pd pf ps pe pn du a p) ∧ (∀ p, n < p → p ≤ 300 → RelZ a p)
section RV
variable {gi gi' : Nat → Int32} {ho ho' : Nat → Nat} {pd pd' : Nat → Int64} {pf ps pe pf' ps' pe' ck : Nat → Nat → Int32} {pn pn' : Nat → Nat} {du du' : Nat → Int64} {a a' : Nat → Nat → Int32} {p c n : Nat}
theorem RelA.over (h : RelA gi ho pd pf ps pe pn du a p) (hp : pn p < 4) : pn p = 0 ↔ a 27 p = 0 := by
  have h1 := h.1.2.2.1
  by_cases q : pn p = 0
  · rw [if_pos q] at h1
    exact ⟨fun _ => h1, fun _ => q⟩
  · rw [if_neg q] at h1
    refine ⟨fun z => absurd z q, fun z => ?_⟩
    rw [z] at h1
    exact absurd h1.symm (nI_ne0 (by omega) (by omega))
theorem RelA.dif (h : RelA gi ho pd pf ps pe pn du a p) : cDif pf pe p ↔ mDif a p := by
  obtain ⟨-, ⟨q, h1, h2, h3, -⟩, h4, -⟩ := h
  have e0 := h4 0 (by decide)
  have e1 := h4 1 (by decide)
  unfold cDif mDif
  rw [h2, h3, e0, e1]
  exact Iff.rfl
theorem RelA.tak (h : RelA gi ho pd pf ps pe pn du a p) : cTak pf pe p ↔ mTak a p := by
  have hd := h.dif
  obtain ⟨-, ⟨q, h1, h2, h3, -⟩, -, h5, -⟩ := h
  by_cases z : mDif a p
  · rw [ctk_t (hd.mpr z), tk_t z, h2, h3, h5]
  · rw [ctk_f (fun y => z (hd.mp y)), tk_f z, h2, h3, h5]
theorem RelA.sta (h : RelA gi ho pd pf ps pe pn du a p) (hp : pn p < 4) : cSta pf pe pn p = mSta a p := by
  have ho := h.over hp
  have ht := h.tak
  unfold cSta mSta
  by_cases q : pn p = 0
  · rw [if_pos q, if_pos (ho.mp q)]
    by_cases z : mTak a p
    · rw [bI_t z, bI_t (ht.mpr z)]
    · rw [bI_f z, bI_f (fun y => z (ht.mp y))]
  · have h1 := h.1.2.2.1
    rw [if_neg q] at h1
    rw [if_neg q, if_neg (fun y => q (ho.mpr y)), h1]
theorem RelA.fre (h : RelA gi ho pd pf ps pe pn du a p) (hp : pn p < 4) (hk : RelK ck a c) (hc : c < 20) : cFre ck pf pe pn p c ↔ mFre a p c := by
  have ho := h.over hp
  have ht := h.tak
  have hd := h.dif
  obtain ⟨k0, k1, k2, y, hy, hy2⟩ := hk
  obtain ⟨⟨-, s1, -⟩, -, -, -, hC, hO⟩ := h
  have hb := (hC c hc).1
  unfold cFre mFre
  rw [k2, s1, k1]
  constructor
  · rintro ⟨f1, f2, f3, f4, f5⟩
    refine ⟨ho.mp f1, fun z => f2 (ht.mpr z), f3, Decidable.byContradiction fun z => f4 (hb.mpr z), ?_⟩
    by_cases z : mDif a p
    · exact Or.inr z
    · refine Or.inl ((mAl_iff 20).mpr fun d hd2 q => ?_)
      have hbit := (hO f1 z).1 y hy
      rcases f5 with f5 | f5
      · exact z (hd.mp f5)
      · rw [hy2] at f5 q
        exact f5 (hbit.mpr ⟨d, hd2, q⟩)
  · rintro ⟨f1, f2, f3, f4, f5⟩
    refine ⟨ho.mpr f1, fun z => f2 (ht.mp z), f3, fun z => hb.mp z f4, ?_⟩
    by_cases z : mDif a p
    · exact Or.inl (hd.mpr z)
    · refine Or.inr fun q => ?_
      rcases f5 with f5 | f5
      · rw [hy2] at q f5
        obtain ⟨d, hd2, q1⟩ := ((hO (ho.mpr f1) z).1 y hy).mp q
        exact (mAl_iff 20).mp f5 d hd2 q1
      · exact z f5
/-- a picture of which nothing has changed -/
theorem RelA.cg (h : RelA gi ho pd pf ps pe pn du a p) (e1 : pd' p = pd p) (e2 : pf' p = pf p) (e3 : ps' p = ps p) (e4 : pe' p = pe p) (e5 : pn' p = pn p) (e6 : du' p = du p) (e26 : a' 26 p = a 26 p) (e27 : a' 27 p = a 27 p) (e28 : a' 28 p = a 28 p) (e29 : a' 29 p = a 29 p) (e30 : ∀ k, k < 3 → a' 30 (3 * p + k) = a 30 (3 * p + k)) (e31 : ∀ c, c < 20 → a' 31 (ix p c) = a 31 (ix p c)) (e32 : ∀ c, c < 20 → a' 32 (ix p c) = a 32 (ix p c)) (e33 : ∀ c, c < 20 → a' 33 (ix p c) = a 33 (ix p c)) (eho : ∀ c, c < 20 → (ho' c = p ↔ ho c = p)) (egi : ∀ c, c < 20 → a 31 (ix p c) = 2 → gi' c = gi c) : RelA gi' ho' pd' pf' ps' pe' pn' du' a' p := by
  obtain ⟨⟨h1, h2, h3, h4, h5⟩, ⟨q, h6, h7, h8, h9⟩, h10, h11, h12, h13⟩ := h
  have hdif : mDif a' p ↔ mDif a p := by
    have z0 := e30 0 (by decide)
    have z1 := e30 1 (by decide)
    unfold mDif
    rw [e29, show a' 30 (3 * p) = a 30 (3 * p) from z0, z1]
  refine ⟨⟨by rw [e1, e6]; exact h1, by rw [e2, e26]; exact h2, by rw [e27, e5]; exact h3, by rw [e2, e28]; exact h4, by rw [e5, e28]; exact h5⟩, ⟨q, h6, by rw [e29]; exact h7, by rw [e2]; exact h8, by rw [e5]; exact h9⟩, fun k hk => by rw [e4, e30 k hk]; exact h10 k hk, ?_, fun c hc => ?_, fun z1 z2 => ?_⟩
  · rw [e2, h11]
    exact congrArg nI (mCnt_cg 20 fun c hc => by rw [e31 c hc])
  · obtain ⟨c1, c2, c3, c4, c5, c6⟩ := h12 c hc
    refine ⟨by rw [e2, e31 c hc]; exact c1, by rw [e3, e33 c hc]; exact c2, by rw [e33 c hc]; exact c3, by rw [eho c hc, e31 c hc]; exact c4, fun z => ?_, fun z => ?_⟩
    · rw [e31 c hc] at z
      rw [egi c hc z, e32 c hc]
      exact c5 z
    · rw [e31 c hc] at z
      rw [e32 c hc]
      exact c6 z
  · obtain ⟨g1, g2⟩ := h13 (by rw [← e5]; exact z1) (fun y => z2 (hdif.mpr y))
    refine ⟨fun y hy => ?_, fun c d hc hd w1 w2 w3 => ?_⟩
    · rw [e2, g1 y hy]
      constructor
      · rintro ⟨d, d1, d2, d3⟩
        exact ⟨d, d1, by rw [e31 d d1]; exact d2, by rw [e32 d d1]; exact d3⟩
      · rintro ⟨d, d1, d2, d3⟩
        rw [e31 d d1] at d2
        rw [e32 d d1] at d3
        exact ⟨d, d1, d2, d3⟩
    · rw [e31 c hc] at w1
      rw [e31 d hd] at w2
      rw [e32 c hc, e32 d hd] at w3
      exact g2 c d hc hd w1 w2 w3
theorem RelZ.cg (h : RelZ a p) (e27 : a' 27 p = a 27 p) (e28 : a' 28 p = a 28 p) (e29 : a' 29 p = a 29 p) (e30 : ∀ k, k < 3 → a' 30 (3 * p + k) = a 30 (3 * p + k)) (e31 : ∀ c, c < 20 → a' 31 (ix p c) = a 31 (ix p c)) (e33 : ∀ c, c < 20 → a' 33 (ix p c) = a 33 (ix p c)) : RelZ a' p :=
  ⟨by rw [e27]; exact h.1, by rw [e28]; exact h.2.1, by rw [e29]; exact h.2.2.1, fun k hk => by rw [e30 k hk]; exact h.2.2.2.1 k hk, fun c hc => by rw [e31 c hc, e33 c hc]; exact h.2.2.2.2 c hc⟩
end RV
/-! ===== time passes on both sides ===== -/
theorem Rel.thr {n : Nat} {C : CSt} {S : MSt} (h : Rel n C S) : Rel n C (mThr S) := h
theorem Rel.pass {n : Nat} {C : CSt} {S : MSt} (t : Int64) (h : Rel n C S) : Rel n (cPassS n t C) (mPassS n t S) := by
  obtain ⟨sc, now, gi, ck, ho, pd, pf, ps, pe, pn⟩ := C
  obtain ⟨ms, mnow, du, a⟩ := S
  obtain ⟨⟨n1, n2, n3, n4, n5, n6, n7⟩, hK, hH, hP, hA, hZ⟩ := h
  have hl : cLate pn pd t n = mLate (a 27) du t n := late_eq n (fun p h1 h2 => ⟨(hA p h1 h2).over (hP p), (hA p h1 h2).1.1⟩)
  have hle := mLate_le (a 27) du t n
  have hop := mOpen_pass (e := a 27) (du := du) (t := t) (n := n) n (Nat.le_refl _)
  refine ⟨⟨n1, n2, n3, n4, rfl, ?_, ?_⟩, hK, hH, cPassN_lt hP, fun p h1 h2 => ?_, fun p h1 h2 => ?_⟩
  · show sc 2 + nI (cLate pn pd t n) = ms 3 + nI (mLate (a 27) du t n)
    rw [hl, n6]
  · show sc 3 - nI (cLate pn pd t n) = nI (mOpen (mPassE (a 27) du t n) n)
    rw [hl, n7, pk_sub (by omega)]
    congr 1
    omega
  · have h := hA p h1 h2
    have hov := h.over (hP p)
    by_cases q : pn p = 0 ∧ pd p < t
    · have q2 : a 27 p = 0 ∧ du p < t := ⟨hov.mp q.1, by rw [← h.1.1]; exact q.2⟩
      have e1 : cPassN pn pd t n p = 3 := by unfold cPassN; rw [if_pos ⟨⟨h1, h2⟩, q⟩]
      have e2 : mPassE (a 27) du t n p = 4 := by unfold mPassE; rw [if_pos ⟨⟨h1, h2⟩, q2⟩]
      obtain ⟨⟨b1, b2, b3, b4, b5⟩, ⟨k, b6, b7, b8, b9⟩, b10, b11, b12, b13⟩ := h
      refine ⟨⟨b1, b2, ?_, b4, fun z => absurd z (by rw [e1]; decide)⟩, ⟨k, b6, b7, b8, fun z => absurd z (by rw [e1]; decide)⟩, b10, b11, b12, fun z => absurd z (by rw [e1]; decide)⟩
      show mPassE (a 27) du t n p = _
      rw [e2, e1]
      rfl
    · have q2 : ¬ (a 27 p = 0 ∧ du p < t) := fun z => q ⟨hov.mpr z.1, by rw [h.1.1]; exact z.2⟩
      have e1 : cPassN pn pd t n p = pn p := by unfold cPassN; rw [if_neg (fun z => q z.2)]
      have e2 : mPassE (a 27) du t n p = a 27 p := by unfold mPassE; rw [if_neg (fun z => q2 z.2)]
      exact h.cg rfl rfl rfl rfl e1 rfl rfl e2 rfl rfl (fun _ _ => rfl) (fun _ _ => rfl) (fun _ _ => rfl) (fun _ _ => rfl) (fun _ _ => Iff.rfl) (fun _ _ _ => rfl)
  · have e2 : mPassE (a 27) du t n p = a 27 p := by unfold mPassE; rw [if_neg (fun z => by omega)]
    exact (hZ p h1 h2).cg e2 rfl rfl (fun _ _ => rfl) (fun _ _ => rfl) (fun _ _ => rfl)
theorem Rel.held {n : Nat} {C : CSt} {S : MSt} (h : Rel n C S) {c : Nat} (hc : c < 20) : mHeld (S.2.2.2 31) c n = cH C c := by
  obtain ⟨sc, now, gi, ck, ho, pd, pf, ps, pe, pn⟩ := C
  obtain ⟨ms, mnow, du, a⟩ := S
  obtain ⟨hN, hK, hH, hP, hA, hZ⟩ := h
  have h1 := mHeld_eq (f := a 31) (c := c) (h := ho c) n (fun p h1 h2 => ((hA p h1 h2).2.2.2.2.1 c hc).2.2.2.1)
  rw [if_pos (hH c)] at h1
  exact h1
end
section
/-! ===== the operations, one by one: the same answer, and the two sides agree behind it ===== -/
theorem bI_cg {P Q : Prop} [Decidable P] [Decidable Q] (h : P ↔ Q) : bI P = bI Q := by
  by_cases z : P
  · rw [bI_t z, bI_t (h.mp z)]
  · rw [bI_f z, bI_f (fun y => z (h.mpr y))]
theorem r_tic {n : Nat} {C : CSt} {S : MSt} (h : Rel n C S) (t : Int64) : (cTic n t C).1 = (mTic n t S).1 ∧ Rel n (cTic n t C).2 (mTic n t S).2 := by
  have hn : C.2.1 = S.2.1 := by
    obtain ⟨sc, now, gi, ck, ho, pd, pf, ps, pe, pn⟩ := C
    obtain ⟨ms, mnow, du, a⟩ := S
    exact h.1.2.2.2.2.1
  unfold cTic mTic
  by_cases q : okT t S.2.1
  · rw [if_pos q, if_neg (fun z => cNT_ok.mp z (by rw [hn]; exact q))]
    have hp := (h.thr).pass t
    revert hp
    generalize cPassS n t C = C1
    generalize mPassS n t (mThr S) = S1
    intro hp
    obtain ⟨sc, now, gi, ck, ho, pd, pf, ps, pe, pn⟩ := C1
    obtain ⟨ms, mnow, du, a⟩ := S1
    obtain ⟨⟨n1, n2, n3, n4, n5, n6, n7⟩, hK, hH, hP, hA, hZ⟩ := hp
    exact ⟨n6, ⟨n1, n2, n3, n4, n5, rfl, n7⟩, hK, hH, hP, hA, hZ⟩
  · rw [if_neg q, if_pos (cNT_ok.mpr (by rw [hn]; exact q))]
    exact ⟨rfl, h.thr⟩
theorem r_wai {n : Nat} {C : CSt} {S : MSt} (h : Rel n C S) : C.1 3 = nI (mOpen (S.2.2.2 27) n) := by
  obtain ⟨sc, now, gi, ck, ho, pd, pf, ps, pe, pn⟩ := C
  obtain ⟨ms, mnow, du, a⟩ := S
  exact h.1.2.2.2.2.2.2
theorem r_set {n : Nat} {C : CSt} {S : MSt} (h : Rel n C S) (x : Int32) : cSet n x C = mSet n x S := by
  obtain ⟨sc, now, gi, ck, ho, pd, pf, ps, pe, pn⟩ := C
  obtain ⟨ms, mnow, du, a⟩ := S
  obtain ⟨hN, hK, hH, hP, hA, hZ⟩ := h
  unfold cSet mSet
  dsimp only
  by_cases q : okP n x
  · rw [if_pos q, if_pos ((cP_ok hN.1).mpr q)]
    obtain ⟨k, k1, k2, rfl⟩ := okP_nat hN.1 q
    rw [nI_clamp (by have := hN.1; omega)]
    have hv := (hA k k1 k2).over (hP k)
    by_cases z : a 27 k = 0
    · rw [if_pos z, if_pos (hv.mpr z)]
    · rw [if_neg z, if_neg (fun y => z (hv.mp y))]
      exact (hA k k1 k2).1.2.2.2.1
  · rw [if_neg q, if_neg (fun z => q ((cP_ok hN.1).mp z))]
theorem r_stt {n : Nat} {C : CSt} {S : MSt} (h : Rel n C S) (x : Int32) : cStt n x C = mStt n x S := by
  obtain ⟨sc, now, gi, ck, ho, pd, pf, ps, pe, pn⟩ := C
  obtain ⟨ms, mnow, du, a⟩ := S
  obtain ⟨hN, hK, hH, hP, hA, hZ⟩ := h
  unfold cStt mStt
  dsimp only
  by_cases q : okP n x
  · rw [if_pos q, if_pos ((cP_ok hN.1).mpr q)]
    obtain ⟨k, k1, k2, rfl⟩ := okP_nat hN.1 q
    rw [nI_clamp (by have := hN.1; omega)]
    exact (hA k k1 k2).sta (hP k)
  · rw [if_neg q, if_neg (fun z => q ((cP_ok hN.1).mp z))]
theorem r_off {n : Nat} {C : CSt} {S : MSt} (h : Rel n C S) (x1 x2 x3 : Int32) : (cOff x1 x2 x3 C).1 = (mOff x1 x2 x3 S).1 ∧ Rel n (cOff x1 x2 x3 C).2 (mOff x1 x2 x3 S).2 := by
  unfold cOff mOff
  by_cases q : okC x1
  · rw [if_pos q, if_pos (cC_ok.mpr q)]
    by_cases q2 : okR x2 4 ∧ okR x3 3
    · rw [if_pos q2, if_neg (fun z => z.elim (fun y => cNR_ok.mp y q2.1) (fun y => cNR_ok.mp y q2.2))]
      obtain ⟨k, hk, rfl⟩ := okC_nat q
      rw [nI_clamp (by omega)]
      obtain ⟨y, hy, rfl⟩ := okR_nat (k := 4) (by decide +kernel) (by decide) q2.1
      obtain ⟨sc, now, gi, ck, ho, pd, pf, ps, pe, pn⟩ := C
      obtain ⟨ms, mnow, du, a⟩ := S
      obtain ⟨hN, hK, hH, hP, hA, hZ⟩ := h
      obtain ⟨k0, k1, k2, k3⟩ := hK k hk
      constructor
      · have hs : cSame (sc, now, gi, ck, ho, pd, pf, ps, pe, pn) k (nI y) x3 ↔ mSame (mThr (ms, mnow, du, a)).2.2.2 k (nI y) x3 := by
          show (¬ ck k 0 = 0 ∧ ck k 1 = nI y ∧ ck k 2 = x3) ↔ (¬ a 34 k = 0 ∧ a 35 k = nI y ∧ a 36 k = x3)
          rw [k0, k1, k2]
        show bI (¬ cSame _ k (nI y) x3) = bI (¬ mSame _ k (nI y) x3)
        exact bI_cg (not_congr hs)
      · refine ⟨hN, fun c hc => ?_, hH, hP, hA, hZ⟩
        show RelK (pfS (pfS (pfS ck k 0 1) k 1 (nI y)) k 2 x3) (va_up (va_up (va_up a 34 (upd (a 34) k 1)) 35 (upd (a 35) k (nI y))) 36 (upd (a 36) k x3)) c
        by_cases e : c = k
        · subst e
          refine ⟨?_, ?_, ?_, y, hy, ?_⟩
          · show _ = upd (a 34) c 1 c
            rw [upd_s]; simp [va_up]
          · show _ = upd (a 35) c (nI y) c
            rw [upd_s]; simp [va_up]
          · show _ = upd (a 36) c x3 c
            rw [upd_s]; simp [va_up]
          · show upd (a 35) c (nI y) c = _
            rw [upd_s]
        · obtain ⟨j0, j1, j2, j3⟩ := hK c hc
          refine ⟨?_, ?_, ?_, ?_⟩
          · show _ = upd (a 34) k 1 c
            rw [upd_n _ _ e]; simp [va_up, e]; exact j0
          · show _ = upd (a 35) k (nI y) c
            rw [upd_n _ _ e]; simp [va_up, e]; exact j1
          · show _ = upd (a 36) k x3 c
            rw [upd_n _ _ e]; simp [va_up, e]; exact j2
          · show ∃ y', y' ≤ 4 ∧ upd (a 35) k (nI y) c = nI y'
            rw [upd_n _ _ e]; exact j3
    · rw [if_neg q2, if_pos (by
        by_cases z : okR x2 4
        · exact Or.inr (cNR_ok.mpr fun y => q2 ⟨z, y⟩)
        · exact Or.inl (cNR_ok.mpr z))]
      exact ⟨rfl, h.thr⟩
  · rw [if_neg q, if_neg (fun z => q (cC_ok.mp z))]
    exact ⟨rfl, h.thr⟩
theorem ag_eq {ps : Nat → Nat → Int32} {f : Nat → Int32} {c d : Nat} {x : Int32} : ∀ k, (∀ p, 1 ≤ p → p ≤ k → (ps p c = f (ix p c) ∧ (f (ix p c) = -1 ∨ ¬ f (ix p c) < 0)) ∧ (ps p d = f (ix p d) ∧ (f (ix p d) = -1 ∨ ¬ f (ix p d) < 0))) → cAg ps c d x k = mAg f c d x k := by
  intro k
  induction k with
  | zero => intro _; rfl
  | succ k ih =>
    intro h
    have h1 := ih (fun p h1 h2 => h p h1 (by omega))
    obtain ⟨⟨a1, a2⟩, b1, b2⟩ := h (k + 1) (by omega) (by omega)
    have e1 : ¬ f (ix (k + 1) c) = -1 ↔ ¬ f (ix (k + 1) c) < 0 := ⟨fun z => a2.elim (fun y => absurd y z) id, fun z y => z (by rw [y]; decide)⟩
    have e2 : ¬ f (ix (k + 1) d) = -1 ↔ ¬ f (ix (k + 1) d) < 0 := ⟨fun z => b2.elim (fun y => absurd y z) id, fun z y => z (by rw [y]; decide)⟩
    by_cases q : ¬ f (20 * (k + 1) + c - 20) < 0 ∧ ¬ f (20 * (k + 1) + d - 20) < 0 ∧ (x = 1 ∨ f (20 * (k + 1) + c - 20) = f (20 * (k + 1) + d - 20))
    · rw [mAg_t q, cAg_t (by rw [a1, b1]; exact ⟨e1.mpr q.1, e2.mpr q.2.1, q.2.2⟩), h1]
    · rw [mAg_f q, cAg_f (by rw [a1, b1]; exact fun z => q ⟨e1.mp z.1, e2.mp z.2.1, z.2.2⟩), h1]
theorem r_agr {n : Nat} {C : CSt} {S : MSt} (h : Rel n C S) (x1 x2 x3 : Int32) : cAgr n x1 x2 x3 C = mAgr n x1 x2 x3 S := by
  obtain ⟨sc, now, gi, ck, ho, pd, pf, ps, pe, pn⟩ := C
  obtain ⟨ms, mnow, du, a⟩ := S
  obtain ⟨hN, hK, hH, hP, hA, hZ⟩ := h
  unfold cAgr mAgr
  dsimp only
  by_cases q : okC x1 ∧ okC x2
  · rw [if_pos q, if_pos ⟨cC_ok.mpr q.1, cC_ok.mpr q.2⟩]
    have hs : (x1 = x2 ∨ (¬ x3 = 0 ∧ ¬ x3 = 1)) ↔ ¬ (¬ x3 < 0 ∧ ¬ 1 < x3 ∧ ¬ x1 = x2) := by
      have e0 : (0 : Int32).toInt = 0 := by decide
      have e1 : (1 : Int32).toInt = 1 := by decide
      rw [i_eq (x := x3), i_eq (x := x3), i_lt, i_lt, e0, e1]
      by_cases z : x1 = x2
      · simp [z]
      · simp [z]; omega
    by_cases q2 : ¬ x3 < 0 ∧ ¬ 1 < x3 ∧ ¬ x1 = x2
    · rw [if_pos q2, if_neg (fun z => hs.mp z q2)]
      obtain ⟨c, hc, rfl⟩ := okC_nat q.1
      obtain ⟨d, hd, rfl⟩ := okC_nat q.2
      rw [nI_clamp (by omega), nI_clamp (by omega)]
      rw [ag_eq n (fun p h1 h2 => ?_)]
      have hC := (hA p h1 h2).2.2.2.2.1
      exact ⟨⟨(hC c hc).2.1, (hC c hc).2.2.1⟩, ⟨(hC d hd).2.1, (hC d hd).2.2.1⟩⟩
    · rw [if_neg q2, if_pos (hs.mpr q2)]
  · rw [if_neg q, if_neg (fun z => q ⟨cC_ok.mp z.1, cC_ok.mp z.2⟩)]
theorem r_pic {n : Nat} {C : CSt} {S : MSt} (h : Rel n C S) (t : Int64) (x : Int32) : (cPic n t x C).1 = (mPic n t x S).1 ∧ (cPic n t x C).2.1 = (mPic n t x S).2.1 ∧ Rel (cPic n t x C).2.1 (cPic n t x C).2.2 (mPic n t x S).2.2 := by
  obtain ⟨sc, now, gi, ck, ho, pd, pf, ps, pe, pn⟩ := C
  obtain ⟨ms, mnow, du, a⟩ := S
  have h0 := h
  obtain ⟨⟨n1, n2, n3, n4, n5, n6, n7⟩, hK, hH, hP, hA, hZ⟩ := h
  unfold cPic mPic
  dsimp only
  by_cases q : okT t mnow ∧ okR x 3
  · rw [if_pos q, if_neg (fun z => z.elim (fun y => cNT_ok.mp y (by rw [n5]; exact q.1)) (fun y => cNR_ok.mp y q.2))]
    by_cases q2 : n = 300
    · rw [if_pos q2, if_pos q2]
      exact ⟨rfl, rfl, h0.thr⟩
    · rw [if_neg q2, if_neg q2]
      by_cases q3 : nI (mOpen (a 27) n) = ms 1
      · rw [if_pos q3, if_pos (by rw [n7, n4]; exact q3)]
        exact ⟨rfl, rfl, h0.thr⟩
      · rw [if_neg q3, if_neg (by rw [n7, n4]; exact q3)]
        refine ⟨rfl, rfl, (?_ : Rel (n + 1) (cPic2 n t x (sc, now, gi, ck, ho, pd, pf, ps, pe, pn)) (va_up (va_up ms 0 0) 2 (nI (n + 1)), mnow, vp_updL du (n + 1) t, va_up a 26 (upd (a 26) (n + 1) x)))⟩
        refine ⟨⟨by omega, rfl, rfl, n4, n5, n6, ?_⟩, hK, fun c => ?_, fun p => ?_, fun p h1 h2 => ?_, fun p h1 h2 => ?_⟩
        · show sc 3 + 1 = nI (mOpen (a 27) (n + 1))
          have e1 : mOpen (a 27) (n + 1) = mOpen (a 27) n + 1 := by
            show (if a 27 (n + 1) = 0 then _ else _) = _
            rw [if_pos (hZ (n + 1) (by omega) (by omega)).1]
          rw [e1, n7, nI_1]
        · have := hH c; omega
        · exact pn_up hP (by decide) p
        · by_cases e : p = n + 1
          · subst e
            obtain ⟨z1, z2, z3, z4, z5⟩ := hZ (n + 1) (by omega) (by omega)
            have ix31 : ∀ c, c < 20 → a 31 (ix (n + 1) c) = 0 := fun c hc => (z5 c hc).1
            show RelA gi ho (va_up pd (n + 1) t) (va_up pf (n + 1) (cNewF x)) (va_up ps (n + 1) (cNeg 20)) (va_up pe (n + 1) (fun _ => 0)) (va_up pn (n + 1) 0) (vp_updL du (n + 1) t) (va_up a 26 (upd (a 26) (n + 1) x)) (n + 1)
            refine ⟨⟨?_, ?_, ?_, ?_, fun _ => z2⟩, ⟨0, by decide, ?_, ?_, fun _ => by decide⟩, fun k hk => ?_, ?_, fun c hc => ?_, fun _ hd => ?_⟩
            · rw [va_up_self]; simp [vp_updL]
            · show va_up pf (n + 1) (cNewF x) (n + 1) 1 = upd (a 26) (n + 1) x (n + 1)
              rw [va_up_self, upd_s]; rfl
            · show a 27 (n + 1) = _
              rw [va_up_self, z1]; rfl
            · show va_up pf (n + 1) (cNewF x) (n + 1) 9 = a 28 (n + 1)
              rw [va_up_self, z2]; rfl
            · show a 29 (n + 1) = nI 0
              rw [z3, nI_0]
            · rw [va_up_self]; rfl
            · show va_up pe (n + 1) (fun _ => 0) (n + 1) k = a 30 (3 * (n + 1) + k)
              rw [va_up_self, z4 k hk]
            · show va_up pf (n + 1) (cNewF x) (n + 1) 7 = nI (mCnt (a 31) (n + 1) 20)
              have e2 : mCnt (a 31) (n + 1) 20 = mCnt (fun _ => 0) (n + 1) 20 := mCnt_cg 20 (fun c hc => by rw [ix31 c hc])
              rw [va_up_self, e2]
              rfl
            · show RelC gi ho (va_up pf (n + 1) (cNewF x)) (va_up ps (n + 1) (cNeg 20)) a (n + 1) c
              refine ⟨?_, ?_, Or.inl (z5 c hc).2, ?_, fun y => ?_, fun y => ?_⟩
              · rw [va_up_self, ix31 c hc]
                exact ⟨fun y => absurd y (bit_0 (by omega)), fun y => absurd rfl y⟩
              · rw [va_up_self, (z5 c hc).2]
                unfold cNeg
                rw [if_pos hc]
              · rw [ix31 c hc]
                exact ⟨fun y => by have := hH c; omega, fun y => absurd y (by decide)⟩
              · rw [ix31 c hc] at y; exact absurd y (by decide)
              · rw [ix31 c hc] at y; exact absurd y (by decide)
            · refine ⟨fun y hy => ?_, fun c d hc hd2 w1 => ?_⟩
              · show cBit (va_up pf (n + 1) (cNewF x) (n + 1) 4) (nI y) ↔ ∃ c, c < 20 ∧ 1 < a 31 (ix (n + 1) c) ∧ a 32 (ix (n + 1) c) = nI y
                rw [va_up_self]
                refine ⟨fun w => absurd w (bit_0 (by omega)), fun w => ?_⟩
                obtain ⟨c, w1, w2, w3⟩ := w
                rw [ix31 c w1] at w2
                exact absurd w2 (by decide)
              · have w1 : 1 < a 31 (ix (n + 1) c) := w1
                rw [ix31 c hc] at w1
                exact absurd w1 (by decide)
          · exact (hA p h1 (by omega)).cg (va_up_ne _ _ e) (va_up_ne _ _ e) (va_up_ne _ _ e) (va_up_ne _ _ e) (va_up_ne _ _ e) (show vp_updL du (n + 1) t p = du p by simp [vp_updL, e]) (show upd (a 26) (n + 1) x p = a 26 p from upd_n _ _ e) rfl rfl rfl (fun _ _ => rfl) (fun _ _ => rfl) (fun _ _ => rfl) (fun _ _ => rfl) (fun _ _ => Iff.rfl) (fun _ _ _ => rfl)
        · exact (hZ p (by omega) h2).cg rfl rfl rfl (fun _ _ => rfl) (fun _ _ => rfl) (fun _ _ => rfl)
  · rw [if_neg q, if_pos (by
      by_cases z : okT t mnow
      · exact Or.inr (cNR_ok.mpr fun y => q ⟨z, y⟩)
      · exact Or.inl (cNT_ok.mpr (by rw [n5]; exact z)))]
    exact ⟨rfl, rfl, h0.thr⟩
end
section
/-! ===== give, answer, leave ===== -/
section RO
variable {sc sc' ms gi gi' : Nat → Int32} {now mnow : Int64} {ho ho' : Nat → Nat} {pd : Nat → Int64} {ck pf ps pe pf' ps' pe' : Nat → Nat → Int32} {pn pn' : Nat → Nat} {du : Nat → Int64} {a a' : Nat → Nat → Int32} {p0 n c : Nat}
/-- one picture changes -/
theorem Rel.one (h : Rel n (sc, now, gi, ck, ho, pd, pf, ps, pe, pn) (ms, mnow, du, a)) (hp2 : p0 ≤ n) (hN' : RelN n sc' ms now mnow a') (hK' : ∀ c, a' 34 c = a 34 c ∧ a' 35 c = a 35 c ∧ a' 36 c = a 36 c) (hH' : ∀ c, ho' c ≤ n) (hP' : ∀ p, pn' p < 4) (hA0 : RelA gi' ho' pd pf' ps' pe' pn' du a' p0)
    (O : ∀ p, 1 ≤ p → p ≤ 300 → ¬ p = p0 → (pf' p = pf p ∧ ps' p = ps p ∧ pe' p = pe p ∧ pn' p = pn p) ∧ (a' 26 p = a 26 p ∧ a' 27 p = a 27 p ∧ a' 28 p = a 28 p ∧ a' 29 p = a 29 p ∧ ∀ k, k < 3 → a' 30 (3 * p + k) = a 30 (3 * p + k)) ∧ ∀ c, c < 20 → a' 31 (ix p c) = a 31 (ix p c) ∧ a' 32 (ix p c) = a 32 (ix p c) ∧ a' 33 (ix p c) = a 33 (ix p c) ∧ (ho' c = p ↔ ho c = p) ∧ (a 31 (ix p c) = 2 → gi' c = gi c)) :
    Rel n (sc', now, gi', ck, ho', pd, pf', ps', pe', pn') (ms, mnow, du, a') := by
  obtain ⟨hN, hK, hH, hP, hA, hZ⟩ := h
  refine ⟨hN', fun c hc => ?_, hH', hP', fun p h1 h2 => ?_, fun p h1 h2 => ?_⟩
  · obtain ⟨k1, k2, k3, y, k4, k5⟩ := hK c hc
    obtain ⟨e1, e2, e3⟩ := hK' c
    exact ⟨by rw [e1]; exact k1, by rw [e2]; exact k2, by rw [e3]; exact k3, y, k4, by rw [e2]; exact k5⟩
  · by_cases e : p = p0
    · rw [e]; exact hA0
    · obtain ⟨⟨o1, o2, o3, o4⟩, ⟨o5, o6, o7, o8, o9⟩, o10⟩ := O p h1 (Nat.le_trans h2 hN.1) e
      exact (hA p h1 h2).cg rfl o1 o2 o3 o4 rfl o5 o6 o7 o8 o9 (fun c hc => (o10 c hc).1) (fun c hc => (o10 c hc).2.1) (fun c hc => (o10 c hc).2.2.1) (fun c hc => (o10 c hc).2.2.2.1) (fun c hc => (o10 c hc).2.2.2.2)
  · obtain ⟨⟨o1, o2, o3, o4⟩, ⟨o5, o6, o7, o8, o9⟩, o10⟩ := O p (by omega) h2 (by omega)
    exact (hZ p h1 h2).cg o6 o7 o8 o9 (fun c hc => (o10 c hc).1) (fun c hc => (o10 c hc).2.2.1)
theorem rel_giv2 (h : Rel n (sc, now, gi, ck, ho, pd, pf, ps, pe, pn) (ms, mnow, du, a)) (hc : c < 20) (h0 : ho c = 0) {b : Nat} (hb1 : 1 ≤ b) (hb2 : b ≤ n) (hf : mFre a b c) : Rel n (cGiv2 b c (sc, now, gi, ck, ho, pd, pf, ps, pe, pn)) (ms, mnow, du, va_up (va_up a 31 (upd (a 31) (ix b c) 2)) 32 (upd (a 32) (ix b c) (a 35 c))) := by
  have hr := h
  obtain ⟨hN, hK, hH, hP, hA, hZ⟩ := h
  obtain ⟨f1, f2, f3, f4, f5⟩ := hf
  obtain ⟨k0, k1, k2, y, hy, hy2⟩ := hK c hc
  have F2 : cGivP pf b c (ck c 1) b 2 = pf b 2 ||| (1 <<< (nI c &&& 31)) := by simp [cGivP, va_up]
  have F4 : cGivP pf b c (ck c 1) b 4 = pf b 4 ||| (1 <<< (nI y &&& 31)) := by
    rw [k1, hy2]; simp [cGivP, va_up]
  have F7 : cGivP pf b c (ck c 1) b 7 = pf b 7 + 1 := by simp [cGivP, va_up]
  have F1 : cGivP pf b c (ck c 1) b 1 = pf b 1 := by simp [cGivP, va_up]
  have F6 : cGivP pf b c (ck c 1) b 6 = pf b 6 := by simp [cGivP, va_up]
  have F9 : cGivP pf b c (ck c 1) b 9 = pf b 9 := by simp [cGivP, va_up]
  have G31 : upd (a 31) (ix b c) 2 (ix b c) = 2 := upd_s _ _ _
  have G32 : upd (a 32) (ix b c) (a 35 c) (ix b c) = a 35 c := upd_s _ _ _
  have N31 : ∀ d, d < 20 → ¬ d = c → upd (a 31) (ix b c) 2 (ix b d) = a 31 (ix b d) := fun d hd e => upd_n _ _ (ix_ne hb1 hb1 hd hc (fun z => e z.2))
  have N32 : ∀ d, d < 20 → ¬ d = c → upd (a 32) (ix b c) (a 35 c) (ix b d) = a 32 (ix b d) := fun d hd e => upd_n _ _ (ix_ne hb1 hb1 hd hc (fun z => e z.2))
  have hc2 : ¬ a 31 (ix b c) = 2 := by rw [show a 31 (ix b c) = 0 from f4]; decide
  refine hr.one (gi' := upd gi c (ck c 1)) (ho' := va_up ho c b) (pf' := cGivP pf b c (ck c 1)) hb2 hN (fun _ => ⟨rfl, rfl, rfl⟩) (fun d => ?_) hP ?_ (fun p h1 h300 e => ⟨⟨?_, rfl, rfl, rfl⟩, ⟨rfl, rfl, rfl, rfl, fun _ _ => rfl⟩, fun d hd => ⟨?_, ?_, rfl, ?_, ?_⟩⟩)
  · by_cases e : d = c
    · rw [e, va_up_self]; exact hb2
    · rw [va_up_ne _ _ e]; exact hH d
  · obtain ⟨⟨a1, a2, a3, a4, a5⟩, ⟨q, a6, a7, a8, a9⟩, a10, a11, a12, a13⟩ := hA b hb1 hb2
    refine ⟨⟨a1, by rw [F1]; exact a2, a3, by rw [F9]; exact a4, a5⟩, ⟨q, a6, a7, by rw [F6]; exact a8, a9⟩, a10, ?_, fun d hd => ?_, fun z1 z2 => ?_⟩
    · have e1 := mCnt_up (f := a 31) (c0 := c) hb1 2 rfl hc2 20 (Nat.le_refl _)
      rw [if_pos hc] at e1
      rw [F7, a11, nI_1]
      exact congrArg nI e1.symm
    · obtain ⟨c1, c2, c3, c4, c5, c6⟩ := a12 d hd
      by_cases e : d = c
      · subst e
        refine ⟨?_, c2, c3, ?_, fun _ => ?_, fun _ => ?_⟩
        · rw [F2, bit_or (by omega) (by omega)]
          exact ⟨fun _ z => absurd (G31.symm.trans z) (by decide), fun _ => Or.inr rfl⟩
        · rw [va_up_self]
          exact ⟨fun _ => G31, fun _ => rfl⟩
        · show upd gi d (ck d 1) d = upd (a 32) (ix b d) (a 35 d) (ix b d)
          rw [upd_s, upd_s, k1]
        · exact ⟨y, hy, G32.trans hy2⟩
      · have e31 := N31 d hd e
        have e32 := N32 d hd e
        refine ⟨?_, c2, c3, ?_, fun z => ?_, fun z => ?_⟩
        · rw [F2, bit_or (by omega) (by omega)]
          show _ ↔ ¬ upd (a 31) (ix b c) 2 (ix b d) = 0
          rw [e31]
          exact ⟨fun w => w.elim c1.mp (fun w => absurd w e), fun w => Or.inl (c1.mpr w)⟩
        · rw [va_up_ne _ _ e]
          show _ ↔ upd (a 31) (ix b c) 2 (ix b d) = 2
          rw [e31]; exact c4
        · have z : upd (a 31) (ix b c) 2 (ix b d) = 2 := z
          rw [e31] at z
          show upd gi c (ck c 1) d = upd (a 32) (ix b c) (a 35 c) (ix b d)
          rw [upd_n _ _ e, e32]; exact c5 z
        · have z : 1 < upd (a 31) (ix b c) 2 (ix b d) := z
          rw [e31] at z
          show ∃ y', y' ≤ 4 ∧ upd (a 32) (ix b c) (a 35 c) (ix b d) = nI y'
          rw [e32]; exact c6 z
    · have z2 : ¬ mDif a b := z2
      obtain ⟨g1, g2⟩ := a13 z1 z2
      have g3 := (mAl_iff 20).mp (f5.elim id (fun w => absurd w z2))
      refine ⟨fun y' hy' => ?_, fun d1 d2 hd1 hd2 w1 w2 w3 => ?_⟩
      · rw [F4, bit_or (by omega) (by omega), g1 y' hy']
        constructor
        · rintro (⟨d, v1, v2, v3⟩ | v1)
          · have e : ¬ d = c := fun z => by rw [z, show a 31 (ix b c) = 0 from f4] at v2; exact absurd v2 (by decide)
            refine ⟨d, v1, ?_, ?_⟩
            · show 1 < upd (a 31) (ix b c) 2 (ix b d)
              rw [N31 d v1 e]; exact v2
            · show upd (a 32) (ix b c) (a 35 c) (ix b d) = _
              rw [N32 d v1 e]; exact v3
          · refine ⟨c, hc, ?_, ?_⟩
            · show 1 < upd (a 31) (ix b c) 2 (ix b c)
              rw [G31]; decide
            · show upd (a 32) (ix b c) (a 35 c) (ix b c) = _
              rw [G32, hy2, v1]
        · rintro ⟨d, v1, v2, v3⟩
          by_cases e : d = c
          · right
            have v3 : upd (a 32) (ix b c) (a 35 c) (ix b d) = nI y' := v3
            rw [e, G32, hy2] at v3
            exact ((nI_eq (by omega) (by omega)).mp v3).symm
          · left
            have v2 : 1 < upd (a 31) (ix b c) 2 (ix b d) := v2
            have v3 : upd (a 32) (ix b c) (a 35 c) (ix b d) = nI y' := v3
            rw [N31 d v1 e] at v2
            rw [N32 d v1 e] at v3
            exact ⟨d, v1, v2, v3⟩
      · have w1 : 1 < upd (a 31) (ix b c) 2 (ix b d1) := w1
        have w2 : 1 < upd (a 31) (ix b c) 2 (ix b d2) := w2
        have w3 : upd (a 32) (ix b c) (a 35 c) (ix b d1) = upd (a 32) (ix b c) (a 35 c) (ix b d2) := w3
        by_cases e1 : d1 = c
        · by_cases e2 : d2 = c
          · rw [e1, e2]
          · rw [N31 d2 hd2 e2] at w2
            rw [e1, G32, N32 d2 hd2 e2] at w3
            exact absurd ⟨w2, w3.symm⟩ (g3 d2 hd2)
        · rw [N31 d1 hd1 e1] at w1
          by_cases e2 : d2 = c
          · rw [e2, G32, N32 d1 hd1 e1] at w3
            exact absurd ⟨w1, w3⟩ (g3 d1 hd1)
          · rw [N31 d2 hd2 e2] at w2
            rw [N32 d1 hd1 e1, N32 d2 hd2 e2] at w3
            exact g2 d1 d2 hd1 hd2 w1 w2 w3
  · funext k; simp [cGivP, va_up, e]
  · exact upd_n _ _ (ix_ne h1 hb1 hd hc (fun z => e z.1))
  · exact upd_n _ _ (ix_ne h1 hb1 hd hc (fun z => e z.1))
  · by_cases e2 : d = c
    · rw [e2, va_up_self, h0]
      exact ⟨fun z => absurd z.symm e, fun z => absurd h1 (by omega)⟩
    · rw [va_up_ne _ _ e2]
  · intro z
    by_cases e2 : d = c
    · rw [e2] at z
      by_cases h3 : p ≤ n
      · have := ((hA p h1 h3).2.2.2.2.1 c hc).2.2.2.1.mpr z
        omega
      · rw [((hZ p (by omega) h300).2.2.2.2 c hc).1] at z
        exact absurd z (by decide)
    · exact upd_n _ _ e2
theorem rel_bak (h : Rel n (sc, now, gi, ck, ho, pd, pf, ps, pe, pn) (ms, mnow, du, a)) (hc : c < 20) (h1 : 1 ≤ ho c) : Rel n (cBak c (sc, now, gi, ck, ho, pd, pf, ps, pe, pn)) (ms, mnow, du, va_up a 31 (upd (a 31) (ix (ho c) c) 1)) := by
  have hr := h
  obtain ⟨hN, hK, hH, hP, hA, hZ⟩ := h
  have hb2 := hH c
  obtain ⟨b, hb⟩ : ∃ b, ho c = b := ⟨_, rfl⟩
  rw [hb] at h1 hb2
  have hb1 := h1
  show Rel n (sc, now, gi, ck, va_up ho c 0, pd, cBakP pf (ho c) (gi c), ps, pe, pn) (ms, mnow, du, va_up a 31 (upd (a 31) (ix (ho c) c) 1))
  rw [hb]
  obtain ⟨x1, x2, x3, x4, x5, x6⟩ := (hA b hb1 hb2).2.2.2.2.1 c hc
  have hd2 : a 31 (ix b c) = 2 := x4.mp hb
  obtain ⟨y, hy, hy2⟩ := x6 (by rw [hd2]; decide)
  have hgi : gi c = nI y := (x5 hd2).trans hy2
  have F4 : cBakP pf b (gi c) b 4 = pf b 4 &&& ((1 <<< (nI y &&& 31)) ^^^ (-1)) := by
    rw [hgi]; simp [cBakP, va_up]
  have F7 : cBakP pf b (gi c) b 7 = pf b 7 - 1 := by simp [cBakP, va_up]
  have F1 : cBakP pf b (gi c) b 1 = pf b 1 := by simp [cBakP, va_up]
  have F2 : cBakP pf b (gi c) b 2 = pf b 2 := by simp [cBakP, va_up]
  have F6 : cBakP pf b (gi c) b 6 = pf b 6 := by simp [cBakP, va_up]
  have F9 : cBakP pf b (gi c) b 9 = pf b 9 := by simp [cBakP, va_up]
  have G31 : upd (a 31) (ix b c) 1 (ix b c) = 1 := upd_s _ _ _
  have N31 : ∀ d, d < 20 → ¬ d = c → upd (a 31) (ix b c) 1 (ix b d) = a 31 (ix b d) := fun d hd e => upd_n _ _ (ix_ne hb1 hb1 hd hc (fun z => e z.2))
  refine hr.one (gi' := gi) (ho' := va_up ho c 0) (pf' := cBakP pf b (gi c)) hb2 hN (fun _ => ⟨rfl, rfl, rfl⟩) (fun d => ?_) hP ?_ (fun p h1 h300 e => ⟨⟨?_, rfl, rfl, rfl⟩, ⟨rfl, rfl, rfl, rfl, fun _ _ => rfl⟩, fun d hd => ⟨?_, rfl, rfl, ?_, fun _ => rfl⟩⟩)
  · by_cases e : d = c
    · rw [e, va_up_self]; exact Nat.zero_le _
    · rw [va_up_ne _ _ e]; exact hH d
  · obtain ⟨⟨a1, a2, a3, a4, a5⟩, ⟨q, a6, a7, a8, a9⟩, a10, a11, a12, a13⟩ := hA b hb1 hb2
    refine ⟨⟨a1, by rw [F1]; exact a2, a3, by rw [F9]; exact a4, a5⟩, ⟨q, a6, a7, by rw [F6]; exact a8, a9⟩, a10, ?_, fun d hd => ?_, fun z1 z2 => ?_⟩
    · have e1 := mCnt_dn (f := a 31) (c0 := c) hb1 1 (by decide) hd2 20 (Nat.le_refl _)
      rw [if_pos hc] at e1
      rw [F7, a11, e1, nI_pred]
      rfl
    · obtain ⟨c1, c2, c3, c4, c5, c6⟩ := a12 d hd
      by_cases e : d = c
      · subst e
        refine ⟨?_, c2, c3, ?_, fun z => absurd (G31.symm.trans z) (by decide), fun z => ?_⟩
        · rw [F2]
          exact ⟨fun _ z => absurd (G31.symm.trans z) (by decide), fun _ => c1.mpr (by rw [hd2]; decide)⟩
        · rw [va_up_self]
          exact ⟨fun z => absurd z (by omega), fun z => absurd (G31.symm.trans z) (by decide)⟩
        · have z : 1 < upd (a 31) (ix b d) 1 (ix b d) := z
          rw [G31] at z
          exact absurd z (by decide)
      · have e31 := N31 d hd e
        refine ⟨?_, c2, c3, ?_, fun z => ?_, fun z => ?_⟩
        · rw [F2]
          show _ ↔ ¬ upd (a 31) (ix b c) 1 (ix b d) = 0
          rw [e31]; exact c1
        · rw [va_up_ne _ _ e]
          show _ ↔ upd (a 31) (ix b c) 1 (ix b d) = 2
          rw [e31]; exact c4
        · have z : upd (a 31) (ix b c) 1 (ix b d) = 2 := z
          rw [e31] at z
          exact c5 z
        · have z : 1 < upd (a 31) (ix b c) 1 (ix b d) := z
          rw [e31] at z
          exact c6 z
    · have z2 : ¬ mDif a b := z2
      obtain ⟨g1, g2⟩ := a13 z1 z2
      have hne : ∀ d, d < 20 → 1 < upd (a 31) (ix b c) 1 (ix b d) → ¬ d = c ∧ 1 < a 31 (ix b d) := fun d hd w => by
        have e : ¬ d = c := fun z => by rw [z, G31] at w; exact absurd w (by decide)
        rw [N31 d hd e] at w
        exact ⟨e, w⟩
      refine ⟨fun y' hy' => ?_, fun d1 d2 hd1 hd2' w1 w2 w3 => ?_⟩
      · rw [F4, bit_clr (by omega) (by omega), g1 y' hy']
        constructor
        · rintro ⟨⟨d, v1, v2, v3⟩, v4⟩
          have e : ¬ d = c := fun z => by
            rw [z, hy2] at v3
            exact v4 ((nI_eq (by omega) (by omega)).mp v3).symm
          refine ⟨d, v1, ?_, v3⟩
          show 1 < upd (a 31) (ix b c) 1 (ix b d)
          rw [N31 d v1 e]; exact v2
        · rintro ⟨d, v1, v2, v3⟩
          obtain ⟨e, v2⟩ := hne d v1 v2
          refine ⟨⟨d, v1, v2, v3⟩, fun z => e ?_⟩
          refine g2 d c v1 hc v2 (by rw [hd2]; decide) ?_
          rw [hy2, ← z]; exact v3
      · exact g2 d1 d2 hd1 hd2' (hne d1 hd1 w1).2 (hne d2 hd2' w2).2 w3
  · funext k; simp [cBakP, va_up, e]
  · exact upd_n _ _ (ix_ne h1 hb1 hd hc (fun z => e z.1))
  · by_cases e2 : d = c
    · rw [e2, va_up_self, hb]
      exact ⟨fun z => absurd h1 (by omega), fun z => absurd z.symm e⟩
    · rw [va_up_ne _ _ e2]
theorem rel_out (h : Rel n (sc, now, gi, ck, ho, pd, pf, ps, pe, pn) (ms, mnow, du, a)) (hc : c < 20) : Rel n (cOut c (sc, now, gi, ck, ho, pd, pf, ps, pe, pn)) (ms, mnow, du, va_up a 34 (upd (a 34) c 0)) := by
  obtain ⟨hN, hK, hH, hP, hA, hZ⟩ := h
  refine ⟨hN, fun d hd => ?_, hH, hP, hA, hZ⟩
  obtain ⟨k0, k1, k2, k3⟩ := hK d hd
  by_cases e : d = c
  · subst e
    refine ⟨?_, ?_, ?_, k3⟩
    · show _ = upd (a 34) d 0 d
      rw [upd_s]; simp [va_up]
    · simp [va_up]; exact k1
    · simp [va_up]; exact k2
  · refine ⟨?_, ?_, ?_, k3⟩
    · show _ = upd (a 34) c 0 d
      rw [upd_n _ _ e]; simp [va_up, e]; exact k0
    · simp [va_up, e]; exact k1
    · simp [va_up, e]; exact k2
/-- an answer, but for its entry -/
theorem rel_ans2 (h : Rel n (sc, now, gi, ck, ho, pd, pf, ps, pe, pn) (ms, mnow, du, a)) (hc : c < 20) {b : Nat} {v : Int32} (hb1 : 1 ≤ b) (hb : ho c = b) (hv : ¬ v < 0) : Rel n (sc, now, gi, ck, va_up ho c 0, pd, pfS pf b 7 (pf b 7 - 1), va_up ps b (upd (ps b) c v), pe, pn) (ms, mnow, du, mAns2 a c b v) := by
  have hr := h
  obtain ⟨hN, hK, hH, hP, hA, hZ⟩ := h
  have hb2 : b ≤ n := by rw [← hb]; exact hH c
  obtain ⟨x1, x2, x3, x4, x5, x6⟩ := (hA b hb1 hb2).2.2.2.2.1 c hc
  have hd2 : a 31 (ix b c) = 2 := x4.mp hb
  have F7 : pfS pf b 7 (pf b 7 - 1) b 7 = pf b 7 - 1 := by simp [va_up]
  have F1 : pfS pf b 7 (pf b 7 - 1) b 1 = pf b 1 := by simp [va_up]
  have F2 : pfS pf b 7 (pf b 7 - 1) b 2 = pf b 2 := by simp [va_up]
  have F4 : pfS pf b 7 (pf b 7 - 1) b 4 = pf b 4 := by simp [va_up]
  have F6 : pfS pf b 7 (pf b 7 - 1) b 6 = pf b 6 := by simp [va_up]
  have F9 : pfS pf b 7 (pf b 7 - 1) b 9 = pf b 9 := by simp [va_up]
  have G31 : upd (a 31) (ix b c) 3 (ix b c) = 3 := upd_s _ _ _
  have G33 : upd (a 33) (ix b c) v (ix b c) = v := upd_s _ _ _
  have N31 : ∀ d, d < 20 → ¬ d = c → upd (a 31) (ix b c) 3 (ix b d) = a 31 (ix b d) := fun d hd e => upd_n _ _ (ix_ne hb1 hb1 hd hc (fun z => e z.2))
  have N33 : ∀ d, d < 20 → ¬ d = c → upd (a 33) (ix b c) v (ix b d) = a 33 (ix b d) := fun d hd e => upd_n _ _ (ix_ne hb1 hb1 hd hc (fun z => e z.2))
  have hgt : ∀ d, d < 20 → (1 < upd (a 31) (ix b c) 3 (ix b d) ↔ 1 < a 31 (ix b d)) := fun d hd => by
    by_cases e : d = c
    · rw [e, G31, hd2]; exact ⟨fun _ => by decide, fun _ => by decide⟩
    · rw [N31 d hd e]
  show Rel n (sc, now, gi, ck, va_up ho c 0, pd, pfS pf b 7 (pf b 7 - 1), va_up ps b (upd (ps b) c v), pe, pn) (ms, mnow, du, va_up (va_up a 31 (upd (a 31) (ix b c) 3)) 33 (upd (a 33) (ix b c) v))
  refine hr.one (gi' := gi) (ho' := va_up ho c 0) (pf' := pfS pf b 7 (pf b 7 - 1)) (ps' := va_up ps b (upd (ps b) c v)) hb2 hN (fun _ => ⟨rfl, rfl, rfl⟩) (fun d => ?_) hP ?_ (fun p h1 h300 e => ⟨⟨va_up_ne _ _ e, va_up_ne _ _ e, rfl, rfl⟩, ⟨rfl, rfl, rfl, rfl, fun _ _ => rfl⟩, fun d hd => ⟨?_, rfl, ?_, ?_, fun _ => rfl⟩⟩)
  · by_cases e : d = c
    · rw [e, va_up_self]; exact Nat.zero_le _
    · rw [va_up_ne _ _ e]; exact hH d
  · obtain ⟨⟨a1, a2, a3, a4, a5⟩, ⟨q, a6, a7, a8, a9⟩, a10, a11, a12, a13⟩ := hA b hb1 hb2
    refine ⟨⟨a1, by rw [F1]; exact a2, a3, by rw [F9]; exact a4, a5⟩, ⟨q, a6, a7, by rw [F6]; exact a8, a9⟩, a10, ?_, fun d hd => ?_, fun z1 z2 => ?_⟩
    · have e1 := mCnt_dn (f := a 31) (c0 := c) hb1 3 (by decide) hd2 20 (Nat.le_refl _)
      rw [if_pos hc] at e1
      rw [F7, a11, e1, nI_pred]
      rfl
    · obtain ⟨c1, c2, c3, c4, c5, c6⟩ := a12 d hd
      by_cases e : d = c
      · subst e
        refine ⟨?_, ?_, ?_, ?_, fun z => absurd (G31.symm.trans z) (by decide), fun z => c6 ((hgt d hd).mp z)⟩
        · rw [F2]
          exact ⟨fun _ z => absurd (G31.symm.trans z) (by decide), fun _ => c1.mpr (by rw [hd2]; decide)⟩
        · rw [va_up_self, upd_s]
          exact G33.symm
        · right
          show ¬ upd (a 33) (ix b d) v (ix b d) < 0
          rw [G33]; exact hv
        · rw [va_up_self]
          exact ⟨fun z => absurd z (by omega), fun z => absurd (G31.symm.trans z) (by decide)⟩
      · have e31 := N31 d hd e
        have e33 := N33 d hd e
        refine ⟨?_, ?_, ?_, ?_, fun z => ?_, fun z => c6 ((hgt d hd).mp z)⟩
        · rw [F2]
          show _ ↔ ¬ upd (a 31) (ix b c) 3 (ix b d) = 0
          rw [e31]; exact c1
        · rw [va_up_self, upd_n _ _ e]
          show _ = upd (a 33) (ix b c) v (ix b d)
          rw [e33]; exact c2
        · show upd (a 33) (ix b c) v (ix b d) = -1 ∨ ¬ upd (a 33) (ix b c) v (ix b d) < 0
          rw [e33]; exact c3
        · rw [va_up_ne _ _ e]
          show _ ↔ upd (a 31) (ix b c) 3 (ix b d) = 2
          rw [e31]; exact c4
        · have z : upd (a 31) (ix b c) 3 (ix b d) = 2 := z
          rw [e31] at z
          exact c5 z
    · have z2 : ¬ mDif a b := z2
      obtain ⟨g1, g2⟩ := a13 z1 z2
      refine ⟨fun y' hy' => ?_, fun d1 d2 hd1 hd2' w1 w2 w3 => g2 d1 d2 hd1 hd2' ((hgt d1 hd1).mp w1) ((hgt d2 hd2').mp w2) w3⟩
      rw [F4, g1 y' hy']
      constructor
      · rintro ⟨d, v1, v2, v3⟩
        exact ⟨d, v1, (hgt d v1).mpr v2, v3⟩
      · rintro ⟨d, v1, v2, v3⟩
        exact ⟨d, v1, (hgt d v1).mp v2, v3⟩
  · exact upd_n _ _ (ix_ne h1 hb1 hd hc (fun z => e z.1))
  · exact upd_n _ _ (ix_ne h1 hb1 hd hc (fun z => e z.1))
  · by_cases e2 : d = c
    · rw [e2, va_up_self, hb]
      exact ⟨fun z => absurd h1 (by omega), fun z => absurd z.symm e⟩
    · rw [va_up_ne _ _ e2]
end RO
end
section
section RP
variable {sc ms gi : Nat → Int32} {now mnow : Int64} {ho : Nat → Nat} {pd : Nat → Int64} {ck pf ps pe : Nat → Nat → Int32} {pn : Nat → Nat} {du : Nat → Int64} {a : Nat → Nat → Int32} {b n c q : Nat} {v : Int32}
theorem mTakeA_1 (h : mLike (a 30) b v q = true) : mTakeA a b q v = va_up (va_up (mTake0 a b q v) 27 (upd (a 27) b (if 0 < v then 2 else 3))) 28 (upd (a 28) b v) := if_pos h
theorem mTakeA_2 (h : ¬ mLike (a 30) b v q = true) (h2 : q = 2) : mTakeA a b q v = va_up (mTake0 a b q v) 27 (upd (a 27) b 3) := (if_neg h).trans (if_pos h2)
theorem mTakeA_3 (h : ¬ mLike (a 30) b v q = true) (h2 : ¬ q = 2) : mTakeA a b q v = mTake0 a b q v := (if_neg h).trans (if_neg h2)
theorem sc_s0 : va_up sc 3 (sc 3 - 0) = sc := by rw [Int32.sub_zero, va_up_id]
theorem e30_ne {p k : Nat} (hk : k < 3) (hq : q ≤ 2) (e : ¬ p = b) : upd (a 30) (3 * b + q) v (3 * p + k) = a 30 (3 * p + k) := upd_n _ _ (by omega)
/-- the entry of an answer -/
theorem rel_add (h : Rel n (sc, now, gi, ck, ho, pd, pf, ps, pe, pn) (ms, mnow, du, a)) (hb1 : 1 ≤ b) (hb2 : b ≤ n) : Rel n (va_up sc 3 (sc 3 - bI (¬ (cAdd b v pf pe pn).2.2 b = 0 ∧ pn b = 0)), now, gi, ck, ho, pd, (cAdd b v pf pe pn).1, ps, (cAdd b v pf pe pn).2.1, (cAdd b v pf pe pn).2.2) (ms, mnow, du, mAns3 a b v) := by
  have hr := h
  obtain ⟨⟨n1, n2, n3, n4, n5, n6, n7⟩, hK, hH, hP, hA, hZ⟩ := h
  have hov := (hA b hb1 hb2).over (hP b)
  by_cases z : pn b = 0
  · obtain ⟨⟨a1, a2, a3, a4, a5⟩, ⟨q, a6, a7, a8, a9⟩, a10, a11, a12, a13⟩ := hA b hb1 hb2
    have hq2 := a9 z
    have e27 := hov.mp z
    have hcl : (nI q).toNatClampNeg = q := nI_clamp (by omega)
    have hC : cAdd b v pf pe pn = cAddS b q v pf pe pn := by
      unfold cAdd; rw [if_pos z, a8, hcl]
    have hM : mAns3 a b v = mTakeA a b q v := by
      unfold mAns3; rw [if_pos e27, a7, hcl]
    have hlk : mLike (a 30) b v q = true ↔ (0 < q ∧ pe b 0 = v) ∨ (1 < q ∧ pe b 1 = v) := by
      rw [mLike_iff hq2, a10 0 (by decide), a10 1 (by decide)]
    have hpe : ∀ k, k < 3 → va_up pe b (upd (pe b) q v) b k = upd (a 30) (3 * b + q) v (3 * b + k) := fun k hk => by
      rw [va_up_self]
      by_cases e : k = q
      · subst e; rw [upd_s, upd_s]
      · rw [upd_n _ _ e, upd_n _ _ (by omega)]; exact a10 k hk
    by_cases L : (0 < q ∧ pe b 0 = v) ∨ (1 < q ∧ pe b 1 = v)
    · rw [hC, hM, cAddS_1 L, mTakeA_1 (hlk.mpr L)]
      have hpn3 : va_up pn b (if 0 < v then 1 else 2) b = if 0 < v then 1 else 2 := va_up_self _ _ _
      have hne : ¬ (if 0 < v then 1 else 2) = 0 := by split <;> decide
      have hbI : bI (¬ va_up pn b (if 0 < v then 1 else 2) b = 0 ∧ pn b = 0) = 1 := bI_t ⟨by rw [hpn3]; exact hne, z⟩
      dsimp only
      rw [hbI]
      have F6 : cFin b v (cAddP b q pf) b 6 = nI (q + 1) := by simp [cFin, cAddP, va_up]
      have F9 : cFin b v (cAddP b q pf) b 9 = v := by simp [cFin, cAddP, va_up]
      have F1 : cFin b v (cAddP b q pf) b 1 = pf b 1 := by simp [cFin, cAddP, va_up]
      have F2 : cFin b v (cAddP b q pf) b 2 = pf b 2 := by simp [cFin, cAddP, va_up]
      have F7 : cFin b v (cAddP b q pf) b 7 = pf b 7 := by simp [cFin, cAddP, va_up]
      have hx : ¬ (if 0 < v then (2 : Int32) else 3) = 0 := by split <;> decide
      have ho1 := mOpen_dn (e := a 27) hb1 e27 hx n
      rw [if_pos hb2] at ho1
      refine hr.one (sc' := va_up sc 3 (sc 3 - 1)) (gi' := gi) (ho' := ho) (pf' := cFin b v (cAddP b q pf)) (pe' := va_up pe b (upd (pe b) q v)) (pn' := va_up pn b (if 0 < v then 1 else 2)) hb2 ⟨n1, n2, n3, n4, n5, n6, ?_⟩ (fun _ => ⟨rfl, rfl, rfl⟩) hH (pn_up hP i12) ?_ (fun p h1 h300 e => ⟨⟨?_, rfl, va_up_ne _ _ e, va_up_ne _ _ e⟩, ⟨rfl, upd_n _ _ e, upd_n _ _ e, upd_n _ _ e, fun k hk => e30_ne hk hq2 e⟩, fun d hd => ⟨rfl, rfl, rfl, Iff.rfl, fun _ => rfl⟩⟩)
      · show sc 3 - 1 = nI (mOpen (upd (a 27) b (if 0 < v then 2 else 3)) n)
        rw [n7, ho1, nI_pred]
      · refine ⟨⟨a1, by rw [F1]; exact a2, ?_, ?_, fun w => absurd w (by rw [hpn3]; exact hne)⟩, ⟨q + 1, by omega, ?_, F6, fun w => absurd w (by rw [hpn3]; exact hne)⟩, hpe, by rw [F7]; exact a11, fun d hd => ?_, fun w => absurd w (by rw [hpn3]; exact hne)⟩
        · show upd (a 27) b (if 0 < v then 2 else 3) b = _
          rw [upd_s, hpn3, if_neg hne]
          by_cases w : 0 < v
          · rw [if_pos w, if_pos w]; rfl
          · rw [if_neg w, if_neg w]; rfl
        · show cFin b v (cAddP b q pf) b 9 = upd (a 28) b v b
          rw [F9, upd_s]
        · show upd (a 29) b (nI (q + 1)) b = _
          rw [upd_s]
        · obtain ⟨c1, c2, c3, c4, c5, c6⟩ := a12 d hd
          exact ⟨by rw [F2]; exact c1, c2, c3, c4, c5, c6⟩
      · funext k; simp [cFin, cAddP, va_up, e]
    · have hL2 : ¬ mLike (a 30) b v q = true := fun w => L (hlk.mp w)
      by_cases q2 : q = 2
      · rw [hC, hM, cAddS_2 L q2, mTakeA_2 hL2 q2]
        have hpn3 : va_up pn b (if (0 : Int32) < 0 then 1 else 2) b = 2 := va_up_self _ _ _
        have hbI : bI (¬ va_up pn b (if (0 : Int32) < 0 then 1 else 2) b = 0 ∧ pn b = 0) = 1 := bI_t ⟨by rw [hpn3]; decide, z⟩
        dsimp only
        rw [hbI]
        have F6 : cFin b 0 (cAddP b q pf) b 6 = nI (q + 1) := by simp [cFin, cAddP, va_up]
        have F9 : cFin b 0 (cAddP b q pf) b 9 = 0 := by simp [cFin, cAddP, va_up]
        have F1 : cFin b 0 (cAddP b q pf) b 1 = pf b 1 := by simp [cFin, cAddP, va_up]
        have F2 : cFin b 0 (cAddP b q pf) b 2 = pf b 2 := by simp [cFin, cAddP, va_up]
        have F7 : cFin b 0 (cAddP b q pf) b 7 = pf b 7 := by simp [cFin, cAddP, va_up]
        have ho1 := mOpen_dn (e := a 27) (x := 3) hb1 e27 (by decide) n
        rw [if_pos hb2] at ho1
        refine hr.one (sc' := va_up sc 3 (sc 3 - 1)) (gi' := gi) (ho' := ho) (pf' := cFin b 0 (cAddP b q pf)) (pe' := va_up pe b (upd (pe b) q v)) (pn' := va_up pn b (if (0 : Int32) < 0 then 1 else 2)) hb2 ⟨n1, n2, n3, n4, n5, n6, ?_⟩ (fun _ => ⟨rfl, rfl, rfl⟩) hH (pn_up hP i12) ?_ (fun p h1 h300 e => ⟨⟨?_, rfl, va_up_ne _ _ e, va_up_ne _ _ e⟩, ⟨rfl, upd_n _ _ e, rfl, upd_n _ _ e, fun k hk => e30_ne hk hq2 e⟩, fun d hd => ⟨rfl, rfl, rfl, Iff.rfl, fun _ => rfl⟩⟩)
        · show sc 3 - 1 = nI (mOpen (upd (a 27) b 3) n)
          rw [n7, ho1, nI_pred]
        · refine ⟨⟨a1, by rw [F1]; exact a2, ?_, ?_, fun w => absurd w (by rw [hpn3]; decide)⟩, ⟨q + 1, by omega, ?_, F6, fun w => absurd w (by rw [hpn3]; decide)⟩, hpe, by rw [F7]; exact a11, fun d hd => ?_, fun w => absurd w (by rw [hpn3]; decide)⟩
          · show upd (a 27) b 3 b = _
            rw [upd_s, hpn3]; rfl
          · show cFin b 0 (cAddP b q pf) b 9 = a 28 b
            rw [F9, a5 z]
          · show upd (a 29) b (nI (q + 1)) b = _
            rw [upd_s]
          · obtain ⟨c1, c2, c3, c4, c5, c6⟩ := a12 d hd
            exact ⟨by rw [F2]; exact c1, c2, c3, c4, c5, c6⟩
        · funext k; simp [cFin, cAddP, va_up, e]
      · rw [hC, hM, cAddS_3 L q2, mTakeA_3 hL2 q2]
        have hbI : bI (¬ pn b = 0 ∧ pn b = 0) = 0 := bI_f (fun w => w.1 w.2)
        dsimp only
        rw [hbI, sc_s0]
        have F6 : cAddP b q pf b 6 = nI (q + 1) := by simp [cAddP, va_up]
        have F9 : cAddP b q pf b 9 = pf b 9 := by simp [cAddP, va_up]
        have F1 : cAddP b q pf b 1 = pf b 1 := by simp [cAddP, va_up]
        have F2 : cAddP b q pf b 2 = pf b 2 := by simp [cAddP, va_up]
        have F4 : cAddP b q pf b 4 = pf b 4 := by simp [cAddP, va_up]
        have F7 : cAddP b q pf b 7 = pf b 7 := by simp [cAddP, va_up]
        refine hr.one (gi' := gi) (ho' := ho) (pf' := cAddP b q pf) (pe' := va_up pe b (upd (pe b) q v)) hb2 ⟨n1, n2, n3, n4, n5, n6, n7⟩ (fun _ => ⟨rfl, rfl, rfl⟩) hH hP ?_ (fun p h1 h300 e => ⟨⟨?_, rfl, va_up_ne _ _ e, rfl⟩, ⟨rfl, rfl, rfl, upd_n _ _ e, fun k hk => e30_ne hk hq2 e⟩, fun d hd => ⟨rfl, rfl, rfl, Iff.rfl, fun _ => rfl⟩⟩)
        · refine ⟨⟨a1, by rw [F1]; exact a2, a3, by rw [F9]; exact a4, a5⟩, ⟨q + 1, by omega, ?_, F6, fun _ => by omega⟩, hpe, by rw [F7]; exact a11, fun d hd => ?_, fun w _ => ?_⟩
          · show upd (a 29) b (nI (q + 1)) b = _
            rw [upd_s]
          · obtain ⟨c1, c2, c3, c4, c5, c6⟩ := a12 d hd
            exact ⟨by rw [F2]; exact c1, c2, c3, c4, c5, c6⟩
          · have hnd : ¬ mDif a b := fun y => by
              have y1 := y.1
              rw [a7] at y1
              have := (nI_ltI (a := 1) (b := q) (by decide) (by omega)).mp y1
              omega
            obtain ⟨g1, g2⟩ := a13 w hnd
            exact ⟨fun y hy => by rw [F4]; exact g1 y hy, g2⟩
        · funext k; simp [cAddP, va_up, e]
  · have hC : cAdd b v pf pe pn = (pf, pe, pn) := by unfold cAdd; rw [if_neg z]
    have hM : mAns3 a b v = a := by unfold mAns3; rw [if_neg (fun y => z (hov.mpr y))]
    have hbI : bI (¬ pn b = 0 ∧ pn b = 0) = 0 := bI_f (fun w => z w.2)
    rw [hC, hM]
    dsimp only
    rw [hbI, sc_s0]
    exact hr
end RP
theorem r_giv {n : Nat} {C : CSt} {S : MSt} (h : Rel n C S) (x : Int32) (t : Int64) : (cGiv n x t C).1 = (mGiv n x t S).1 ∧ Rel n (cGiv n x t C).2 (mGiv n x t S).2 := by
  have hn : C.2.1 = S.2.1 := by
    obtain ⟨sc, now, gi, ck, ho, pd, pf, ps, pe, pn⟩ := C
    obtain ⟨ms, mnow, du, a⟩ := S
    exact h.1.2.2.2.2.1
  unfold cGiv mGiv
  by_cases q : okC x
  · rw [if_pos q, if_pos (cC_ok.mpr q)]
    by_cases q2 : okT t S.2.1
    · rw [if_pos q2, if_neg (fun z => cNT_ok.mp z (by rw [hn]; exact q2))]
      obtain ⟨c, hc, rfl⟩ := okC_nat q
      rw [nI_clamp (by omega), h.held hc]
      have hin : C.2.2.2.1 c 0 = S.2.2.2 34 c := by
        obtain ⟨sc, now, gi, ck, ho, pd, pf, ps, pe, pn⟩ := C
        obtain ⟨ms, mnow, du, a⟩ := S
        exact (h.2.1 c hc).1
      have hin2 : cIn C c ↔ ¬ S.2.2.2 34 c = 0 := by unfold cIn; rw [hin]
      by_cases q3 : ¬ S.2.2.2 34 c = 0 ∧ cH C c = 0
      · rw [if_pos q3, if_pos ⟨hin2.mpr q3.1, q3.2⟩]
        have hp := (h.thr).pass t
        have h0 : cH (cPassS n t C) c = 0 := by
          obtain ⟨sc, now, gi, ck, ho, pd, pf, ps, pe, pn⟩ := C
          exact q3.2
        revert hp h0
        generalize cPassS n t C = C1
        generalize mPassS n t (mThr S) = S1
        intro hp h0
        obtain ⟨sc, now, gi, ck, ho, pd, pf, ps, pe, pn⟩ := C1
        obtain ⟨ms, mnow, du, a⟩ := S1
        have hr := hp
        obtain ⟨hN, hK, hH, hP, hA, hZ⟩ := hp
        have s1 := cB_spec (ck := ck) (pf := pf) (pe := pe) (pn := pn) (pd := pd) (c := c) n
        have s2 := mB_spec (a := a) (du := du) (c := c) (n := n) n (Nat.le_refl _)
        rw [Nat.sub_self] at s2
        have s3 := bSpec_cg s1 (F' := fun p => mFre a p c) (du' := du) (fun p h1 h2 => ⟨(hA p h1 h2).fre (hP p) (hK c hc) hc, (hA p h1 h2).1.1⟩)
        have hb := bSpec_u s3 s2
        unfold cGiv1 mGiv1
        show (if cB ck pf pe pn pd c n = 0 then ((0 : Int32), _) else _).1 = nI (mB a du c n n) ∧ Rel n (if cB ck pf pe pn pd c n = 0 then ((0 : Int32), (sc, now, gi, ck, ho, pd, pf, ps, pe, pn)) else (nI (cB ck pf pe pn pd c n), cGiv2 (cB ck pf pe pn pd c n) c (sc, now, gi, ck, ho, pd, pf, ps, pe, pn))).2 (if 0 < mB a du c n n then (ms, mnow, du, va_up (va_up a 31 (upd (a 31) (ix (mB a du c n n) c) 2)) 32 (upd (a 32) (ix (mB a du c n n) c) (a 35 c))) else (ms, mnow, du, a))
        rw [hb] at s3 ⊢
        by_cases b0 : mB a du c n n = 0
        · rw [if_pos b0, if_pos b0, if_neg (by omega), b0, nI_0]
          exact ⟨rfl, hr⟩
        · rw [if_neg b0, if_neg b0, if_pos (by omega)]
          rcases s3 with ⟨g1, -⟩ | ⟨g1, g2, -⟩
          · exact absurd g1 b0
          · exact ⟨congrArg nI hb, rel_giv2 hr hc h0 g1.1 g1.2 g2⟩
      · rw [if_neg q3, if_neg (fun z => q3 ⟨hin2.mp z.1, z.2⟩)]
        exact ⟨rfl, h.thr⟩
    · rw [if_neg q2, if_pos (cNT_ok.mpr (by rw [hn]; exact q2))]
      exact ⟨rfl, h.thr⟩
  · rw [if_neg q, if_neg (fun z => q (cC_ok.mp z))]
    exact ⟨rfl, h.thr⟩
theorem r_lea {n : Nat} {C : CSt} {S : MSt} (h : Rel n C S) (x : Int32) : (cLea x C).1 = (mLea n x S).1 ∧ Rel n (cLea x C).2 (mLea n x S).2 := by
  unfold cLea mLea
  by_cases q : okC x
  · rw [if_pos q, if_pos (cC_ok.mpr q)]
    obtain ⟨c, hc, rfl⟩ := okC_nat q
    rw [nI_clamp (by omega)]
    have hh := h.held hc
    obtain ⟨sc, now, gi, ck, ho, pd, pf, ps, pe, pn⟩ := C
    obtain ⟨ms, mnow, du, a⟩ := S
    have hin : ck c 0 = a 34 c := (h.2.1 c hc).1
    have hin2 : cIn (sc, now, gi, ck, ho, pd, pf, ps, pe, pn) c ↔ ¬ a 34 c = 0 := by
      show ¬ ck c 0 = 0 ↔ _
      rw [hin]
    have hh : mHeld (a 31) c n = ho c := hh
    by_cases q3 : ¬ a 34 c = 0
    · rw [if_pos (hin2.mpr q3), if_pos (show ¬ (ms, mnow, du, a).2.2.2 34 c = 0 from q3)]
      unfold mLea1
      show (if ho c = 0 then ((0 : Int32), cOut c (sc, now, gi, ck, ho, pd, pf, ps, pe, pn)) else (1, cBak c (cOut c (sc, now, gi, ck, ho, pd, pf, ps, pe, pn)))).1 = bI (0 < mHeld (a 31) c n) ∧ Rel n (if ho c = 0 then ((0 : Int32), cOut c (sc, now, gi, ck, ho, pd, pf, ps, pe, pn)) else (1, cBak c (cOut c (sc, now, gi, ck, ho, pd, pf, ps, pe, pn)))).2 (va_up ms 0 0, mnow, du, if 0 < mHeld (a 31) c n then va_up (va_up a 34 (upd (a 34) c 0)) 31 (upd (a 31) (ix (mHeld (a 31) c n) c) 1) else va_up a 34 (upd (a 34) c 0))
      rw [hh]
      have ho1 := rel_out (h.thr) hc
      by_cases q4 : ho c = 0
      · rw [if_pos q4, if_neg (by omega), bI_f (by omega)]
        exact ⟨rfl, ho1⟩
      · rw [if_neg q4, if_pos (by omega), bI_t (by omega)]
        exact ⟨rfl, rel_bak ho1 hc (by omega)⟩
    · rw [if_neg (fun z => q3 (hin2.mp z)), if_neg (show ¬ ¬ (ms, mnow, du, a).2.2.2 34 c = 0 from q3)]
      exact ⟨rfl, h.thr⟩
  · rw [if_neg q, if_neg (fun z => q (cC_ok.mp z))]
    exact ⟨rfl, h.thr⟩
theorem r_ans {n : Nat} {C : CSt} {S : MSt} (h : Rel n C S) (x1 x2 x3 : Int32) (t : Int64) : (cAns n x1 x2 x3 t C).1 = (mAns n x1 x2 x3 t S).1 ∧ Rel n (cAns n x1 x2 x3 t C).2 (mAns n x1 x2 x3 t S).2 := by
  have hn : C.2.1 = S.2.1 ∧ n ≤ 300 := by
    obtain ⟨sc, now, gi, ck, ho, pd, pf, ps, pe, pn⟩ := C
    obtain ⟨ms, mnow, du, a⟩ := S
    exact ⟨h.1.2.2.2.2.1, h.1.1⟩
  unfold cAns mAns
  by_cases q : okC x1 ∧ okP n x2
  · rw [if_pos q, if_pos ⟨cC_ok.mpr q.1, (cP_ok hn.2).mpr q.2⟩]
    by_cases q2 : okR x3 9999 ∧ okT t S.2.1
    · rw [if_pos q2, if_neg (fun z => z.elim (fun y => cNR_ok.mp y q2.1) (fun y => cNT_ok.mp y (by rw [hn.1]; exact q2.2)))]
      obtain ⟨c, hc, rfl⟩ := okC_nat q.1
      obtain ⟨b, hb1, hb2, rfl⟩ := okP_nat hn.2 q.2
      have hv : ¬ x3 < 0 := by
        obtain ⟨k, hk, rfl⟩ := okR_nat (k := 9999) (by decide +kernel) (by decide) q2.1
        exact nI_pos (by omega)
      rw [nI_clamp (by omega), nI_clamp (show b < 2 ^ 31 by omega), h.held hc]
      by_cases q3 : cH C c = b
      · rw [if_pos q3, if_pos q3]
        have hp := (h.thr).pass t
        have h0 : cH (cPassS n t C) c = b := by
          obtain ⟨sc, now, gi, ck, ho, pd, pf, ps, pe, pn⟩ := C
          exact q3
        revert hp h0
        generalize cPassS n t C = C1
        generalize mPassS n t (mThr S) = S1
        intro hp h0
        obtain ⟨sc, now, gi, ck, ho, pd, pf, ps, pe, pn⟩ := C1
        obtain ⟨ms, mnow, du, a⟩ := S1
        have r2 := rel_ans2 (v := x3) hp hc hb1 h0 hv
        have r3 := rel_add (v := x3) r2 hb1 hb2
        refine ⟨?_, r3⟩
        exact (r3.2.2.2.2.1 b hb1 hb2).sta (r3.2.2.2.1 b)
      · rw [if_neg q3, if_neg q3]
        exact ⟨rfl, h.thr⟩
    · rw [if_neg q2, if_pos (by
        by_cases z : okR x3 9999
        · exact Or.inr (cNT_ok.mpr (by rw [hn.1]; exact fun y => q2 ⟨z, y⟩))
        · exact Or.inl (cNR_ok.mpr z))]
      exact ⟨rfl, h.thr⟩
  · rw [if_neg q, if_neg (fun z => q ⟨cC_ok.mp z.1, (cP_ok hn.2).mp z.2⟩)]
    exact ⟨rfl, h.thr⟩
/-- the beginning -/
theorem r_ini (x : Int32) : Rel 0 (cIni x) (mIni x) := by
  refine ⟨⟨by decide, rfl, rfl, bnd_eq x, rfl, rfl, rfl⟩, fun c hc => ⟨rfl, rfl, rfl, 0, by decide, rfl⟩, fun _ => Nat.le_refl _, fun _ => (by decide : (0 : Nat) < 4), fun p h1 h2 => by omega, fun p h1 h2 => ?_⟩
  refine ⟨rfl, rfl, rfl, fun _ _ => rfl, fun c hc => ⟨rfl, ?_⟩⟩
  show cNeg 6020 (ix p c) = -1
  unfold cNeg
  rw [if_pos (by unfold ix; omega)]
end
section
/-! THE CLAIM OUT OF ONE WALK OF THE LAW'S BODY. Your part is whole_start (and what it stands on); all else here is the same for every law, but numbers. -/
def lw_P (b : Addr) (xs : List Int32) (args : Array Value) (s : State) : Prop := args = #[.ref b] ∧ s.IntsAt b xs ∧ xs.length ≤ 3073 ∧ (Jvm.Cond.and given_1 narrow_1).before args s = true
def lw_Q (_ : Array Value) (s : State) (o : Outcome) (t : State) : Prop := o = .returned (some (.int 1)) ∧ Framed s o t [] 600000 7302250
def lw_Z (below : List Frame) (a : Array Value) (s : State) : State → Prop := fun t => ∃ o, t.status = .running ∧ Ended t below o ∧ lw_Q a s o t
/-- the law's own end, with 1 on the stack, nothing written that was there before, its room as the claim has it -/
theorem lw_ret {p : Program} {l : Launch} {e : Env} {s : State} {m : MethodId} {below : List Frame} {meth : Method} {c : Code} {b : Nat} (hx : p.tables.exec = Jvm.exec) (hb : c.code = code) (hr : meth.sig.returnType = ret) (hlocks : meth.locks = false) {pc : Nat} {H : Heap} {ls : Array Slot} (hdg : decode code pc = .ok (.ireturn, 1)) : W p l e room_1 s m #[Value.ref b] below meth c H [] 600000 7302250 (lw_Z below #[Value.ref b] s) (F0 m pc ls [.int 1]) := by
  intro T hT X
  obtain ⟨fs, hret, hrun, hended, hW, hframe⟩ := X.leave (v := some (.int 1)) (hlocks := hlocks) (fun h => by rw [hr] at h; cases h)
  have hmeth' : T.vm.method? m = some meth := X.method'
  refine ⟨T.setFrames fs, ?_, .returned (some (.int 1)), hrun, hended, rfl, ⟨_, rfl⟩, hW, hframe⟩
  jvm_step X.here [X.here.top, hx, hb, hdg, hmeth', hr, ret, narrow_b1]
  (try refine ⟨rfl, ?_⟩); (try refine ⟨rfl, ?_⟩)
  first | (intro acts; rw [hret _ acts rfl rfl rfl]) | rw [hret _ _ rfl rfl rfl]
  exact Steps.refl _
/-- what holds at the law's entry: the machine, the code, the tables' words (any of lw_tbl by 'hts w (by decide +kernel)'), the script of L ints xs at the cell b, what the Statement gives of the start (any of its parts by flat_of_before) -/
def lw_At (p : Program) (s : State) (m : MethodId) (meth : Method) (c : Code) (b L : Nat) (xs : Nat → Int32) : Prop :=
  p.tables.exec = Jvm.exec ∧ c.code = code ∧ meth.sig.returnType = ret ∧ c.maxLocals = 4 ∧ s.vm.findClass R_law = some m.cls ∧ (∀ w ∈ lw_tbl, w.before #[Value.ref b] s = true) ∧ va_X b L xs s s.heap ∧ b < s.heap.size ∧ meth.locks = false ∧ (Jvm.Cond.and given_1 narrow_1).before #[Value.ref b] s = true
/-! ===== the law's own rows ===== -/
theorem cm_swap {G : gG} {n : Nat} {C : CSt} {S : MSt} {w : Nat → va_E} : cw G n C (mw G S w) = mw G S (cw G n C w) := by
  funext i
  by_cases h : 24 ≤ i ∧ i ≤ 36
  · rw [cw_o h]
    rcases (show i = 24 ∨ i = 25 ∨ i = 26 ∨ i = 27 ∨ i = 28 ∨ i = 29 ∨ i = 30 ∨ i = 31 ∨ i = 32 ∨ i = 33 ∨ i = 34 ∨ i = 35 ∨ i = 36 by omega) with rfl | rfl | rfl | rfl | rfl | rfl | rfl | rfl | rfl | rfl | rfl | rfl | rfl <;> rfl
  · rw [mw_o (by omega)]
    unfold cw
    repeat' split
    all_goals first | rfl | (exfalso; omega)
section LR
variable {p : Program} {l : Launch} {e : Env} {R : Room} {s : State} {m : MethodId} {args : Array Value} {below : List Frame} {meth : Method} {c : Code} {H : Heap} {locs : List Loc} {cells slots : Nat} {Q : State → Prop}
variable {cc : ByteArray} {pc nL N : Nat} {ls : Array Slot} {rest : List Value} {G : gG} {own : String} {w : Nat → va_E} {b0 L : Nat} {xs : Nat → Int32}
/-- the script: where it lies, what it holds -/
def gX (G : gG) (s : State) (b0 L : Nat) (xs : Nat → Int32) : Prop := va_X b0 L xs s s.heap ∧ b0 < s.heap.size ∧ ¬ gA (gB G) b0 ∧ L ≤ 3073
theorem g_sld (F : gF p m c cc nL s args own G) (M : gM G s N w H locs) (X : gX G s b0 L xs) {x : Nat} (hdg : decode cc pc = .ok (.iaload, 1)) (hx : x < L)
    (kk : W p l e R s m args below meth c H locs cells slots Q (F0 m (pc + 1) ls (.int (xs x) :: rest))) : W p l e R s m args below meth c H locs cells slots Q (F0 m pc ls (.int (nI x) :: .ref b0 :: rest)) := by
  have hL := X.2.2.2
  refine va_sld F.1.1 F.1.2.1 X.1 X.2.1 X.2.2.1 M.2 (vp_in_nI hx (by omega)) hdg ?_
  rw [nI_clamp (by omega)]
  exact kk
theorem g_slen (F : gF p m c cc nL s args own G) (M : gM G s N w H locs) (X : gX G s b0 L xs) (hdg : decode cc pc = .ok (.arraylength, 1))
    (kk : W p l e R s m args below meth c H locs cells slots Q (F0 m (pc + 1) ls (.int (nI L) :: rest))) : W p l e R s m args below meth c H locs cells slots Q (F0 m pc ls (.ref b0 :: rest)) :=
  va_slen F.1.1 F.1.2.1 X.1 X.2.1 X.2.2.1 M.2 hdg kk
def gPx (G : gG) (b0 L : Nat) (xs : Nat → Int32) (av : List Value) (N : Nat) (w : Nat → va_E) : Array Value → State → Prop := va_Pc av (fun U => gU G N w U ∧ va_X b0 L xs U U.heap)
theorem gPx.blind {av : List Value} : FrameBlind (gPx G b0 L xs av N w) := fun a U g mk q => ⟨q.1, gU.blind (U := U) (V := U.calling g mk a) rfl rfl q.2.1, va_X.moved (u := U) (U := U.calling g mk a) (Vm.Alike.refl U.vm) q.2.2⟩
end LR
/-- the first int of the script, or 0 -/
theorem c_La_cell (l : Launch) (G : gG) (N : Nat) (w : Nat → va_E) (b0 L : Nat) (xs : Nat → Int32) (hb0 : b0 < gB G) (hL : L ≤ 3073) : Met l y_La_cell (Cond.code y_La_cell b_La_cell 2 (some .int) :: gtb) (gR 0 0 0) (gPx G b0 L xs [.ref b0, .int 0] N w) (gQ1 G (if 0 < L then xs 0 else 0) N w) 0 0 (gA (gB G)) := by
  refine Met.ofW (cc := b_La_cell) (maxL := 2) (ret := some .int) (by decide) rfl ?_
  intro p e s m args below meth c s₁ B hml hv
  obtain ⟨rfl, ⟨hK, hE, hP⟩, hX⟩ := hv
  have hts := atoms_spec (ws := Cond.code y_La_cell b_La_cell 2 (some .int) :: gtb) B.pre
  have hl := lv_entry [.ref b0, .int 0] (n := 2) (Nat.le_of_ble_eq_true rfl)
  rw [lg_entry_eq]
  generalize (lg_sl [.ref b0, .int 0] ++ List.replicate (2 - (lg_sl [.ref b0, .int 0]).length) Slot.unset).toArray = ls at hl ⊢
  have F : gF p m c b_La_cell 2 s ([.ref b0, .int 0] : List Value).toArray "ClerkRowsLaw" G := ⟨⟨B.exec, B.bytes, hml, findClass_of_methodNamed B.named, fun w hw => hts w (List.mem_cons_of_mem _ hw)⟩, hK, hE, by rw [hP.1]; exact Nat.le_add_right _ _⟩
  have M : gM G s N w s.heap [] := ⟨hP, va_S.rf⟩
  have X : gX G s b0 L xs := ⟨hX, by rw [hP.1]; omega, fun z => absurd z (Nat.not_le.mpr hb0), hL⟩
  have hr := B.returns
  have hlocks := B.notSynchronized
  have hx := F.1.1
  have hb := F.1.2.1
  have hl : lv_has ls 2 [(0, .ref b0), (1, .int 0)] := hl
  refine lv_iload_n hx hb d_La_cell_0 rfl (lv_at hl 1 rfl) ?_
  refine lv_aload_n hx hb d_La_cell_1 rfl (lv_at hl 0 rfl) ?_
  refine g_slen F M X d_La_cell_2 ?_
  refine lv_icmp_ge (tgt := 12) hx hb d_La_cell_3 (by decide) (fun c_3 => ?_) (fun c_3 => ?_)
  · have c_3 : L ≤ 0 := (nI_leI (a := L) (b := 0) (by omega) (by decide)).mp c_3
    refine lv_iconst (v := 0) hx hb d_La_cell_12 (by decide) ?_
    exact g_iret F M hr hlocks d_La_cell_13 (by decide) (by decide) (by rw [if_neg (by omega)]) rfl rfl
  · have c_3 : ¬ L ≤ 0 := fun h => c_3 ((nI_leI (a := L) (b := 0) (by omega) (by decide)).mpr h)
    refine lv_aload_n hx hb d_La_cell_6 rfl (lv_at hl 0 rfl) ?_
    refine lv_iload_n hx hb d_La_cell_7 rfl (lv_at hl 1 rfl) ?_
    refine g_topi (x' := nI 0) rfl ?_
    refine g_sld F M X d_La_cell_8 (by omega) ?_
    refine lv_goto (tgt := 13) hx hb d_La_cell_9 (by decide) ?_
    exact g_iret F M hr hlocks d_La_cell_13 (by decide) (by decide) (by rw [if_pos (by omega)]) rfl rfl
theorem g_cell {p : Program} {l : Launch} {e : Env} {R : Room} {s : State} {m : MethodId} {args : Array Value} {below : List Frame} {meth : Method} {c : Code} {H : Heap} {locs : List Loc} {cells slots : Nat} {Q : State → Prop} {cc : ByteArray} {pc nL N : Nat} {ls : Array Slot} {rest : List Value} {G : gG} {w : Nat → va_E} {b0 L : Nat} {xs : Nat → Int32} (F : gF p m c cc nL s args "ClerkRowsLaw" G) (M : gM G s N w H locs) (X : gX G s b0 L xs) (hb0 : b0 < gB G) (hdg : decode cc pc = .ok (.invokestatic 9, 3)) (hrm : gRm (gR 0 0 0) R 2 0 0 cells slots) (hsz : ls.size = nL) (hst : (rest.map fun v => v.category).sum ≤ 8)
    (kk : ∀ (H1 : Heap) (locs1 : List Loc), gM G s N w H1 locs1 → W p l e R s m args below meth c H1 locs1 (cells + 0) (slots + 0) Q (F0 m (pc + 3) ls (.int (if 0 < L then xs 0 else 0) :: rest))) : W p l e R s m args below meth c H locs cells slots Q (F0 m pc ls (.int 0 :: .ref b0 :: rest)) := by
  obtain ⟨k1, k2, k3, k4, k5⟩ := k_La_9
  obtain ⟨r1, r2, r3, r4, r5, r6⟩ := hrm
  refine g_call1 (N := N) (w := w) (a := ([.ref b0, .int 0] : List Value).toArray) (va_runS (As := [.ref b0, .int 0]) (rest := rest) F.1 (c_La_cell l G N w b0 L xs hb0 X.2.2.2) (cwS 2 F.1.2.2.2.2 (gd_app (mem3 k1 k2 k3) (gd_ws k4)) rfl r1 r2 k5 ⟨r3, r4⟩) ⟨gPx.blind, fun U hU hW => ⟨rfl, g_pre F M U hU hW, ?_⟩⟩ rfl rfl hsz rfl (lv_room hst) hdg ⟨r5, r6⟩) M kk
  rw [hU]
  exact va_X.moved hW.alike (X.1.kept (M.2.2.1 b0 X.2.1 X.2.2.1))
set_option maxRecDepth 20000 in
/-- what the law has at its entry -/
theorem law_F {p : Program} {s : State} {m : MethodId} {meth : Method} {c : Code} {b0 L : Nat} {xs : Nat → Int32} (hL : L ≤ 3073) (C0 : lw_At p s m meth c b0 L xs) : ∃ G : gG, gB G = s.heap.size ∧ gF p m c code 4 s #[Value.ref b0] "ClerkRowsLaw" G ∧ gX G s b0 L xs := by
  obtain ⟨hx, hb, hr, hml, hown, hts, hX, hbl, hlocks, hgv⟩ := C0
  have hg := gtb_hts hts
  obtain ⟨c0, iS0, hKn0⟩ := u_known (C := R_Clerk) (T := F_Clerk) (N := 4) (n := 4) hg i_Clerk (hg _ gC_Clerk.2.2.2.2.1)
  obtain ⟨c1, iS1, hKn1⟩ := u_known (C := R_Picture) (T := F_Picture) (N := 10) (n := 10) hg i_Picture (hg _ gC_Picture.2.2.2.2.1)
  obtain ⟨c2, iS2, hKn2⟩ := u_known (C := R_CR) (T := F_CR) (N := 8) (n := 8) hg i_CR (hg _ gC_CR.2.2.2.2.1)
  obtain ⟨c3, iS3, hKn3⟩ := u_known (C := R_Model) (T := F_Model) (N := 17) (n := 17) hg i_Model (hg _ gC_Model.2.2.2.2.1)
  obtain ⟨dC, dI, hKc⟩ : ∃ (dC : Nat → ClassId) (dI : Nat → Nat → Nat), ∀ (k : Nat) (q : vw_C), classes[k]? = some q → u_Kn s q.1 q.2.1 q.2.2 (dC k) (dI k) := by
    refine ⟨fun k => if k = 0 then c0 else if k = 1 then c1 else if k = 2 then c2 else c3, fun k => if k = 0 then iS0 else if k = 1 then iS1 else if k = 2 then iS2 else iS3, ?_⟩
    intro k q hq
    match k, hq with
    | 0, hq => cases hq; exact hKn0
    | 1, hq => cases hq; exact hKn1
    | 2, hq => cases hq; exact hKn2
    | 3, hq => cases hq; exact hKn3
    | k + 4, hq => simp [classes] at hq
  obtain ⟨a0, k0, m0, f0, g0, h0⟩ := Cond.arrayClass_spec (show (Cond.arrayClass .int).holds #[Value.ref b0] s none s [] = true from hg _ wd_67)
  obtain ⟨a1, k1, m1, f1, g1, h1⟩ := Cond.arrayClass_spec (show (Cond.arrayClass .long).holds #[Value.ref b0] s none s [] = true from hg _ wd_320)
  obtain ⟨a2, k2, m2, f2, g2, h2⟩ := Cond.arrayClass_spec (show (Cond.arrayClass .boolean).holds #[Value.ref b0] s none s [] = true from hg _ wd_321)
  have ao3 : va_AO R_Picture s := va_AO.of (A := #[Value.ref b0]) (hts (.arrayOver (.object "ClerkRows$Picture")) (List.mem_append_right _ (List.mem_append_left _ (List.mem_of_getElem? (i := 17) rfl))))
  obtain ⟨m3, a3, k3, e3, -, g3, h3, f3⟩ := Cond.arrayOver_spec ao3
  have ao4 : va_AO R_Clerk s := va_AO.of (A := #[Value.ref b0]) (hts (.arrayOver (.object "ClerkRows$Clerk")) (List.mem_append_right _ (List.mem_append_left _ (List.mem_of_getElem? (i := 19) rfl))))
  obtain ⟨m4, a4, k4, e4, -, g4, h4, f4⟩ := Cond.arrayOver_spec ao4
  have hs := flat_of_before _ hgv
  obtain ⟨ea, hE⟩ := va_Enof (args := #[Value.ref b0]) (s := s) (E := R_End) (d := "LClerkRows$End;") (nm := g_nm) (F := g_fl) (A := gA s.heap.size)
    (fun i hi => by
      rcases (show i = 0 ∨ i = 1 ∨ i = 2 ∨ i = 3 from by have : i < 4 := hi; omega) with rfl | rfl | rfl | rfl
      · exact hts (.laysStatic "ClerkRows$End" "NOT" "LClerkRows$End;") (List.mem_append_right _ (List.mem_append_left _ (List.mem_of_getElem? (i := 90) rfl)))
      · exact hts (.laysStatic "ClerkRows$End" "SETTLED" "LClerkRows$End;") (List.mem_append_right _ (List.mem_append_left _ (List.mem_of_getElem? (i := 189) rfl)))
      · exact hts (.laysStatic "ClerkRows$End" "UNREADABLE" "LClerkRows$End;") (List.mem_append_right _ (List.mem_append_left _ (List.mem_of_getElem? (i := 191) rfl)))
      · exact hts (.laysStatic "ClerkRows$End" "LATE" "LClerkRows$End;") (List.mem_append_right _ (List.mem_append_left _ (List.mem_of_getElem? (i := 149) rfl))))
    (hg _ wd_25)
    (fun i hi => by
      rcases (show i = 0 ∨ i = 1 ∨ i = 2 ∨ i = 3 from by have : i < 4 := hi; omega) with rfl | rfl | rfl | rfl
      · exact hs _ (by decide +kernel)
      · exact hs _ (by decide +kernel)
      · exact hs _ (by decide +kernel)
      · exact hs _ (by decide +kernel))
    (fun q hq => by
      rw [List.mem_singleton.mp hq]
      intro i hi
      rcases (show i = 0 ∨ i = 1 ∨ i = 2 ∨ i = 3 from by have : i < 4 := hi; omega) with rfl | rfl | rfl | rfl
      all_goals exact hs _ (by decide +kernel))
    (fun i j hi hj hij => by
      rcases (show i = 0 ∨ i = 1 ∨ i = 2 ∨ i = 3 from by have : i < 4 := hi; omega) with rfl | rfl | rfl | rfl <;> rcases (show j = 0 ∨ j = 1 ∨ j = 2 ∨ j = 3 from by have : j < 4 := hj; omega) with rfl | rfl | rfl | rfl
      · exact absurd rfl hij
      · exact Or.inl (hs _ (by decide +kernel))
      · exact Or.inl (hs _ (by decide +kernel))
      · exact Or.inl (hs _ (by decide +kernel))
      · exact Or.inr (hs _ (by decide +kernel))
      · exact absurd rfl hij
      · exact Or.inl (hs _ (by decide +kernel))
      · exact Or.inr (hs _ (by decide +kernel))
      · exact Or.inr (hs _ (by decide +kernel))
      · exact Or.inr (hs _ (by decide +kernel))
      · exact absurd rfl hij
      · exact Or.inr (hs _ (by decide +kernel))
      · exact Or.inr (hs _ (by decide +kernel))
      · exact Or.inl (hs _ (by decide +kernel))
      · exact Or.inl (hs _ (by decide +kernel))
      · exact absurd rfl hij)
    (fun a ha => Nat.not_le.mpr ha)
  refine ⟨((dC, dI), fun k => if k = 0 then a0 else if k = 1 then a1 else if k = 2 then a2 else if k = 3 then a3 else a4, s.heap.size, ea), rfl, ⟨⟨hx, hb, hml, hown, hg⟩, ⟨⟨hKc, fun k q hq => ?_⟩, ?_, ao3, ao4⟩, hE, Nat.le_refl _⟩, hX, hbl, Nat.not_le.mpr hbl, hL⟩
  · match k, hq with
    | 0, hq => cases hq; exact ⟨fun n z => ⟨fun k h => (by cases h), k0, g0, m0, h0⟩, f0⟩
    | 1, hq => cases hq; exact ⟨fun n z => ⟨fun k h => (by cases h), k1, g1, m1, h1⟩, f1⟩
    | 2, hq => cases hq; exact ⟨fun n z => ⟨fun k h => (by cases h), k2, g2, m2, h2⟩, f2⟩
    | 3, hq => cases hq; exact ⟨fun n z => ⟨fun k h => (by cases h), k3, g3, m3, h3⟩, k3, m3, g3, h3, e3, f3⟩
    | 4, hq => cases hq; exact ⟨fun n z => ⟨fun k h => (by cases h), k4, g4, m4, h4⟩, k4, m4, g4, h4, e4, f4⟩
    | k + 5, hq => simp [g_tys] at hq
  · exact List.forall_mem_cons.mpr ⟨va_Nw.of (A := #[Value.ref b0]) rfl (hts _ (List.mem_append_right _ (List.mem_append_left _ (List.mem_of_getElem? (i := 27) rfl)))), List.forall_mem_cons.mpr ⟨va_Nw.of (A := #[Value.ref b0]) rfl (hts _ (List.mem_append_right _ (List.mem_append_left _ (List.mem_of_getElem? (i := 32) rfl)))), List.forall_mem_cons.mpr ⟨va_Nw.of (A := #[Value.ref b0]) rfl (hts _ (List.mem_append_right _ (List.mem_append_left _ (List.mem_of_getElem? (i := 34) rfl)))), List.forall_mem_cons.mpr ⟨va_Nw.of (A := #[Value.ref b0]) rfl (hts _ (List.mem_append_right _ (List.mem_append_left _ (List.mem_of_getElem? (i := 35) rfl)))), List.forall_mem_cons.mpr ⟨va_Nw.of (A := #[Value.ref b0]) rfl (hts _ (List.mem_append_right _ (List.mem_append_left _ (List.mem_of_getElem? (i := 37) rfl)))), List.forall_mem_cons.mpr ⟨va_Nw.of (A := #[Value.ref b0]) rfl (hts _ (List.mem_append_right _ (List.mem_append_left _ (List.mem_of_getElem? (i := 38) rfl)))), List.forall_mem_cons.mpr ⟨va_Nw.of (A := #[Value.ref b0]) rfl (hts _ (List.mem_append_right _ (List.mem_append_left _ (List.mem_of_getElem? (i := 39) rfl)))), List.forall_mem_cons.mpr ⟨va_Nw.of (A := #[Value.ref b0]) rfl (hts _ (List.mem_append_right _ (List.mem_append_left _ (List.mem_of_getElem? (i := 92) rfl)))), List.forall_mem_cons.mpr ⟨va_Nw.of (A := #[Value.ref b0]) rfl (hts _ (List.mem_append_right _ (List.mem_append_left _ (List.mem_of_getElem? (i := 95) rfl)))), List.forall_mem_cons.mpr ⟨va_Nw.of (A := #[Value.ref b0]) rfl (hts _ (List.mem_append_right _ (List.mem_append_left _ (List.mem_of_getElem? (i := 97) rfl)))), List.forall_mem_cons.mpr ⟨va_Nw.of (A := #[Value.ref b0]) rfl (hts _ (List.mem_append_right _ (List.mem_append_left _ (List.mem_of_getElem? (i := 99) rfl)))), List.forall_mem_cons.mpr ⟨va_Nw.of (A := #[Value.ref b0]) rfl (hts _ (List.mem_append_right _ (List.mem_append_left _ (List.mem_of_getElem? (i := 103) rfl)))), List.forall_mem_cons.mpr ⟨va_Nw.of (A := #[Value.ref b0]) rfl (hts _ (List.mem_append_right _ (List.mem_append_left _ (List.mem_of_getElem? (i := 105) rfl)))), List.forall_mem_cons.mpr ⟨va_Nw.of (A := #[Value.ref b0]) rfl (hts _ (List.mem_append_right _ (List.mem_append_left _ (List.mem_of_getElem? (i := 107) rfl)))), fun _ h => absurd h List.not_mem_nil⟩⟩⟩⟩⟩⟩⟩⟩⟩⟩⟩⟩⟩⟩
end
section
set_option maxRecDepth 20000 in
set_option maxHeartbeats 4000000 in
/-- THE LAW'S LOOP -/
theorem law_loop {p : Program} {l : Launch} {e : Env} {s : State} {m : MethodId} {below : List Frame} {meth : Method} {c : Code} {G : gG} {b0 L : Nat} {xs : Nat → Int32} (F : gF p m c code 4 s #[Value.ref b0] "ClerkRowsLaw" G) (XX : gX G s b0 L xs) (hr : meth.sig.returnType = ret) (hlocks : meth.locks = false) (hB : gB G = s.heap.size) (wz : Nat → va_E) :
    ∀ (fuel j : Nat), L < 6 * j + fuel → 6 * j ≤ L → ∀ (n : Nat) (C : CSt) (S : MSt), Rel n C S → ∀ (H : Heap) (locs : List Loc) (ls : Array Slot), gM G s (37 + 3 * n) (cw G n C (mw G S wz)) H locs → lv_has ls 4 [(0, .ref b0), (1, .ref (gB G + 0)), (2, .ref (gB G + 24)), (3, .int (nI (1 + 6 * j)))] → W p l e room_1 s m #[Value.ref b0] below meth c H locs (37 + 3 * j) (20974 + 33 * j) (lw_Z below #[Value.ref b0] s) (F0 m 28 ls []) := by
  have hx := F.1.1
  have hb := F.1.2.1
  have hL := XX.2.2.2
  intro fuel
  induction fuel with
  | zero => intro j h1 h2; exact absurd h1 (by omega)
  | succ fuel ih =>
    intro j hj1 hj2 n C S hR H locs ls M hl
    have h0 := hR
    obtain ⟨sc, now, gi, ck, ho, pd, pf, ps, pe, pn⟩ := C
    obtain ⟨ms, mnow, du, a⟩ := S
    obtain ⟨⟨hn, hcn, hcm, -, -, -, -⟩, -, hho, hpn, hA, -⟩ := h0
    have hq : ∀ p, 1 ≤ p → p ≤ n → pn p = 0 → ∃ q, q ≤ 2 ∧ pf p 6 = nI q := fun p h1 h2 h3 => by
      obtain ⟨q, q1, q2, q3, q4⟩ := (hA p h1 h2).2.1
      exact ⟨q, q4 h3, q3⟩
    have hQ : ∀ p, 1 ≤ p → p ≤ n → a 27 p = 0 → ∃ q, q ≤ 2 ∧ a 29 p = nI q := fun p h1 h2 h3 => by
      obtain ⟨q, q1, q2, q3, q4⟩ := (hA p h1 h2).2.1
      exact ⟨q, q4 (((hA p h1 h2).over (hpn p)).mpr h3), q2⟩
    refine lv_iload_n hx hb d_La_law_28 rfl (lv_at hl 3 rfl) ?_
    refine lv_aload_n hx hb d_La_law_29 rfl (lv_at hl 0 rfl) ?_
    refine g_slen F M XX d_La_law_30 ?_
    refine lv_bipush (v := 6) hx hb d_La_law_31 (by decide) ?_
    refine lv_isub hx hb d_La_law_33 ?_
    have hcmp : nI L - 6 < nI (1 + 6 * j) ↔ L < 1 + 6 * j + 6 := by
      rw [i_lt, show nI L - 6 = nI L - nI 6 from rfl, pk_sub_toInt (by omega) (by decide), nI_toInt (by omega)]
      omega
    refine lv_icmp_gt (tgt := 533) hx hb d_La_law_34 (by decide) (fun c_34 => ?_) (fun c_34 => ?_)
    · refine lv_iconst (v := 1) hx hb d_La_law_533 (by decide) ?_
      refine va_forget (fun q hq => ?_) ?_
      · have h1 := M.2.2.2 q hq
        rw [hB] at h1
        exact h1
      · refine W.widen (k := 600000) (n := 7302250) (by omega) (by omega) ?_
        exact lw_ret hx hb hr hlocks d_La_law_534
    · have hlt : ¬ L < 1 + 6 * j + 6 := fun h => c_34 (hcmp.mpr h)
      have tail : ∀ (n : Nat) (C : CSt) (S : MSt), Rel n C S → ∀ (H : Heap) (locs : List Loc) (ls : Array Slot) (cells slots : Nat), cells ≤ 37 + 3 * (j + 1) → slots ≤ 20974 + 33 * (j + 1) → gM G s (37 + 3 * n) (cw G n C (mw G S wz)) H locs → lv_has ls 4 [(0, .ref b0), (1, .ref (gB G + 0)), (2, .ref (gB G + 24)), (3, .int (nI (1 + 6 * j)))] → W p l e room_1 s m #[Value.ref b0] below meth c H locs cells slots (lw_Z below #[Value.ref b0] s) (F0 m 527 ls []) := by
        intro n C S hR H locs ls cells slots h1 h2 M hl
        refine lv_iinc (v := nI (1 + 6 * (j + 1))) (lv' := [(3, .int (nI (1 + 6 * (j + 1)))), (0, .ref b0), (1, .ref (gB G + 0)), (2, .ref (gB G + 24))]) hx hb d_La_law_527 hl (k := 3) rfl ((nI_add (1 + 6 * j) 6).trans (congrArg nI (by omega))) (by decide) rfl (fun ls hl => ?_)
        refine lv_goto (tgt := 28) hx hb d_La_law_530 (by decide) ?_
        exact W.widen h1 h2 (ih (j + 1) (by omega) (by omega) n C S hR _ _ ls M (lv_sub hl [1, 2, 3, 0] rfl))
      refine lv_aload_n hx hb d_La_law_37 rfl (lv_at hl 0 rfl) ?_
      refine lv_iload_n hx hb d_La_law_38 rfl (lv_at hl 3 rfl) ?_
      refine g_sld F M XX d_La_law_39 (by omega) ?_
      refine lv_bipush (v := 15) hx hb d_La_law_40 (by decide) ?_
      refine lv_iand hx hb d_La_law_42 ?_
      obtain ⟨k, hk, ek⟩ := pk_andE (xs (1 + 6 * j)) (m := 15) 4 (by decide)
      refine g_topi ek ?_
      by_cases hk9 : 9 < k
      · refine lv_tableOut (tgt := 527) hx hb d_La_law_43 (Or.inr (by rw [nI_toInt (by omega)]; omega)) (by decide) ?_
        exact tail n (sc, now, gi, ck, ho, pd, pf, ps, pe, pn) (ms, mnow, du, a) hR _ _ ls _ _ (by omega) (by omega) M hl
      · rcases (show k = 0 ∨ k = 1 ∨ k = 2 ∨ k = 3 ∨ k = 4 ∨ k = 5 ∨ k = 6 ∨ k = 7 ∨ k = 8 ∨ k = 9 by omega) with rfl | rfl | rfl | rfl | rfl | rfl | rfl | rfl | rfl | rfl
        · refine g_topi (x' := 0) rfl ?_
          refine lv_tableIn (tgt := 96) hx hb d_La_law_43 (by decide) (by decide) rfl (by decide) ?_
          refine lv_aload_n hx hb d_La_law_96 rfl (lv_at hl 1 rfl) ?_
          refine lv_aload_n hx hb d_La_law_97 rfl (lv_at hl 0 rfl) ?_
          refine lv_iload_n hx hb d_La_law_98 rfl (lv_at hl 3 rfl) ?_
          refine lv_iconst (v := 1) hx hb d_La_law_99 (by decide) ?_
          refine lv_iadd hx hb d_La_law_100 ?_
          refine g_topi (x' := nI (1 + 6 * j + 1)) (nI_add (1 + 6 * j) (1)) ?_
          refine g_sld F M XX d_La_law_101 (by omega) ?_
          refine lv_i2l hx hb d_La_law_102 rfl ?_
          refine lv_bipush (v := 32) hx hb d_La_law_103 (by decide) ?_
          refine lv_lshl hx hb d_La_law_105 rfl ?_
          refine lv_aload_n hx hb d_La_law_106 rfl (lv_at hl 0 rfl) ?_
          refine lv_iload_n hx hb d_La_law_107 rfl (lv_at hl 3 rfl) ?_
          refine lv_iconst (v := 2) hx hb d_La_law_108 (by decide) ?_
          refine lv_iadd hx hb d_La_law_109 ?_
          refine g_topi (x' := nI (1 + 6 * j + 2)) (nI_add (1 + 6 * j) (2)) ?_
          refine g_sld F M XX d_La_law_110 (by omega) ?_
          refine lv_i2l hx hb d_La_law_111 rfl ?_
          refine lv_ldc2 (v := 4294967295) hx hb F.1.2.2.2.1 (F.1.2.2.2.2 _ wd_415) d_La_law_112 ?_
          refine lv_land hx hb d_La_law_115 ?_
          refine lv_lor hx hb d_La_law_116 ?_
          refine lv_aload_n hx hb d_La_law_117 rfl (lv_at hl 0 rfl) ?_
          refine lv_iload_n hx hb d_La_law_118 rfl (lv_at hl 3 rfl) ?_
          refine lv_iconst (v := 3) hx hb d_La_law_119 (by decide) ?_
          refine lv_iadd hx hb d_La_law_120 ?_
          refine g_topi (x' := nI (1 + 6 * j + 3)) (nI_add (1 + 6 * j) (3)) ?_
          refine g_sld F M XX d_La_law_121 (by omega) ?_
          refine g_call1 (g_rv (rest := []) F M (c_CR_picture l G (37 + 3 * n) n sc now gi ck ho pd pf ps pe pn (mw G (ms, mnow, du, a) wz) rfl hcn hn hpn  ((((xs (1 + 6 * j + 1)).toInt64) <<< ((32 : Int32).toInt64 &&& 63)) ||| (((xs (1 + 6 * j + 2)).toInt64) &&& 4294967295)) (xs (1 + 6 * j + 3))) k_La_23 d_La_law_122 ⟨rfl, rfl, by decide, by decide, (show _ ≤ 600000 by omega), (show _ ≤ 7302250 by omega)⟩ (by omega) cw_0 rfl rfl hl.1 (Nat.le_of_ble_eq_true rfl) rfl) M (fun H locs M => ?_)
          have M := M.cg (fun i _ => congrFun cm_swap i)
          refine lv_aload_n hx hb d_La_law_125 rfl (lv_at hl 2 rfl) ?_
          refine lv_aload_n hx hb d_La_law_126 rfl (lv_at hl 0 rfl) ?_
          refine lv_iload_n hx hb d_La_law_127 rfl (lv_at hl 3 rfl) ?_
          refine lv_iconst (v := 1) hx hb d_La_law_128 (by decide) ?_
          refine lv_iadd hx hb d_La_law_129 ?_
          refine g_topi (x' := nI (1 + 6 * j + 1)) (nI_add (1 + 6 * j) (1)) ?_
          refine g_sld F M XX d_La_law_130 (by omega) ?_
          refine lv_i2l hx hb d_La_law_131 rfl ?_
          refine lv_bipush (v := 32) hx hb d_La_law_132 (by decide) ?_
          refine lv_lshl hx hb d_La_law_134 rfl ?_
          refine lv_aload_n hx hb d_La_law_135 rfl (lv_at hl 0 rfl) ?_
          refine lv_iload_n hx hb d_La_law_136 rfl (lv_at hl 3 rfl) ?_
          refine lv_iconst (v := 2) hx hb d_La_law_137 (by decide) ?_
          refine lv_iadd hx hb d_La_law_138 ?_
          refine g_topi (x' := nI (1 + 6 * j + 2)) (nI_add (1 + 6 * j) (2)) ?_
          refine g_sld F M XX d_La_law_139 (by omega) ?_
          refine lv_i2l hx hb d_La_law_140 rfl ?_
          refine lv_ldc2 (v := 4294967295) hx hb F.1.2.2.2.1 (F.1.2.2.2.2 _ wd_415) d_La_law_141 ?_
          refine lv_land hx hb d_La_law_144 ?_
          refine lv_lor hx hb d_La_law_145 ?_
          refine lv_aload_n hx hb d_La_law_146 rfl (lv_at hl 0 rfl) ?_
          refine lv_iload_n hx hb d_La_law_147 rfl (lv_at hl 3 rfl) ?_
          refine lv_iconst (v := 3) hx hb d_La_law_148 (by decide) ?_
          refine lv_iadd hx hb d_La_law_149 ?_
          refine g_topi (x' := nI (1 + 6 * j + 3)) (nI_add (1 + 6 * j) (3)) ?_
          refine g_sld F M XX d_La_law_150 (by omega) ?_
          refine g_call1 (g_rv (rest := [.int ((cPic n ((((xs (1 + 6 * j + 1)).toInt64) <<< ((32 : Int32).toInt64 &&& 63)) ||| (((xs (1 + 6 * j + 2)).toInt64) &&& 4294967295)) (xs (1 + 6 * j + 3)) (sc, now, gi, ck, ho, pd, pf, ps, pe, pn)).1)]) F M (c_Mo_picture l G (37 + 3 * (cPic n ((((xs (1 + 6 * j + 1)).toInt64) <<< ((32 : Int32).toInt64 &&& 63)) ||| (((xs (1 + 6 * j + 2)).toInt64) &&& 4294967295)) (xs (1 + 6 * j + 3)) (sc, now, gi, ck, ho, pd, pf, ps, pe, pn)).2.1) n ms mnow du a (cw G ((cPic n ((((xs (1 + 6 * j + 1)).toInt64) <<< ((32 : Int32).toInt64 &&& 63)) ||| (((xs (1 + 6 * j + 2)).toInt64) &&& 4294967295)) (xs (1 + 6 * j + 3)) (sc, now, gi, ck, ho, pd, pf, ps, pe, pn)).2.1) ((cPic n ((((xs (1 + 6 * j + 1)).toInt64) <<< ((32 : Int32).toInt64 &&& 63)) ||| (((xs (1 + 6 * j + 2)).toInt64) &&& 4294967295)) (xs (1 + 6 * j + 3)) (sc, now, gi, ck, ho, pd, pf, ps, pe, pn)).2.2) wz) ((((xs (1 + 6 * j + 1)).toInt64) <<< ((32 : Int32).toInt64 &&& 63)) ||| (((xs (1 + 6 * j + 2)).toInt64) &&& 4294967295)) (xs (1 + 6 * j + 3)) (by omega) hcm hn ) k_La_27 d_La_law_151 ⟨rfl, rfl, by decide, by decide, (show _ ≤ 600000 by omega), (show _ ≤ 7302250 by omega)⟩ (by omega) mw_24 rfl rfl hl.1 (Nat.le_of_ble_eq_true rfl) rfl) M (fun H locs M => ?_)
          have M := M.cg (fun i _ => (congrFun cm_swap i).symm)
          refine lv_icmp_eq (tgt := 527) hx hb d_La_law_154 (by decide) (fun c_154 => ?_) (fun c_154 => ?_)
          · exact tail ((cPic n ((((xs (1 + 6 * j + 1)).toInt64) <<< ((32 : Int32).toInt64 &&& 63)) ||| (((xs (1 + 6 * j + 2)).toInt64) &&& 4294967295)) (xs (1 + 6 * j + 3)) (sc, now, gi, ck, ho, pd, pf, ps, pe, pn)).2.1) ((cPic n ((((xs (1 + 6 * j + 1)).toInt64) <<< ((32 : Int32).toInt64 &&& 63)) ||| (((xs (1 + 6 * j + 2)).toInt64) &&& 4294967295)) (xs (1 + 6 * j + 3)) (sc, now, gi, ck, ho, pd, pf, ps, pe, pn)).2.2) ((mPic n ((((xs (1 + 6 * j + 1)).toInt64) <<< ((32 : Int32).toInt64 &&& 63)) ||| (((xs (1 + 6 * j + 2)).toInt64) &&& 4294967295)) (xs (1 + 6 * j + 3)) (ms, mnow, du, a)).2.2) (r_pic hR ((((xs (1 + 6 * j + 1)).toInt64) <<< ((32 : Int32).toInt64 &&& 63)) ||| (((xs (1 + 6 * j + 2)).toInt64) &&& 4294967295)) (xs (1 + 6 * j + 3))).2.2 _ _ ls _ _ (by omega) (by omega) M hl
          · exact absurd ((r_pic hR ((((xs (1 + 6 * j + 1)).toInt64) <<< ((32 : Int32).toInt64 &&& 63)) ||| (((xs (1 + 6 * j + 2)).toInt64) &&& 4294967295)) (xs (1 + 6 * j + 3))).1) c_154
        · refine g_topi (x' := 1) rfl ?_
          refine lv_tableIn (tgt := 159) hx hb d_La_law_43 (by decide) (by decide) rfl (by decide) ?_
          refine lv_aload_n hx hb d_La_law_159 rfl (lv_at hl 1 rfl) ?_
          refine lv_aload_n hx hb d_La_law_160 rfl (lv_at hl 0 rfl) ?_
          refine lv_iload_n hx hb d_La_law_161 rfl (lv_at hl 3 rfl) ?_
          refine lv_iconst (v := 1) hx hb d_La_law_162 (by decide) ?_
          refine lv_iadd hx hb d_La_law_163 ?_
          refine g_topi (x' := nI (1 + 6 * j + 1)) (nI_add (1 + 6 * j) (1)) ?_
          refine g_sld F M XX d_La_law_164 (by omega) ?_
          refine lv_aload_n hx hb d_La_law_165 rfl (lv_at hl 0 rfl) ?_
          refine lv_iload_n hx hb d_La_law_166 rfl (lv_at hl 3 rfl) ?_
          refine lv_iconst (v := 2) hx hb d_La_law_167 (by decide) ?_
          refine lv_iadd hx hb d_La_law_168 ?_
          refine g_topi (x' := nI (1 + 6 * j + 2)) (nI_add (1 + 6 * j) (2)) ?_
          refine g_sld F M XX d_La_law_169 (by omega) ?_
          refine lv_i2l hx hb d_La_law_170 rfl ?_
          refine lv_bipush (v := 32) hx hb d_La_law_171 (by decide) ?_
          refine lv_lshl hx hb d_La_law_173 rfl ?_
          refine lv_aload_n hx hb d_La_law_174 rfl (lv_at hl 0 rfl) ?_
          refine lv_iload_n hx hb d_La_law_175 rfl (lv_at hl 3 rfl) ?_
          refine lv_iconst (v := 3) hx hb d_La_law_176 (by decide) ?_
          refine lv_iadd hx hb d_La_law_177 ?_
          refine g_topi (x' := nI (1 + 6 * j + 3)) (nI_add (1 + 6 * j) (3)) ?_
          refine g_sld F M XX d_La_law_178 (by omega) ?_
          refine lv_i2l hx hb d_La_law_179 rfl ?_
          refine lv_ldc2 (v := 4294967295) hx hb F.1.2.2.2.1 (F.1.2.2.2.2 _ wd_415) d_La_law_180 ?_
          refine lv_land hx hb d_La_law_183 ?_
          refine lv_lor hx hb d_La_law_184 ?_
          refine g_call1 (g_rv (rest := []) F M (c_CR_give l G (37 + 3 * n) n sc now gi ck ho pd pf ps pe pn (mw G (ms, mnow, du, a) wz) rfl hcn hn hpn hho (xs (1 + 6 * j + 1)) ((((xs (1 + 6 * j + 2)).toInt64) <<< ((32 : Int32).toInt64 &&& 63)) ||| (((xs (1 + 6 * j + 3)).toInt64) &&& 4294967295))) k_La_28 d_La_law_185 ⟨rfl, rfl, by decide, by decide, (show _ ≤ 600000 by omega), (show _ ≤ 7302250 by omega)⟩ (by omega) cw_0 rfl rfl hl.1 (Nat.le_of_ble_eq_true rfl) rfl) M (fun H locs M => ?_)
          have M := M.cg (fun i _ => congrFun cm_swap i)
          refine lv_aload_n hx hb d_La_law_188 rfl (lv_at hl 2 rfl) ?_
          refine lv_aload_n hx hb d_La_law_189 rfl (lv_at hl 0 rfl) ?_
          refine lv_iload_n hx hb d_La_law_190 rfl (lv_at hl 3 rfl) ?_
          refine lv_iconst (v := 1) hx hb d_La_law_191 (by decide) ?_
          refine lv_iadd hx hb d_La_law_192 ?_
          refine g_topi (x' := nI (1 + 6 * j + 1)) (nI_add (1 + 6 * j) (1)) ?_
          refine g_sld F M XX d_La_law_193 (by omega) ?_
          refine lv_aload_n hx hb d_La_law_194 rfl (lv_at hl 0 rfl) ?_
          refine lv_iload_n hx hb d_La_law_195 rfl (lv_at hl 3 rfl) ?_
          refine lv_iconst (v := 2) hx hb d_La_law_196 (by decide) ?_
          refine lv_iadd hx hb d_La_law_197 ?_
          refine g_topi (x' := nI (1 + 6 * j + 2)) (nI_add (1 + 6 * j) (2)) ?_
          refine g_sld F M XX d_La_law_198 (by omega) ?_
          refine lv_i2l hx hb d_La_law_199 rfl ?_
          refine lv_bipush (v := 32) hx hb d_La_law_200 (by decide) ?_
          refine lv_lshl hx hb d_La_law_202 rfl ?_
          refine lv_aload_n hx hb d_La_law_203 rfl (lv_at hl 0 rfl) ?_
          refine lv_iload_n hx hb d_La_law_204 rfl (lv_at hl 3 rfl) ?_
          refine lv_iconst (v := 3) hx hb d_La_law_205 (by decide) ?_
          refine lv_iadd hx hb d_La_law_206 ?_
          refine g_topi (x' := nI (1 + 6 * j + 3)) (nI_add (1 + 6 * j) (3)) ?_
          refine g_sld F M XX d_La_law_207 (by omega) ?_
          refine lv_i2l hx hb d_La_law_208 rfl ?_
          refine lv_ldc2 (v := 4294967295) hx hb F.1.2.2.2.1 (F.1.2.2.2.2 _ wd_415) d_La_law_209 ?_
          refine lv_land hx hb d_La_law_212 ?_
          refine lv_lor hx hb d_La_law_213 ?_
          refine g_call1 (g_rv (rest := [.int ((cGiv n (xs (1 + 6 * j + 1)) ((((xs (1 + 6 * j + 2)).toInt64) <<< ((32 : Int32).toInt64 &&& 63)) ||| (((xs (1 + 6 * j + 3)).toInt64) &&& 4294967295)) (sc, now, gi, ck, ho, pd, pf, ps, pe, pn)).1)]) F M (c_Mo_give l G (37 + 3 * n) n ms mnow du a (cw G n ((cGiv n (xs (1 + 6 * j + 1)) ((((xs (1 + 6 * j + 2)).toInt64) <<< ((32 : Int32).toInt64 &&& 63)) ||| (((xs (1 + 6 * j + 3)).toInt64) &&& 4294967295)) (sc, now, gi, ck, ho, pd, pf, ps, pe, pn)).2) wz) (xs (1 + 6 * j + 1)) ((((xs (1 + 6 * j + 2)).toInt64) <<< ((32 : Int32).toInt64 &&& 63)) ||| (((xs (1 + 6 * j + 3)).toInt64) &&& 4294967295)) (by omega) hcm hn ) k_La_32 d_La_law_214 ⟨rfl, rfl, by decide, by decide, (show _ ≤ 600000 by omega), (show _ ≤ 7302250 by omega)⟩ (by omega) mw_24 rfl rfl hl.1 (Nat.le_of_ble_eq_true rfl) rfl) M (fun H locs M => ?_)
          have M := M.cg (fun i _ => (congrFun cm_swap i).symm)
          refine lv_icmp_eq (tgt := 527) hx hb d_La_law_217 (by decide) (fun c_217 => ?_) (fun c_217 => ?_)
          · exact tail n ((cGiv n (xs (1 + 6 * j + 1)) ((((xs (1 + 6 * j + 2)).toInt64) <<< ((32 : Int32).toInt64 &&& 63)) ||| (((xs (1 + 6 * j + 3)).toInt64) &&& 4294967295)) (sc, now, gi, ck, ho, pd, pf, ps, pe, pn)).2) ((mGiv n (xs (1 + 6 * j + 1)) ((((xs (1 + 6 * j + 2)).toInt64) <<< ((32 : Int32).toInt64 &&& 63)) ||| (((xs (1 + 6 * j + 3)).toInt64) &&& 4294967295)) (ms, mnow, du, a)).2) (r_giv hR (xs (1 + 6 * j + 1)) ((((xs (1 + 6 * j + 2)).toInt64) <<< ((32 : Int32).toInt64 &&& 63)) ||| (((xs (1 + 6 * j + 3)).toInt64) &&& 4294967295))).2 _ _ ls _ _ (by omega) (by omega) M hl
          · exact absurd ((r_giv hR (xs (1 + 6 * j + 1)) ((((xs (1 + 6 * j + 2)).toInt64) <<< ((32 : Int32).toInt64 &&& 63)) ||| (((xs (1 + 6 * j + 3)).toInt64) &&& 4294967295))).1) c_217
        · refine g_topi (x' := 2) rfl ?_
          refine lv_tableIn (tgt := 222) hx hb d_La_law_43 (by decide) (by decide) rfl (by decide) ?_
          refine lv_aload_n hx hb d_La_law_222 rfl (lv_at hl 1 rfl) ?_
          refine lv_aload_n hx hb d_La_law_223 rfl (lv_at hl 0 rfl) ?_
          refine lv_iload_n hx hb d_La_law_224 rfl (lv_at hl 3 rfl) ?_
          refine lv_iconst (v := 1) hx hb d_La_law_225 (by decide) ?_
          refine lv_iadd hx hb d_La_law_226 ?_
          refine g_topi (x' := nI (1 + 6 * j + 1)) (nI_add (1 + 6 * j) (1)) ?_
          refine g_sld F M XX d_La_law_227 (by omega) ?_
          refine lv_aload_n hx hb d_La_law_228 rfl (lv_at hl 0 rfl) ?_
          refine lv_iload_n hx hb d_La_law_229 rfl (lv_at hl 3 rfl) ?_
          refine lv_iconst (v := 2) hx hb d_La_law_230 (by decide) ?_
          refine lv_iadd hx hb d_La_law_231 ?_
          refine g_topi (x' := nI (1 + 6 * j + 2)) (nI_add (1 + 6 * j) (2)) ?_
          refine g_sld F M XX d_La_law_232 (by omega) ?_
          refine lv_aload_n hx hb d_La_law_233 rfl (lv_at hl 0 rfl) ?_
          refine lv_iload_n hx hb d_La_law_234 rfl (lv_at hl 3 rfl) ?_
          refine lv_iconst (v := 3) hx hb d_La_law_235 (by decide) ?_
          refine lv_iadd hx hb d_La_law_236 ?_
          refine g_topi (x' := nI (1 + 6 * j + 3)) (nI_add (1 + 6 * j) (3)) ?_
          refine g_sld F M XX d_La_law_237 (by omega) ?_
          refine lv_aload_n hx hb d_La_law_238 rfl (lv_at hl 0 rfl) ?_
          refine lv_iload_n hx hb d_La_law_239 rfl (lv_at hl 3 rfl) ?_
          refine lv_iconst (v := 4) hx hb d_La_law_240 (by decide) ?_
          refine lv_iadd hx hb d_La_law_241 ?_
          refine g_topi (x' := nI (1 + 6 * j + 4)) (nI_add (1 + 6 * j) (4)) ?_
          refine g_sld F M XX d_La_law_242 (by omega) ?_
          refine lv_i2l hx hb d_La_law_243 rfl ?_
          refine lv_bipush (v := 32) hx hb d_La_law_244 (by decide) ?_
          refine lv_lshl hx hb d_La_law_246 rfl ?_
          refine lv_aload_n hx hb d_La_law_247 rfl (lv_at hl 0 rfl) ?_
          refine lv_iload_n hx hb d_La_law_248 rfl (lv_at hl 3 rfl) ?_
          refine lv_iconst (v := 5) hx hb d_La_law_249 (by decide) ?_
          refine lv_iadd hx hb d_La_law_250 ?_
          refine g_topi (x' := nI (1 + 6 * j + 5)) (nI_add (1 + 6 * j) (5)) ?_
          refine g_sld F M XX d_La_law_251 (by omega) ?_
          refine lv_i2l hx hb d_La_law_252 rfl ?_
          refine lv_ldc2 (v := 4294967295) hx hb F.1.2.2.2.1 (F.1.2.2.2.2 _ wd_415) d_La_law_253 ?_
          refine lv_land hx hb d_La_law_256 ?_
          refine lv_lor hx hb d_La_law_257 ?_
          refine g_call1 (g_rv (rest := []) F M (c_CR_answer l G (37 + 3 * n) n sc now gi ck ho pd pf ps pe pn (mw G (ms, mnow, du, a) wz) rfl hcn hn hpn hho hq (xs (1 + 6 * j + 1)) (xs (1 + 6 * j + 2)) (xs (1 + 6 * j + 3)) ((((xs (1 + 6 * j + 4)).toInt64) <<< ((32 : Int32).toInt64 &&& 63)) ||| (((xs (1 + 6 * j + 5)).toInt64) &&& 4294967295))) k_La_33 d_La_law_258 ⟨rfl, rfl, by decide, by decide, (show _ ≤ 600000 by omega), (show _ ≤ 7302250 by omega)⟩ (by omega) cw_0 rfl rfl hl.1 (Nat.le_of_ble_eq_true rfl) rfl) M (fun H locs M => ?_)
          have M := M.cg (fun i _ => congrFun cm_swap i)
          refine lv_aload_n hx hb d_La_law_261 rfl (lv_at hl 2 rfl) ?_
          refine lv_aload_n hx hb d_La_law_262 rfl (lv_at hl 0 rfl) ?_
          refine lv_iload_n hx hb d_La_law_263 rfl (lv_at hl 3 rfl) ?_
          refine lv_iconst (v := 1) hx hb d_La_law_264 (by decide) ?_
          refine lv_iadd hx hb d_La_law_265 ?_
          refine g_topi (x' := nI (1 + 6 * j + 1)) (nI_add (1 + 6 * j) (1)) ?_
          refine g_sld F M XX d_La_law_266 (by omega) ?_
          refine lv_aload_n hx hb d_La_law_267 rfl (lv_at hl 0 rfl) ?_
          refine lv_iload_n hx hb d_La_law_268 rfl (lv_at hl 3 rfl) ?_
          refine lv_iconst (v := 2) hx hb d_La_law_269 (by decide) ?_
          refine lv_iadd hx hb d_La_law_270 ?_
          refine g_topi (x' := nI (1 + 6 * j + 2)) (nI_add (1 + 6 * j) (2)) ?_
          refine g_sld F M XX d_La_law_271 (by omega) ?_
          refine lv_aload_n hx hb d_La_law_272 rfl (lv_at hl 0 rfl) ?_
          refine lv_iload_n hx hb d_La_law_273 rfl (lv_at hl 3 rfl) ?_
          refine lv_iconst (v := 3) hx hb d_La_law_274 (by decide) ?_
          refine lv_iadd hx hb d_La_law_275 ?_
          refine g_topi (x' := nI (1 + 6 * j + 3)) (nI_add (1 + 6 * j) (3)) ?_
          refine g_sld F M XX d_La_law_276 (by omega) ?_
          refine lv_aload_n hx hb d_La_law_277 rfl (lv_at hl 0 rfl) ?_
          refine lv_iload_n hx hb d_La_law_278 rfl (lv_at hl 3 rfl) ?_
          refine lv_iconst (v := 4) hx hb d_La_law_279 (by decide) ?_
          refine lv_iadd hx hb d_La_law_280 ?_
          refine g_topi (x' := nI (1 + 6 * j + 4)) (nI_add (1 + 6 * j) (4)) ?_
          refine g_sld F M XX d_La_law_281 (by omega) ?_
          refine lv_i2l hx hb d_La_law_282 rfl ?_
          refine lv_bipush (v := 32) hx hb d_La_law_283 (by decide) ?_
          refine lv_lshl hx hb d_La_law_285 rfl ?_
          refine lv_aload_n hx hb d_La_law_286 rfl (lv_at hl 0 rfl) ?_
          refine lv_iload_n hx hb d_La_law_287 rfl (lv_at hl 3 rfl) ?_
          refine lv_iconst (v := 5) hx hb d_La_law_288 (by decide) ?_
          refine lv_iadd hx hb d_La_law_289 ?_
          refine g_topi (x' := nI (1 + 6 * j + 5)) (nI_add (1 + 6 * j) (5)) ?_
          refine g_sld F M XX d_La_law_290 (by omega) ?_
          refine lv_i2l hx hb d_La_law_291 rfl ?_
          refine lv_ldc2 (v := 4294967295) hx hb F.1.2.2.2.1 (F.1.2.2.2.2 _ wd_415) d_La_law_292 ?_
          refine lv_land hx hb d_La_law_295 ?_
          refine lv_lor hx hb d_La_law_296 ?_
          refine g_call1 (g_rv (rest := [.int ((cAns n (xs (1 + 6 * j + 1)) (xs (1 + 6 * j + 2)) (xs (1 + 6 * j + 3)) ((((xs (1 + 6 * j + 4)).toInt64) <<< ((32 : Int32).toInt64 &&& 63)) ||| (((xs (1 + 6 * j + 5)).toInt64) &&& 4294967295)) (sc, now, gi, ck, ho, pd, pf, ps, pe, pn)).1)]) F M (c_Mo_answer l G (37 + 3 * n) n ms mnow du a (cw G n ((cAns n (xs (1 + 6 * j + 1)) (xs (1 + 6 * j + 2)) (xs (1 + 6 * j + 3)) ((((xs (1 + 6 * j + 4)).toInt64) <<< ((32 : Int32).toInt64 &&& 63)) ||| (((xs (1 + 6 * j + 5)).toInt64) &&& 4294967295)) (sc, now, gi, ck, ho, pd, pf, ps, pe, pn)).2) wz) (xs (1 + 6 * j + 1)) (xs (1 + 6 * j + 2)) (xs (1 + 6 * j + 3)) ((((xs (1 + 6 * j + 4)).toInt64) <<< ((32 : Int32).toInt64 &&& 63)) ||| (((xs (1 + 6 * j + 5)).toInt64) &&& 4294967295)) (by omega) hcm hn hQ) k_La_37 d_La_law_297 ⟨rfl, rfl, by decide, by decide, (show _ ≤ 600000 by omega), (show _ ≤ 7302250 by omega)⟩ (by omega) mw_24 rfl rfl hl.1 (Nat.le_of_ble_eq_true rfl) rfl) M (fun H locs M => ?_)
          have M := M.cg (fun i _ => (congrFun cm_swap i).symm)
          refine lv_icmp_eq (tgt := 527) hx hb d_La_law_300 (by decide) (fun c_300 => ?_) (fun c_300 => ?_)
          · exact tail n ((cAns n (xs (1 + 6 * j + 1)) (xs (1 + 6 * j + 2)) (xs (1 + 6 * j + 3)) ((((xs (1 + 6 * j + 4)).toInt64) <<< ((32 : Int32).toInt64 &&& 63)) ||| (((xs (1 + 6 * j + 5)).toInt64) &&& 4294967295)) (sc, now, gi, ck, ho, pd, pf, ps, pe, pn)).2) ((mAns n (xs (1 + 6 * j + 1)) (xs (1 + 6 * j + 2)) (xs (1 + 6 * j + 3)) ((((xs (1 + 6 * j + 4)).toInt64) <<< ((32 : Int32).toInt64 &&& 63)) ||| (((xs (1 + 6 * j + 5)).toInt64) &&& 4294967295)) (ms, mnow, du, a)).2) (r_ans hR (xs (1 + 6 * j + 1)) (xs (1 + 6 * j + 2)) (xs (1 + 6 * j + 3)) ((((xs (1 + 6 * j + 4)).toInt64) <<< ((32 : Int32).toInt64 &&& 63)) ||| (((xs (1 + 6 * j + 5)).toInt64) &&& 4294967295))).2 _ _ ls _ _ (by omega) (by omega) M hl
          · exact absurd ((r_ans hR (xs (1 + 6 * j + 1)) (xs (1 + 6 * j + 2)) (xs (1 + 6 * j + 3)) ((((xs (1 + 6 * j + 4)).toInt64) <<< ((32 : Int32).toInt64 &&& 63)) ||| (((xs (1 + 6 * j + 5)).toInt64) &&& 4294967295))).1) c_300
        · refine g_topi (x' := 3) rfl ?_
          refine lv_tableIn (tgt := 305) hx hb d_La_law_43 (by decide) (by decide) rfl (by decide) ?_
          refine lv_aload_n hx hb d_La_law_305 rfl (lv_at hl 1 rfl) ?_
          refine lv_aload_n hx hb d_La_law_306 rfl (lv_at hl 0 rfl) ?_
          refine lv_iload_n hx hb d_La_law_307 rfl (lv_at hl 3 rfl) ?_
          refine lv_iconst (v := 1) hx hb d_La_law_308 (by decide) ?_
          refine lv_iadd hx hb d_La_law_309 ?_
          refine g_topi (x' := nI (1 + 6 * j + 1)) (nI_add (1 + 6 * j) (1)) ?_
          refine g_sld F M XX d_La_law_310 (by omega) ?_
          refine lv_aload_n hx hb d_La_law_311 rfl (lv_at hl 0 rfl) ?_
          refine lv_iload_n hx hb d_La_law_312 rfl (lv_at hl 3 rfl) ?_
          refine lv_iconst (v := 2) hx hb d_La_law_313 (by decide) ?_
          refine lv_iadd hx hb d_La_law_314 ?_
          refine g_topi (x' := nI (1 + 6 * j + 2)) (nI_add (1 + 6 * j) (2)) ?_
          refine g_sld F M XX d_La_law_315 (by omega) ?_
          refine lv_aload_n hx hb d_La_law_316 rfl (lv_at hl 0 rfl) ?_
          refine lv_iload_n hx hb d_La_law_317 rfl (lv_at hl 3 rfl) ?_
          refine lv_iconst (v := 3) hx hb d_La_law_318 (by decide) ?_
          refine lv_iadd hx hb d_La_law_319 ?_
          refine g_topi (x' := nI (1 + 6 * j + 3)) (nI_add (1 + 6 * j) (3)) ?_
          refine g_sld F M XX d_La_law_320 (by omega) ?_
          refine g_call1 (g_rv (rest := []) F M (c_CR_office l G (37 + 3 * n) n sc now gi ck ho pd pf ps pe pn (mw G (ms, mnow, du, a) wz) rfl hcn hn hpn  (xs (1 + 6 * j + 1)) (xs (1 + 6 * j + 2)) (xs (1 + 6 * j + 3))) k_La_38 d_La_law_321 ⟨rfl, rfl, by decide, by decide, (show _ ≤ 600000 by omega), (show _ ≤ 7302250 by omega)⟩ (by omega) cw_0 rfl rfl hl.1 (Nat.le_of_ble_eq_true rfl) rfl) M (fun H locs M => ?_)
          have M := M.cg (fun i _ => congrFun cm_swap i)
          refine lv_aload_n hx hb d_La_law_324 rfl (lv_at hl 2 rfl) ?_
          refine lv_aload_n hx hb d_La_law_325 rfl (lv_at hl 0 rfl) ?_
          refine lv_iload_n hx hb d_La_law_326 rfl (lv_at hl 3 rfl) ?_
          refine lv_iconst (v := 1) hx hb d_La_law_327 (by decide) ?_
          refine lv_iadd hx hb d_La_law_328 ?_
          refine g_topi (x' := nI (1 + 6 * j + 1)) (nI_add (1 + 6 * j) (1)) ?_
          refine g_sld F M XX d_La_law_329 (by omega) ?_
          refine lv_aload_n hx hb d_La_law_330 rfl (lv_at hl 0 rfl) ?_
          refine lv_iload_n hx hb d_La_law_331 rfl (lv_at hl 3 rfl) ?_
          refine lv_iconst (v := 2) hx hb d_La_law_332 (by decide) ?_
          refine lv_iadd hx hb d_La_law_333 ?_
          refine g_topi (x' := nI (1 + 6 * j + 2)) (nI_add (1 + 6 * j) (2)) ?_
          refine g_sld F M XX d_La_law_334 (by omega) ?_
          refine lv_aload_n hx hb d_La_law_335 rfl (lv_at hl 0 rfl) ?_
          refine lv_iload_n hx hb d_La_law_336 rfl (lv_at hl 3 rfl) ?_
          refine lv_iconst (v := 3) hx hb d_La_law_337 (by decide) ?_
          refine lv_iadd hx hb d_La_law_338 ?_
          refine g_topi (x' := nI (1 + 6 * j + 3)) (nI_add (1 + 6 * j) (3)) ?_
          refine g_sld F M XX d_La_law_339 (by omega) ?_
          refine g_call1 (g_rv (rest := [.int ((cOff (xs (1 + 6 * j + 1)) (xs (1 + 6 * j + 2)) (xs (1 + 6 * j + 3)) (sc, now, gi, ck, ho, pd, pf, ps, pe, pn)).1)]) F M (c_Mo_office l G (37 + 3 * n) n ms mnow du a (cw G n ((cOff (xs (1 + 6 * j + 1)) (xs (1 + 6 * j + 2)) (xs (1 + 6 * j + 3)) (sc, now, gi, ck, ho, pd, pf, ps, pe, pn)).2) wz) (xs (1 + 6 * j + 1)) (xs (1 + 6 * j + 2)) (xs (1 + 6 * j + 3)) (by omega) hcm hn ) k_La_42 d_La_law_340 ⟨rfl, rfl, by decide, by decide, (show _ ≤ 600000 by omega), (show _ ≤ 7302250 by omega)⟩ (by omega) mw_24 rfl rfl hl.1 (Nat.le_of_ble_eq_true rfl) rfl) M (fun H locs M => ?_)
          have M := M.cg (fun i _ => (congrFun cm_swap i).symm)
          refine lv_icmp_eq (tgt := 527) hx hb d_La_law_343 (by decide) (fun c_343 => ?_) (fun c_343 => ?_)
          · exact tail n ((cOff (xs (1 + 6 * j + 1)) (xs (1 + 6 * j + 2)) (xs (1 + 6 * j + 3)) (sc, now, gi, ck, ho, pd, pf, ps, pe, pn)).2) ((mOff (xs (1 + 6 * j + 1)) (xs (1 + 6 * j + 2)) (xs (1 + 6 * j + 3)) (ms, mnow, du, a)).2) (r_off hR (xs (1 + 6 * j + 1)) (xs (1 + 6 * j + 2)) (xs (1 + 6 * j + 3))).2 _ _ ls _ _ (by omega) (by omega) M hl
          · exact absurd ((r_off hR (xs (1 + 6 * j + 1)) (xs (1 + 6 * j + 2)) (xs (1 + 6 * j + 3))).1) c_343
        · refine g_topi (x' := 4) rfl ?_
          refine lv_tableIn (tgt := 348) hx hb d_La_law_43 (by decide) (by decide) rfl (by decide) ?_
          refine lv_aload_n hx hb d_La_law_348 rfl (lv_at hl 1 rfl) ?_
          refine lv_aload_n hx hb d_La_law_349 rfl (lv_at hl 0 rfl) ?_
          refine lv_iload_n hx hb d_La_law_350 rfl (lv_at hl 3 rfl) ?_
          refine lv_iconst (v := 1) hx hb d_La_law_351 (by decide) ?_
          refine lv_iadd hx hb d_La_law_352 ?_
          refine g_topi (x' := nI (1 + 6 * j + 1)) (nI_add (1 + 6 * j) (1)) ?_
          refine g_sld F M XX d_La_law_353 (by omega) ?_
          refine g_call1 (g_rv (rest := []) F M (c_CR_leave l G (37 + 3 * n) n sc now gi ck ho pd pf ps pe pn (mw G (ms, mnow, du, a) wz) rfl hcn hn hpn hho (xs (1 + 6 * j + 1))) k_La_43 d_La_law_354 ⟨rfl, rfl, by decide, by decide, (show _ ≤ 600000 by omega), (show _ ≤ 7302250 by omega)⟩ (by omega) cw_0 rfl rfl hl.1 (Nat.le_of_ble_eq_true rfl) rfl) M (fun H locs M => ?_)
          have M := M.cg (fun i _ => congrFun cm_swap i)
          refine lv_aload_n hx hb d_La_law_357 rfl (lv_at hl 2 rfl) ?_
          refine lv_aload_n hx hb d_La_law_358 rfl (lv_at hl 0 rfl) ?_
          refine lv_iload_n hx hb d_La_law_359 rfl (lv_at hl 3 rfl) ?_
          refine lv_iconst (v := 1) hx hb d_La_law_360 (by decide) ?_
          refine lv_iadd hx hb d_La_law_361 ?_
          refine g_topi (x' := nI (1 + 6 * j + 1)) (nI_add (1 + 6 * j) (1)) ?_
          refine g_sld F M XX d_La_law_362 (by omega) ?_
          refine g_call1 (g_rv (rest := [.int ((cLea (xs (1 + 6 * j + 1)) (sc, now, gi, ck, ho, pd, pf, ps, pe, pn)).1)]) F M (c_Mo_leave l G (37 + 3 * n) n ms mnow du a (cw G n ((cLea (xs (1 + 6 * j + 1)) (sc, now, gi, ck, ho, pd, pf, ps, pe, pn)).2) wz) (xs (1 + 6 * j + 1)) (by omega) hcm hn ) k_La_47 d_La_law_363 ⟨rfl, rfl, by decide, by decide, (show _ ≤ 600000 by omega), (show _ ≤ 7302250 by omega)⟩ (by omega) mw_24 rfl rfl hl.1 (Nat.le_of_ble_eq_true rfl) rfl) M (fun H locs M => ?_)
          have M := M.cg (fun i _ => (congrFun cm_swap i).symm)
          refine lv_icmp_eq (tgt := 527) hx hb d_La_law_366 (by decide) (fun c_366 => ?_) (fun c_366 => ?_)
          · exact tail n ((cLea (xs (1 + 6 * j + 1)) (sc, now, gi, ck, ho, pd, pf, ps, pe, pn)).2) ((mLea n (xs (1 + 6 * j + 1)) (ms, mnow, du, a)).2) (r_lea hR (xs (1 + 6 * j + 1))).2 _ _ ls _ _ (by omega) (by omega) M hl
          · exact absurd ((r_lea hR (xs (1 + 6 * j + 1))).1) c_366
        · refine g_topi (x' := 5) rfl ?_
          refine lv_tableIn (tgt := 371) hx hb d_La_law_43 (by decide) (by decide) rfl (by decide) ?_
          refine lv_aload_n hx hb d_La_law_371 rfl (lv_at hl 1 rfl) ?_
          refine lv_aload_n hx hb d_La_law_372 rfl (lv_at hl 0 rfl) ?_
          refine lv_iload_n hx hb d_La_law_373 rfl (lv_at hl 3 rfl) ?_
          refine lv_iconst (v := 1) hx hb d_La_law_374 (by decide) ?_
          refine lv_iadd hx hb d_La_law_375 ?_
          refine g_topi (x' := nI (1 + 6 * j + 1)) (nI_add (1 + 6 * j) (1)) ?_
          refine g_sld F M XX d_La_law_376 (by omega) ?_
          refine lv_i2l hx hb d_La_law_377 rfl ?_
          refine lv_bipush (v := 32) hx hb d_La_law_378 (by decide) ?_
          refine lv_lshl hx hb d_La_law_380 rfl ?_
          refine lv_aload_n hx hb d_La_law_381 rfl (lv_at hl 0 rfl) ?_
          refine lv_iload_n hx hb d_La_law_382 rfl (lv_at hl 3 rfl) ?_
          refine lv_iconst (v := 2) hx hb d_La_law_383 (by decide) ?_
          refine lv_iadd hx hb d_La_law_384 ?_
          refine g_topi (x' := nI (1 + 6 * j + 2)) (nI_add (1 + 6 * j) (2)) ?_
          refine g_sld F M XX d_La_law_385 (by omega) ?_
          refine lv_i2l hx hb d_La_law_386 rfl ?_
          refine lv_ldc2 (v := 4294967295) hx hb F.1.2.2.2.1 (F.1.2.2.2.2 _ wd_415) d_La_law_387 ?_
          refine lv_land hx hb d_La_law_390 ?_
          refine lv_lor hx hb d_La_law_391 ?_
          refine g_call1 (g_rv (rest := []) F M (c_CR_tick l G (37 + 3 * n) n sc now gi ck ho pd pf ps pe pn (mw G (ms, mnow, du, a) wz) rfl hcn hn hpn  ((((xs (1 + 6 * j + 1)).toInt64) <<< ((32 : Int32).toInt64 &&& 63)) ||| (((xs (1 + 6 * j + 2)).toInt64) &&& 4294967295))) k_La_48 d_La_law_392 ⟨rfl, rfl, by decide, by decide, (show _ ≤ 600000 by omega), (show _ ≤ 7302250 by omega)⟩ (by omega) cw_0 rfl rfl hl.1 (Nat.le_of_ble_eq_true rfl) rfl) M (fun H locs M => ?_)
          have M := M.cg (fun i _ => congrFun cm_swap i)
          refine lv_aload_n hx hb d_La_law_395 rfl (lv_at hl 2 rfl) ?_
          refine lv_aload_n hx hb d_La_law_396 rfl (lv_at hl 0 rfl) ?_
          refine lv_iload_n hx hb d_La_law_397 rfl (lv_at hl 3 rfl) ?_
          refine lv_iconst (v := 1) hx hb d_La_law_398 (by decide) ?_
          refine lv_iadd hx hb d_La_law_399 ?_
          refine g_topi (x' := nI (1 + 6 * j + 1)) (nI_add (1 + 6 * j) (1)) ?_
          refine g_sld F M XX d_La_law_400 (by omega) ?_
          refine lv_i2l hx hb d_La_law_401 rfl ?_
          refine lv_bipush (v := 32) hx hb d_La_law_402 (by decide) ?_
          refine lv_lshl hx hb d_La_law_404 rfl ?_
          refine lv_aload_n hx hb d_La_law_405 rfl (lv_at hl 0 rfl) ?_
          refine lv_iload_n hx hb d_La_law_406 rfl (lv_at hl 3 rfl) ?_
          refine lv_iconst (v := 2) hx hb d_La_law_407 (by decide) ?_
          refine lv_iadd hx hb d_La_law_408 ?_
          refine g_topi (x' := nI (1 + 6 * j + 2)) (nI_add (1 + 6 * j) (2)) ?_
          refine g_sld F M XX d_La_law_409 (by omega) ?_
          refine lv_i2l hx hb d_La_law_410 rfl ?_
          refine lv_ldc2 (v := 4294967295) hx hb F.1.2.2.2.1 (F.1.2.2.2.2 _ wd_415) d_La_law_411 ?_
          refine lv_land hx hb d_La_law_414 ?_
          refine lv_lor hx hb d_La_law_415 ?_
          refine g_call1 (g_rv (rest := [.int ((cTic n ((((xs (1 + 6 * j + 1)).toInt64) <<< ((32 : Int32).toInt64 &&& 63)) ||| (((xs (1 + 6 * j + 2)).toInt64) &&& 4294967295)) (sc, now, gi, ck, ho, pd, pf, ps, pe, pn)).1)]) F M (c_Mo_tick l G (37 + 3 * n) n ms mnow du a (cw G n ((cTic n ((((xs (1 + 6 * j + 1)).toInt64) <<< ((32 : Int32).toInt64 &&& 63)) ||| (((xs (1 + 6 * j + 2)).toInt64) &&& 4294967295)) (sc, now, gi, ck, ho, pd, pf, ps, pe, pn)).2) wz) ((((xs (1 + 6 * j + 1)).toInt64) <<< ((32 : Int32).toInt64 &&& 63)) ||| (((xs (1 + 6 * j + 2)).toInt64) &&& 4294967295)) (by omega) hcm hn ) k_La_52 d_La_law_416 ⟨rfl, rfl, by decide, by decide, (show _ ≤ 600000 by omega), (show _ ≤ 7302250 by omega)⟩ (by omega) mw_24 rfl rfl hl.1 (Nat.le_of_ble_eq_true rfl) rfl) M (fun H locs M => ?_)
          have M := M.cg (fun i _ => (congrFun cm_swap i).symm)
          refine lv_icmp_eq (tgt := 527) hx hb d_La_law_419 (by decide) (fun c_419 => ?_) (fun c_419 => ?_)
          · exact tail n ((cTic n ((((xs (1 + 6 * j + 1)).toInt64) <<< ((32 : Int32).toInt64 &&& 63)) ||| (((xs (1 + 6 * j + 2)).toInt64) &&& 4294967295)) (sc, now, gi, ck, ho, pd, pf, ps, pe, pn)).2) ((mTic n ((((xs (1 + 6 * j + 1)).toInt64) <<< ((32 : Int32).toInt64 &&& 63)) ||| (((xs (1 + 6 * j + 2)).toInt64) &&& 4294967295)) (ms, mnow, du, a)).2) (r_tic hR ((((xs (1 + 6 * j + 1)).toInt64) <<< ((32 : Int32).toInt64 &&& 63)) ||| (((xs (1 + 6 * j + 2)).toInt64) &&& 4294967295))).2 _ _ ls _ _ (by omega) (by omega) M hl
          · exact absurd ((r_tic hR ((((xs (1 + 6 * j + 1)).toInt64) <<< ((32 : Int32).toInt64 &&& 63)) ||| (((xs (1 + 6 * j + 2)).toInt64) &&& 4294967295))).1) c_419
        · refine g_topi (x' := 6) rfl ?_
          refine lv_tableIn (tgt := 424) hx hb d_La_law_43 (by decide) (by decide) rfl (by decide) ?_
          refine lv_aload_n hx hb d_La_law_424 rfl (lv_at hl 1 rfl) ?_
          refine lv_aload_n hx hb d_La_law_425 rfl (lv_at hl 0 rfl) ?_
          refine lv_iload_n hx hb d_La_law_426 rfl (lv_at hl 3 rfl) ?_
          refine lv_iconst (v := 1) hx hb d_La_law_427 (by decide) ?_
          refine lv_iadd hx hb d_La_law_428 ?_
          refine g_topi (x' := nI (1 + 6 * j + 1)) (nI_add (1 + 6 * j) (1)) ?_
          refine g_sld F M XX d_La_law_429 (by omega) ?_
          refine g_call1 (g_rv (rest := []) F M (c_CR_settled l G (37 + 3 * n) n sc now gi ck ho pd pf ps pe pn (mw G (ms, mnow, du, a) wz) rfl hcn hn hpn  (xs (1 + 6 * j + 1))) k_La_53 d_La_law_430 ⟨rfl, rfl, by decide, by decide, (show _ ≤ 600000 by omega), (show _ ≤ 7302250 by omega)⟩ (by omega) cw_0 rfl rfl hl.1 (Nat.le_of_ble_eq_true rfl) rfl) M (fun H locs M => ?_)
          have M := M.cg (fun i _ => congrFun cm_swap i)
          refine lv_aload_n hx hb d_La_law_433 rfl (lv_at hl 2 rfl) ?_
          refine lv_aload_n hx hb d_La_law_434 rfl (lv_at hl 0 rfl) ?_
          refine lv_iload_n hx hb d_La_law_435 rfl (lv_at hl 3 rfl) ?_
          refine lv_iconst (v := 1) hx hb d_La_law_436 (by decide) ?_
          refine lv_iadd hx hb d_La_law_437 ?_
          refine g_topi (x' := nI (1 + 6 * j + 1)) (nI_add (1 + 6 * j) (1)) ?_
          refine g_sld F M XX d_La_law_438 (by omega) ?_
          refine g_call1 (g_rv (rest := [.int (cSet n (xs (1 + 6 * j + 1)) (sc, now, gi, ck, ho, pd, pf, ps, pe, pn))]) F M (c_Mo_settled l G (37 + 3 * n) n ms mnow du a (cw G n ((sc, now, gi, ck, ho, pd, pf, ps, pe, pn)) wz) (xs (1 + 6 * j + 1)) (by omega) hcm hn ) k_La_56 d_La_law_439 ⟨rfl, rfl, by decide, by decide, (show _ ≤ 600000 by omega), (show _ ≤ 7302250 by omega)⟩ (by omega) mw_24 rfl rfl hl.1 (Nat.le_of_ble_eq_true rfl) rfl) M (fun H locs M => ?_)
          have M := M.cg (fun i _ => (congrFun cm_swap i).symm)
          refine lv_icmp_eq (tgt := 527) hx hb d_La_law_442 (by decide) (fun c_442 => ?_) (fun c_442 => ?_)
          · exact tail n ((sc, now, gi, ck, ho, pd, pf, ps, pe, pn)) (mThr (ms, mnow, du, a)) hR.thr _ _ ls _ _ (by omega) (by omega) M hl
          · exact absurd (r_set hR (xs (1 + 6 * j + 1))) c_442
        · refine g_topi (x' := 7) rfl ?_
          refine lv_tableIn (tgt := 447) hx hb d_La_law_43 (by decide) (by decide) rfl (by decide) ?_
          refine lv_aload_n hx hb d_La_law_447 rfl (lv_at hl 1 rfl) ?_
          refine lv_aload_n hx hb d_La_law_448 rfl (lv_at hl 0 rfl) ?_
          refine lv_iload_n hx hb d_La_law_449 rfl (lv_at hl 3 rfl) ?_
          refine lv_iconst (v := 1) hx hb d_La_law_450 (by decide) ?_
          refine lv_iadd hx hb d_La_law_451 ?_
          refine g_topi (x' := nI (1 + 6 * j + 1)) (nI_add (1 + 6 * j) (1)) ?_
          refine g_sld F M XX d_La_law_452 (by omega) ?_
          refine g_call1 (g_rv (rest := []) F M (c_CR_state l G (37 + 3 * n) n sc now gi ck ho pd pf ps pe pn (mw G (ms, mnow, du, a) wz) rfl hcn hn hpn  (xs (1 + 6 * j + 1))) k_La_57 d_La_law_453 ⟨rfl, rfl, by decide, by decide, (show _ ≤ 600000 by omega), (show _ ≤ 7302250 by omega)⟩ (by omega) cw_0 rfl rfl hl.1 (Nat.le_of_ble_eq_true rfl) rfl) M (fun H locs M => ?_)
          have M := M.cg (fun i _ => congrFun cm_swap i)
          refine lv_aload_n hx hb d_La_law_456 rfl (lv_at hl 2 rfl) ?_
          refine lv_aload_n hx hb d_La_law_457 rfl (lv_at hl 0 rfl) ?_
          refine lv_iload_n hx hb d_La_law_458 rfl (lv_at hl 3 rfl) ?_
          refine lv_iconst (v := 1) hx hb d_La_law_459 (by decide) ?_
          refine lv_iadd hx hb d_La_law_460 ?_
          refine g_topi (x' := nI (1 + 6 * j + 1)) (nI_add (1 + 6 * j) (1)) ?_
          refine g_sld F M XX d_La_law_461 (by omega) ?_
          refine g_call1 (g_rv (rest := [.int (cStt n (xs (1 + 6 * j + 1)) (sc, now, gi, ck, ho, pd, pf, ps, pe, pn))]) F M (c_Mo_state l G (37 + 3 * n) n ms mnow du a (cw G n ((sc, now, gi, ck, ho, pd, pf, ps, pe, pn)) wz) (xs (1 + 6 * j + 1)) (by omega) hcm hn ) k_La_60 d_La_law_462 ⟨rfl, rfl, by decide, by decide, (show _ ≤ 600000 by omega), (show _ ≤ 7302250 by omega)⟩ (by omega) mw_24 rfl rfl hl.1 (Nat.le_of_ble_eq_true rfl) rfl) M (fun H locs M => ?_)
          have M := M.cg (fun i _ => (congrFun cm_swap i).symm)
          refine lv_icmp_eq (tgt := 527) hx hb d_La_law_465 (by decide) (fun c_465 => ?_) (fun c_465 => ?_)
          · exact tail n ((sc, now, gi, ck, ho, pd, pf, ps, pe, pn)) (mThr (ms, mnow, du, a)) hR.thr _ _ ls _ _ (by omega) (by omega) M hl
          · exact absurd (r_stt hR (xs (1 + 6 * j + 1))) c_465
        · refine g_topi (x' := 8) rfl ?_
          refine lv_tableIn (tgt := 470) hx hb d_La_law_43 (by decide) (by decide) rfl (by decide) ?_
          refine lv_aload_n hx hb d_La_law_470 rfl (lv_at hl 1 rfl) ?_
          refine lv_aload_n hx hb d_La_law_471 rfl (lv_at hl 0 rfl) ?_
          refine lv_iload_n hx hb d_La_law_472 rfl (lv_at hl 3 rfl) ?_
          refine lv_iconst (v := 1) hx hb d_La_law_473 (by decide) ?_
          refine lv_iadd hx hb d_La_law_474 ?_
          refine g_topi (x' := nI (1 + 6 * j + 1)) (nI_add (1 + 6 * j) (1)) ?_
          refine g_sld F M XX d_La_law_475 (by omega) ?_
          refine lv_aload_n hx hb d_La_law_476 rfl (lv_at hl 0 rfl) ?_
          refine lv_iload_n hx hb d_La_law_477 rfl (lv_at hl 3 rfl) ?_
          refine lv_iconst (v := 2) hx hb d_La_law_478 (by decide) ?_
          refine lv_iadd hx hb d_La_law_479 ?_
          refine g_topi (x' := nI (1 + 6 * j + 2)) (nI_add (1 + 6 * j) (2)) ?_
          refine g_sld F M XX d_La_law_480 (by omega) ?_
          refine lv_aload_n hx hb d_La_law_481 rfl (lv_at hl 0 rfl) ?_
          refine lv_iload_n hx hb d_La_law_482 rfl (lv_at hl 3 rfl) ?_
          refine lv_iconst (v := 3) hx hb d_La_law_483 (by decide) ?_
          refine lv_iadd hx hb d_La_law_484 ?_
          refine g_topi (x' := nI (1 + 6 * j + 3)) (nI_add (1 + 6 * j) (3)) ?_
          refine g_sld F M XX d_La_law_485 (by omega) ?_
          refine g_call2 (g_rv (rest := []) F M (c_CR_agreement l G (37 + 3 * n) n sc now gi ck ho pd pf ps pe pn (mw G (ms, mnow, du, a) wz) rfl hcn hn hpn  (xs (1 + 6 * j + 1)) (xs (1 + 6 * j + 2)) (xs (1 + 6 * j + 3))) k_La_61 d_La_law_486 ⟨rfl, rfl, by decide, by decide, (show _ ≤ 600000 by omega), (show _ ≤ 7302250 by omega)⟩ (by omega) cw_0 rfl rfl hl.1 (Nat.le_of_ble_eq_true rfl) rfl) M (fun H locs M => ?_)
          have M := M.cg (fun i _ => congrFun cm_swap i)
          refine lv_aload_n hx hb d_La_law_489 rfl (lv_at hl 2 rfl) ?_
          refine lv_aload_n hx hb d_La_law_490 rfl (lv_at hl 0 rfl) ?_
          refine lv_iload_n hx hb d_La_law_491 rfl (lv_at hl 3 rfl) ?_
          refine lv_iconst (v := 1) hx hb d_La_law_492 (by decide) ?_
          refine lv_iadd hx hb d_La_law_493 ?_
          refine g_topi (x' := nI (1 + 6 * j + 1)) (nI_add (1 + 6 * j) (1)) ?_
          refine g_sld F M XX d_La_law_494 (by omega) ?_
          refine lv_aload_n hx hb d_La_law_495 rfl (lv_at hl 0 rfl) ?_
          refine lv_iload_n hx hb d_La_law_496 rfl (lv_at hl 3 rfl) ?_
          refine lv_iconst (v := 2) hx hb d_La_law_497 (by decide) ?_
          refine lv_iadd hx hb d_La_law_498 ?_
          refine g_topi (x' := nI (1 + 6 * j + 2)) (nI_add (1 + 6 * j) (2)) ?_
          refine g_sld F M XX d_La_law_499 (by omega) ?_
          refine lv_aload_n hx hb d_La_law_500 rfl (lv_at hl 0 rfl) ?_
          refine lv_iload_n hx hb d_La_law_501 rfl (lv_at hl 3 rfl) ?_
          refine lv_iconst (v := 3) hx hb d_La_law_502 (by decide) ?_
          refine lv_iadd hx hb d_La_law_503 ?_
          refine g_topi (x' := nI (1 + 6 * j + 3)) (nI_add (1 + 6 * j) (3)) ?_
          refine g_sld F M XX d_La_law_504 (by omega) ?_
          refine g_call2 (g_rv (rest := [.long (cAgr n (xs (1 + 6 * j + 1)) (xs (1 + 6 * j + 2)) (xs (1 + 6 * j + 3)) (sc, now, gi, ck, ho, pd, pf, ps, pe, pn))]) F M (c_Mo_agreement l G (37 + 3 * n) n ms mnow du a (cw G n ((sc, now, gi, ck, ho, pd, pf, ps, pe, pn)) wz) (xs (1 + 6 * j + 1)) (xs (1 + 6 * j + 2)) (xs (1 + 6 * j + 3)) (by omega) hcm hn ) k_La_65 d_La_law_505 ⟨rfl, rfl, by decide, by decide, (show _ ≤ 600000 by omega), (show _ ≤ 7302250 by omega)⟩ (by omega) mw_24 rfl rfl hl.1 (Nat.le_of_ble_eq_true rfl) rfl) M (fun H locs M => ?_)
          have M := M.cg (fun i _ => (congrFun cm_swap i).symm)
          refine g_lcmp_eq (tgt := 527) hx hb d_La_law_508 d_La_law_509 (by decide) (fun c_509 => ?_) (fun c_509 => ?_)
          · exact tail n ((sc, now, gi, ck, ho, pd, pf, ps, pe, pn)) (mThr (ms, mnow, du, a)) hR.thr _ _ ls _ _ (by omega) (by omega) M hl
          · exact absurd (r_agr hR (xs (1 + 6 * j + 1)) (xs (1 + 6 * j + 2)) (xs (1 + 6 * j + 3))) c_509
        · refine g_topi (x' := 9) rfl ?_
          refine lv_tableIn (tgt := 514) hx hb d_La_law_43 (by decide) (by decide) rfl (by decide) ?_
          refine lv_aload_n hx hb d_La_law_514 rfl (lv_at hl 1 rfl) ?_
          refine g_call1 (g_rv (rest := []) F M (c_CR_waiting l G (37 + 3 * n) n sc now gi ck ho pd pf ps pe pn (mw G (ms, mnow, du, a) wz) rfl hcn hn hpn  ) k_La_66 d_La_law_515 ⟨rfl, rfl, by decide, by decide, (show _ ≤ 600000 by omega), (show _ ≤ 7302250 by omega)⟩ (by omega) cw_0 rfl rfl hl.1 (Nat.le_of_ble_eq_true rfl) rfl) M (fun H locs M => ?_)
          have M := M.cg (fun i _ => congrFun cm_swap i)
          refine lv_aload_n hx hb d_La_law_518 rfl (lv_at hl 2 rfl) ?_
          refine g_call1 (g_rv (rest := [.int (sc 3)]) F M (c_Mo_waiting l G (37 + 3 * n) n ms mnow du a (cw G n ((sc, now, gi, ck, ho, pd, pf, ps, pe, pn)) wz)  (by omega) hcm hn ) k_La_70 d_La_law_519 ⟨rfl, rfl, by decide, by decide, (show _ ≤ 600000 by omega), (show _ ≤ 7302250 by omega)⟩ (by omega) mw_24 rfl rfl hl.1 (Nat.le_of_ble_eq_true rfl) rfl) M (fun H locs M => ?_)
          have M := M.cg (fun i _ => (congrFun cm_swap i).symm)
          refine lv_icmp_eq (tgt := 527) hx hb d_La_law_522 (by decide) (fun c_522 => ?_) (fun c_522 => ?_)
          · exact tail n ((sc, now, gi, ck, ho, pd, pf, ps, pe, pn)) (mThr (ms, mnow, du, a)) hR.thr _ _ ls _ _ (by omega) (by omega) M hl
          · exact absurd (r_wai hR) c_522
end
section
set_option maxHeartbeats 4000000 in
/-- from the entry, for every script of at most 3073 ints, the law comes to its end with true -/
theorem whole_start {p : Program} {e : Env} {s : State} {m : MethodId} {below : List Frame} {meth : Method} {c : Code} (l : Launch) {b L : Nat} {xs : Nat → Int32} (hL : L ≤ 3073) (C0 : lw_At p s m meth c b L xs) : W p l e room_1 s m #[Value.ref b] below meth c s.heap [] 0 0 (lw_Z below #[Value.ref b] s) (entryFrame m ([Value.ref b] : List Value).toArray 4) := by
  obtain ⟨G, hB, F, XX⟩ := law_F hL C0
  obtain ⟨hx, hb, hr, hml, hown, hts, hX, hbl, hlocks, hgv⟩ := C0
  have hb0 : b < gB G := by rw [hB]; exact hbl
  have hl := lv_entry ([.ref b]) (n := 4) (Nat.le_of_ble_eq_true rfl)
  rw [lg_entry_eq]
  generalize (lg_sl ([.ref b]) ++ List.replicate (4 - (lg_sl ([.ref b])).length) Slot.unset).toArray = ls at hl ⊢
  have hl : lv_has ls 4 [(0, .ref b)] := hl
  obtain ⟨wz, hwz⟩ : ∃ z : Nat → va_E, z = fun _ => .inr (0, []) := ⟨_, rfl⟩
  have M : gM G s 0 wz s.heap [] := ⟨⟨by rw [hB]; rfl, fun k q hk => by have h := (gw_of hk).1; omega⟩, va_S.rf⟩
  refine g_new (fs := [.int 0, .null, .int 0, .null, .null, .long 0, .int 0, .int 0]) F M gC_CR wd_26 bl_CR (by decide) (by decide) d_La_law_0 rfl (fun H M => ?_)
  refine lv_dup hx hb d_La_law_3 rfl ?_
  refine lv_aload_n hx hb d_La_law_4 rfl (lv_at hl 0 rfl) ?_
  refine lv_iconst (v := 0) hx hb d_La_law_5 (by decide) ?_
  refine g_cell (rest := [.ref (gB G + 0), .ref (gB G + 0)]) F M XX hb0 d_La_law_6 ⟨rfl, rfl, by decide, by decide, by decide, by decide⟩ hl.1 (Nat.le_of_ble_eq_true rfl) (fun H locs M => ?_)
  obtain ⟨x0, hx0⟩ : ∃ z : Int32, z = (if 0 < L then xs 0 else 0) := ⟨_, rfl⟩
  refine g_topi hx0.symm ?_
  refine g_call0 (g_ri (rest := [.ref (gB G + 0)]) F M (c_CR_init l G wz x0) k_La_15 d_La_law_9 ⟨rfl, rfl, by decide, by decide, by decide, by decide⟩ rfl hl.1 (Nat.le_of_ble_eq_true rfl) rfl) M (fun H locs M => ?_)
  refine lv_astore_n (lv' := [(1, .ref (gB G + 0)), (0, .ref b)]) hx hb d_La_law_12 rfl hl (by decide) rfl (fun ls hl => ?_)
  refine g_new (fs := [.int 0, .int 0, .int 0, .null, .null, .null, .null, .null, .null, .null, .null, .null, .null, .null, .null, .long 0, .int 0]) F M gC_Model wd_262 bl_Model (by decide) (by decide) d_La_law_13 rfl (fun H M => ?_)
  refine lv_dup hx hb d_La_law_16 rfl ?_
  refine lv_aload_n hx hb d_La_law_17 rfl (lv_at hl 1 rfl) ?_
  refine lv_iconst (v := 0) hx hb d_La_law_18 (by decide) ?_
  refine g_cell (rest := [.ref (gB G + 24), .ref (gB G + 24)]) F M XX hb0 d_La_law_19 ⟨rfl, rfl, by decide, by decide, by decide, by decide⟩ hl.1 (Nat.le_of_ble_eq_true rfl) (fun H locs M => ?_)
  refine g_topi hx0.symm ?_
  refine g_call0 (g_ri (rest := [.ref (gB G + 24)]) F M (c_Mo_init l G (cw G 0 (cIni x0) wz) x0) k_La_20 d_La_law_22 ⟨rfl, rfl, by decide, by decide, by decide, by decide⟩ rfl hl.1 (Nat.le_of_ble_eq_true rfl) rfl) M (fun H locs M => ?_)
  have M := M.cg (fun i _ => (congrFun cm_swap i).symm)
  refine lv_astore_n (lv' := [(2, .ref (gB G + 24)), (1, .ref (gB G + 0)), (0, .ref b)]) hx hb d_La_law_25 rfl hl (by decide) rfl (fun ls hl => ?_)
  refine lv_iconst (v := 1) hx hb d_La_law_26 (by decide) ?_
  refine lv_istore_n (lv' := [(3, .int 1), (2, .ref (gB G + 24)), (1, .ref (gB G + 0)), (0, .ref b)]) hx hb d_La_law_27 rfl hl (by decide) rfl (fun ls hl => ?_)
  exact W.widen (by decide) (by decide) (law_loop F XX hr hlocks hB wz (L + 1) 0 (by omega) (by omega) 0 (cIni x0) (mIni x0) (r_ini x0) _ _ ls M (lv_sub hl [3, 2, 1, 0] rfl))
end
section
/-! the claim out of whole_start: the skeleton's own text (a starting text) -/
set_option maxHeartbeats 4000000 in
theorem lw_walk (l : Launch) (b : Addr) (xs : List Int32) : MetFree l x (headSpec (Jvm.Cond.code x code maxLocals ret :: tables_1) room_1) (lw_P b xs) (fun _ _ _ _ _ => True) lw_Q := by
  refine MetFree.of_bodyS (code := code) (maxLocals := maxLocals) (ret := ret) (by decide) ?_ ?_
  · intro args s m h hn
    obtain ⟨meth, c, h1, h2, h3, h4, h5, h6, -, -⟩ := Cond.code_spec hn (atoms_spec (ws := Jvm.Cond.code x code maxLocals ret :: tables_1) h _ List.mem_cons_self)
    exact ⟨meth, c, h1, h2, h3, h4, h5, h6⟩
  · intro p e s m args below meth c s₁ B hml0 hP _
    obtain ⟨rfl, hx, hbd, hgv⟩ := hP
    obtain ⟨scr, harrAt, hlist, hof, hsmall⟩ := hx
    obtain ⟨hcb, hkn, -, -⟩ := State.arrayAt?_spec harrAt
    have hown : s.vm.findClass R_law = some m.cls := findClass_of_methodNamed B.named
    have hts0 : ∀ c ∈ (Jvm.Cond.code x code maxLocals ret :: tables_1), c.before #[Value.ref b] s = true := atoms_spec (ws := Jvm.Cond.code x code maxLocals ret :: tables_1) B.pre
    have hts : ∀ w ∈ lw_tbl, w.before #[Value.ref b] s = true := k2_hts_sels lw_privs (fun w hw => hts0 w (List.mem_cons_of_mem _ hw)) lw_privs_ok
    have hml : c.maxLocals = 4 := B.maxLocals_eq (hts0 _ List.mem_cons_self)
    have X₀ : Stand p l e room_1 s m #[Value.ref b] below meth c s₁ [] 0 0 := Stand.of_body B
    have hh0 : s₁.heap = s.heap := by rw [B.state]; rfl
    have hsz : scr.slots.size = xs.length := by rw [← Array.length_toList, hlist, List.length_map]
    have hval : ∀ j : Nat, j < xs.length → scr.slots[j]? = some (.int (xs.getD j 0)) := fun j hj => by
      rw [← Array.getElem?_toList, hlist]
      simp [hj]
    have hbl : b < s.heap.size := (Array.getElem?_eq_some_iff.mp hcb).1
    have hX : va_X b xs.length (fun j => xs.getD j 0) s s.heap := ⟨scr, hcb, hof, hkn, hsz, hval⟩
    have K : W p l e room_1 s m #[Value.ref b] below meth c s₁.heap [] 0 0 (lw_Z below #[Value.ref b] s) (entryFrame m ([Value.ref b] : List Value).toArray 4) := by
      rw [hh0]
      exact whole_start l hbd ⟨B.exec, B.bytes, B.returns, hml, hown, hts, hX, hbl, B.notSynchronized, hgv⟩
    obtain ⟨t, a1, o, b1, b2, b3⟩ := K s₁ rfl X₀
    exact ⟨t, o, a1, b1, b2, b3⟩
theorem lw_pre_spec {args : Array Value} {s : State} (h : (Jvm.Cond.and given_1 narrow_1).before args s = true) (hr : rest_1_c.before args s = true) : ∃ (b : Addr) (xs : List Int32), lw_P b xs args s := by
  have hs := flat_of_before _ h
  have hq := flat_of_before _ hr
  have hc : (Cond.count 1).before args s = true := hs _ (by decide +kernel)
  have harr : (Cond.arrayOf (.arg 0) .int).before args s = true := hs _ (by decide +kernel)
  have hle : (Cond.le (.length (.arg 0)) (.int 3073)).before args s = true := hs _ (by decide +kernel)
  have hlen : (Cond.isInt (.length (.arg 0))).before args s = true := hq _ (by decide +kernel)
  have hall : (Cond.all (.arg 0) (.isInt (.elem (.arg 0) (.index 0)))).before args s = true := hq _ (by decide +kernel)
  obtain ⟨b, xs, hb, hx⟩ := State.ints_of_pre rfl harr hlen hall
  have hsm : xs.length < 2 ^ 31 := hx.choose_spec.2.2.2
  have hev : (Term.length (.arg 0)).eval args s none [] s = some (.int xs.length.toInt32) := hx.length_eval hb
  have hv := Cond.le_ints hev (show (Term.int 3073).eval args s none [] s = some (.int 3073) from rfl)
  have hd : xs.length.toInt32 ≤ 3073 := by
    simpa [Cond.before, Cond.holds, hv] using hle
  have hN : xs.length ≤ 3073 := (Int32.ofNat_le_ofNat hsm (by decide)).mp (show Int32.ofNat xs.length ≤ Int32.ofNat 3073 from hd)
  exact ⟨b, xs, Cond.one_arg hc (show args[0]? = some (.ref b) from hb), hx, hN, h⟩
theorem lw_comes (l : Launch) : Comes l x (Jvm.Cond.code x code maxLocals ret :: tables_1) room_1 (fun tb e args s => Calls_1 tb e args s ∧ rest_1 tb e args s ∧ Pre_1 tb e args s)
    (fun _ _ args s o t => lw_Q args s o t) := by
  intro p e ha hc hk s m args below hf hfit hheap happ hpre
  obtain ⟨b, xs, hP⟩ := lw_pre_spec hpre.2.2 hpre.2.1
  obtain ⟨k, o, h1, h2, h3, hQ⟩ := lw_walk l b xs p e ha hc hk s m args below hf ((Spec.applies_iff_loose hf).mp happ).1 hP trivial
  exact ⟨k, o, h1, h2, h3, hQ⟩
theorem lw_frame {s t : State} {o : Outcome} {args : Array Value} (h : Framed s o t [] 600000 7302250) :
    Framed s o t (fieldLocs frame_1_writes args s ++ arrayLocs frame_1_arrays args s ++ staticLocs frame_1_statics s) 600000 7302250 := h
theorem lw_limb (L : Cond) (hL : ∀ (args : Array Value) (s t : State), L.after args s (.returned (some (.int 1))) t = true) :
    ArmFor flags0 classFile x code maxLocals ret World_1 tables_1 room_1 Calls_1 rest_1 Pre_1
      (fun tb e a s o t => postC L tb e a s o t ∧ Framed s o t (fieldLocs frame_1_writes a s ++ arrayLocs frame_1_arrays a s ++ staticLocs frame_1_statics s) 600000 7302250) := by
  intro l _ _ _ p e ha hc hk s m args below hf hfit hheap happ hpre
  obtain ⟨k, o, h1, h2, h3, rfl, hF⟩ := lw_comes l p e ha hc hk s m args below hf hfit hheap happ hpre
  exact ⟨k, _, h1, h2, h3, hL args s _, lw_frame hF⟩
theorem i_vc : Claimed_1_1 ∧ Claimed_1_2 := ⟨lw_limb limb_1_1 (fun args s t => by simp [limb_1_1, Cond.after, Cond.holds, Cond.value]), lw_limb limb_1_2 (fun args s t => Cond.after_iff.mpr (by
  first | (rw [show limb_1_2 = Cond.eq .result (.int 1) from rfl, Cond.eq_ints (x := 1) (y := 1) rfl rfl]; simp; done) | (simp [limb_1_2, Cond.value, Term.eval]; done)))⟩
end
